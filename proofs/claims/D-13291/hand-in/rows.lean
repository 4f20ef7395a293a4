section
/-! the pure picture: letters 0 1 2; o = 3 is the beginning of a word; B i: piece i is forbidden -/
def fw_k (B : Nat → Bool) (o c : Nat) : Nat := if B c = true then 0 else if o = 3 then 1 else if B (3 + 3 * o + c) = true then 0 else 1
theorem fw_k01 (B : Nat → Bool) (o c : Nat) : fw_k B o c = 0 ∨ fw_k B o c = 1 := by
  unfold fw_k
  split
  · exact Or.inl rfl
  · split
    · exact Or.inr rfl
    · split
      · exact Or.inl rfl
      · exact Or.inr rfl
def fw_W (B : Nat → Bool) : Nat → (Nat → Nat) → Nat → Nat
  | 0, g, o => g o
  | n + 1, g, o => fw_k B o 0 * fw_W B n g 0 + fw_k B o 1 * fw_W B n g 1 + fw_k B o 2 * fw_W B n g 2
theorem fw_Ws (B : Nat → Bool) (n : Nat) (g : Nat → Nat) (o : Nat) : fw_W B (n + 1) g o = fw_k B o 0 * fw_W B n g 0 + fw_k B o 1 * fw_W B n g 1 + fw_k B o 2 * fw_W B n g 2 := rfl
theorem fw_W1 (B : Nat → Bool) (g : Nat → Nat) (o : Nat) : fw_W B 1 g o = fw_k B o 0 * g 0 + fw_k B o 1 * g 1 + fw_k B o 2 * g 2 := rfl
theorem fw_Wc (B : Nat → Bool) (g : Nat → Nat) (n : Nat) : ∀ o, fw_W B n (fun a => fw_W B 1 g a) o = fw_W B (n + 1) g o := by
  induction n with
  | zero => exact fun o => rfl
  | succ n ih =>
    intro o
    rw [fw_Ws, ih 0, ih 1, ih 2]
    rfl
def fw_e (B : Nat → Bool) : Nat → Nat → Nat
  | 0, c => fw_k B 3 c
  | n + 1, c => fw_e B n 0 * fw_k B 0 c + fw_e B n 1 * fw_k B 1 c + fw_e B n 2 * fw_k B 2 c
theorem fw_es (B : Nat → Bool) (n c : Nat) : fw_e B (n + 1) c = fw_e B n 0 * fw_k B 0 c + fw_e B n 1 * fw_k B 1 c + fw_e B n 2 * fw_k B 2 c := rfl
theorem fw_ring (e0 e1 e2 a00 a01 a02 a10 a11 a12 a20 a21 a22 g0 g1 g2 : Nat) :
    (e0 * a00 + e1 * a10 + e2 * a20) * g0 + (e0 * a01 + e1 * a11 + e2 * a21) * g1 + (e0 * a02 + e1 * a12 + e2 * a22) * g2
    = e0 * (a00 * g0 + a01 * g1 + a02 * g2) + e1 * (a10 * g0 + a11 * g1 + a12 * g2) + e2 * (a20 * g0 + a21 * g1 + a22 * g2) := by
  simp only [Nat.add_mul, Nat.mul_add, Nat.mul_assoc]
  omega
theorem fw_dual (B : Nat → Bool) (n : Nat) : ∀ g : Nat → Nat, fw_e B n 0 * g 0 + fw_e B n 1 * g 1 + fw_e B n 2 * g 2 = fw_W B (n + 1) g 3 := by
  induction n with
  | zero => exact fun g => rfl
  | succ n ih =>
    intro g
    rw [← fw_Wc B g (n + 1) 3, ← ih (fun a => fw_W B 1 g a), fw_es, fw_es, fw_es, fw_ring]
    rfl
theorem fw_e_le (B : Nat → Bool) (n : Nat) : ∀ c, fw_e B n c ≤ 3 ^ n := by
  induction n with
  | zero =>
    intro c
    show fw_k B 3 c ≤ 1
    rcases fw_k01 B 3 c with h | h <;> omega
  | succ n ih =>
    intro c
    rw [fw_es, Nat.pow_succ]
    have h0 : fw_e B n 0 * fw_k B 0 c ≤ 3 ^ n := by
      have := ih 0
      rcases fw_k01 B 0 c with h | h <;> rw [h] <;> omega
    have h1 : fw_e B n 1 * fw_k B 1 c ≤ 3 ^ n := by
      have := ih 1
      rcases fw_k01 B 1 c with h | h <;> rw [h] <;> omega
    have h2 : fw_e B n 2 * fw_k B 2 c ≤ 3 ^ n := by
      have := ih 2
      rcases fw_k01 B 2 c with h | h <;> rw [h] <;> omega
    omega
/-! words: j letters, the number p -/
def fw_last (j p : Nat) : Nat := if j = 0 then 3 else p % 3
def fw_al (B : Nat → Bool) : Nat → Nat → Bool
  | 0, _ => true
  | j + 1, p => fw_al B j (p / 3) && decide (fw_k B (fw_last j (p / 3)) (p % 3) = 1)
theorem fw_al_n (B : Nat → Bool) (j p : Nat) : fw_al B (j + 1) p = (fw_al B j (p / 3) && decide (fw_k B (fw_last j (p / 3)) (p % 3) = 1)) := rfl
theorem fw_al_s (B : Nat → Bool) (j p : Nat) {c : Nat} (hc : c < 3) : fw_al B (j + 1) (3 * p + c) = (fw_al B j p && decide (fw_k B (fw_last j p) c = 1)) := by
  rw [fw_al_n, show (3 * p + c) / 3 = p by omega, show (3 * p + c) % 3 = c by omega]
theorem fw_last_s (j p : Nat) {c : Nat} (hc : c < 3) : fw_last (j + 1) (3 * p + c) = c := by
  unfold fw_last
  rw [if_neg (by omega)]
  omega
theorem fw_last_le (j p : Nat) : fw_last j p ≤ 3 := by
  unfold fw_last
  split <;> omega
def fw_c (B : Nat → Bool) (n : Nat) : Nat → Nat
  | 0 => 0
  | x + 1 => fw_c B n x + (if fw_al B n x = true then 1 else 0)
theorem fw_c_s (B : Nat → Bool) (n x : Nat) : fw_c B n (x + 1) = fw_c B n x + (if fw_al B n x = true then 1 else 0) := rfl
def fw_Q (B : Nat → Bool) (j p k : Nat) : Nat := if fw_al B j p = true then fw_W B k (fun _ => 1) (fw_last j p) else 0
theorem fw_Qc (B : Nat → Bool) (j p k : Nat) {c : Nat} (hc : c < 3) : fw_Q B (j + 1) (3 * p + c) k = if fw_al B j p = true then fw_k B (fw_last j p) c * fw_W B k (fun _ => 1) c else 0 := by
  unfold fw_Q
  rw [fw_al_s B j p hc, fw_last_s j p hc]
  rcases fw_k01 B (fw_last j p) c with h | h <;> rw [h] <;> cases fw_al B j p <;> simp
theorem fw_Qs (B : Nat → Bool) (j p k : Nat) : fw_Q B j p (k + 1) = fw_Q B (j + 1) (3 * p + 0) k + fw_Q B (j + 1) (3 * p + 1) k + fw_Q B (j + 1) (3 * p + 2) k := by
  rw [fw_Qc B j p k (by omega), fw_Qc B j p k (by omega), fw_Qc B j p k (by omega)]
  unfold fw_Q
  by_cases h : fw_al B j p = true
  · rw [if_pos h, if_pos h, if_pos h, if_pos h]
    rfl
  · rw [if_neg h, if_neg h, if_neg h, if_neg h]
theorem fw_cQ (B : Nat → Bool) (k : Nat) : ∀ j p, fw_c B (j + k) ((p + 1) * 3 ^ k) = fw_c B (j + k) (p * 3 ^ k) + fw_Q B j p k := by
  induction k with
  | zero =>
    intro j p
    rw [Nat.pow_zero, Nat.mul_one, Nat.mul_one]
    rfl
  | succ k ih =>
    intro j p
    have h0 := ih (j + 1) (3 * p + 0)
    have h1 := ih (j + 1) (3 * p + 1)
    have h2 := ih (j + 1) (3 * p + 2)
    rw [show j + 1 + k = j + (k + 1) by omega] at h0 h1 h2
    have e1 : (p + 1) * 3 ^ (k + 1) = (3 * p + 2 + 1) * 3 ^ k := by
      rw [Nat.pow_succ, show 3 * p + 2 + 1 = (p + 1) * 3 by omega, Nat.mul_assoc, Nat.mul_comm 3]
    have e2 : p * 3 ^ (k + 1) = (3 * p + 0) * 3 ^ k := by
      rw [Nat.pow_succ, show 3 * p + 0 = p * 3 by omega, Nat.mul_assoc, Nat.mul_comm 3]
    have e3 : 3 * p + 1 + 1 = 3 * p + 2 := rfl
    have e4 : 3 * p + 0 + 1 = 3 * p + 1 := rfl
    rw [e3] at h1
    rw [e4] at h0
    rw [e1, e2, h2, h1, h0, fw_Qs]
    omega
theorem fw_c_mono (B : Nat → Bool) (n x d : Nat) : fw_c B n x ≤ fw_c B n (x + d) := by
  induction d with
  | zero => exact Nat.le_refl _
  | succ d ih =>
    rw [← Nat.add_assoc, fw_c_s]
    omega
theorem fw_c_le2 (B : Nat → Bool) (n : Nat) {x y : Nat} (h : x ≤ y) : fw_c B n x ≤ fw_c B n y := by
  have := fw_c_mono B n x (y - x)
  rw [show x + (y - x) = y by omega] at this
  exact this
theorem fw_c_le (B : Nat → Bool) (n x : Nat) : fw_c B n x ≤ x := by
  induction x with
  | zero => exact Nat.le_refl _
  | succ x ih =>
    rw [fw_c_s]
    split <;> omega
theorem fw_c_al (B : Nat → Bool) (n : Nat) {x y : Nat} (h : x < y) (ha : fw_al B n x = true) : fw_c B n x < fw_c B n y := by
  have h1 := fw_c_le2 B n (show x + 1 ≤ y from h)
  rw [fw_c_s, if_pos ha] at h1
  omega
theorem fw_c_un (B : Nat → Bool) (n : Nat) {x y : Nat} (hx : fw_al B n x = true) (hy : fw_al B n y = true) (e : fw_c B n x = fw_c B n y) : x = y := by
  rcases Nat.lt_trichotomy x y with h | h | h
  · have := fw_c_al B n h hx
    omega
  · exact h
  · have := fw_c_al B n h hy
    omega
theorem fw_c_none (B : Nat → Bool) (n x : Nat) (d : Nat) (h : ∀ y, x ≤ y → y < x + d → fw_al B n y = false) : fw_c B n (x + d) = fw_c B n x := by
  induction d with
  | zero => rfl
  | succ d ih =>
    rw [← Nat.add_assoc, fw_c_s, ih (fun y h1 h2 => h y h1 (by omega)), h (x + d) (by omega) (by omega)]
    rfl
/-! the machine: m states, the table t, the state z o of a word that ends with o -/
def fw_T (t : Nat → Nat) (m : Nat) (g : Nat → Nat) (s : Nat) : Nat := if s < m then g (t (3 * s + 0)) + g (t (3 * s + 1)) + g (t (3 * s + 2)) else 0
def fw_P (t : Nat → Nat) (m : Nat) : Nat → (Nat → Nat) → Nat → Nat
  | 0, g => g
  | n + 1, g => fw_T t m (fw_P t m n g)
theorem fw_Ps (t : Nat → Nat) (m n : Nat) (g : Nat → Nat) : fw_P t m (n + 1) g = fw_T t m (fw_P t m n g) := rfl
theorem fw_Pc (t : Nat → Nat) (m n : Nat) (g : Nat → Nat) : fw_P t m n (fw_T t m g) = fw_P t m (n + 1) g := by
  induction n with
  | zero => rfl
  | succ n ih => rw [fw_Ps, ih, ← fw_Ps]
def fw_mach (B : Nat → Bool) (m : Nat) (t z : Nat → Nat) : Prop :=
  (1 ≤ m ∧ m ≤ 7) ∧ z 3 = 0 ∧ (∀ o, o ≤ 3 → z o < m) ∧ (∀ o c, o ≤ 3 → c < 3 → t (3 * z o + c) = if fw_k B o c = 1 then z c else 25) ∧ (∀ k, k < 3 * m → t k < m ∨ t k = 25) ∧ (∀ c, c < 3 → t (75 + c) = 25)
theorem fw_PW {B : Nat → Bool} {m : Nat} {t z : Nat → Nat} (h : fw_mach B m t z) {g G : Nat → Nat} (g25 : g 25 = 0) (hg : ∀ o, o ≤ 3 → g (z o) = G o) (n : Nat) :
    (∀ o, o ≤ 3 → fw_P t m n g (z o) = fw_W B n G o) ∧ fw_P t m n g 25 = 0 := by
  obtain ⟨⟨m1, m7⟩, z3, zm, ht, hk, h75⟩ := h
  induction n with
  | zero => exact ⟨hg, g25⟩
  | succ n ih =>
    obtain ⟨i1, i2⟩ := ih
    refine ⟨fun o ho => ?_, ?_⟩
    · have key : ∀ c, c < 3 → fw_P t m n g (t (3 * z o + c)) = fw_k B o c * fw_W B n G c := by
        intro c hc
        rw [ht o c ho hc]
        rcases fw_k01 B o c with e | e
        · rw [e, if_neg (by omega), i2, Nat.zero_mul]
        · rw [e, if_pos rfl, i1 c (by omega), Nat.one_mul]
      rw [fw_Ps, fw_Ws]
      unfold fw_T
      rw [if_pos (zm o ho), key 0 (by omega), key 1 (by omega), key 2 (by omega)]
    · rw [fw_Ps]
      unfold fw_T
      rw [if_neg (by omega)]
def fw_one (m s : Nat) : Nat := if s < m then 1 else 0
/-- the state of a read word -/
def fw_ms (B : Nat → Bool) (z : Nat → Nat) (j p : Nat) : Nat := if fw_al B j p = true then z (fw_last j p) else 25
theorem fw_ms_lt {B : Nat → Bool} {m : Nat} {t z : Nat → Nat} (h : fw_mach B m t z) (j p : Nat) : fw_ms B z j p < 26 := by
  obtain ⟨⟨m1, m7⟩, z3, zm, ht, hk, h75⟩ := h
  unfold fw_ms
  split
  · have := zm _ (fw_last_le j p)
    omega
  · omega
theorem fw_ms_0 {B : Nat → Bool} {m : Nat} {t z : Nat → Nat} (h : fw_mach B m t z) : fw_ms B z 0 0 = 0 := h.2.1
theorem fw_ms_s {B : Nat → Bool} {m : Nat} {t z : Nat → Nat} (h : fw_mach B m t z) (j p : Nat) {c : Nat} (hc : c < 3) : t (3 * fw_ms B z j p + c) = fw_ms B z (j + 1) (3 * p + c) := by
  obtain ⟨⟨m1, m7⟩, z3, zm, ht, hk, h75⟩ := h
  unfold fw_ms
  rw [fw_al_s B j p hc, fw_last_s j p hc]
  by_cases e : fw_al B j p = true
  · rw [if_pos e, ht _ c (fw_last_le j p) hc, e, Bool.true_and]
    rcases fw_k01 B (fw_last j p) c with q | q <;> rw [q] <;> simp
  · rw [if_neg e, h75 c hc]
    rw [Bool.not_eq_true] at e
    rw [e]
    simp
theorem fw_ms_P {B : Nat → Bool} {m : Nat} {t z : Nat → Nat} (h : fw_mach B m t z) (j p n : Nat) : fw_P t m n (fw_one m) (fw_ms B z j p) = fw_Q B j p n := by
  have w := fw_PW h (g := fw_one m) (G := fun _ => 1) (by obtain ⟨⟨m1, m7⟩, z3, zm, ht, hk, h75⟩ := h; unfold fw_one; rw [if_neg (by omega)]) (fun o ho => by unfold fw_one; rw [if_pos (h.2.2.1 o ho)]) n
  unfold fw_ms fw_Q
  by_cases e : fw_al B j p = true
  · rw [if_pos e, if_pos e]
    exact w.1 _ (fw_last_le j p)
  · rw [if_neg e, if_neg e]
    exact w.2
theorem fw_ms_25 {B : Nat → Bool} {m : Nat} {t z : Nat → Nat} (h : fw_mach B m t z) (j p : Nat) : fw_ms B z j p = 25 ↔ fw_al B j p = false := by
  obtain ⟨⟨m1, m7⟩, z3, zm, ht, hk, h75⟩ := h
  unfold fw_ms
  by_cases e : fw_al B j p = true
  · rw [if_pos e, e]
    have := zm _ (fw_last_le j p)
    constructor
    · omega
    · intro h
      exact absurd h (by decide)
  · rw [if_neg e]
    rw [Bool.not_eq_true] at e
    exact ⟨fun _ => e, fun _ => rfl⟩
/-! sums -/
def fw_S (f : Nat → Nat) : Nat → Nat
  | 0 => 0
  | n + 1 => fw_S f n + f n
theorem fw_S_s (f : Nat → Nat) (n : Nat) : fw_S f (n + 1) = fw_S f n + f n := rfl
theorem fw_S_eq {f g : Nat → Nat} (n : Nat) (h : ∀ s, s < n → f s = g s) : fw_S f n = fw_S g n := by
  induction n with
  | zero => rfl
  | succ n ih => rw [fw_S_s, fw_S_s, ih (fun s hs => h s (by omega)), h n (by omega)]
theorem fw_S_up {f g : Nat → Nat} {y d : Nat} (h1 : ∀ s, s ≠ y → f s = g s) (h2 : f y = g y + d) (n : Nat) : fw_S f n = fw_S g n + if y < n then d else 0 := by
  induction n with
  | zero => rfl
  | succ n ih =>
    rw [fw_S_s, fw_S_s, ih]
    by_cases e : n = y
    · subst e
      rw [if_neg (by omega), if_pos (by omega), h2]
      omega
    · rw [h1 n e]
      by_cases q : y < n
      · rw [if_pos q, if_pos (by omega)]
        omega
      · rw [if_neg q, if_neg (by omega)]
        omega
theorem fw_S_0 {f : Nat → Nat} (m d : Nat) (h : ∀ s, m ≤ s → f s = 0) : fw_S f (m + d) = fw_S f m := by
  induction d with
  | zero => rfl
  | succ d ih => rw [← Nat.add_assoc, fw_S_s, ih, h (m + d) (by omega)]; rfl
theorem fw_S_ge {f : Nat → Nat} {m n : Nat} (hm : m ≤ n) (h : ∀ s, m ≤ s → f s = 0) : fw_S f n = fw_S f m := by
  have := fw_S_0 m (n - m) h
  rw [show m + (n - m) = n by omega] at this
  exact this
/-- three places at a time -/
theorem fw_S_3 (v t g : Nat → Nat) (m : Nat) : fw_S (fun k => v (k / 3) * g (t k)) (3 * m) = fw_S (fun s => v s * (g (t (3 * s + 0)) + g (t (3 * s + 1)) + g (t (3 * s + 2)))) m := by
  induction m with
  | zero => rfl
  | succ m ih =>
    rw [fw_S_s, ← ih, show 3 * (m + 1) = 3 * m + 1 + 1 + 1 by omega, fw_S_s, fw_S_s, fw_S_s]
    rw [show (3 * m + 1 + 1) / 3 = m by omega, show (3 * m + 1) / 3 = m by omega, show (3 * m) / 3 = m by omega]
    rw [Nat.mul_add, Nat.mul_add]
    show _ + v m * g (t (3 * m)) + v m * g (t (3 * m + 1)) + v m * g (t (3 * m + 2)) = _ + (v m * g (t (3 * m)) + v m * g (t (3 * m + 1)) + v m * g (t (3 * m + 2)))
    omega
/-- one turn of the forward count -/
theorem fw_turn {t : Nat → Nat} {m : Nat} (hm : m ≤ 26) (v g : Nat → Nat) : fw_S (fun k => v (k / 3) * g (t k)) (3 * m) = fw_S (fun s => v s * fw_T t m g s) 26 := by
  rw [fw_S_3, fw_S_ge (m := m) (n := 26) (f := fun s => v s * fw_T t m g s) hm (fun s hs => by (try dsimp only); unfold fw_T; rw [if_neg (by omega), Nat.mul_zero])]
  exact fw_S_eq m (fun s hs => by (try dsimp only); unfold fw_T; rw [if_pos hs])
end
section
/-! bits of the law's set (the first rows turned from laws/BITS.to-paste) -/
def fw_bt (x : Int32) (i : Nat) : Bool := x.toBitVec.getLsbD i
theorem fw_b_ext {x y : Int32} (h : ∀ i, i < 32 → fw_bt x i = fw_bt y i) : x = y := Int32.toBitVec_inj.mp (BitVec.eq_of_getLsbD_eq (fun i hi => h i hi))
theorem fw_b_or (x y : Int32) (i : Nat) : fw_bt (x ||| y) i = (fw_bt x i || fw_bt y i) := by unfold fw_bt; rw [Int32.toBitVec_or, BitVec.getLsbD_or]
theorem fw_b_and (x y : Int32) (i : Nat) : fw_bt (x &&& y) i = (fw_bt x i && fw_bt y i) := by unfold fw_bt; rw [Int32.toBitVec_and, BitVec.getLsbD_and]
theorem fw_b_xor (x y : Int32) (i : Nat) : fw_bt (x ^^^ y) i = (fw_bt x i ^^ fw_bt y i) := by unfold fw_bt; rw [Int32.toBitVec_xor, BitVec.getLsbD_xor]
theorem fw_b_m1 : ∀ i, i < 32 → fw_bt (-1) i = true := by decide +kernel
theorem fw_b_0 (i : Nat) : fw_bt 0 i = false := BitVec.getLsbD_zero
theorem fw_s_l : ∀ n, n < 32 → ((nI n &&& 31).toBitVec.smod 32).toNat = n := by decide +kernel
theorem fw_b_shl (n : Nat) (hn : n < 32) (x : Int32) {i : Nat} (hi : i < 32) : fw_bt (x <<< (nI n &&& 31)) i = (decide (n ≤ i) && fw_bt x (i - n)) := by
  unfold fw_bt
  rw [Int32.toBitVec_shiftLeft]
  show (x.toBitVec <<< ((nI n &&& 31).toBitVec.smod 32).toNat).getLsbD i = _
  rw [fw_s_l n hn, BitVec.getLsbD_shiftLeft]
  rcases Nat.lt_or_ge i n with h | h
  · simp [h, Nat.not_le.mpr h]
  · simp [hi, h, Nat.not_lt.mpr h]
theorem fw_b_sshr (n : Nat) (hn : n < 32) (x : Int32) {i : Nat} (hi : i < 32) : fw_bt (x >>> (nI n &&& 31)) i = if n + i < 32 then fw_bt x (n + i) else fw_bt x 31 := by
  unfold fw_bt
  rw [Int32.toBitVec_shiftRight]
  show (x.toBitVec.sshiftRight ((nI n &&& 31).toBitVec.smod 32).toNat).getLsbD i = _
  rw [fw_s_l n hn, BitVec.getLsbD_sshiftRight, BitVec.msb_eq_getLsbD_last]
  simp [hi]
theorem fw_b_1 : ∀ j, j < 32 → fw_bt 1 j = decide (j = 0) := by decide +kernel
theorem fw_b_2 : ∀ j, j < 32 → fw_bt 2 j = decide (j = 1) := by decide +kernel
theorem fw_b_4 : ∀ j, j < 32 → fw_bt 4 j = decide (j = 2) := by decide +kernel
theorem fw_bitN (x : Int32) (i : Nat) (hi : i < 32) : (x >>> (nI i &&& 31)) &&& 1 = nI (if fw_bt x i = true then 1 else 0) := by
  apply fw_b_ext
  intro j hj
  rw [fw_b_and, fw_b_sshr i hi x hj, fw_b_1 j hj]
  by_cases e : j = 0
  · subst e
    rw [Nat.add_zero, if_pos hi]
    cases h : fw_bt x i
    · rfl
    · rfl
  · rw [decide_eq_false e, Bool.and_false]
    cases h : fw_bt x i
    · exact (fw_b_0 j).symm
    · show false = fw_bt 1 j
      rw [fw_b_1 j hj, decide_eq_false e]
theorem fw_bit1 (x : Int32) (i : Nat) (hi : i < 32) : (x >>> (nI i &&& 31)) &&& 1 = 1 ↔ fw_bt x i = true := by
  rw [fw_bitN x i hi]
  cases fw_bt x i
  · exact ⟨fun h => absurd h (by decide), fun h => absurd h (by decide)⟩
  · exact ⟨fun _ => rfl, fun _ => rfl⟩
theorem fw_bit0 (x : Int32) (i : Nat) (hi : i < 32) : (x >>> (nI i &&& 31)) &&& 1 = 0 ↔ fw_bt x i = false := by
  rw [fw_bitN x i hi]
  cases fw_bt x i
  · exact ⟨fun _ => rfl, fun _ => rfl⟩
  · exact ⟨fun h => absurd h (by decide), fun h => absurd h (by decide)⟩
theorem fw_andM (x M : Int32) (c : Nat) (hc : c < 32) (hM : ∀ j, j < 32 → fw_bt M j = decide (j = c)) : x &&& M = 0 ↔ fw_bt x c = false := by
  constructor
  · intro h
    have e : fw_bt (x &&& M) c = false := by rw [h]; exact fw_b_0 c
    rw [fw_b_and, hM c hc, decide_eq_true rfl, Bool.and_true] at e
    exact e
  · intro h
    apply fw_b_ext
    intro j hj
    rw [fw_b_and, hM j hj, fw_b_0]
    by_cases e : j = c
    · rw [e, h, Bool.false_and]
    · rw [decide_eq_false e, Bool.and_false]
theorem fw_b_one (i : Nat) (hi : i < 32) {j : Nat} (hj : j < 32) : fw_bt ((1 : Int32) <<< (nI i &&& 31)) j = decide (j = i) := by
  rw [fw_b_shl i hi 1 hj, fw_b_1 (j - i) (by omega)]
  by_cases e : j = i
  · rw [decide_eq_true e, decide_eq_true (by omega), decide_eq_true (by omega)]
    rfl
  · rw [decide_eq_false e]
    by_cases q : i ≤ j
    · rw [decide_eq_false (show ¬ j - i = 0 by omega), Bool.and_false]
    · rw [decide_eq_false q, Bool.false_and]
/-- a bit is put -/
theorem fw_bset (x : Int32) (i : Nat) (hi : i < 32) {j : Nat} (hj : j < 32) : fw_bt (x ||| ((1 : Int32) <<< (nI i &&& 31))) j = (fw_bt x j || decide (j = i)) := by
  rw [fw_b_or, fw_b_one i hi hj]
/-- a bit is taken -/
theorem fw_bclr (x : Int32) (i : Nat) (hi : i < 32) {j : Nat} (hj : j < 32) : fw_bt (x &&& (((1 : Int32) <<< (nI i &&& 31)) ^^^ (-1))) j = (fw_bt x j && !decide (j = i)) := by
  rw [fw_b_and, fw_b_xor, fw_b_one i hi hj, fw_b_m1 j hj, Bool.xor_true]
def fw_pop (B : Nat → Bool) : Nat := fw_S (fun i => if B i = true then 1 else 0) 12
theorem fw_ones {post : Int32 → Prop} (x : Int32) (h : post (nI (fw_pop (fw_bt x)))) : wpL_ones post () x :=
  pk_loop (fun n i s => wL_ones_4 post x n (nI s) (nI i)) (fun i s => s = fw_S (fun i => if fw_bt x i = true then 1 else 0) i) 12 0 0 (by omega) rfl
    (fun n s hs => pk_le 12 12 (fun _ => by subst hs; exact h) (fun z => absurd z (by omega)))
    (fun n i s hi hs hw => pk_le 12 i (fun z => absurd z (by omega)) (fun _ => nm_r (by rw [fw_bitN x i (by omega), nI_add]) (nm_r (nI_1 i) (hw _ (by rw [hs, fw_S_s])))))
/-! powers, sizes -/
theorem fw_p9 {n : Nat} (h : n ≤ 9) : 3 ^ n ≤ 19683 := Nat.pow_le_pow_right (n := 3) (j := 9) (by omega) h
theorem fw_p0 (n : Nat) : 0 < 3 ^ n := Nat.pow_pos (by omega)
theorem fw_pow {post : Int32 → Prop} (e : Nat) (he : e ≤ 9) (h : post (nI (3 ^ e))) : wpX_power post () (nI e) :=
  pk_loop (fun n i s => wX_power_4 post (nI e) n s (nI i)) (fun i s => s = nI (3 ^ i)) e 0 1 (by omega) rfl
    (fun n s hs => pk_le e e (fun _ => by subst hs; exact h) (fun z => absurd z (by omega)))
    (fun n i s hi hs hw => pk_le e i (fun z => absurd z (by omega)) (fun _ => nm_r (e' := nI (3 ^ (i + 1))) (by rw [hs]; exact pk_mul (3 ^ i) 3) (nm_r (nI_1 i) (hw _ rfl))))
theorem fw_size1 {post : Int32 → Prop} {p : Nat} (h1 : 3 ≤ p) (h2 : p ≤ 5) (h : post 1) : wpX_sizeOf post () (nI p) :=
  ⟨1, pk_le 4 1 (fun z => absurd z (by omega)) (fun _ => fw_pow 1 (by omega) (pk_lt p 6 (fun _ => h) (fun z => absurd z (by omega)) rfl (by decide)))⟩
theorem fw_size2 {post : Int32 → Prop} {p : Nat} (h1 : 9 ≤ p) (h2 : p ≤ 17) (h : post 2) : wpX_sizeOf post () (nI p) :=
  ⟨2, pk_le 4 1 (fun z => absurd z (by omega)) (fun _ => fw_pow 1 (by omega) (pk_lt p 6 (fun z => absurd z (by omega)) (fun _ => nm_r (e' := nI 2) (by decide) (pk_le 4 2 (fun z => absurd z (by omega)) (fun _ => fw_pow 2 (by omega) (pk_lt p 18 (fun _ => h) (fun z => absurd z (by omega)) rfl (by decide))))) rfl (by decide)))⟩
theorem fw_isp {post : Int32 → Prop} {p : Nat} (hp : (3 ≤ p ∧ p ≤ 5) ∨ (9 ≤ p ∧ p ≤ 17)) (h : post 1) : wpX_isPiece post () (nI p) := by
  unfold wpX_isPiece
  rcases hp with ⟨h1, h2⟩ | ⟨h1, h2⟩
  · exact fw_size1 h1 h2 (fw_pow 1 (by omega) (pk_lt p 3 (fun z => absurd z (by omega)) (fun _ => fw_pow 1 (by omega) (pk_le 6 p (fun z => absurd z (by omega)) (fun _ => h) (by decide))) rfl (by decide)))
  · exact fw_size2 h1 h2 (fw_pow 2 (by omega) (pk_lt p 9 (fun z => absurd z (by omega)) (fun _ => fw_pow 2 (by omega) (pk_le 18 p (fun z => absurd z (by omega)) (fun _ => h) (by decide))) rfl (by decide)))
theorem fw_len {post : Int32 → Prop} {n : Nat} (hn : n ≤ 9) (h : post 1) : wpX_isLength post () (nI n) :=
  pk_lt n 0 (fun z => absurd z (by omega)) (fun _ => pk_lt 9 n (fun z => absurd z (by omega)) (fun _ => h))
theorem fw_ref {post : Int32 → Prop} {n w : Nat} (hn : n ≤ 9) (hw : w < 3 ^ n) (h : post 0) : wpX_refused post () (nI n) (nI w) := by
  have h9 := fw_p9 hn
  unfold wpX_refused
  exact fw_len hn (br_f (by decide) (pk_lt w 0 (fun z => absurd z (by omega)) (fun _ => fw_pow n hn (pk_lt w (3 ^ n) (fun _ => h) (fun z => absurd z (by omega))))))
/-! the law's own test of a word -/
theorem fw_al_f {B : Nat → Bool} {j p : Nat} (h : fw_k B (fw_last j (p / 3)) (p % 3) = 0) : fw_al B (j + 1) p = false := by
  rw [fw_al_n, h, decide_eq_false (by omega), Bool.and_false]
theorem fw_al_t {B : Nat → Bool} {j p : Nat} (h : fw_k B (fw_last j (p / 3)) (p % 3) = 1) : fw_al B (j + 1) p = fw_al B j (p / 3) := by
  rw [fw_al_n, h, decide_eq_true rfl, Bool.and_true]
theorem fw_Lal {post : Int32 → Prop} (x : Int32) (n w : Nat) (hw : w < 2 ^ 30) (hn : n < 100) (h : post (nI (if fw_al (fw_bt x) n w = true then 1 else 0))) : wpL_allowed post () x (nI n) (nI w) := by
  refine ⟨n + 1, pk_loopD (fun f j w => wL_allowed_5 post x f (nI w) (nI j)) (fun j w => j < 100 ∧ w < 2 ^ 30 ∧ post (nI (if fw_al (fw_bt x) j w = true then 1 else 0))) ?_ ?_ n w ⟨hn, hw, h⟩⟩
  · intro f w hI
    exact pk_le 0 0 (fun _ => hI.2.2) (fun z => absurd z (by omega))
  · intro f j w hI ih
    obtain ⟨hj, hw, hI⟩ := hI
    have e3 : nI w - nI w / 3 * 3 = nI (w % 3) := pk_rem (a := w) (d := 3) (by omega) (by omega) (by omega)
    have e9 : 3 + (nI w - nI w / 9 * 9) = nI (3 + w % 9) := by
      rw [show nI w - nI w / 9 * 9 = nI (w % 9) from pk_rem (a := w) (d := 9) (by omega) (by omega) (by omega)]
      exact nI_add 3 (w % 9)
    have d3 : nI w / 3 = nI (w / 3) := pk_div (a := w) (d := 3) (by omega) (by omega) (by omega)
    refine pk_le (j + 1) 0 (fun z => absurd z (by omega)) (fun _ => ⟨by decide, ek_if (d := fw_bt x (w % 3) = true) (by rw [e3]; exact fw_bit1 x (w % 3) (by omega)) (fun hb => ?_) (fun hb => ?_)⟩)
    · rw [fw_al_f (by unfold fw_k; rw [if_pos hb])] at hI
      exact hI
    · refine pk_le (j + 1) 1 (fun z => ?_) (fun z => ?_)
      · have q : fw_al (fw_bt x) (j + 1) w = fw_al (fw_bt x) j (w / 3) := fw_al_t (by
          unfold fw_k fw_last
          rw [if_neg hb, if_pos (show j = 0 by omega), if_pos rfl])
        rw [q] at hI
        exact ⟨by decide, nm_r d3 (nm_r (pk_m1 j) (ih (w / 3) ⟨by omega, by omega, hI⟩))⟩
      · have ek : 3 + 3 * (w / 3 % 3) + w % 3 = 3 + w % 9 := by omega
        refine ⟨by decide, ek_if (d := fw_bt x (3 + w % 9) = true) (by rw [e9]; exact fw_bit1 x (3 + w % 9) (by omega)) (fun h9 => ?_) (fun h9 => ?_)⟩
        · rw [fw_al_f (by
            unfold fw_k fw_last
            rw [if_neg hb, if_neg (show ¬ j = 0 by omega), if_neg (by omega), ek, if_pos h9])] at hI
          exact hI
        · have q : fw_al (fw_bt x) (j + 1) w = fw_al (fw_bt x) j (w / 3) := fw_al_t (by
            unfold fw_k fw_last
            rw [if_neg hb, if_neg (show ¬ j = 0 by omega), if_neg (by omega), ek, if_neg h9])
          rw [q] at hI
          exact ⟨by decide, nm_r d3 (nm_r (pk_m1 j) (ih (w / 3) ⟨by omega, by omega, hI⟩))⟩
end
section
/-! the law's own count of the words of a length that end with a letter -/
theorem fw_hS (x : Int32) (i c : Nat) (d : Int32) (hd : d = nI (3 + c)) (hi : i < 3) (hc : c < 3) : (x >>> ((d + 3 * nI i) &&& 31)) &&& 1 = 0 ↔ fw_bt x (3 + 3 * i + c) = false := by
  have e : d + 3 * nI i = nI (3 + 3 * i + c) := by
    rw [hd, show (3 : Int32) * nI i = nI (3 * i) from pk_mul 3 i, nI_add, show 3 + c + 3 * i = 3 + 3 * i + c by omega]
  rw [e]
  exact fw_bit0 x _ (by omega)
theorem fw_Ebr {x M S : Int32} {i c o : Nat} {x19 : Int32} {A1 A0 : Prop} (hM : x &&& M = 0 ↔ fw_bt x c = false) (hS : (x >>> (S &&& 31)) &&& 1 = 0 ↔ fw_bt x (3 + 3 * i + c) = false) (hi : i < 3) (hst : (x19 = 1 ∧ o = 3) ∨ (x19 = 0 ∧ o = i)) (h1 : fw_k (fw_bt x) o c = 1 → A1) (h0 : fw_k (fw_bt x) o c = 0 → A0) :
    ((x &&& M) = 0 → ((x19 = 0 → ((((x >>> (S &&& 31)) &&& 1) = 0 → A1) ∧ (¬ ((x >>> (S &&& 31)) &&& 1) = 0 → A0))) ∧ (¬ x19 = 0 → A1))) ∧ (¬ (x &&& M) = 0 → A0) := by
  refine ⟨fun g => ⟨fun g2 => ⟨fun g3 => ?_, fun g3 => ?_⟩, fun g2 => ?_⟩, fun g => ?_⟩
  · rcases hst with ⟨e, _⟩ | ⟨_, e⟩
    · rw [g2] at e
      exact absurd e (by decide)
    · rw [hM] at g
      rw [hS] at g3
      refine h1 ?_
      unfold fw_k
      rw [if_neg (by rw [g]; decide), if_neg (by omega), e, if_neg (by rw [g3]; decide)]
  · rcases hst with ⟨e, _⟩ | ⟨_, e⟩
    · rw [g2] at e
      exact absurd e (by decide)
    · rw [hM] at g
      rw [hS, Bool.not_eq_false] at g3
      refine h0 ?_
      unfold fw_k
      rw [if_neg (by rw [g]; decide), if_neg (by omega), e, if_pos g3]
  · rcases hst with ⟨_, e⟩ | ⟨e, _⟩
    · rw [hM] at g
      refine h1 ?_
      unfold fw_k
      rw [if_neg (by rw [g]; decide), if_pos e]
    · exact absurd e g2
  · rw [hM, Bool.not_eq_false] at g
    refine h0 ?_
    unfold fw_k
    rw [if_pos g]
theorem fw_E157 {post : Int64 → Prop} {J11 J29 : Int64 → Int64 → Int64 → Int32 → Prop} {x x1 x2 : Int32} {x3 x5 x7 : Int64} {x9 : Int32} {x10 x14 : Int64} {x19 : Int32} {z0 z1 : Int64} {i o f : Nat} (hi : i < 3) (hst : (x19 = 1 ∧ o = 3) ∨ (x19 = 0 ∧ o = i))
    (H : J29 x10 (z1 + z0) (x14 + lN (f * fw_k (fw_bt x) o 2)) (nI (i + 1))) : wL_ending_157 post J11 J29 x x1 x2 x3 x5 x7 x9 x10 x14 (nI i) (lN f) x19 z0 z1 := by
  unfold wL_ending_157
  refine nm_e (fw_Ebr (o := o) (c := 2) (fw_andM x 4 2 (by omega) fw_b_4) (fw_hS x i 2 5 rfl hi (by omega)) hi hst (fun e => ?_) (fun e => ?_))
  · rw [e, Nat.mul_one] at H
    exact nm_e (nm_r (nI_1 i) H)
  · rw [e, Nat.mul_zero] at H
    exact nm_e (nm_r (nI_1 i) H)
theorem fw_E122 {post : Int64 → Prop} {J11 J29 : Int64 → Int64 → Int64 → Int32 → Prop} {x x1 x2 : Int32} {x3 x5 x7 : Int64} {x9 : Int32} {x12 x14 : Int64} {x19 : Int32} {z0 z1 : Int64} {i o f : Nat} (hi : i < 3) (hst : (x19 = 1 ∧ o = 3) ∨ (x19 = 0 ∧ o = i))
    (H : J29 (z1 + z0) (x12 + lN (f * fw_k (fw_bt x) o 1)) (x14 + lN (f * fw_k (fw_bt x) o 2)) (nI (i + 1))) : wL_ending_122 post J11 J29 x x1 x2 x3 x5 x7 x9 x12 x14 (nI i) (lN f) x19 z0 z1 := by
  unfold wL_ending_122
  refine nm_e (fw_Ebr (o := o) (c := 1) (fw_andM x 2 1 (by omega) fw_b_2) (fw_hS x i 1 4 rfl hi (by omega)) hi hst (fun e => ?_) (fun e => ?_))
  · rw [e, Nat.mul_one] at H
    unfold wL_ending_151
    exact fw_E157 hi hst H
  · rw [e, Nat.mul_zero] at H
    unfold wL_ending_156
    exact fw_E157 hi hst H
theorem fw_E88 {post : Int64 → Prop} {J11 J29 : Int64 → Int64 → Int64 → Int32 → Prop} {x x1 x2 : Int32} {x3 x5 x7 : Int64} {x9 : Int32} {x10 x12 x14 : Int64} {z0 : Int32} {i o f : Nat} (hi : i < 3) (hst : (z0 = 1 ∧ o = 3) ∨ (z0 = 0 ∧ o = i))
    (H : J29 (x10 + lN (f * fw_k (fw_bt x) o 0)) (x12 + lN (f * fw_k (fw_bt x) o 1)) (x14 + lN (f * fw_k (fw_bt x) o 2)) (nI (i + 1))) : wL_ending_88 post J11 J29 x x1 x2 x3 x5 x7 x9 x10 x12 x14 (nI i) (lN f) z0 := by
  unfold wL_ending_88
  refine fw_Ebr (o := o) (c := 0) (fw_andM x 1 0 (by omega) fw_b_1) (fw_hS x i 0 3 rfl hi (by omega)) hi hst (fun e => ?_) (fun e => ?_)
  · rw [e, Nat.mul_one] at H
    unfold wL_ending_116
    exact fw_E122 hi hst H
  · rw [e, Nat.mul_zero] at H
    unfold wL_ending_121
    exact fw_E122 hi hst H
theorem fw_Eit {post : Int64 → Prop} {J11 : Int64 → Int64 → Int64 → Int32 → Prop} {x x1 x2 : Int32} {X Y Z u v w : Int64} {k i o f n : Nat} (hi : i < 3) (hk : k < 1000) (h1 : k = 1 → o = 3 ∧ f = if i = 0 then 1 else 0) (h2 : k ≠ 1 → o = i ∧ (i = 0 → X = lN f) ∧ (i = 1 → Y = lN f) ∧ (i = 2 → Z = lN f))
    (H : wL_ending_29 post J11 x x1 x2 X Y Z (nI k) n (u + lN (f * fw_k (fw_bt x) o 0)) (v + lN (f * fw_k (fw_bt x) o 1)) (w + lN (f * fw_k (fw_bt x) o 2)) (nI (i + 1))) : wL_ending_29 post J11 x x1 x2 X Y Z (nI k) (n + 1) u v w (nI i) := by
  have h88 : ∀ st : Int32, ((st = 1 ∧ o = 3) ∨ (st = 0 ∧ o = i)) → wL_ending_88 post J11 (wL_ending_29 post J11 x x1 x2 X Y Z (nI k) n) x x1 x2 X Y Z (nI k) u v w (nI i) (lN f) st := fun st hst => fw_E88 hi hst H
  have h77 : wL_ending_77 post J11 (wL_ending_29 post J11 x x1 x2 X Y Z (nI k) n) x x1 x2 X Y Z (nI k) u v w (nI i) (lN f) := by
    unfold wL_ending_77
    exact pk_eq k 1 (fun e => h88 1 (Or.inl ⟨rfl, (h1 e).1⟩)) (fun e => h88 0 (Or.inr ⟨rfl, (h2 e).1⟩))
  have h57 : ∀ z0 : Int64, (k ≠ 1 → z0 = lN f) → wL_ending_57 post J11 (wL_ending_29 post J11 x x1 x2 X Y Z (nI k) n) x x1 x2 X Y Z (nI k) u v w (nI i) z0 := by
    intro z0 hz
    unfold wL_ending_57
    refine pk_eq k 1 (fun e => pk_eq i 0 (fun e0 => ?_) (fun e0 => ?_)) (fun e => ?_)
    · rw [(h1 e).2, if_pos e0] at h77
      unfold wL_ending_75
      exact h77
    · rw [(h1 e).2, if_neg e0] at h77
      unfold wL_ending_75
      exact h77
    · rw [hz e]
      exact h77
  exact pk_le 3 i (fun z => absurd z (by omega)) (fun _ => pk_eq i 0 (fun e => h57 X (fun q => (h2 q).2.1 e)) (fun e => pk_eq i 1 (fun e1 => h57 Y (fun q => (h2 q).2.2.1 e1)) (fun e1 => h57 Z (fun q => (h2 q).2.2.2 (by omega)))))
theorem fw_l3 (a b c : Nat) : (0 : Int64) + lN a + lN b + lN c = lN (a + b + c) := by
  rw [show (0 : Int64) = lN 0 from rfl, lN_add, lN_add, lN_add, Nat.zero_add]
theorem fw_E3 {post : Int64 → Prop} {J11 : Int64 → Int64 → Int64 → Int32 → Prop} {x x1 x2 : Int32} {X Y Z : Int64} {k : Nat} (hk : k < 1000) (f o : Nat → Nat) (h1 : k = 1 → ∀ i, i < 3 → o i = 3 ∧ f i = if i = 0 then 1 else 0) (h2 : k ≠ 1 → (∀ i, i < 3 → o i = i) ∧ X = lN (f 0) ∧ Y = lN (f 1) ∧ Z = lN (f 2))
    (H : J11 (lN (f 0 * fw_k (fw_bt x) (o 0) 0 + f 1 * fw_k (fw_bt x) (o 1) 0 + f 2 * fw_k (fw_bt x) (o 2) 0)) (lN (f 0 * fw_k (fw_bt x) (o 0) 1 + f 1 * fw_k (fw_bt x) (o 1) 1 + f 2 * fw_k (fw_bt x) (o 2) 1)) (lN (f 0 * fw_k (fw_bt x) (o 0) 2 + f 1 * fw_k (fw_bt x) (o 1) 2 + f 2 * fw_k (fw_bt x) (o 2) 2)) (nI (k + 1))) :
    ∃ n, wL_ending_29 post J11 x x1 x2 X Y Z (nI k) n 0 0 0 0 := by
  rw [← fw_l3, ← fw_l3, ← fw_l3] at H
  refine ⟨4, fw_Eit (i := 0) (f := f 0) (o := o 0) (by omega) hk (fun e => h1 e 0 (by omega)) (fun e => ⟨(h2 e).1 0 (by omega), fun _ => (h2 e).2.1, fun z => absurd z (by omega), fun z => absurd z (by omega)⟩) ?_⟩
  refine fw_Eit (i := 1) (f := f 1) (o := o 1) (by omega) hk (fun e => h1 e 1 (by omega)) (fun e => ⟨(h2 e).1 1 (by omega), fun z => absurd z (by omega), fun _ => (h2 e).2.2.1, fun z => absurd z (by omega)⟩) ?_
  refine fw_Eit (i := 2) (f := f 2) (o := o 2) (by omega) hk (fun e => h1 e 2 (by omega)) (fun e => ⟨(h2 e).1 2 (by omega), fun z => absurd z (by omega), fun z => absurd z (by omega), fun _ => (h2 e).2.2.2⟩) ?_
  exact pk_le 3 3 (fun _ => nm_r (nI_1 k) H) (fun z => absurd z (by omega))
theorem fw_Lend {post : Int64 → Prop} (x : Int32) (n c : Nat) (hn : n < 100) (hc : c < 3) (h : post (lN (fw_e (fw_bt x) n c))) : wpL_ending post () x (nI (n + 1)) (nI c) := by
  refine pk_loop (fun f i s => wL_ending_11 post x (nI (n + 1)) (nI c) f s.1 s.2.1 s.2.2 (nI i)) (fun i s => 1 ≤ i ∧ (∀ K, i = K + 2 → s.1 = lN (fw_e (fw_bt x) K 0) ∧ s.2.1 = lN (fw_e (fw_bt x) K 1) ∧ s.2.2 = lN (fw_e (fw_bt x) K 2))) (n + 2) 1 ((1, 1, 1) : Int64 × Int64 × Int64) (by omega) ⟨by omega, fun K h => absurd h (by omega)⟩ ?_ ?_
  · intro f s hI
    obtain ⟨e0, e1, e2⟩ := hI.2 n rfl
    refine pk_lt (n + 1) (n + 2) (fun _ => pk_eq c 0 (fun e => ?_) (fun e => pk_eq c 1 (fun e' => ?_) (fun e' => ?_))) (fun z => absurd z (by omega))
    · rw [e0, ← e]
      exact h
    · rw [e1, ← e']
      exact h
    · rw [e2, show 2 = c by omega]
      exact h
  · intro f i s hi hI hw
    refine pk_lt (n + 1) i (fun z => absurd z (by omega)) (fun _ => ?_)
    by_cases e : i = 1
    · refine fw_E3 (by omega) (fun i => if i = 0 then 1 else 0) (fun _ => 3) (fun _ i _ => ⟨rfl, rfl⟩) (fun z => absurd e z) (hw (_, _, _) ⟨by omega, fun K hK => ?_⟩)
      have hK0 : K = 0 := by omega
      subst hK0
      show lN (1 * _ + 0 * _ + 0 * _) = lN (fw_k _ 3 0) ∧ lN (1 * _ + 0 * _ + 0 * _) = lN (fw_k _ 3 1) ∧ lN (1 * _ + 0 * _ + 0 * _) = lN (fw_k _ 3 2)
      simp only [Nat.one_mul, Nat.zero_mul, Nat.add_zero]
      exact ⟨trivial, trivial, trivial⟩
    · obtain ⟨e0, e1, e2⟩ := hI.2 (i - 2) (by have := hI.1; omega)
      refine fw_E3 (by omega) (fun a => fw_e (fw_bt x) (i - 2) a) (fun a => a) (fun z => absurd z e) (fun _ => ⟨fun _ _ => rfl, e0, e1, e2⟩) (hw (_, _, _) ⟨by omega, fun K hK => ?_⟩)
      have hK0 : K = i - 2 + 1 := by have := hI.1; omega
      subst hK0
      exact ⟨rfl, rfl, rfl⟩
end
section
/-! the list of pieces -/
section
variable {st bu : Int32} {a1 a2 a3 : Nat → Int32} {a4 a5 a6 : Nat → Int64} {a7 a8 : Nat → Int32}
theorem fw_place {post : Int32 → Prop} {x : Int32} {c : Nat} (hc : c ≤ 6) (h0 : (∀ k, k < c → ¬ a1 k = x) → post (-1)) (h1 : ∀ j, j < c → a1 j = x → (∀ k, k < j → ¬ a1 k = x) → post (nI j)) : wpX_place post (nI c, st, bu, a1, a2, a3, a4, a5, a6, a7, a8) x :=
  pk_loop (σ := Unit) (fun n i _ => wX_place_2 post x (nI c) st bu a1 a2 a3 a4 a5 a6 a7 a8 n (nI i)) (fun i _ => ∀ k, k < i → ¬ a1 k = x) c 0 () (by omega) (fun k hk => absurd hk (by omega))
    (fun n _ h => pk_le c c (fun _ => h0 h) (fun z => absurd z (by omega)))
    (fun n i _ hi h hw => pk_le c i (fun z => absurd z (by omega)) (fun _ => ⟨pk_in i 6 (by omega), by
      rw [nI_clamp (show i < 2 ^ 31 by omega)]
      exact br_c (fun e => h1 i hi e h) (fun e => nm_r (nI_1 i) (hw () (lt_s h e)))⟩))
theorem fw_stateOf {post : Int32 → Prop} {x cn : Int32} {m : Nat} (hm : m ≤ 26) (h0 : (∀ k, k < m → ¬ a2 k = x) → post (-1)) (h1 : ∀ j, j < m → a2 j = x → (∀ k, k < j → ¬ a2 k = x) → post (nI j)) : wpX_stateOf post (cn, nI m, bu, a1, a2, a3, a4, a5, a6, a7, a8) x :=
  pk_loop (σ := Unit) (fun n i _ => wX_stateOf_2 post x cn (nI m) bu a1 a2 a3 a4 a5 a6 a7 a8 n (nI i)) (fun i _ => ∀ k, k < i → ¬ a2 k = x) m 0 () (by omega) (fun k hk => absurd hk (by omega))
    (fun n _ h => pk_le m m (fun _ => h0 h) (fun z => absurd z (by omega)))
    (fun n i _ hi h hw => pk_le m i (fun z => absurd z (by omega)) (fun _ => ⟨pk_in i 26 (by omega), by
      rw [nI_clamp (show i < 2 ^ 31 by omega)]
      exact br_c (fun e => h1 i hi e h) (fun e => nm_r (nI_1 i) (hw () (lt_s h e)))⟩))
theorem fw_permit16 {post : Int32 → St1 → Prop} {c j : Nat} (hc : c ≤ 6) (hj : j < c) (H : ∀ s : Nat → Int32, (∀ k, s k = if j ≤ k ∧ k + 1 < c then a1 (k + 1) else a1 k) → post (nI (c - 1)) (nI (c - 1), st, 0, s, a2, a3, a4, a5, a6, a7, a8)) :
    ∃ n, wX_permit_16 post (nI c) st bu n (nI (j + 1)) a1 a2 a3 a4 a5 a6 a7 a8 := by
  refine pk_loop (fun n i s => wX_permit_16 post (nI c) st bu n (nI i) s a2 a3 a4 a5 a6 a7 a8) (fun i s => j + 1 ≤ i ∧ ∀ k, s k = if j ≤ k ∧ k + 1 < i then a1 (k + 1) else a1 k) c (j + 1) a1 (by omega) ⟨by omega, fun k => by rw [if_neg (by omega)]⟩ ?_ ?_
  · intro n s hI
    exact pk_le c c (fun _ => nm_r (pk_sub (b := 1) (by omega)) (H s hI.2)) (fun z => absurd z (by omega))
  · intro n i s hi hI hw
    obtain ⟨h1, hs⟩ := hI
    have e1 : nI i - 1 = nI (i - 1) := pk_sub (b := 1) (by omega)
    refine pk_le c i (fun z => absurd z (by omega)) (fun _ => ⟨pk_in i 6 (by omega), pk_in (i - 1) 6 (by omega) e1, nm_r (e' := upd s (i - 1) (s i)) (by rw [e1, nI_clamp (by omega), nI_clamp (by omega)]) (nm_r (nI_1 i) (hw _ ⟨by omega, fun k => ?_⟩))⟩)
    by_cases e : k = i - 1
    · rw [e, pk_us, hs i, if_neg (by omega), if_pos (by omega), show i - 1 + 1 = i by omega]
    · rw [pk_un e, hs k]
      by_cases q : j ≤ k ∧ k + 1 < i
      · rw [if_pos q, if_pos (by omega)]
      · rw [if_neg q, if_neg (by omega)]
theorem fw_permit {post : Int32 → St1 → Prop} {c : Nat} {p : Int32} (hc : c ≤ 6) (h0 : (∀ k, k < c → ¬ a1 k = p) → post (-1) (nI c, st, bu, a1, a2, a3, a4, a5, a6, a7, a8)) (h1 : ∀ j, j < c → a1 j = p → ∀ s : Nat → Int32, (∀ k, s k = if j ≤ k ∧ k + 1 < c then a1 (k + 1) else a1 k) → post (nI (c - 1)) (nI (c - 1), st, 0, s, a2, a3, a4, a5, a6, a7, a8)) :
    wpX_permit post (nI c, st, bu, a1, a2, a3, a4, a5, a6, a7, a8) p := by
  unfold wpX_permit
  exact fw_place hc (fun h => br_f (by decide) (h0 h)) (fun j hj e _ => br_t (nI_pos' (by omega)) (nm_r (nI_1 j) (fw_permit16 hc hj (h1 j hj e))))
theorem fw_forbid {post : Int32 → St1 → Prop} {c p : Nat} (hp : (3 ≤ p ∧ p ≤ 5) ∨ (9 ≤ p ∧ p ≤ 17)) (hc : c ≤ 6) (h2 : (∃ k, k < c ∧ a1 k = nI p) → post (-2) (nI c, st, bu, a1, a2, a3, a4, a5, a6, a7, a8)) (h3 : (∀ k, k < c → ¬ a1 k = nI p) → c = 6 → post (-3) (nI c, st, bu, a1, a2, a3, a4, a5, a6, a7, a8)) (h4 : (∀ k, k < c → ¬ a1 k = nI p) → c < 6 → post (nI (c + 1)) (nI (c + 1), st, 0, upd a1 c (nI p), a2, a3, a4, a5, a6, a7, a8)) :
    wpX_forbid post (nI c, st, bu, a1, a2, a3, a4, a5, a6, a7, a8) (nI p) := by
  unfold wpX_forbid
  exact fw_isp hp (br_f (by decide) (fw_place hc (fun h => br_t (by decide) (pk_eq c 6 (fun e => h3 h e) (fun e => ⟨pk_in c 6 (by omega), nm_r (e' := upd a1 c (nI p)) (by rw [nI_clamp (by omega)]) (nm_r (nI_1 c) (h4 h (by omega)))⟩))) (fun j hj e _ => br_f (nI_pos (by omega)) (h2 ⟨j, hj, e⟩))))
end
/-- the number of piece i -/
def fw_pc (i : Nat) : Nat := if i < 3 then 3 + i else 6 + i
theorem fw_pc_in {i : Nat} (hi : i < 12) : (3 ≤ fw_pc i ∧ fw_pc i ≤ 5) ∨ (9 ≤ fw_pc i ∧ fw_pc i ≤ 17) := by
  unfold fw_pc
  split <;> omega
theorem fw_pc_inj {i j : Nat} (hi : i < 12) (hj : j < 12) (h : nI (fw_pc i) = nI (fw_pc j)) : i = j := by
  have h1 := fw_pc_in hi
  have h2 := fw_pc_in hj
  rw [nI_eq (by omega) (by omega)] at h
  unfold fw_pc at h
  split at h <;> split at h <;> omega
/-- the list holds the forbidden pieces, each once -/
def fw_L (B : Nat → Bool) (c : Nat) (a1 : Nat → Int32) : Prop :=
  c ≤ 6 ∧ c = fw_pop B ∧ (∀ k, k < c → ∃ i, i < 12 ∧ a1 k = nI (fw_pc i)) ∧ (∀ i, i < 12 → (B i = true ↔ ∃ k, k < c ∧ a1 k = nI (fw_pc i))) ∧ (∀ j k, j < c → k < c → a1 j = a1 k → j = k)
theorem fw_L_0 {B : Nat → Bool} {a1 : Nat → Int32} (hB : ∀ i, i < 12 → B i = false) : fw_L B 0 a1 := by
  refine ⟨by omega, ?_, fun k hk => absurd hk (by omega), fun i hi => ⟨fun h => ?_, fun h => ?_⟩, fun j k hj => absurd hj (by omega)⟩
  · unfold fw_pop
    rw [fw_S_eq (g := fun _ => 0) 12 (fun s hs => by (try dsimp only); rw [hB s hs]; rfl)]
    rfl
  · rw [hB i hi] at h
    exact absurd h (by decide)
  · obtain ⟨k, hk, _⟩ := h
    exact absurd hk (by omega)
theorem fw_S_up2 {f g : Nat → Nat} {y d : Nat} (n : Nat) (h1 : ∀ s, s < n → s ≠ y → f s = g s) (h2 : f y = g y + d) (hy : y < n) : fw_S f n = fw_S g n + d := by
  have e : fw_S f n = fw_S (fun s => if s = y then g y + d else g s) n := fw_S_eq n (fun s hs => by
    try dsimp only
    by_cases q : s = y
    · rw [if_pos q, q, h2]
    · rw [if_neg q, h1 s hs q])
  rw [e, fw_S_up (f := fun s => if s = y then g y + d else g s) (g := g) (y := y) (d := d) (fun s q => if_neg q) (if_pos rfl) n, if_pos hy]
theorem fw_L_add {B B' : Nat → Bool} {c i : Nat} {a1 : Nat → Int32} (h : fw_L B c a1) (hc : c < 6) (hi : i < 12) (hb : B i = false) (hB : ∀ j, j < 12 → B' j = (B j || decide (j = i))) : fw_L B' (c + 1) (upd a1 c (nI (fw_pc i))) := by
  obtain ⟨_, hp, hr, hm, hj⟩ := h
  have old : ∀ k, k < c → upd a1 c (nI (fw_pc i)) k = a1 k := fun k hk => pk_un (by omega)
  have fresh : ∀ k, k < c → ¬ a1 k = nI (fw_pc i) := fun k hk e => by
    have := (hm i hi).mpr ⟨k, hk, e⟩
    rw [hb] at this
    exact absurd this (by decide)
  refine ⟨by omega, ?_, fun k hk => ?_, fun q hq => ⟨fun w => ?_, fun w => ?_⟩, fun j k hj' hk e => ?_⟩
  · rw [hp]
    unfold fw_pop
    refine (fw_S_up2 (y := i) (d := 1) 12 (fun s hs n => ?_) ?_ hi).symm
    · try dsimp only
      rw [hB s hs, decide_eq_false n, Bool.or_false]
    · try dsimp only
      rw [hB i hi, hb, decide_eq_true rfl]
      rfl
  · by_cases e : k = c
    · exact ⟨i, hi, by rw [e, pk_us]⟩
    · rw [old k (by omega)]
      exact hr k (by omega)
  · rw [hB q hq] at w
    by_cases e : q = i
    · exact ⟨c, by omega, by rw [pk_us, e]⟩
    · rw [decide_eq_false e, Bool.or_false] at w
      obtain ⟨k, hk, ek⟩ := (hm q hq).mp w
      exact ⟨k, by omega, by rw [old k hk, ek]⟩
  · obtain ⟨k, hk, ek⟩ := w
    rw [hB q hq]
    by_cases e : k = c
    · rw [e, pk_us] at ek
      rw [decide_eq_true (fw_pc_inj hi hq ek).symm, Bool.or_true]
    · rw [old k (by omega)] at ek
      rw [(hm q hq).mpr ⟨k, by omega, ek⟩, Bool.true_or]
  · by_cases ej : j = c
    · by_cases ek : k = c
      · omega
      · rw [ej, pk_us, old k (by omega)] at e
        exact absurd e.symm (fresh k (by omega))
    · by_cases ek : k = c
      · rw [ek, pk_us, old j (by omega)] at e
        exact absurd e (fresh j (by omega))
      · rw [old j (by omega), old k (by omega)] at e
        exact hj j k (by omega) (by omega) e
theorem fw_L_del {B B' : Nat → Bool} {c i j : Nat} {a1 s : Nat → Int32} (h : fw_L B c a1) (hj : j < c) (hi : i < 12) (ej : a1 j = nI (fw_pc i)) (hB : ∀ j, j < 12 → B' j = (B j && !decide (j = i))) (hs : ∀ k, s k = if j ≤ k ∧ k + 1 < c then a1 (k + 1) else a1 k) : fw_L B' (c - 1) s := by
  obtain ⟨hc, hp, hr, hm, hinj⟩ := h
  have hb : B i = true := (hm i hi).mpr ⟨j, hj, ej⟩
  -- where place k of the new list stands in the old one
  have at_ : ∀ k, k < c - 1 → ∃ q, q < c ∧ q ≠ j ∧ s k = a1 q ∧ q = if k < j then k else k + 1 := by
    intro k hk
    by_cases e : k < j
    · exact ⟨k, by omega, by omega, by rw [hs k, if_neg (by omega)], by rw [if_pos e]⟩
    · exact ⟨k + 1, by omega, by omega, by rw [hs k, if_pos (by omega)], by rw [if_neg e]⟩
  refine ⟨by omega, ?_, fun k hk => ?_, fun q hq => ⟨fun w => ?_, fun w => ?_⟩, fun x y hx hy e => ?_⟩
  · have e : fw_pop B = fw_pop B' + 1 := by
      unfold fw_pop
      refine fw_S_up2 (y := i) (d := 1) 12 (fun s hs n => ?_) ?_ hi
      · try dsimp only
        rw [hB s hs, decide_eq_false n]
        simp
      · try dsimp only
        rw [hB i hi, hb, decide_eq_true rfl]
        rfl
    omega
  · obtain ⟨q, hq, _, e, _⟩ := at_ k hk
    rw [e]
    exact hr q hq
  · rw [hB q hq] at w
    have w1 : B q = true := by
      revert w
      cases B q
      · intro w
        exact absurd w (by simp)
      · intro _
        rfl
    have w2 : ¬ q = i := by
      intro e
      rw [decide_eq_true e] at w
      exact absurd w (by simp)
    obtain ⟨k, hk, ek⟩ := (hm q hq).mp w1
    have kj : k ≠ j := by
      intro e
      rw [e, ej] at ek
      exact w2 (fw_pc_inj hi hq ek).symm
    by_cases e : k < j
    · exact ⟨k, by omega, by rw [hs k, if_neg (by omega), ek]⟩
    · exact ⟨k - 1, by omega, by rw [hs (k - 1), if_pos (by omega), show k - 1 + 1 = k by omega, ek]⟩
  · obtain ⟨k, hk, ek⟩ := w
    obtain ⟨q', hq', nj, e, _⟩ := at_ k hk
    rw [e] at ek
    have w1 := (hm q hq).mpr ⟨q', hq', ek⟩
    have w2 : ¬ q = i := by
      intro z
      rw [z, ← ej] at ek
      exact nj (hinj q' j hq' hj ek)
    rw [hB q hq, w1, decide_eq_false w2]
    rfl
  · obtain ⟨q1, h1, _, e1, d1⟩ := at_ x hx
    obtain ⟨q2, h2, _, e2, d2⟩ := at_ y hy
    rw [e1, e2] at e
    have := hinj q1 q2 h1 h2 e
    rw [d1, d2] at this
    split at this <;> split at this <;> omega
end
section
/-! where the machine goes on to -/
theorem fw_powE {post : Int32 → Prop} {x : Int32} (e : Nat) (he : e ≤ 9) (hx : x = nI e) (h : post (nI (3 ^ e))) : wpX_power post () x := by
  subst hx
  exact fw_pow e he h
def fw_fi (a : Nat → Int32) (x : Int32) : Nat → Nat
  | 0 => 0
  | n + 1 => if fw_fi a x n < n then fw_fi a x n else if a n = x then n else n + 1
theorem fw_fi_none {a : Nat → Int32} {x : Int32} (m : Nat) (h : ∀ k, k < m → ¬ a k = x) : fw_fi a x m = m := by
  induction m with
  | zero => rfl
  | succ m ih =>
    show (if fw_fi a x m < m then fw_fi a x m else if a m = x then m else m + 1) = m + 1
    rw [ih (fun k hk => h k (by omega)), if_neg (by omega), if_neg (h m (by omega))]
theorem fw_fi_first {a : Nat → Int32} {x : Int32} {j : Nat} (e : a j = x) (hf : ∀ k, k < j → ¬ a k = x) (m : Nat) (hj : j < m) : fw_fi a x m = j := by
  induction m with
  | zero => exact absurd hj (by omega)
  | succ m ih =>
    show (if fw_fi a x m < m then fw_fi a x m else if a m = x then m else m + 1) = j
    by_cases q : j < m
    · rw [ih q, if_pos q]
    · have e' : m = j := by omega
      subst e'
      rw [fw_fi_none m hf, if_neg (by omega), if_pos e]
def fw_sg (a2 : Nat → Int32) (m c : Nat) : Nat := if fw_fi a2 (nI (3 + c)) m < m then fw_fi a2 (nI (3 + c)) m else 0
theorem fw_sg_none {a2 : Nat → Int32} {m c : Nat} (h : ∀ k, k < m → ¬ a2 k = nI (3 + c)) : fw_sg a2 m c = 0 := by
  unfold fw_sg
  rw [fw_fi_none m h, if_neg (by omega)]
theorem fw_sg_first {a2 : Nat → Int32} {m c j : Nat} (hj : j < m) (e : a2 j = nI (3 + c)) (hf : ∀ k, k < j → ¬ a2 k = nI (3 + c)) : fw_sg a2 m c = j := by
  unfold fw_sg
  rw [fw_fi_first e hf m hj, if_pos hj]
theorem fw_sg_lt (a2 : Nat → Int32) {m : Nat} (hm : 1 ≤ m) (c : Nat) : fw_sg a2 m c < m := by
  unfold fw_sg
  split <;> omega
section
variable {bu : Int32} {a1 a2 a3 : Nat → Int32} {a4 a5 a6 : Nat → Int64} {a7 a8 : Nat → Int32}
theorem fw_t44 {post : Int32 → Prop} {st : Int32} {e k D c n : Nat} (X : Nat) (hX : 3 ^ (e - k) + D % 3 ^ (e - k) = X) (hc : c ≤ 6) (he : e ≤ 5) (hk : k < e) (hD : D < 2 ^ 20) (h1 : (∃ q, q < c ∧ a1 q = nI X) → post 25) (h0 : (∀ q, q < c → ¬ a1 q = nI X) → wX_target_44 post (nI e) (nI D) (nI c) st bu a1 a2 a3 a4 a5 a6 a7 a8 n (nI (k + 1))) :
    wX_target_44 post (nI e) (nI D) (nI c) st bu a1 a2 a3 a4 a5 a6 a7 a8 (n + 1) (nI k) := by
  have es : nI e - nI k = nI (e - k) := pk_sub (by omega)
  have hp := fw_p9 (show e - k ≤ 9 by omega)
  have hp0 := fw_p0 (e - k)
  subst hX
  refine pk_le e k (fun z => absurd z (by omega)) (fun _ => fw_powE (e - k) (by omega) es (fw_powE (e - k) (by omega) es ⟨nI_ne0 hp0 (by omega), nm_r (e' := nI (3 ^ (e - k) + D % 3 ^ (e - k))) (by rw [pk_rem (by omega) hp0 (by omega), nI_add]) ?_⟩))
  exact fw_place hc (fun h => br_t (by decide) (nm_r (nI_1 k) (h0 h))) (fun j hj ej _ => br_f (nI_pos (by omega)) (h1 ⟨j, hj, ej⟩))
theorem fw_t90 {post : Int32 → Prop} {cn : Int32} {e k D m n : Nat} (X : Nat) (hX : 3 ^ (e - k) + D % 3 ^ (e - k) = X) (hm : m ≤ 26) (he : e ≤ 5) (hk : k < e) (hD : D < 2 ^ 20) (h1 : ∀ j, j < m → a2 j = nI X → (∀ q, q < j → ¬ a2 q = nI X) → post (nI j)) (h0 : (∀ q, q < m → ¬ a2 q = nI X) → wX_target_90 post (nI e) (nI D) cn (nI m) bu a1 a2 a3 a4 a5 a6 a7 a8 n (nI (k + 1))) :
    wX_target_90 post (nI e) (nI D) cn (nI m) bu a1 a2 a3 a4 a5 a6 a7 a8 (n + 1) (nI k) := by
  have es : nI e - nI k = nI (e - k) := pk_sub (by omega)
  have hp := fw_p9 (show e - k ≤ 9 by omega)
  have hp0 := fw_p0 (e - k)
  subst hX
  refine pk_le e k (fun z => absurd z (by omega)) (fun _ => fw_powE (e - k) (by omega) es (fw_powE (e - k) (by omega) es ⟨nI_ne0 hp0 (by omega), nm_r (e' := nI (3 ^ (e - k) + D % 3 ^ (e - k))) (by rw [pk_rem (by omega) hp0 (by omega), nI_add]) ?_⟩))
  exact fw_stateOf hm (fun h => br_t (by decide) (nm_r (nI_1 k) (h0 h))) (fun j hj ej hf => br_f (nI_pos (by omega)) (h1 j hj ej hf))
theorem fw_t23 {post : Int32 → Prop} {cn st : Int32} {N e D : Nat} (he : e ≤ 5) (hN : N = 3 ^ e + D) (hD : D < 2 ^ 20) (H : ∃ n, wX_target_44 post (nI e) (nI D) cn st bu a1 a2 a3 a4 a5 a6 a7 a8 n 0) : wX_target_23 post (nI N) (nI e) cn st bu a1 a2 a3 a4 a5 a6 a7 a8 := by
  have hp := fw_p9 (show e ≤ 9 by omega)
  unfold wX_target_23
  refine fw_pow e (by omega) (pk_le (3 ^ e) N (fun _ => ?_) (fun z => absurd z (by omega)))
  unfold wX_target_34
  exact fw_pow e (by omega) (nm_r (e' := nI D) (by rw [pk_sub (by omega), hN, Nat.add_sub_cancel_left]) H)
theorem fw_tgt1 {post : Int32 → Prop} {c m l : Nat} (hc : c ≤ 6) (hm : m ≤ 26) (hl : l < 3) (h25 : (∃ q, q < c ∧ a1 q = nI (3 + l)) → post 25) (hs : (∀ q, q < c → ¬ a1 q = nI (3 + l)) → post (nI (fw_sg a2 m l))) : wpX_target post (nI c, nI m, bu, a1, a2, a3, a4, a5, a6, a7, a8) (nI (3 + l)) := by
  have eX : 3 ^ (1 - 0) + l % 3 ^ (1 - 0) = 3 + l := by
    show 3 + l % 3 = 3 + l
    omega
  refine ⟨2, pk_le 5 0 (fun z => absurd z (by omega)) (fun _ => fw_powE 1 (by omega) (by decide) (pk_lt (3 + l) 3 (fun z => absurd z (by omega)) (fun _ => nm_r (e' := nI 1) (by decide) (pk_le 5 1 (fun z => absurd z (by omega)) (fun _ => fw_powE 2 (by omega) (by decide) (pk_lt (3 + l) 9 (fun _ => ?_) (fun z => absurd z (by omega))))))))⟩
  refine fw_t23 (e := 1) (D := l) (by omega) rfl (by omega) ⟨2, ?_⟩
  refine fw_t44 (e := 1) (k := 0) (3 + l) eX hc (by omega) (by omega) (by omega) h25 (fun h => pk_le 1 1 (fun _ => ⟨2, ?_⟩) (fun z => absurd z (by omega)))
  refine fw_t90 (e := 1) (k := 0) (3 + l) eX hm (by omega) (by omega) (by omega) (fun j hj ej hf => ?_) (fun h' => pk_le 1 1 (fun _ => ?_) (fun z => absurd z (by omega)))
  · have := hs h
    rw [fw_sg_first hj ej hf] at this
    exact this
  · have := hs h
    rw [fw_sg_none h'] at this
    exact this
theorem fw_tgt2 {post : Int32 → Prop} {c m a l : Nat} (hc : c ≤ 6) (hm : m ≤ 26) (ha : a < 3) (hl : l < 3) (hkn : ∀ s, s < m → ¬ a2 s = nI (9 + 3 * a + l)) (h25 : (∃ q, q < c ∧ a1 q = nI (9 + 3 * a + l)) → post 25) (h25' : (∀ q, q < c → ¬ a1 q = nI (9 + 3 * a + l)) → (∃ q, q < c ∧ a1 q = nI (3 + l)) → post 25) (hs : (∀ q, q < c → ¬ a1 q = nI (9 + 3 * a + l)) → (∀ q, q < c → ¬ a1 q = nI (3 + l)) → post (nI (fw_sg a2 m l))) : wpX_target post (nI c, nI m, bu, a1, a2, a3, a4, a5, a6, a7, a8) (nI (9 + 3 * a + l)) := by
  have eX : 3 ^ (2 - 0) + (3 * a + l) % 3 ^ (2 - 0) = 9 + 3 * a + l := by
    show 9 + (3 * a + l) % 9 = 9 + 3 * a + l
    omega
  have eY : 3 ^ (2 - 1) + (3 * a + l) % 3 ^ (2 - 1) = 3 + l := by
    show 3 + (3 * a + l) % 3 = 3 + l
    omega
  refine ⟨3, pk_le 5 0 (fun z => absurd z (by omega)) (fun _ => fw_powE 1 (by omega) (by decide) (pk_lt (9 + 3 * a + l) 3 (fun z => absurd z (by omega)) (fun _ => nm_r (e' := nI 1) (by decide) (pk_le 5 1 (fun z => absurd z (by omega)) (fun _ => fw_powE 2 (by omega) (by decide) (pk_lt (9 + 3 * a + l) 9 (fun z => absurd z (by omega)) (fun _ => nm_r (e' := nI 2) (by decide) (pk_le 5 2 (fun z => absurd z (by omega)) (fun _ => fw_powE 3 (by omega) (by decide) (pk_lt (9 + 3 * a + l) 27 (fun _ => ?_) (fun z => absurd z (by omega))))))))))))⟩
  refine fw_t23 (e := 2) (D := 3 * a + l) (by omega) (by show 9 + 3 * a + l = 9 + (3 * a + l); omega) (by omega) ⟨3, ?_⟩
  refine fw_t44 (e := 2) (k := 0) (9 + 3 * a + l) eX hc (by omega) (by omega) (by omega) h25 (fun h => ?_)
  refine fw_t44 (e := 2) (k := 1) (3 + l) eY hc (by omega) (by omega) (by omega) (h25' h) (fun g => pk_le 2 2 (fun _ => ⟨3, ?_⟩) (fun z => absurd z (by omega)))
  refine fw_t90 (e := 2) (k := 0) (9 + 3 * a + l) eX hm (by omega) (by omega) (by omega) (fun j hj ej hf => absurd ej (hkn j hj)) (fun _ => ?_)
  refine fw_t90 (e := 2) (k := 1) (3 + l) eY hm (by omega) (by omega) (by omega) (fun j hj ej hf => ?_) (fun h' => pk_le 2 2 (fun _ => ?_) (fun z => absurd z (by omega)))
  · have := hs h g
    rw [fw_sg_first hj ej hf] at this
    exact this
  · have := hs h g
    rw [fw_sg_none h'] at this
    exact this
theorem fw_L1 {B : Nat → Bool} {c l : Nat} (hL : fw_L B c a1) (hl : l < 3) : B l = true ↔ ∃ k, k < c ∧ a1 k = nI (3 + l) := by
  have := hL.2.2.2.1 l (by omega)
  unfold fw_pc at this
  rw [if_pos hl] at this
  exact this
theorem fw_L2 {B : Nat → Bool} {c a l : Nat} (hL : fw_L B c a1) (ha : a < 3) (hl : l < 3) : B (3 + 3 * a + l) = true ↔ ∃ k, k < c ∧ a1 k = nI (9 + 3 * a + l) := by
  have := hL.2.2.2.1 (3 + 3 * a + l) (by omega)
  unfold fw_pc at this
  rw [if_neg (by omega), show 6 + (3 + 3 * a + l) = 9 + 3 * a + l by omega] at this
  exact this
theorem fw_target {post : Int32 → Prop} {B : Nat → Bool} {c m o l N : Nat} (hL : fw_L B c a1) (hm : m ≤ 26) (ho : o ≤ 3) (hl : l < 3) (hkn : ∀ s, s < m → a2 s = nI 1 ∨ ∃ a, a < 3 ∧ a2 s = nI (3 + a)) (hN : N = if o = 3 then 3 + l else 9 + 3 * o + l) (h : post (nI (if fw_k B o l = 1 then fw_sg a2 m l else 25))) : wpX_target post (nI c, nI m, bu, a1, a2, a3, a4, a5, a6, a7, a8) (nI N) := by
  have hc := hL.1
  by_cases e : o = 3
  · rw [if_pos e] at hN
    subst hN
    refine fw_tgt1 hc hm hl (fun g => ?_) (fun g => ?_)
    · rw [if_neg (by unfold fw_k; rw [if_pos ((fw_L1 hL hl).mpr g)]; omega)] at h
      exact h
    · rw [if_pos (by unfold fw_k; rw [if_neg (fun z => by obtain ⟨q, hq, eq⟩ := (fw_L1 hL hl).mp z; exact g q hq eq), if_pos e])] at h
      exact h
  · rw [if_neg e] at hN
    subst hN
    refine fw_tgt2 hc hm (by omega) hl (fun s hs => ?_) (fun g => ?_) (fun _ g => ?_) (fun g1 g => ?_)
    · rcases hkn s hs with q | ⟨a, ha, q⟩
      · rw [q, nI_eq (by omega) (by omega)]
        omega
      · rw [q, nI_eq (by omega) (by omega)]
        omega
    · rw [if_neg (by
        unfold fw_k
        rw [if_neg e, if_pos ((fw_L2 hL (by omega) hl).mpr g)]
        split <;> omega)] at h
      exact h
    · rw [if_neg (by unfold fw_k; rw [if_pos ((fw_L1 hL hl).mpr g)]; omega)] at h
      exact h
    · rw [if_pos (by
        unfold fw_k
        rw [if_neg (fun z => by obtain ⟨q, hq, eq⟩ := (fw_L1 hL hl).mp z; exact g q hq eq), if_neg e, if_neg (fun z => by obtain ⟨q, hq, eq⟩ := (fw_L2 hL (by omega) hl).mp z; exact g1 q hq eq)])] at h
      exact h
end
/-! the table of steps -/
def fw_K (a1 : Nat → Int32) (i m : Nat) (a2 : Nat → Int32) : Prop :=
  (1 ≤ m ∧ m ≤ 1 + i) ∧ a2 0 = nI 1 ∧ (∀ s, 0 < s → s < m → ∃ a, a < 3 ∧ a2 s = nI (3 + a)) ∧ (∀ k a l, k < i → a < 3 → l < 3 → a1 k = nI (9 + 3 * a + l) → ∃ s, s < m ∧ a2 s = nI (3 + a))
def fw_o (a2 : Nat → Int32) (s : Nat) : Nat := if s = 0 then 3 else (a2 s).toNatClampNeg - 3
def fw_t (B : Nat → Bool) (a2 : Nat → Int32) (m k : Nat) : Nat := if k < 75 then (if fw_k B (fw_o a2 (k / 3)) (k % 3) = 1 then fw_sg a2 m (k % 3) else 25) else 25
def fw_z (a2 : Nat → Int32) (m o : Nat) : Nat := if o = 3 then 0 else fw_sg a2 m o
theorem fw_machK {B : Nat → Bool} {c m : Nat} {a1 a2 : Nat → Int32} (hL : fw_L B c a1) (hK : fw_K a1 c m a2) : fw_mach B m (fw_t B a2 m) (fw_z a2 m) := by
  obtain ⟨⟨m1, m2⟩, k0, k1, k2⟩ := hK
  have hc := hL.1
  have zl : ∀ l, l < 3 → fw_z a2 m l = fw_sg a2 m l := fun l hl => if_neg (by omega)
  have tk : ∀ s l, s < m → l < 3 → fw_t B a2 m (3 * s + l) = if fw_k B (fw_o a2 s) l = 1 then fw_sg a2 m l else 25 := by
    intro s l hs hl
    unfold fw_t
    rw [if_pos (by omega), show (3 * s + l) / 3 = s by omega, show (3 * s + l) % 3 = l by omega]
  refine ⟨⟨m1, by omega⟩, if_pos rfl, fun o ho => ?_, fun o l ho hl => ?_, fun k hk => ?_, fun l hl => ?_⟩
  · unfold fw_z
    split
    · omega
    · exact fw_sg_lt a2 m1 o
  · rw [zl l hl]
    by_cases e : o = 3
    · subst e
      rw [show fw_z a2 m 3 = 0 from if_pos rfl, tk 0 l (by omega) hl]
      rfl
    · rw [zl o (by omega)]
      by_cases q : ∃ s, s < m ∧ a2 s = nI (3 + o)
      · obtain ⟨s, ⟨hs, es⟩, hmin⟩ := pk_least _ q
        rw [fw_sg_first hs es (fun k hk g => hmin k hk ⟨by omega, g⟩), tk s l hs hl]
        have s0 : ¬ s = 0 := by
          intro z
          rw [z, k0, nI_eq (by omega) (by omega)] at es
          omega
        rw [show fw_o a2 s = o by
          unfold fw_o
          rw [if_neg s0, es, nI_clamp (by omega)]
          omega]
      · rw [fw_sg_none (fun k hk g => q ⟨k, hk, g⟩), tk 0 l (by omega) hl]
        have hb : ¬ B (3 + 3 * o + l) = true := by
          intro z
          obtain ⟨k, hk, ek⟩ := (fw_L2 hL (by omega) hl).mp z
          exact q (k2 k o l hk (by omega) hl ek)
        have ek : fw_k B (fw_o a2 0) l = fw_k B o l := by
          show fw_k B 3 l = fw_k B o l
          unfold fw_k
          rw [if_pos rfl, if_neg e, if_neg hb]
        rw [ek]
  · unfold fw_t
    rw [if_pos (by omega)]
    split
    · exact Or.inl (fw_sg_lt a2 m1 _)
    · exact Or.inr rfl
  · unfold fw_t
    rw [if_neg (by omega)]
end
section
/-! the ways on, and the machine as it is built -/
theorem fw_ix3 (s l : Nat) : (3 : Int32) * nI s + nI l = nI (3 * s + l) := by
  rw [show (3 : Int32) * nI s = nI (3 * s) from pk_mul 3 s, nI_add]
theorem fw_ix26 (n s : Nat) : (26 : Int32) * nI n + nI s = nI (26 * n + s) := by
  rw [show (26 : Int32) * nI n = nI (26 * n) from pk_mul 26 n, nI_add]
theorem fw_fill {f s : Nat → Int32} {i : Nat} {x : Int32} (h : ∀ k, k < i → s k = f k) (hx : x = f i) : ∀ k, k < i + 1 → upd s i x k = f k := by
  intro k hk
  by_cases e : k = i
  · rw [e, pk_us, hx]
  · rw [pk_un e]
    exact h k (by omega)
theorem fw_fillL {f s : Nat → Int64} {i : Nat} {x : Int64} (h : ∀ k, k < i → s k = f k) (hx : x = f i) : ∀ k, k < i + 1 → vp_updL s i x k = f k := by
  intro k hk
  by_cases e : k = i
  · rw [e, pk_uLs, hx]
  · rw [pk_uLn e]
    exact h k (by omega)
def fw_wy (t : Nat → Nat) (m k : Nat) : Nat := fw_P t m (k / 26) (fw_one m) (k % 26)
theorem fw_wy_at (t : Nat → Nat) (m n : Nat) {s : Nat} (hs : s < 26) : fw_wy t m (26 * n + s) = fw_P t m n (fw_one m) s := by
  unfold fw_wy
  rw [show (26 * n + s) / 26 = n by omega, show (26 * n + s) % 26 = s by omega]
def fw_stp (m : Nat) (t : Nat → Nat) (a3 : Nat → Int32) : Prop := ∀ k, (k < 3 * m ∨ (75 ≤ k ∧ k < 78)) → a3 k = nI (t k)
def fw_wys (m : Nat) (t : Nat → Nat) (a4 : Nat → Int64) : Prop := ∀ k, k < 806 → a4 k = lN (fw_wy t m k)
def fw_R (B : Nat → Bool) (st : Int32) (a3 : Nat → Int32) (a4 : Nat → Int64) : Prop := ∃ (m : Nat) (t z : Nat → Nat), st = nI m ∧ fw_mach B m t z ∧ fw_stp m t a3 ∧ fw_wys m t a4
section
variable {cn bu : Int32} {a1 a2 a3 : Nat → Int32} {a4 a5 a6 : Nat → Int64} {a7 a8 : Nat → Int32}
theorem fw_cw63 {post : St1 → Prop} {J35 J43 : Int32 → (Nat → Int32) → (Nat → Int32) → (Nat → Int32) → (Nat → Int64) → (Nat → Int64) → (Nat → Int64) → (Nat → Int32) → (Nat → Int32) → Prop} {t : Nat → Nat} {m N j : Nat} {a : Nat → Int64}
    (hm : m ≤ 7) (hN : N + 1 ≤ 30) (hj : j < 26) (ht : ∀ k, k < 3 * m → t k < 26) (hs : ∀ k, k < 3 * m → a3 k = nI (t k))
    (ha : ∀ k, k < 26 * (N + 1) + j → a k = lN (fw_wy t m k)) (ha0 : a (26 * (N + 1) + j) = lN 0)
    (H : ∀ a' : Nat → Int64, (∀ k, k < 26 * (N + 1) + j + 1 → a' k = lN (fw_wy t m k)) → J43 (nI (j + 1)) a1 a2 a3 a' a5 a6 a7 a8) :
    ∃ f, wX_countWays_63 post J35 J43 (nI (N + 1)) (nI j) cn (nI m) bu f 0 a1 a2 a3 a a5 a6 a7 a8 := by
  by_cases hjm : j < m
  · refine pk_loop (fun f l s => wX_countWays_63 post J35 J43 (nI (N + 1)) (nI j) cn (nI m) bu f (nI l) a1 a2 a3 s a5 a6 a7 a8) (fun l s => (∀ k, k < 26 * (N + 1) + j → s k = lN (fw_wy t m k)) ∧ s (26 * (N + 1) + j) = lN (fw_S (fun q => fw_P t m N (fw_one m) (t (3 * j + q))) l)) 3 0 a (by omega) ⟨ha, ha0⟩ ?_ ?_
    · intro f s hI
      refine pk_le 3 3 (fun _ => nm_r (nI_1 j) (H s (lt_s hI.1 ?_))) (fun z => absurd z (by omega))
      rw [hI.2, fw_wy_at t m (N + 1) hj, fw_Ps]
      unfold fw_T
      rw [if_pos hjm, fw_S_s, fw_S_s, fw_S_s]
      show lN (0 + _ + _ + _) = _
      rw [Nat.zero_add]
    · intro f l s hl hI hw
      obtain ⟨i1, i2⟩ := hI
      have e3 : a3 (3 * nI j + nI l).toNatClampNeg = nI (t (3 * j + l)) := by rw [fw_ix3, nI_clamp (by omega), hs _ (by omega)]
      have tl := ht (3 * j + l) (by omega)
      have e4 : 26 * (nI (N + 1) - 1) + a3 (3 * nI j + nI l).toNatClampNeg = nI (26 * N + t (3 * j + l)) := by rw [e3, nI_pred, fw_ix26]
      refine pk_le 3 l (fun z => absurd z (by omega)) (fun _ => pk_le m j (fun z => absurd z (by omega)) (fun _ => ⟨pk_in (26 * (N + 1) + j) 806 (by omega) (fw_ix26 (N + 1) j), pk_in (3 * j + l) 78 (by omega) (fw_ix3 j l), pk_in (26 * N + t (3 * j + l)) 806 (by omega) e4, pk_in (26 * (N + 1) + j) 806 (by omega) (fw_ix26 (N + 1) j), nm_r (e' := vp_updL s (26 * (N + 1) + j) (lN (fw_S (fun q => fw_P t m N (fw_one m) (t (3 * j + q))) (l + 1)))) ?_ (nm_r (nI_1 l) (hw _ ⟨fun k hk => ?_, pk_uLs⟩))⟩))
      · rw [e4, fw_ix26, nI_clamp (by omega), nI_clamp (by omega), i2, i1 _ (by omega), fw_wy_at t m N tl, lN_add, fw_S_s]
      · rw [pk_uLn (by omega)]
        exact i1 k hk
  · refine ⟨1, pk_le 3 0 (fun z => absurd z (by omega)) (fun _ => pk_le m j (fun _ => nm_r (nI_1 j) (H a (lt_s ha ?_))) (fun z => absurd z (by omega)))⟩
    rw [ha0, fw_wy_at t m (N + 1) hj, fw_Ps]
    unfold fw_T
    rw [if_neg hjm]
theorem fw_cw35 {post : St1 → Prop} {t : Nat → Nat} {m : Nat} {a : Nat → Int64}
    (hm : m ≤ 7) (ht : ∀ k, k < 3 * m → t k < 26) (hs : ∀ k, k < 3 * m → a3 k = nI (t k)) (ha : ∀ k, k < 26 → a k = lN (fw_one m k))
    (H : ∀ a' : Nat → Int64, fw_wys m t a' → post (cn, nI m, bu, a1, a2, a3, a', a5, a6, a7, a8)) :
    ∃ f, wX_countWays_35 post cn (nI m) bu f 1 a1 a2 a3 a a5 a6 a7 a8 := by
  refine pk_loop (fun f i s => wX_countWays_35 post cn (nI m) bu f (nI i) a1 a2 a3 s a5 a6 a7 a8) (fun i s => 1 ≤ i ∧ ∀ k, k < 26 * i → s k = lN (fw_wy t m k)) 31 1 a (by omega) ⟨by omega, fun k hk => ?_⟩ ?_ ?_
  · rw [ha k (by omega)]
    have := fw_wy_at t m 0 (s := k) (by omega)
    rw [show 26 * 0 + k = k by omega] at this
    rw [this]
    rfl
  · intro f s hI
    exact pk_lt 30 31 (fun _ => H s hI.2) (fun z => absurd z (by omega))
  · intro f i s hi hI hw
    obtain ⟨i1, i2⟩ := hI
    obtain ⟨N, rfl⟩ : ∃ N, i = N + 1 := ⟨i - 1, by omega⟩
    refine pk_lt 30 (N + 1) (fun z => absurd z (by omega)) (fun _ => ?_)
    refine pk_loop (fun g j b => wX_countWays_43 post (wX_countWays_35 post cn (nI m) bu f) (nI (N + 1)) cn (nI m) bu g (nI j) a1 a2 a3 b a5 a6 a7 a8) (fun j b => ∀ k, k < 26 * (N + 1) + j → b k = lN (fw_wy t m k)) 26 0 s (by omega) i2 ?_ ?_
    · intro g b hb
      exact pk_le 26 26 (fun _ => nm_r (nI_1 (N + 1)) (hw b ⟨by omega, fun k hk => hb k (by omega)⟩)) (fun z => absurd z (by omega))
    · intro g j b hj hb hw2
      refine pk_le 26 j (fun z => absurd z (by omega)) (fun _ => ⟨pk_in (26 * (N + 1) + j) 806 (by omega) (fw_ix26 (N + 1) j), nm_r (e' := vp_updL b (26 * (N + 1) + j) 0) (by rw [fw_ix26, nI_clamp (by omega)]) ?_⟩)
      refine fw_cw63 hm (by omega) hj ht hs (fun k hk => ?_) pk_uLs (fun a' h' => hw2 a' h')
      rw [pk_uLn (by omega)]
      exact hb k hk
theorem fw_countWays {post : St1 → Prop} {t : Nat → Nat} {m : Nat}
    (hm : m ≤ 7) (ht : ∀ k, k < 3 * m → t k < 26) (hs : ∀ k, k < 3 * m → a3 k = nI (t k))
    (H : ∀ a' : Nat → Int64, fw_wys m t a' → post (cn, nI m, bu, a1, a2, a3, a', a5, a6, a7, a8)) :
    wpX_countWays post (cn, nI m, bu, a1, a2, a3, a4, a5, a6, a7, a8) := by
  refine pk_loop (fun f i s => wX_countWays_2 post cn (nI m) bu f (nI i) a1 a2 a3 s a5 a6 a7 a8) (fun i s => ∀ k, k < i → s k = lN (fw_one m k)) 26 0 a4 (by omega) lt_0 ?_ ?_
  · intro f s hI
    exact pk_le 26 26 (fun _ => fw_cw35 hm ht hs hI H) (fun z => absurd z (by omega))
  · intro f i s hi hI hw
    refine pk_le 26 i (fun z => absurd z (by omega)) (fun _ => pk_le m i (fun z => ⟨pk_in i 806 (by omega), nm_r (e' := vp_updL s i 0) (by rw [nI_clamp (by omega)]) (nm_r (nI_1 i) (hw _ (fw_fillL (f := fun k => lN (fw_one m k)) hI ?_)))⟩) (fun z => ⟨pk_in i 806 (by omega), nm_r (e' := vp_updL s i 1) (by rw [nI_clamp (by omega)]) (nm_r (nI_1 i) (hw _ (fw_fillL (f := fun k => lN (fw_one m k)) hI ?_)))⟩))
    · unfold fw_one
      rw [if_neg (by omega)]
      rfl
    · unfold fw_one
      rw [if_pos z]
      rfl
/-- the dead state's steps, then the ways -/
theorem fw_b153 {post : St1 → Prop} {t : Nat → Nat} {m : Nat} (hm : m ≤ 7) (ht : ∀ k, k < 3 * m → t k < 26) (h75 : ∀ l, l < 3 → t (75 + l) = 25) (hs : ∀ k, k < 3 * m → a3 k = nI (t k))
    (H : ∀ (b3 : Nat → Int32) (b4 : Nat → Int64), fw_stp m t b3 → fw_wys m t b4 → post (cn, nI m, bu, a1, a2, b3, b4, a5, a6, a7, a8)) :
    ∃ f, wX_build_153 post cn (nI m) bu f 0 a1 a2 a3 a4 a5 a6 a7 a8 := by
  refine pk_loop (fun f i s => wX_build_153 post cn (nI m) bu f (nI i) a1 a2 s a4 a5 a6 a7 a8) (fun i s => (∀ k, k < 3 * m → s k = nI (t k)) ∧ ∀ l, l < i → s (75 + l) = nI 25) 3 0 a3 (by omega) ⟨hs, fun l hl => absurd hl (by omega)⟩ ?_ ?_
  · intro f s hI
    refine pk_le 3 3 (fun _ => fw_countWays hm ht hI.1 (fun b4 hb => H s b4 (fun k hk => ?_) hb)) (fun z => absurd z (by omega))
    rcases hk with hk | ⟨k1, k2⟩
    · exact hI.1 k hk
    · have e := hI.2 (k - 75) (by omega)
      have e2 := h75 (k - 75) (by omega)
      rw [show 75 + (k - 75) = k by omega] at e e2
      rw [e, e2]
  · intro f i s hi hI hw
    obtain ⟨i1, i2⟩ := hI
    have e : (75 : Int32) + nI i = nI (75 + i) := nI_add 75 i
    refine pk_le 3 i (fun z => absurd z (by omega)) (fun _ => ⟨pk_in (75 + i) 78 (by omega) e, nm_r (e' := upd s (75 + i) 25) (by rw [e, nI_clamp (by omega)]) (nm_r (nI_1 i) (hw _ ⟨fun k hk => ?_, fun l hl => ?_⟩))⟩)
    · rw [pk_un (by omega)]
      exact i1 k hk
    · by_cases q : l = i
      · rw [q, pk_us]
        rfl
      · rw [pk_un (by omega)]
        exact i2 l (by omega)
theorem fw_b111 {post : St1 → Prop} {B : Nat → Bool} {c m : Nat} (hL : fw_L B c a1) (hK : fw_K a1 c m a2)
    (H : ∀ (b3 : Nat → Int32) (b4 : Nat → Int64), fw_R B (nI m) b3 b4 → post (nI c, nI m, bu, a1, a2, b3, b4, a5, a6, a7, a8)) :
    ∃ f, wX_build_111 post (nI c) (nI m) bu f 0 a1 a2 a3 a4 a5 a6 a7 a8 := by
  have hM := fw_machK hL hK
  have hM2 := hM
  obtain ⟨⟨m1, m7⟩, z3, zm, hst, hk, h75⟩ := hM
  obtain ⟨_, k0, k1, _⟩ := hK
  have kn : ∀ s, s < m → a2 s = nI 1 ∨ ∃ a, a < 3 ∧ a2 s = nI (3 + a) := fun s hs => by
    by_cases e : s = 0
    · exact Or.inl (by rw [e]; exact k0)
    · exact Or.inr (k1 s (by omega) hs)
  refine pk_loop (fun f i s => wX_build_111 post (nI c) (nI m) bu f (nI i) a1 a2 s a4 a5 a6 a7 a8) (fun i s => ∀ k, k < i → s k = nI (fw_t B a2 m k)) (3 * m) 0 a3 (by omega) lt_0 ?_ ?_
  · intro f s hI
    exact pk_le (3 * m) (3 * m) (fun _ => fw_b153 m7 (fun k hkm => by rcases hk k hkm with q | q <;> omega) h75 hI (fun b3 b4 h3 h4 => H b3 b4 ⟨m, _, _, rfl, hM2, h3, h4⟩)) (fun z => absurd z (by omega)) (pk_mul 3 m)
  · intro f i s hi hI hw
    have d3 : nI i / 3 = nI (i / 3) := pk_div (a := i) (d := 3) (by omega) (by omega) (by omega)
    have r3 : nI i - nI i / 3 * 3 = nI (i % 3) := pk_rem (a := i) (d := 3) (by omega) (by omega) (by omega)
    refine pk_le (3 * m) i (fun z => absurd z (by omega)) (fun _ => ⟨by decide, pk_in (i / 3) 26 (by omega) d3, by decide, ?_⟩) (pk_mul 3 m)
    have ex : ∃ o, o ≤ 3 ∧ fw_o a2 (i / 3) = o ∧ 3 * a2 (nI i / 3).toNatClampNeg + (nI i - nI i / 3 * 3) = nI (if o = 3 then 3 + i % 3 else 9 + 3 * o + i % 3) := by
      rw [r3, d3, nI_clamp (by omega)]
      unfold fw_o
      by_cases e : i / 3 = 0
      · refine ⟨3, by omega, by rw [if_pos e], ?_⟩
        rw [if_pos rfl, e, k0, fw_ix3]
      · obtain ⟨a, ha, ea⟩ := k1 (i / 3) (by omega) (by omega)
        refine ⟨a, by omega, by rw [if_neg e, ea, nI_clamp (by omega)]; omega, ?_⟩
        rw [if_neg (by omega), ea, fw_ix3, show 3 * (3 + a) + i % 3 = 9 + 3 * a + i % 3 by omega]
    obtain ⟨o, ho, eo, en⟩ := ex
    rw [en]
    refine fw_target hL (by omega) ho (Nat.mod_lt i (by omega)) kn rfl ?_
    refine ⟨pk_in i 78 (by omega), nm_r (e' := upd s i (nI (fw_t B a2 m i))) ?_ (nm_r (nI_1 i) (hw _ (fw_fill (f := fun k => nI (fw_t B a2 m k)) hI rfl)))⟩
    rw [nI_clamp (by omega)]
    unfold fw_t
    rw [if_pos (show i < 75 by omega), eo]
/-- one piece's beginnings -/
theorem fw_b49 {post : St1 → Prop} {J27 : Int32 → Int32 → (Nat → Int32) → (Nat → Int32) → (Nat → Int32) → (Nat → Int64) → (Nat → Int64) → (Nat → Int64) → (Nat → Int32) → (Nat → Int32) → Prop} {c m i q : Nat} (hq : q < 9) (hi : i < 6) (hm : m ≤ 7) (e : a1 i = nI (9 + q))
    (H1 : (∃ s, s < m ∧ a2 s = nI (3 + q / 3)) → J27 (nI (i + 1)) (nI m) a1 a2 a3 a4 a5 a6 a7 a8) (H2 : J27 (nI (i + 1)) (nI (m + 1)) a1 (upd a2 m (nI (3 + q / 3))) a3 a4 a5 a6 a7 a8) :
    ∃ f, wX_build_49 post J27 (nI i) cn bu f 1 (nI m) a1 a2 a3 a4 a5 a6 a7 a8 := by
  refine ⟨2, pk_lt 1 1 (fun z => absurd z (by omega)) (fun _ => ⟨pk_in i 6 hi, fw_powE 1 (by omega) rfl ⟨by decide, nm_r (e' := nI (3 + q / 3)) ?_ ?_⟩⟩)⟩
  · rw [nI_clamp (by omega), e, pk_div (by omega) (by decide) (by decide)]
    show nI ((9 + q) / 3) = _
    rw [show (9 + q) / 3 = 3 + q / 3 by omega]
  · refine fw_stateOf (by omega) (fun h => ?_) (fun j hj ej _ => ?_)
    · exact br_f (by decide) ⟨pk_in m 26 (by omega), nm_r (e' := upd a2 m (nI (3 + q / 3))) (by rw [nI_clamp (by omega)]) (nm_r (nI_1 m) (nm_r (e' := nI 0) (by decide) (pk_lt 0 1 (fun _ => nm_r (nI_1 i) H2) (fun z => absurd z (by omega)))))⟩
    · exact br_t (nI_pos' (by omega)) (nm_r (e' := nI 0) (by decide) (pk_lt 0 1 (fun _ => nm_r (nI_1 i) (H1 ⟨j, hj, ej⟩)) (fun z => absurd z (by omega))))
theorem fw_b27 {post : St1 → Prop} {B : Nat → Bool} {c : Nat} {b2 : Nat → Int32} (hL : fw_L B c a1) (hb : b2 0 = nI 1)
    (H : ∀ (m : Nat) (b2 b3 : Nat → Int32) (b4 : Nat → Int64), fw_R B (nI m) b3 b4 → post (nI c, nI m, bu, a1, b2, b3, b4, a5, a6, a7, a8)) :
    ∃ f, wX_build_27 post (nI c) bu f 0 1 a1 b2 a3 a4 a5 a6 a7 a8 := by
  have hc := hL.1
  refine pk_loop (fun f i s => wX_build_27 post (nI c) bu f (nI i) (nI s.1) a1 s.2 a3 a4 a5 a6 a7 a8) (fun i s => fw_K a1 i s.1 s.2) c 0 ((1, b2) : Nat × (Nat → Int32)) (by omega) ⟨⟨by omega, by omega⟩, hb, fun s h1 h2 => absurd h2 (by (try dsimp only); omega), fun k a l hk => absurd hk (by omega)⟩ ?_ ?_
  · intro f s hI
    exact pk_le c c (fun _ => fw_b111 hL hI (fun b3 b4 hR => H s.1 s.2 b3 b4 hR)) (fun z => absurd z (by omega))
  · intro f i s hi hI hw
    obtain ⟨m, a2⟩ := s
    obtain ⟨⟨m1, m2⟩, k0, k1, k2⟩ := hI
    dsimp only at m1 m2 k0 k1 k2
    obtain ⟨q, hq, eq⟩ := hL.2.2.1 i hi
    refine pk_le c i (fun z => absurd z (by omega)) (fun _ => ⟨pk_in i 6 (by omega), ?_⟩)
    rw [nI_clamp (show i < 2 ^ 31 by omega), eq]
    unfold fw_pc at eq ⊢
    by_cases q3 : q < 3
    · rw [if_pos q3] at eq ⊢
      refine fw_size1 (by omega) (by omega) (nm_r (e' := nI 0) (by decide) ⟨1, pk_lt 0 1 (fun _ => nm_r (nI_1 i) (hw (m, a2) ⟨⟨m1, by (try dsimp only); omega⟩, k0, k1, fun k a l hk ha hl ek => ?_⟩)) (fun z => absurd z (by omega))⟩)
      by_cases z : k = i
      · rw [z, eq, nI_eq (by omega) (by omega)] at ek
        omega
      · exact k2 k a l (by omega) ha hl ek
    · rw [if_neg q3] at eq ⊢
      have eq' : a1 i = nI (9 + (q - 3)) := by rw [eq, show 6 + q = 9 + (q - 3) by omega]
      refine fw_size2 (by omega) (by omega) (nm_r (e' := nI 1) (by decide) (fw_b49 (c := c) (q := q - 3) (by omega) (by omega) (by omega) eq' (fun hex => hw (m, a2) ⟨⟨m1, by (try dsimp only); omega⟩, k0, k1, fun k a l hk ha hl ek => ?_⟩) (hw (m + 1, upd a2 m (nI (3 + (q - 3) / 3))) ⟨⟨by (try dsimp only); omega, by (try dsimp only); omega⟩, ?_, fun s h1 h2 => ?_, fun k a l hk ha hl ek => ?_⟩)))
      · by_cases z : k = i
        · rw [z, eq', nI_eq (by omega) (by omega)] at ek
          rw [show a = (q - 3) / 3 by omega]
          exact hex
        · exact k2 k a l (by omega) ha hl ek
      · show upd a2 m (nI (3 + (q - 3) / 3)) 0 = nI 1
        rw [pk_un (by omega)]
        exact k0
      · show ∃ a, a < 3 ∧ upd a2 m (nI (3 + (q - 3) / 3)) s = nI (3 + a)
        dsimp only at h2
        by_cases z : s = m
        · exact ⟨(q - 3) / 3, by omega, by rw [z, pk_us]⟩
        · rw [pk_un z]
          exact k1 s h1 (by omega)
      · show ∃ s, s < m + 1 ∧ upd a2 m (nI (3 + (q - 3) / 3)) s = nI (3 + a)
        by_cases z : k = i
        · rw [z, eq', nI_eq (by omega) (by omega)] at ek
          exact ⟨m, by omega, by rw [pk_us, show a = (q - 3) / 3 by omega]⟩
        · obtain ⟨s, hs, es⟩ := k2 k a l (by omega) ha hl ek
          exact ⟨s, by omega, by rw [pk_un (by omega)]; exact es⟩
theorem fw_build {post : St1 → Prop} {B : Nat → Bool} {c : Nat} {st : Int32} (hL : fw_L B c a1) (hI : bu = 0 ∨ (¬ bu = 0 ∧ fw_R B st a3 a4))
    (H : ∀ (st' bu' : Int32) (b2 b3 : Nat → Int32) (b4 : Nat → Int64), ¬ bu' = 0 → fw_R B st' b3 b4 → post (nI c, st', bu', a1, b2, b3, b4, a5, a6, a7, a8)) :
    wpX_build post (nI c, st, bu, a1, a2, a3, a4, a5, a6, a7, a8) := by
  rcases hI with e | ⟨e, hR⟩
  · exact br_t e (nm_e (fw_b27 hL pk_us (fun m b2 b3 b4 hR => H (nI m) 1 b2 b3 b4 (by decide) hR)))
  · exact br_f e (H st bu a2 a3 a4 e hR)
end
end
section
/-! the machine reads, ranks, unranks -/
theorem fw_m1 (x : Int32) : x + (-1) = x - 1 := by rw [Int32.sub_eq_add_neg]
theorem fw_W_le (B : Nat → Bool) (n : Nat) : ∀ o, fw_W B n (fun _ => 1) o ≤ 3 ^ n := by
  induction n with
  | zero => exact fun o => Nat.le_refl 1
  | succ n ih =>
    intro o
    rw [fw_Ws, Nat.pow_succ]
    have h0 : fw_k B o 0 * fw_W B n (fun _ => 1) 0 ≤ 3 ^ n := by
      have := ih 0
      rcases fw_k01 B o 0 with h | h <;> rw [h] <;> omega
    have h1 : fw_k B o 1 * fw_W B n (fun _ => 1) 1 ≤ 3 ^ n := by
      have := ih 1
      rcases fw_k01 B o 1 with h | h <;> rw [h] <;> omega
    have h2 : fw_k B o 2 * fw_W B n (fun _ => 1) 2 ≤ 3 ^ n := by
      have := ih 2
      rcases fw_k01 B o 2 with h | h <;> rw [h] <;> omega
    omega
theorem fw_Q_le (B : Nat → Bool) (j p k : Nat) : fw_Q B j p k ≤ 3 ^ k := by
  unfold fw_Q
  split
  · exact fw_W_le B k _
  · exact Nat.zero_le _
theorem fw_ms_or {B : Nat → Bool} {m : Nat} {t z : Nat → Nat} (h : fw_mach B m t z) (j p : Nat) : fw_ms B z j p < m ∨ fw_ms B z j p = 25 := by
  unfold fw_ms
  split
  · exact Or.inl (h.2.2.1 _ (fw_last_le j p))
  · exact Or.inr rfl
theorem fw_stp_ms {B : Nat → Bool} {m : Nat} {t z : Nat → Nat} {a3 : Nat → Int32} (h : fw_mach B m t z) (h3 : fw_stp m t a3) (j p : Nat) {l : Nat} (hl : l < 3) : a3 (3 * nI (fw_ms B z j p) + nI l).toNatClampNeg = nI (fw_ms B z (j + 1) (3 * p + l)) := by
  have q := fw_ms_or h j p
  have m7 := h.1.2
  rw [fw_ix3, nI_clamp (by omega), h3 _ (by omega), fw_ms_s h j p hl]
theorem fw_wys_ms {B : Nat → Bool} {m : Nat} {t z : Nat → Nat} {a4 : Nat → Int64} (h : fw_mach B m t z) (h4 : fw_wys m t a4) (j p : Nat) {n : Nat} (hn : n ≤ 30) : a4 (26 * nI n + nI (fw_ms B z j p)).toNatClampNeg = lN (fw_Q B j p n) := by
  have q := fw_ms_lt h j p
  rw [fw_ix26, nI_clamp (by omega), h4 _ (by omega), fw_wy_at t m n q, fw_ms_P h j p n]
theorem fw_letter {w i : Nat} (hw : w < 2 ^ 31) (hi : i ≤ 9) : nI w / nI (3 ^ i) - nI w / nI (3 ^ i) / 3 * 3 = nI (w / 3 ^ i % 3) := by
  have h1 := fw_p9 hi
  have h0 := fw_p0 i
  have h2 : w / 3 ^ i ≤ w := Nat.div_le_self _ _
  rw [pk_div hw h0 (by omega)]
  exact pk_rem (d := 3) (by omega) (by omega) (by omega)
theorem fw_split (w i : Nat) : w / 3 ^ i = 3 * (w / 3 ^ (i + 1)) + w / 3 ^ i % 3 := by
  rw [Nat.pow_succ, ← Nat.div_div_eq_div_mul]
  omega
section
variable {cn bu st : Int32} {a1 a2 a3 : Nat → Int32} {a4 a5 a6 : Nat → Int64} {a7 a8 : Nat → Int32}
theorem fw_read {post : Int32 → Prop} {B : Nat → Bool} {m n w : Nat} {t z : Nat → Nat} (hM : fw_mach B m t z) (h3 : fw_stp m t a3) (hn : n ≤ 9) (hw : w < 3 ^ n) (h : post (nI (fw_ms B z n w))) : wpX_read post (cn, st, bu, a1, a2, a3, a4, a5, a6, a7, a8) 0 (nI n) (nI w) := by
  have h9 := fw_p9 hn
  refine nm_e ⟨n + 1, ?_⟩
  refine pk_loopD (fun f K s => wX_read_8 post (nI w) cn st bu a1 a2 a3 a4 a5 a6 a7 a8 f (nI s) (nI K - 1)) (fun K s => K ≤ n ∧ s = fw_ms B z (n - K) (w / 3 ^ K)) ?_ ?_ n 0 ⟨Nat.le_refl n, ?_⟩
  · intro f s hI
    obtain ⟨_, rfl⟩ := hI
    refine br_t (by decide) ?_
    rw [Nat.pow_zero, Nat.div_one, Nat.sub_zero]
    exact h
  · intro f i s hI ih
    obtain ⟨hi, rfl⟩ := hI
    show wX_read_8 post (nI w) cn st bu a1 a2 a3 a4 a5 a6 a7 a8 (f + 1) (nI (fw_ms B z (n - (i + 1)) (w / 3 ^ (i + 1)))) (nI (i + 1) - 1)
    rw [nI_pred]
    have hl : w / 3 ^ i % 3 < 3 := Nat.mod_lt _ (by omega)
    have q := fw_ms_lt hM (n - (i + 1)) (w / 3 ^ (i + 1))
    refine br_f (nI_pos (by omega)) (fw_powE i (by omega) rfl ⟨nI_ne0 (fw_p0 i) (by have := fw_p9 (show i ≤ 9 by omega); omega), by decide, nm_r (fw_letter (by omega) (by omega)) ⟨pk_in _ 78 (by omega) (fw_ix3 _ _), nm_r (fw_stp_ms hM h3 _ _ hl) (nm_r (fw_m1 _) (ih _ ⟨by omega, ?_⟩))⟩⟩)
    rw [← fw_split, show n - (i + 1) + 1 = n - i by omega]
  · rw [Nat.sub_self, Nat.div_eq_of_lt hw]
    exact (fw_ms_0 hM).symm
theorem fw_read1 {post : Int32 → Prop} {m s l : Nat} {t : Nat → Nat} (h3 : fw_stp m t a3) (hm : m ≤ 7) (hs : s < m) (hl : l < 3) (h : post (nI (t (3 * s + l)))) : wpX_read post (cn, st, bu, a1, a2, a3, a4, a5, a6, a7, a8) (nI s) 1 (nI l) := by
  refine nm_r (e' := nI 0) (by decide) ⟨2, pk_lt 0 0 (fun z => absurd z (by omega)) (fun _ => fw_powE 0 (by omega) rfl ⟨by decide, by decide, nm_r (e' := nI l) ?_ ⟨pk_in (3 * s + l) 78 (by omega) (fw_ix3 s l), nm_r (e' := nI (t (3 * s + l))) ?_ (nm_r (e' := -1) (by decide) (br_t (by decide) h))⟩⟩)⟩
  · rw [fw_letter (by omega) (by omega), Nat.pow_zero, Nat.div_one, Nat.mod_eq_of_lt hl]
  · rw [fw_ix3, nI_clamp (by omega), h3 _ (by omega)]
theorem fw_below {post : Int32 → Prop} {B : Nat → Bool} {m n w : Nat} {t z : Nat → Nat} (hM : fw_mach B m t z) (h3 : fw_stp m t a3) (h4 : fw_wys m t a4) (hn : n ≤ 9) (hw : w < 3 ^ n) (h : post (nI (fw_c B n w))) : wpX_below post (cn, st, bu, a1, a2, a3, a4, a5, a6, a7, a8) (nI n) (nI w) := by
  have h9 := fw_p9 hn
  refine nm_e ⟨n + 1, ?_⟩
  refine pk_loopD (fun f K s => wX_below_10 post (nI w) cn st bu a1 a2 a3 a4 a5 a6 a7 a8 f (nI s.1) (lN s.2) (nI K - 1)) (fun K s => K ≤ n ∧ s.1 = fw_ms B z (n - K) (w / 3 ^ K) ∧ s.2 = fw_c B n (w / 3 ^ K * 3 ^ K)) ?_ ?_ n ((0, 0) : Nat × Nat) ⟨Nat.le_refl n, ?_, ?_⟩
  · intro f s hI
    obtain ⟨s1, s2⟩ := s
    obtain ⟨_, e1, e2⟩ := hI
    dsimp only at e1 e2
    refine br_t (by decide) ?_
    rw [Nat.pow_zero, Nat.div_one, Nat.mul_one] at e2
    rw [e2, lN_i]
    exact h
  · intro f i s hI ih
    obtain ⟨s1, v⟩ := s
    obtain ⟨hi, e1, e2⟩ := hI
    dsimp only at e1 e2
    subst e1
    show wX_below_10 post (nI w) cn st bu a1 a2 a3 a4 a5 a6 a7 a8 (f + 1) (nI (fw_ms B z (n - (i + 1)) (w / 3 ^ (i + 1)))) (lN v) (nI (i + 1) - 1)
    rw [nI_pred]
    have hl : w / 3 ^ i % 3 < 3 := Nat.mod_lt _ (by omega)
    have q := fw_ms_lt hM (n - (i + 1)) (w / 3 ^ (i + 1))
    have sp := fw_split w i
    refine br_f (nI_pos (by omega)) (fw_powE i (by omega) rfl ⟨nI_ne0 (fw_p0 i) (by have := fw_p9 (show i ≤ 9 by omega); omega), by decide, nm_r (fw_letter (by omega) (by omega)) ?_⟩)
    have e2' : v = fw_c B n ((3 * (w / 3 ^ (i + 1)) + 0) * 3 ^ i) := by
      rw [e2, Nat.pow_succ, Nat.add_zero, Nat.mul_comm (3 ^ i) 3, ← Nat.mul_assoc, Nat.mul_comm _ 3]
    refine pk_loop (fun g c v => wX_below_29 post (wX_below_10 post (nI w) cn st bu a1 a2 a3 a4 a5 a6 a7 a8 f) (nI w) (nI (fw_ms B z (n - (i + 1)) (w / 3 ^ (i + 1)))) (nI i) (nI (w / 3 ^ i % 3)) cn st bu a1 a2 a3 a4 a5 a6 a7 a8 g (lN v) (nI c)) (fun c v => v = fw_c B n ((3 * (w / 3 ^ (i + 1)) + c) * 3 ^ i)) (w / 3 ^ i % 3) 0 v (by omega) e2' ?_ ?_
    · intro g v hv
      refine pk_le (w / 3 ^ i % 3) (w / 3 ^ i % 3) (fun _ => ⟨pk_in _ 78 (by omega) (fw_ix3 _ _), nm_r (fw_stp_ms hM h3 _ _ hl) (nm_r (fw_m1 _) (ih (fw_ms B z (n - (i + 1) + 1) (3 * (w / 3 ^ (i + 1)) + w / 3 ^ i % 3), v) ⟨by omega, ?_, ?_⟩))⟩) (fun z => absurd z (by omega))
      · try dsimp only
        rw [← sp, show n - (i + 1) + 1 = n - i by omega]
      · try dsimp only
        rw [hv, ← sp]
    · intro g c v hc hv hw2
      have hc3 : c < 3 := by omega
      have q2 := fw_ms_lt hM (n - (i + 1) + 1) (3 * (w / 3 ^ (i + 1)) + c)
      refine pk_le (w / 3 ^ i % 3) c (fun z => absurd z (by omega)) (fun _ => ?_)
      rw [fw_stp_ms hM h3 _ _ hc3, fw_wys_ms hM h4 _ _ (by omega)]
      refine ⟨pk_in _ 78 (by omega) (fw_ix3 _ _), pk_in _ 806 (by omega) (fw_ix26 _ _), nm_r (lN_add _ _) (nm_r (nI_1 c) (hw2 _ ?_))⟩
      have cq := fw_cQ B i (n - (i + 1) + 1) (3 * (w / 3 ^ (i + 1)) + c)
      rw [show n - (i + 1) + 1 + i = n by omega] at cq
      rw [hv, ← cq]
      rfl
  · try dsimp only
    rw [Nat.sub_self, Nat.div_eq_of_lt hw]
    exact (fw_ms_0 hM).symm
  · try dsimp only
    rw [Nat.div_eq_of_lt hw, Nat.zero_mul]
    rfl
/-- the digit is found: on to the next -/
theorem fw_u89 {post : Int32 → Prop} {J14 : Int32 → Int64 → Int32 → Int32 → Prop} {B : Nat → Bool} {m : Nat} {t z : Nat → Nat} {j p i c v : Nat} (hM : fw_mach B m t z) (h3 : fw_stp m t a3) (hc : c < 3) (H : J14 (nI (fw_ms B z (j + 1) (3 * p + c))) (lN v) (nI (3 * p + c)) (nI i - 1)) :
    wX_unrank_89 post J14 (nI (fw_ms B z j p)) (lN v) (nI p) (nI i) (nI c) cn st bu a1 a2 a3 a4 a5 a6 a7 a8 := by
  have q := fw_ms_lt hM j p
  unfold wX_unrank_89
  exact nm_r (fw_ix3 p c) ⟨pk_in _ 78 (by omega) (fw_ix3 _ _), nm_r (fw_stp_ms hM h3 _ _ hc) (nm_r (fw_m1 _) H)⟩
theorem fw_unrank {post : Int32 → Prop} {B : Nat → Bool} {m n x : Nat} {t z : Nat → Nat} (hM : fw_mach B m t z) (h3 : fw_stp m t a3) (h4 : fw_wys m t a4) (hn : n ≤ 9) (hx : x < fw_c B n (3 ^ n)) (h : ∀ p, fw_al B n p = true → fw_c B n p = x → post (nI p)) : wpX_unrank post (cn, st, bu, a1, a2, a3, a4, a5, a6, a7, a8) (nI n) (nI x) := by
  have h9 := fw_p9 hn
  have hx2 : x < 19683 := by
    have := fw_c_le B n (3 ^ n)
    omega
  refine nm_e ⟨n + 1, ?_⟩
  rw [nI_l (show x < 2 ^ 31 by omega)]
  have hh : wX_unrank_14 post cn st bu a1 a2 a3 a4 a5 a6 a7 a8 (n + 1) (nI (fw_ms B z (n - n) 0)) (lN x) (nI 0) (nI n - 1) := by
    refine pk_loopD (fun f K s => wX_unrank_14 post cn st bu a1 a2 a3 a4 a5 a6 a7 a8 f (nI (fw_ms B z (n - K) s.1)) (lN s.2) (nI s.1) (nI K - 1)) (fun K s => K ≤ n ∧ fw_c B n (s.1 * 3 ^ K) + s.2 = x ∧ x < fw_c B n ((s.1 + 1) * 3 ^ K)) ?_ ?_ n ((0, x) : Nat × Nat) ⟨Nat.le_refl n, ?_, ?_⟩
    · intro f s hI
      obtain ⟨p, v⟩ := s
      obtain ⟨_, e1, e2⟩ := hI
      dsimp only at e1 e2
      rw [Nat.pow_zero, Nat.mul_one] at e1 e2
      rw [fw_c_s] at e2
      refine br_t (by decide) (h p ?_ ?_)
      · by_cases q : fw_al B n p = true
        · exact q
        · rw [if_neg q] at e2
          omega
      · split at e2 <;> omega
    · intro f i s hI ih
      obtain ⟨p, v⟩ := s
      obtain ⟨hi, e1, e2⟩ := hI
      dsimp only at e1 e2
      show wX_unrank_14 post cn st bu a1 a2 a3 a4 a5 a6 a7 a8 (f + 1) (nI (fw_ms B z (n - (i + 1)) p)) (lN v) (nI p) (nI (i + 1) - 1)
      rw [nI_pred]
      have q := fw_ms_lt hM (n - (i + 1)) p
      have f1 : p * 3 ^ (i + 1) = (3 * p + 0) * 3 ^ i := by
        rw [Nat.pow_succ, Nat.add_zero, Nat.mul_comm (3 ^ i) 3, ← Nat.mul_assoc, Nat.mul_comm p 3]
      have f2 : (p + 1) * 3 ^ (i + 1) = (3 * p + 3) * 3 ^ i := by
        rw [Nat.pow_succ, Nat.mul_comm (3 ^ i) 3, ← Nat.mul_assoc, show (p + 1) * 3 = 3 * p + 3 by omega]
      rw [f1] at e1
      rw [f2] at e2
      have fin : ∀ c v, c < 3 → fw_c B n ((3 * p + c) * 3 ^ i) + v = x → x < fw_c B n ((3 * p + c + 1) * 3 ^ i) → wX_unrank_89 post (wX_unrank_14 post cn st bu a1 a2 a3 a4 a5 a6 a7 a8 f) (nI (fw_ms B z (n - (i + 1)) p)) (lN v) (nI p) (nI i) (nI c) cn st bu a1 a2 a3 a4 a5 a6 a7 a8 := by
        intro c v hc g1 g2
        refine fw_u89 hM h3 hc ?_
        have := ih (3 * p + c, v) ⟨by omega, g1, g2⟩
        dsimp only at this
        rw [show n - i = n - (i + 1) + 1 by omega] at this
        exact this
      refine br_f (nI_pos (by omega)) ?_
      refine pk_loop (fun g c v => wX_unrank_22 post (wX_unrank_14 post cn st bu a1 a2 a3 a4 a5 a6 a7 a8 f) (nI (fw_ms B z (n - (i + 1)) p)) (nI p) (nI i) cn st bu a1 a2 a3 a4 a5 a6 a7 a8 g (lN v) (nI c)) (fun c v => fw_c B n ((3 * p + c) * 3 ^ i) + v = x) 2 0 v (by omega) e1 ?_ ?_
      · intro g v hv
        exact pk_le 2 2 (fun _ => fin 2 v (by omega) hv e2) (fun z => absurd z (by omega))
      · intro g c v hc hv hw2
        have hc3 : c < 3 := by omega
        have q2 := fw_ms_lt hM (n - (i + 1) + 1) (3 * p + c)
        refine pk_le 2 c (fun z => absurd z (by omega)) (fun _ => ?_)
        rw [fw_stp_ms hM h3 _ _ hc3, fw_wys_ms hM h4 _ _ (by omega)]
        have cq := fw_cQ B i (n - (i + 1) + 1) (3 * p + c)
        rw [show n - (i + 1) + 1 + i = n by omega] at cq
        have ql := fw_Q_le B (n - (i + 1) + 1) (3 * p + c) i
        have p9 := fw_p9 (show i ≤ 9 by omega)
        refine ⟨pk_in _ 78 (by omega) (fw_ix3 _ _), pk_in _ 806 (by omega) (fw_ix26 _ _), ek_if (pk_lLT (by omega) (by omega)) (fun g1 => fin c v hc3 hv (by omega)) (fun g1 => ⟨pk_in _ 78 (by omega) (fw_ix3 _ _), pk_in _ 806 (by omega) (fw_ix26 _ _), nm_r (lN_sub (by omega)) (nm_r (nI_1 c) (hw2 _ ?_))⟩)⟩
        show fw_c B n ((3 * p + c + 1) * 3 ^ i) + _ = x
        omega
    · try dsimp only
      rw [Nat.zero_mul]
      exact Nat.zero_add x
    · try dsimp only
      rw [Nat.zero_add, Nat.one_mul]
      exact hx
  rw [Nat.sub_self, fw_ms_0 hM] at hh
  exact hh
end
end
section
/-! the public calls -/
theorem fw_We (B : Nat → Bool) (n l : Nat) : fw_W B n (fun o => fw_k B o l) 3 = fw_e B n l := by
  cases n with
  | zero => rfl
  | succ n =>
    rw [← fw_dual]
    rfl
section
variable {cn bu : Int32} {a1 a2 a3 : Nat → Int32} {a4 a5 a6 : Nat → Int64} {a7 a8 : Nat → Int32}
theorem fw_th169 {post : Int64 → St1 → Prop} {V t : Nat → Nat} {m l : Nat} (hm : m ≤ 7) (hl : l < 3) (h3 : fw_stp m t a3) (h4 : fw_wys m t a4) (ht : ∀ k, k < 3 * m → t k < 26) (h5 : ∀ s, s < 26 → a5 s = lN (V s)) (H : post (lN (fw_S (fun s => V s * fw_one m (t (3 * s + l))) m)) (cn, nI m, bu, a1, a2, a3, a4, a5, a6, a7, a8)) :
    ∃ f, wX_through_169 post (nI (3 + l)) 0 1 cn (nI m) bu a1 a2 a3 a4 a5 a6 a7 a8 f 0 0 := by
  refine pk_loop (fun f i v => wX_through_169 post (nI (3 + l)) 0 1 cn (nI m) bu a1 a2 a3 a4 a5 a6 a7 a8 f (lN v) (nI i)) (fun i v => v = fw_S (fun s => V s * fw_one m (t (3 * s + l))) i) m 0 0 (by omega) rfl ?_ ?_
  · intro f v hv
    exact pk_le m m (fun _ => by subst hv; exact H) (fun z => absurd z (by omega))
  · intro f i v hi hv hw
    have tl := ht (3 * i + l) (by omega)
    have e1 : nI (3 + l) - nI (3 ^ 1) = nI l := by
      rw [pk_sub (show 3 ^ 1 ≤ 3 + l by omega), show 3 + l - 3 ^ 1 = l by omega]
    have e2 : (26 : Int32) * 0 + nI (t (3 * i + l)) = nI (26 * 0 + t (3 * i + l)) := fw_ix26 0 _
    have e3 : a4 ((26 : Int32) * 0 + nI (t (3 * i + l))).toNatClampNeg = lN (fw_one m (t (3 * i + l))) := by
      rw [e2, nI_clamp (by omega), h4 _ (by omega), fw_wy_at t m 0 tl]
      rfl
    refine pk_le m i (fun z => absurd z (by omega)) (fun _ => fw_powE 1 (by omega) rfl ?_)
    rw [e1]
    refine fw_read1 h3 hm hi hl ⟨pk_in i 26 (by omega), pk_in _ 806 (by omega) e2, nm_r (e' := lN (v + V i * fw_one m (t (3 * i + l)))) ?_ (nm_r (nI_1 i) (hw _ ?_))⟩
    · rw [e3, nI_clamp (by omega), h5 i (by omega), lN_mul, lN_add]
    · rw [hv, fw_S_s]
theorem fw_th113 {post : Int64 → St1 → Prop} {J36 : Int32 → (Nat → Int32) → (Nat → Int32) → (Nat → Int32) → (Nat → Int64) → (Nat → Int64) → (Nat → Int64) → (Nat → Int32) → (Nat → Int32) → Prop} {x1 x2 x3 st : Int32} {U : Nat → Nat} {k : Nat} (h6 : ∀ s, s < 26 → a6 s = lN (U s)) (H : ∀ b5 : Nat → Int64, (∀ s, s < 26 → b5 s = lN (if s = 25 then 0 else U s)) → J36 (nI (k + 1)) a1 a2 a3 a4 b5 a6 a7 a8) :
    ∃ f, wX_through_113 post J36 x1 x2 x3 (nI k) cn st bu f 0 a1 a2 a3 a4 a5 a6 a7 a8 := by
  refine pk_loop (fun f i s => wX_through_113 post J36 x1 x2 x3 (nI k) cn st bu f (nI i) a1 a2 a3 a4 s a6 a7 a8) (fun i s => ∀ j, j < i → s j = lN (if j = 25 then 0 else U j)) 26 0 a5 (by omega) lt_0 ?_ ?_
  · intro f s hI
    exact pk_le 26 26 (fun _ => nm_r (nI_1 k) (H s hI)) (fun z => absurd z (by omega))
  · intro f i s hi hI hw
    refine pk_le 26 i (fun z => absurd z (by omega)) (fun _ => pk_eq i 25 (fun e => ⟨pk_in i 26 hi, nm_r (e' := vp_updL s i 0) (by rw [nI_clamp (by omega)]) (nm_r (nI_1 i) (hw _ (fw_fillL (f := fun j => lN (if j = 25 then 0 else U j)) hI ?_)))⟩) (fun e => ⟨pk_in i 26 hi, pk_in i 26 hi, nm_r (e' := vp_updL s i (lN (U i))) (by rw [nI_clamp (by omega), h6 i hi]) (nm_r (nI_1 i) (hw _ (fw_fillL (f := fun j => lN (if j = 25 then 0 else U j)) hI ?_)))⟩))
    · try dsimp only
      rw [if_pos e]
      rfl
    · try dsimp only
      rw [if_neg e]
theorem fw_th69 {post : Int64 → St1 → Prop} {J36 : Int32 → (Nat → Int32) → (Nat → Int32) → (Nat → Int32) → (Nat → Int64) → (Nat → Int64) → (Nat → Int64) → (Nat → Int32) → (Nat → Int32) → Prop} {x1 x2 x3 : Int32} {V t : Nat → Nat} {m k : Nat} (hm : m ≤ 7) (h3 : fw_stp m t a3) (ht : ∀ k, k < 3 * m → t k < 26) (h5 : ∀ s, s < 26 → a5 s = lN (V s)) (h6 : ∀ s, s < 26 → a6 s = lN 0)
    (H : ∀ (b5 b6 : Nat → Int64) (U : Nat → Nat), (∀ s, s < 26 → b5 s = lN (U s)) → (∀ g : Nat → Nat, g 25 = 0 → fw_S (fun s => U s * g s) 26 = fw_S (fun s => V s * fw_T t m g s) 26) → J36 (nI (k + 1)) a1 a2 a3 a4 b5 b6 a7 a8) :
    ∃ f, wX_through_69 post J36 x1 x2 x3 (nI k) cn (nI m) bu f 0 a1 a2 a3 a4 a5 a6 a7 a8 := by
  refine pk_loop (fun f i s => wX_through_69 post J36 x1 x2 x3 (nI k) cn (nI m) bu f (nI i) a1 a2 a3 a4 a5 s a7 a8) (fun i s => ∃ U : Nat → Nat, (∀ j, j < 26 → s j = lN (U j)) ∧ ∀ g : Nat → Nat, fw_S (fun s => U s * g s) 26 = fw_S (fun k => V (k / 3) * g (t k)) i) (3 * m) 0 a6 (by omega) ⟨fun _ => 0, h6, fun g => ?_⟩ ?_ ?_
  · rw [fw_S_eq (g := fun _ => 0) 26 (fun s _ => Nat.zero_mul _)]
    rfl
  · intro f s hI
    obtain ⟨U, hU, hg⟩ := hI
    refine pk_le (3 * m) (3 * m) (fun _ => fw_th113 hU (fun b5 hb => H b5 s (fun j => if j = 25 then 0 else U j) hb (fun g g25 => ?_))) (fun z => absurd z (by omega)) (pk_mul 3 m)
    rw [← fw_turn (by omega) V g, ← hg g]
    refine fw_S_eq 26 (fun j hj => ?_)
    try dsimp only
    by_cases e : j = 25
    · rw [e, g25, Nat.mul_zero, Nat.mul_zero]
    · rw [if_neg e]
  · intro f i s hi hI hw
    obtain ⟨U, hU, hg⟩ := hI
    have tl := ht i hi
    have e3 : a3 (nI i).toNatClampNeg = nI (t i) := by rw [nI_clamp (by omega), h3 i (Or.inl hi)]
    have d3 : nI i / 3 = nI (i / 3) := pk_div (a := i) (d := 3) (by omega) (by omega) (by omega)
    refine pk_le (3 * m) i (fun z => absurd z (by omega)) (fun _ => ⟨pk_in i 78 (by omega), pk_in (t i) 26 tl e3, by decide, pk_in (i / 3) 26 (by omega) d3, pk_in (t i) 26 tl e3, nm_r (e' := vp_updL s (t i) (lN (U (t i) + V (i / 3)))) ?_ (nm_r (nI_1 i) (hw _ ⟨fun j => if j = t i then U j + V (i / 3) else U j, fun j hj => ?_, fun g => ?_⟩))⟩) (pk_mul 3 m)
    · rw [e3, d3, nI_clamp (by omega), nI_clamp (by omega), hU _ tl, h5 _ (by omega), lN_add]
    · try dsimp only
      by_cases e : j = t i
      · rw [if_pos e, e, pk_uLs]
      · rw [if_neg e, pk_uLn e]
        exact hU j hj
    · show fw_S (fun s => (if s = t i then U s + V (i / 3) else U s) * g s) 26 = _
      rw [fw_S_s (fun k => V (k / 3) * g (t k)) i, ← hg g]
      rw [fw_S_up (f := fun s => (if s = t i then U s + V (i / 3) else U s) * g s) (g := fun s => U s * g s) (y := t i) (d := V (i / 3) * g (t i)) (fun s hs => by (try dsimp only); rw [if_neg hs]) (by (try dsimp only); rw [if_pos rfl, Nat.add_mul]) 26, if_pos tl]
theorem fw_th45 {post : Int64 → St1 → Prop} {J36 : Int32 → (Nat → Int32) → (Nat → Int32) → (Nat → Int32) → (Nat → Int64) → (Nat → Int64) → (Nat → Int64) → (Nat → Int32) → (Nat → Int32) → Prop} {x1 x2 x3 : Int32} {V t : Nat → Nat} {m k : Nat} (hm : m ≤ 7) (h3 : fw_stp m t a3) (ht : ∀ k, k < 3 * m → t k < 26) (h5 : ∀ s, s < 26 → a5 s = lN (V s))
    (H : ∀ (b5 b6 : Nat → Int64) (U : Nat → Nat), (∀ s, s < 26 → b5 s = lN (U s)) → (∀ g : Nat → Nat, g 25 = 0 → fw_S (fun s => U s * g s) 26 = fw_S (fun s => V s * fw_T t m g s) 26) → J36 (nI (k + 1)) a1 a2 a3 a4 b5 b6 a7 a8) :
    ∃ f, wX_through_45 post J36 x1 x2 x3 (nI k) cn (nI m) bu f 0 a1 a2 a3 a4 a5 a6 a7 a8 := by
  refine pk_loop (fun f i s => wX_through_45 post J36 x1 x2 x3 (nI k) cn (nI m) bu f (nI i) a1 a2 a3 a4 a5 s a7 a8) (fun i s => ∀ j, j < i → s j = lN 0) 26 0 a6 (by omega) lt_0 ?_ ?_
  · intro f s hI
    exact pk_le 26 26 (fun _ => fw_th69 hm h3 ht h5 hI H) (fun z => absurd z (by omega))
  · intro f i s hi hI hw
    exact pk_le 26 i (fun z => absurd z (by omega)) (fun _ => ⟨pk_in i 26 hi, nm_r (e' := vp_updL s i 0) (by rw [nI_clamp (by omega)]) (nm_r (nI_1 i) (hw _ (fw_fillL (f := fun _ => lN 0) hI rfl)))⟩)
theorem fw_through {post : Int64 → St1 → Prop} {B : Nat → Bool} {m n l : Nat} {t z : Nat → Nat} (hM : fw_mach B m t z) (h3 : fw_stp m t a3) (h4 : fw_wys m t a4) (hn : n ≤ 9) (hl : l < 3)
    (H : ∀ b5 b6 : Nat → Int64, post (lN (fw_e B n l)) (cn, nI m, bu, a1, a2, a3, a4, b5, b6, a7, a8)) :
    wpX_through post (cn, nI m, bu, a1, a2, a3, a4, a5, a6, a7, a8) (nI n) (nI (3 + l)) 0 := by
  have hM2 := hM
  obtain ⟨⟨m1, m7⟩, z3, zm, hst, hk, h75⟩ := hM
  have ht : ∀ k, k < 3 * m → t k < 26 := fun k hkm => by rcases hk k hkm with q | q <;> omega
  -- the last sum
  have last : ∀ (b5 b6 : Nat → Int64) (V : Nat → Nat), (∀ s, s < 26 → b5 s = lN (V s)) → (∀ g : Nat → Nat, g 25 = 0 → fw_S (fun s => V s * g s) 26 = fw_P t m n g 0) → ∃ f, wX_through_169 post (nI (3 + l)) 0 1 cn (nI m) bu a1 a2 a3 a4 b5 b6 a7 a8 f 0 0 := by
    intro b5 b6 V h5 hg
    refine fw_th169 m7 hl h3 h4 ht h5 ?_
    have g25 : (fun s => if s < m then fw_one m (t (3 * s + l)) else 0) 25 = 0 := if_neg (by omega)
    have e1 : fw_S (fun s => V s * fw_one m (t (3 * s + l))) m = fw_S (fun s => V s * (fun s => if s < m then fw_one m (t (3 * s + l)) else 0) s) 26 := by
      rw [fw_S_ge (m := m) (n := 26) (by omega) (fun s hs => by (try dsimp only); rw [if_neg (by omega), Nat.mul_zero])]
      exact fw_S_eq m (fun s hs => by (try dsimp only); rw [if_pos hs])
    have w := (fw_PW hM2 (g := fun s => if s < m then fw_one m (t (3 * s + l)) else 0) (G := fun o => fw_k B o l) g25 (fun o ho => by
      try dsimp only
      rw [if_pos (zm o ho), hst o l ho hl]
      unfold fw_one
      rcases fw_k01 B o l with q | q
      · rw [q, if_neg (show ¬ (0 : Nat) = 1 by omega), if_neg (by omega)]
      · rw [q, if_pos rfl, if_pos (zm l (by omega))]) n).1 3 (by omega)
    rw [z3] at w
    rw [e1, hg _ g25, w, fw_We]
    exact H b5 b6
  -- the turns
  have turns : ∀ b5 : Nat → Int64, (∀ s, s < 26 → b5 s = lN (if s = 0 then 1 else 0)) → ∃ f, wX_through_36 post (nI n) (nI (3 + l)) 0 cn (nI m) bu f 0 a1 a2 a3 a4 b5 a6 a7 a8 := by
    intro b5 h5
    refine pk_loop (fun f i s => wX_through_36 post (nI n) (nI (3 + l)) 0 cn (nI m) bu f (nI i) a1 a2 a3 a4 s.1 s.2 a7 a8) (fun i s => ∃ V : Nat → Nat, (∀ j, j < 26 → s.1 j = lN (V j)) ∧ ∀ g : Nat → Nat, g 25 = 0 → fw_S (fun s => V s * g s) 26 = fw_P t m i g 0) n 0 ((b5, a6) : (Nat → Int64) × (Nat → Int64)) (by omega) ⟨fun s => if s = 0 then 1 else 0, h5, fun g _ => ?_⟩ ?_ ?_
    · rw [fw_S_up (f := fun s => (if s = 0 then 1 else 0) * g s) (g := fun _ => 0) (y := 0) (d := g 0) (fun s hs => by (try dsimp only); rw [if_neg hs, Nat.zero_mul]) (by (try dsimp only); rw [if_pos rfl, Nat.one_mul, Nat.zero_add]) 26, if_pos (by omega)]
      show 0 + g 0 = g 0
      rw [Nat.zero_add]
    · intro f s hI
      obtain ⟨V, hV, hg⟩ := hI
      exact pk_le n n (fun _ => fw_size1 (by omega) (by omega) (last s.1 s.2 V hV hg)) (fun z => absurd z (by omega))
    · intro f i s hi hI hw
      obtain ⟨V, hV, hg⟩ := hI
      refine pk_le n i (fun z => absurd z (by omega)) (fun _ => fw_th45 m7 h3 ht hV (fun c5 c6 U hU hUg => hw (c5, c6) ⟨U, hU, fun g g25 => ?_⟩))
      have T25 : fw_T t m g 25 = 0 := if_neg (by omega)
      rw [hUg g g25, hg _ T25, fw_Pc]
  refine pk_loop (fun f i s => wX_through_3 post (nI n) (nI (3 + l)) 0 cn (nI m) bu f (nI i) a1 a2 a3 a4 s a6 a7 a8) (fun i s => ∀ j, j < i → s j = lN (if j = 0 then 1 else 0)) 26 0 a5 (by omega) lt_0 ?_ ?_
  · intro f s hI
    exact pk_le 26 26 (fun _ => turns s hI) (fun z => absurd z (by omega))
  · intro f i s hi hI hw
    refine pk_le 26 i (fun z => absurd z (by omega)) (fun _ => pk_eq i 0 (fun e => ⟨pk_in i 26 hi, nm_r (e' := vp_updL s i 1) (by rw [nI_clamp (by omega)]) (nm_r (nI_1 i) (hw _ (fw_fillL (f := fun j => lN (if j = 0 then 1 else 0)) hI ?_)))⟩) (fun e => ⟨pk_in i 26 hi, nm_r (e' := vp_updL s i 0) (by rw [nI_clamp (by omega)]) (nm_r (nI_1 i) (hw _ (fw_fillL (f := fun j => lN (if j = 0 then 1 else 0)) hI ?_)))⟩))
    · try dsimp only
      rw [if_pos e]
      rfl
    · try dsimp only
      rw [if_neg e]
      rfl
variable {st : Int32}
theorem fw_ending {post : Int32 → St1 → Prop} {B : Nat → Bool} {c n l : Nat} (hL : fw_L B c a1) (hI : bu = 0 ∨ (¬ bu = 0 ∧ fw_R B st a3 a4)) (hn : n + 1 ≤ 9) (hl : l < 3)
    (H : ∀ (st' bu' : Int32) (b2 b3 : Nat → Int32) (b4 b5 b6 : Nat → Int64), ¬ bu' = 0 → fw_R B st' b3 b4 → post (nI (fw_e B n l)) (nI c, st', bu', a1, b2, b3, b4, b5, b6, a7, a8)) :
    wpX_ending post (nI c, st, bu, a1, a2, a3, a4, a5, a6, a7, a8) (nI (n + 1)) (nI (3 + l)) := by
  unfold wpX_ending
  refine fw_len hn (br_f (by decide) (fw_isp (Or.inl ⟨by omega, by omega⟩) (br_f (by decide) (fw_build hL hI (fun st' bu' b2 b3 b4 hb hR => ?_)))))
  obtain ⟨m, t, z, rfl, hM, h3, h4⟩ := hR
  refine fw_size1 (by omega) (by omega) (pk_le 1 (n + 1) (fun _ => ?_) (fun z => absurd z (by omega)))
  rw [nI_pred]
  refine fw_through hM h3 h4 (by omega) hl (fun b5 b6 => ?_)
  show post (lN (fw_e B n l)).toInt32 _
  rw [lN_i]
  exact H (nI m) bu' b2 b3 b4 b5 b6 hb ⟨m, t, z, rfl, hM, h3, h4⟩
theorem fw_count {post : Int64 → St1 → Prop} {B : Nat → Bool} {c n : Nat} (hL : fw_L B c a1) (hI : bu = 0 ∨ (¬ bu = 0 ∧ fw_R B st a3 a4)) (hn : n ≤ 30)
    (H : ∀ (st' bu' : Int32) (b2 b3 : Nat → Int32) (b4 : Nat → Int64), ¬ bu' = 0 → fw_R B st' b3 b4 → post (lN (fw_W B n (fun _ => 1) 3)) (nI c, st', bu', a1, b2, b3, b4, a5, a6, a7, a8)) :
    wpX_count post (nI c, st, bu, a1, a2, a3, a4, a5, a6, a7, a8) (nI n) := by
  unfold wpX_count
  refine pk_lt n 0 (fun z => absurd z (by omega)) (fun _ => pk_le n 30 (fun _ => fw_build hL hI (fun st' bu' b2 b3 b4 hb hR => ?_)) (fun z => absurd z (by omega)))
  have hR2 := hR
  obtain ⟨m, t, z, rfl, hM, h3, h4⟩ := hR
  have e : (26 : Int32) * nI n = nI (26 * n) := pk_mul 26 n
  refine ⟨pk_in (26 * n) 806 (by omega) e, ?_⟩
  have w := fw_ms_P hM 0 0 n
  rw [fw_ms_0 hM] at w
  rw [e, nI_clamp (by omega), h4 _ (by omega), show 26 * n = 26 * n + 0 from rfl, fw_wy_at t m n (by omega), w]
  exact H (nI m) bu' b2 b3 b4 hb hR2
theorem fw_allowed {post : Int32 → St1 → Prop} {B : Nat → Bool} {c n w : Nat} (hL : fw_L B c a1) (hI : bu = 0 ∨ (¬ bu = 0 ∧ fw_R B st a3 a4)) (hn : n ≤ 9) (hw : w < 3 ^ n)
    (H : ∀ (st' bu' : Int32) (b2 b3 : Nat → Int32) (b4 : Nat → Int64), ¬ bu' = 0 → fw_R B st' b3 b4 → post (nI (if fw_al B n w = true then 1 else 0)) (nI c, st', bu', a1, b2, b3, b4, a5, a6, a7, a8)) :
    wpX_allowed post (nI c, st, bu, a1, a2, a3, a4, a5, a6, a7, a8) (nI n) (nI w) := by
  unfold wpX_allowed
  refine fw_ref hn hw (br_t (by decide) (fw_build hL hI (fun st' bu' b2 b3 b4 hb hR => ?_)))
  have hh := H st' bu' b2 b3 b4 hb hR
  obtain ⟨m, t, z, rfl, hM, h3, h4⟩ := hR
  have q := fw_ms_lt hM n w
  refine fw_read hM h3 hn hw (pk_eq (fw_ms B z n w) 25 (fun e => ?_) (fun e => ?_))
  · rw [(fw_ms_25 hM n w).mp e] at hh
    exact hh
  · rw [Ne, fw_ms_25 hM n w, Bool.not_eq_false] at e
    rw [e] at hh
    exact hh
theorem fw_choices {post : Int32 → St1 → Prop} {B : Nat → Bool} {c n w : Nat} (hL : fw_L B c a1) (hI : bu = 0 ∨ (¬ bu = 0 ∧ fw_R B st a3 a4)) (hn : n ≤ 9) (hw : w < 3 ^ n)
    (H : ∀ (st' bu' : Int32) (b2 b3 : Nat → Int32) (b4 : Nat → Int64), ¬ bu' = 0 → fw_R B st' b3 b4 → post (nI (fw_Q B n w 1)) (nI c, st', bu', a1, b2, b3, b4, a5, a6, a7, a8)) :
    wpX_choices post (nI c, st, bu, a1, a2, a3, a4, a5, a6, a7, a8) (nI n) (nI w) := by
  unfold wpX_choices
  refine fw_ref hn hw (br_t (by decide) (fw_build hL hI (fun st' bu' b2 b3 b4 hb hR => ?_)))
  have hh := H st' bu' b2 b3 b4 hb hR
  obtain ⟨m, t, z, rfl, hM, h3, h4⟩ := hR
  have q := fw_ms_lt hM n w
  have e26 : (26 : Int32) + nI (fw_ms B z n w) = nI (26 * 1 + fw_ms B z n w) := nI_add 26 _
  refine fw_read hM h3 hn hw (pk_eq (fw_ms B z n w) 25 (fun e => ?_) (fun e => ⟨pk_in _ 806 (by omega) e26, ?_⟩))
  · have z0 : fw_Q B n w 1 = 0 := by
      unfold fw_Q
      rw [(fw_ms_25 hM n w).mp e]
      rfl
    rw [z0] at hh
    exact hh
  · rw [e26, nI_clamp (by omega), h4 _ (by omega), fw_wy_at t m 1 q, fw_ms_P hM n w 1, lN_i]
    exact hh
theorem fw_c_all (B : Nat → Bool) (n : Nat) : fw_c B n (3 ^ n) = fw_Q B 0 0 n := by
  have := fw_cQ B n 0 0
  rw [Nat.zero_add, Nat.zero_add, Nat.one_mul, Nat.zero_mul] at this
  rw [this]
  show 0 + _ = _
  rw [Nat.zero_add]
theorem fw_next {post : Int32 → St1 → Prop} {B : Nat → Bool} {c n w : Nat} (hL : fw_L B c a1) (hI : bu = 0 ∨ (¬ bu = 0 ∧ fw_R B st a3 a4)) (hn : n ≤ 9) (hw : w < 3 ^ n)
    (H1 : ∀ p, w < p → p < 3 ^ n → fw_al B n p = true → (∀ y, w < y → y < p → fw_al B n y = false) → ∀ (st' bu' : Int32) (b2 b3 : Nat → Int32) (b4 : Nat → Int64), ¬ bu' = 0 → fw_R B st' b3 b4 → post (nI p) (nI c, st', bu', a1, b2, b3, b4, a5, a6, a7, a8))
    (H2 : (∀ y, w < y → y < 3 ^ n → fw_al B n y = false) → ∀ (st' bu' : Int32) (b2 b3 : Nat → Int32) (b4 : Nat → Int64), ¬ bu' = 0 → fw_R B st' b3 b4 → post (-2) (nI c, st', bu', a1, b2, b3, b4, a5, a6, a7, a8)) :
    wpX_next post (nI c, st, bu, a1, a2, a3, a4, a5, a6, a7, a8) (nI n) (nI w) := by
  have h9 := fw_p9 hn
  have hp0 := fw_p0 n
  unfold wpX_next
  refine fw_len hn (br_f (by decide) (fw_build hL hI (fun st' bu' b2 b3 b4 hb hR => ?_)))
  have hR2 := hR
  obtain ⟨m, t, z, rfl, hM, h3, h4⟩ := hR
  have el : nI (3 ^ n) - 1 = nI (3 ^ n - 1) := pk_sub (b := 1) (by omega)
  refine fw_pow n hn (pk_lt w (3 ^ n - 1) (fun g => pk_lt w 0 (fun z => absurd z (by omega)) (fun _ => ?_)) (fun g => H2 (fun y g1 g2 => absurd g2 (by omega)) (nI m) bu' b2 b3 b4 hb hR2) rfl el)
  rw [nI_1]
  refine fw_below hM h3 h4 hn (by omega) ?_
  have e : (26 : Int32) * nI n = nI (26 * n) := pk_mul 26 n
  have cl := fw_c_le B n (w + 1)
  have cl2 := fw_c_le B n (3 ^ n)
  have w0 := fw_ms_P hM 0 0 n
  rw [fw_ms_0 hM] at w0
  have ea : b4 ((26 : Int32) * nI n).toNatClampNeg = lN (fw_c B n (3 ^ n)) := by
    rw [e, nI_clamp (by omega), h4 _ (by omega), show 26 * n = 26 * n + 0 from rfl, fw_wy_at t m n (by omega), w0, fw_c_all]
  unfold wX_next_45
  rw [ea, nI_l (by omega)]
  refine ⟨pk_in (26 * n) 806 (by omega) e, ek_if (pk_lLE (by omega) (by omega)) (fun g1 => H2 (fun y y1 y2 => ?_) (nI m) bu' b2 b3 b4 hb hR2) (fun g1 => ?_)⟩
  · cases ha : fw_al B n y with
    | false => rfl
    | true =>
      have k1 := fw_c_al B n y2 ha
      have k2 := fw_c_le2 B n (show w + 1 ≤ y from y1)
      omega
  · refine fw_unrank hM h3 h4 hn (by omega) (fun p pa pc => ?_)
    have p1 : w < p := by
      rcases Nat.lt_or_ge w p with k | k
      · exact k
      · have := fw_c_al B n (show p < w + 1 by omega) pa
        omega
    have p2 : p < 3 ^ n := by
      rcases Nat.lt_or_ge p (3 ^ n) with k | k
      · exact k
      · have := fw_c_le2 B n k
        omega
    refine H1 p p1 p2 pa (fun y y1 y2 => ?_) (nI m) bu' b2 b3 b4 hb hR2
    cases ha : fw_al B n y with
    | false => rfl
    | true =>
      have k1 := fw_c_al B n y2 ha
      have k2 := fw_c_le2 B n (show w + 1 ≤ y from y1)
      omega
end
end
section
/-! the law's comparison -/
def fw_D (post : Int32 → St1 → Prop) (B : Nat → Bool) (c : Nat) (a1 a7 a8 : Nat → Int32) : Prop :=
  ∀ (st' bu' : Int32) (b2 b3 : Nat → Int32) (b4 b5 b6 : Nat → Int64), ¬ bu' = 0 → fw_R B st' b3 b4 → post 1 (nI c, st', bu', a1, b2, b3, b4, b5, b6, a7, a8)
/-- v is the next allowed word behind w, or -2 -/
def fw_nx (B : Nat → Bool) (N w e : Nat) (v : Int32) : Prop :=
  (v = -2 ∧ ∀ y, w < y → y < e → fw_al B N y = false) ∨ ∃ p, w < p ∧ p < e ∧ v = nI p ∧ fw_al B N p = true ∧ ∀ y, w < y → y < p → fw_al B N y = false
section
variable {st bu : Int32} {a1 a2 a3 : Nat → Int32} {a4 a5 a6 : Nat → Int64} {a7 a8 : Nat → Int32}
theorem fw_ag241 {post : Int32 → St1 → Prop} {B : Nat → Bool} {c N w : Nat} {v z0 z1 : Int32} (hL : fw_L B c a1) (hb : ¬ bu = 0) (hR : fw_R B st a3 a4) (hN : N ≤ 9) (hw : w < 3 ^ N) (hv : fw_nx B N w (3 ^ N) v) (hz : z1 = z0) (H : fw_D post B c a1 a7 a8) :
    wL_agrees_241 post (nI N) (nI w) (nI (fw_Q B N w 1)) v z0 z1 (nI c) st bu a1 a2 a3 a4 a5 a6 a7 a8 := by
  unfold wL_agrees_241
  refine br_t hz (fw_choices hL (Or.inr ⟨hb, hR⟩) hN hw (fun st' bu' b2 b3 b4 hb' hR' => ?_))
  refine br_t rfl (fw_next hL (Or.inr ⟨hb', hR'⟩) hN hw (fun p p1 p2 pa pn st2 bu2 c2 c3 c4 hb2 hR2 => ?_) (fun hn st2 bu2 c2 c3 c4 hb2 hR2 => ?_))
  · refine br_t ?_ (H st2 bu2 c2 c3 c4 _ _ hb2 hR2)
    rcases hv with ⟨_, hno⟩ | ⟨p', q1, q2, rfl, qa, qn⟩
    · rw [hno p p1 p2] at pa
      exact absurd pa (by decide)
    · rcases Nat.lt_trichotomy p p' with k | k | k
      · rw [qn p p1 k] at pa
        exact absurd pa (by decide)
      · rw [k]
      · rw [pn p' q1 k] at qa
        exact absurd qa (by decide)
  · refine br_t ?_ (H st2 bu2 c2 c3 c4 _ _ hb2 hR2)
    rcases hv with ⟨rfl, _⟩ | ⟨p', q1, q2, rfl, qa, qn⟩
    · rfl
    · rw [hn p' q1 q2] at qa
      exact absurd qa (by decide)
theorem fw_ag224 {post : Int32 → St1 → Prop} {B : Nat → Bool} {c N w : Nat} {v : Int32} (hL : fw_L B c a1) (hI : bu = 0 ∨ (¬ bu = 0 ∧ fw_R B st a3 a4)) (hN : N ≤ 9) (hw : w < 3 ^ N) (hv : fw_nx B N w (3 ^ N) v) (H : fw_D post B c a1 a7 a8) :
    wL_agrees_224 post (nI N) (nI w) (nI (if fw_al B N w = true then 1 else 0)) (nI (fw_Q B N w 1)) v (nI c) st bu a1 a2 a3 a4 a5 a6 a7 a8 := by
  unfold wL_agrees_224
  refine fw_allowed hL hI hN hw (fun st' bu' b2 b3 b4 hb' hR' => ?_)
  by_cases e : fw_al B N w = true
  · rw [if_pos e]
    exact br_f (by decide) (fw_ag241 hL hb' hR' hN hw hv rfl H)
  · rw [if_neg e]
    exact br_t (by decide) (fw_ag241 hL hb' hR' hN hw hv rfl H)
theorem fw_ag187 {post : Int32 → St1 → Prop} {x : Int32} {c N w : Nat} (hL : fw_L (fw_bt x) c a1) (hI : bu = 0 ∨ (¬ bu = 0 ∧ fw_R (fw_bt x) st a3 a4)) (hN : N ≤ 9) (hw : w < 3 ^ N) (H : fw_D post (fw_bt x) c a1 a7 a8) :
    ∃ f, wL_agrees_187 post x (nI N) (nI (3 ^ N)) (nI w) (nI (if fw_al (fw_bt x) N w = true then 1 else 0)) (nI (fw_Q (fw_bt x) N w 1)) (nI c) st bu a1 a2 a3 a4 a5 a6 a7 a8 f (-2) (nI (w + 1)) := by
  have h9 := fw_p9 hN
  refine pk_loop (fun f i v => wL_agrees_187 post x (nI N) (nI (3 ^ N)) (nI w) (nI (if fw_al (fw_bt x) N w = true then 1 else 0)) (nI (fw_Q (fw_bt x) N w 1)) (nI c) st bu a1 a2 a3 a4 a5 a6 a7 a8 f v (nI i)) (fun i v => w < i ∧ fw_nx (fw_bt x) N w i v) (3 ^ N) (w + 1) (-2) (by omega) ⟨by omega, Or.inl ⟨rfl, fun y y1 y2 => absurd y2 (by omega)⟩⟩ ?_ ?_
  · intro f v hv
    exact pk_le (3 ^ N) (3 ^ N) (fun _ => fw_ag224 hL hI hN hw hv.2 H) (fun z => absurd z (by omega))
  · intro f i v hi hv hw2
    obtain ⟨wi, hv⟩ := hv
    refine pk_le (3 ^ N) i (fun z => absurd z (by omega)) (fun _ => ?_)
    rcases hv with ⟨rfl, hno⟩ | ⟨p, p1, p2, rfl, pa, pn⟩
    · refine br_f (by decide) (fw_Lal x N i (by omega) (by omega) ?_)
      by_cases e : fw_al (fw_bt x) N i = true
      · rw [if_pos e]
        exact br_f (by decide) (nm_r (nI_1 i) (hw2 (nI i) ⟨by omega, Or.inr ⟨i, wi, by omega, rfl, e, hno⟩⟩))
      · rw [if_neg e]
        rw [Bool.not_eq_true] at e
        refine br_t (by decide) (nm_r (nI_1 i) (hw2 (-2) ⟨by omega, Or.inl ⟨rfl, fun y y1 y2 => ?_⟩⟩))
        by_cases q : y = i
        · rw [q, e]
        · exact hno y y1 (by omega)
    · exact br_t (nI_pos' (by omega)) (fw_ag224 hL hI hN hw (Or.inr ⟨p, p1, by omega, rfl, pa, pn⟩) H)
theorem fw_Q0 (B : Nat → Bool) (j p : Nat) : fw_Q B j p 0 = if fw_al B j p = true then 1 else 0 := rfl
theorem fw_ag133 {post : Int32 → St1 → Prop} {x : Int32} {c N w : Nat} (hL : fw_L (fw_bt x) c a1) (hI : bu = 0 ∨ (¬ bu = 0 ∧ fw_R (fw_bt x) st a3 a4)) (hN : N ≤ 9) (hw : w < 3 ^ N) (H : fw_D post (fw_bt x) c a1 a7 a8) :
    ∃ f, wL_agrees_133 post x (nI N) (nI (3 ^ N)) (nI w) (nI (if fw_al (fw_bt x) N w = true then 1 else 0)) (nI c) st bu a1 a2 a3 a4 a5 a6 a7 a8 f 0 0 := by
  have h9 := fw_p9 hN
  refine pk_loop (fun f i v => wL_agrees_133 post x (nI N) (nI (3 ^ N)) (nI w) (nI (if fw_al (fw_bt x) N w = true then 1 else 0)) (nI c) st bu a1 a2 a3 a4 a5 a6 a7 a8 f (nI v) (nI i)) (fun i v => v = fw_S (fun l => fw_Q (fw_bt x) (N + 1) (3 * w + l) 0) i) 3 0 0 (by omega) rfl ?_ ?_
  · intro f v hv
    have e : v = fw_Q (fw_bt x) N w 1 := by
      rw [hv, fw_Qs, fw_S_s, fw_S_s, fw_S_s]
      show 0 + _ + _ + _ = _
      rw [Nat.zero_add]
    subst e
    exact pk_le 3 3 (fun _ => nm_r (nI_1 w) (fw_ag187 hL hI hN hw H)) (fun z => absurd z (by omega))
  · intro f i v hi hv hw2
    refine pk_le 3 i (fun z => absurd z (by omega)) (fun _ => ?_)
    have hal := fw_al_s (fw_bt x) N w hi
    by_cases e : fw_al (fw_bt x) N w = true
    · rw [if_pos e] at hw2 ⊢
      refine br_f (by decide) ?_
      rw [nI_1 N, fw_ix3]
      refine fw_Lal x (N + 1) (3 * w + i) (by omega) (by omega) ?_
      have q0 := fw_Q0 (fw_bt x) (N + 1) (3 * w + i)
      by_cases q : fw_al (fw_bt x) (N + 1) (3 * w + i) = true
      · rw [if_pos q] at q0 ⊢
        exact br_f (by decide) (nm_r (nI_1 v) (nm_r (nI_1 i) (hw2 (v + 1) (by rw [fw_S_s, ← hv, q0]))))
      · rw [if_neg q] at q0 ⊢
        exact br_t (by decide) (nm_r (nI_add v 0) (nm_r (nI_1 i) (hw2 (v + 0) (by rw [fw_S_s, ← hv, q0]))))
    · rw [if_neg e] at hw2 ⊢
      have q0 : fw_Q (fw_bt x) (N + 1) (3 * w + i) 0 = 0 := by
        rw [Bool.not_eq_true] at e
        rw [fw_Q0, hal, e]
        rfl
      exact br_t (by decide) (nm_r (nI_add v 0) (nm_r (nI_1 i) (hw2 (v + 0) (by rw [fw_S_s, ← hv, q0]))))
theorem fw_ag94 {post : Int32 → St1 → Prop} {x : Int32} {c N d : Nat} (hL : fw_L (fw_bt x) c a1) (hI : bu = 0 ∨ (¬ bu = 0 ∧ fw_R (fw_bt x) st a3 a4)) (hN : N ≤ 9) (hd : d < 2 ^ 20) (H : fw_D post (fw_bt x) c a1 a7 a8) :
    ∃ f, wL_agrees_94 post x (nI N) (nI d) (nI c) st bu a1 a2 a3 a4 a5 a6 a7 a8 f 1 0 := by
  have h9 := fw_p9 hN
  have h0 := fw_p0 N
  refine pk_loop (fun f i v => wL_agrees_94 post x (nI N) (nI d) (nI c) st bu a1 a2 a3 a4 a5 a6 a7 a8 f v (nI i)) (fun i v => v = nI (3 ^ i)) N 0 1 (by omega) rfl ?_ ?_
  · intro f v hv
    subst hv
    have hw : d % 3 ^ N < 3 ^ N := Nat.mod_lt _ h0
    exact pk_le N N (fun _ => ⟨nI_ne0 h0 (by omega), nm_r (pk_rem (by omega) h0 (by omega)) (fw_Lal x N (d % 3 ^ N) (by omega) (by omega) (fw_ag133 hL hI hN hw H))⟩) (fun z => absurd z (by omega))
  · intro f i v hi hv hw2
    subst hv
    exact pk_le N i (fun z => absurd z (by omega)) (fun _ => nm_r (e' := nI (3 ^ (i + 1))) (by rw [show (3 : Int32) * nI (3 ^ i) = nI (3 * 3 ^ i) from pk_mul 3 _, Nat.pow_succ, Nat.mul_comm]) (nm_r (nI_1 i) (hw2 _ rfl)))
theorem fw_ag53 {post : Int32 → St1 → Prop} {x : Int32} {c n d i f : Nat} (hL : fw_L (fw_bt x) c a1) (hI : bu = 0 ∨ (¬ bu = 0 ∧ fw_R (fw_bt x) st a3 a4)) (hn : n ≤ 3) (hi : i < 3)
    (H : ∀ (st' bu' : Int32) (b2 b3 : Nat → Int32) (b4 b5 b6 : Nat → Int64), ¬ bu' = 0 → fw_R (fw_bt x) st' b3 b4 → wL_agrees_53 post x (nI (n + 1)) (nI d) f (nI (i + 1)) (nI c) st' bu' a1 b2 b3 b4 b5 b6 a7 a8) :
    wL_agrees_53 post x (nI (n + 1)) (nI d) (f + 1) (nI i) (nI c) st bu a1 a2 a3 a4 a5 a6 a7 a8 := by
  have h9 := fw_p9 (show n ≤ 9 by omega)
  have he := fw_e_le (fw_bt x) n i
  refine pk_le 3 i (fun z => absurd z (by omega)) (fun _ => ?_)
  rw [show (3 : Int32) + nI i = nI (3 + i) from nI_add 3 i]
  refine fw_ending hL hI (by omega) hi (fun st' bu' b2 b3 b4 b5 b6 hb hR => ?_)
  exact fw_Lend x n i (by omega) hi (br_t (nI_l (by omega)) (nm_r (nI_1 i) (H st' bu' b2 b3 b4 b5 b6 hb hR)))
theorem fw_agrees {post : Int32 → St1 → Prop} {x : Int32} {c n d r : Nat} (hL : fw_L (fw_bt x) c a1) (hI : bu = 0 ∨ (¬ bu = 0 ∧ fw_R (fw_bt x) st a3 a4)) (hn : n ≤ 3) (hd : d < 2 ^ 20) (hr : r ≤ 29) (H : fw_D post (fw_bt x) c a1 a7 a8) :
    wpL_agrees post (nI c, st, bu, a1, a2, a3, a4, a5, a6, a7, a8) x (nI (n + 1)) (nI d) (nI (r + 1)) := by
  unfold wpL_agrees
  refine fw_Lend x r 0 (by omega) (by omega) (fw_Lend x r 1 (by omega) (by omega) (fw_Lend x r 2 (by omega) (by omega) (nm_r (e' := lN (fw_W (fw_bt x) (r + 1) (fun _ => 1) 3)) ?_ ?_)))
  · have w := fw_dual (fw_bt x) r (fun _ => 1)
    rw [Nat.mul_one, Nat.mul_one, Nat.mul_one] at w
    rw [lN_add, lN_add, w]
  · refine fw_count hL hI (by omega) (fun st' bu' b2 b3 b4 hb hR => br_t rfl ?_)
    refine fw_ones x (br_t (by rw [← hL.2.1]) ⟨4, ?_⟩)
    refine fw_ag53 (i := 0) hL (Or.inr ⟨hb, hR⟩) hn (by omega) (fun st1 bu1 c2 c3 c4 c5 c6 hb1 hR1 => ?_)
    refine fw_ag53 (i := 1) hL (Or.inr ⟨hb1, hR1⟩) hn (by omega) (fun st2 bu2 d2 d3 d4 d5 d6 hb2 hR2 => ?_)
    refine fw_ag53 (i := 2) hL (Or.inr ⟨hb2, hR2⟩) hn (by omega) (fun st3 bu3 e2 e3 e4 e5 e6 hb3 hR3 => ?_)
    exact pk_le 3 3 (fun _ => fw_ag94 hL (Or.inr ⟨hb3, hR3⟩) (by omega) hd H) (fun z => absurd z (by omega))
end
end
section
/-! the law -/
theorem fw_set_same {x : Int32} {q : Nat} (hq : q < 32) (h : fw_bt x q = true) : x ||| ((1 : Int32) <<< (nI q &&& 31)) = x := by
  apply fw_b_ext
  intro j hj
  rw [fw_bset x q hq hj]
  by_cases e : j = q
  · rw [e, h, Bool.true_or]
  · rw [decide_eq_false e, Bool.or_false]
theorem fw_clr_same {x : Int32} {q : Nat} (hq : q < 32) (h : fw_bt x q = false) : x &&& (((1 : Int32) <<< (nI q &&& 31)) ^^^ (-1)) = x := by
  apply fw_b_ext
  intro j hj
  rw [fw_bclr x q hq hj]
  by_cases e : j = q
  · rw [e, h, Bool.false_and]
  · rw [decide_eq_false e]
    simp
section
variable {post : Int32 → Prop} {L : Nat} {xs : Nat → Int32} {J12 : Int32 → Int32 → Int32 → Int32 → Int32 → (Nat → Int32) → (Nat → Int32) → (Nat → Int32) → (Nat → Int64) → (Nat → Int64) → (Nat → Int64) → (Nat → Int32) → (Nat → Int32) → Prop} {kc ks : Nat} {x x4 x5 st bu : Int32} {i c q : Nat} {a1 a2 a3 : Nat → Int32} {a4 a5 a6 : Nat → Int64} {a7 a8 : Nat → Int32}
theorem fw_law199 (hiL : i < L) (hL2 : L ≤ 260) (hL : fw_L (fw_bt x) c a1) (hI : bu = 0 ∨ (¬ bu = 0 ∧ fw_R (fw_bt x) st a3 a4))
    (H : ∀ (st' bu' : Int32) (b2 b3 : Nat → Int32) (b4 b5 b6 : Nat → Int64), ¬ bu' = 0 → fw_R (fw_bt x) st' b3 b4 → J12 x (nI (i + 2)) (nI c) st' bu' a1 b2 b3 b4 b5 b6 a7 a8) :
    wL_law_199 post L xs J12 x (nI i) x5 kc ks (nI c) st bu a1 a2 a3 a4 a5 a6 a7 a8 := by
  unfold wL_law_199
  obtain ⟨n, hn, en⟩ := pk_andE (x5 >>> ((6 : Int32) &&& 31)) (m := 3) 2 (by decide)
  obtain ⟨d, hd, ed⟩ := pk_andE (x5 >>> ((8 : Int32) &&& 31)) (m := 65535) 16 (by decide)
  obtain ⟨r, hr, er⟩ := pk_andE ((xs (nI i).toNatClampNeg) >>> ((3 : Int32) &&& 31)) (m := 31) 5 (by decide)
  have e1 : (1 : Int32) + nI n = nI (n + 1) := (nI_add 1 n).trans (by rw [Nat.add_comm])
  have e2 : (1 : Int32) + (nI r - nI r / 30 * 30) = nI (r % 30 + 1) := by
    rw [show nI r - nI r / 30 * 30 = nI (r % 30) from pk_rem (a := r) (d := 30) (by omega) (by omega) (by omega)]
    exact (nI_add 1 (r % 30)).trans (by rw [Nat.add_comm])
  rw [en, ed, er, e1, e2]
  exact ⟨pk_in i L hiL rfl (by omega), by decide, fw_agrees hL hI (by omega) (by omega) (by omega) (fun st' bu' b2 b3 b4 b5 b6 hb hR => br_f (by decide) (nm_r (nI_add i 2) (H st' bu' b2 b3 b4 b5 b6 hb hR)))⟩
theorem fw_law104 {z0 : Int32} (hiL : i < L) (hL2 : L ≤ 260) (hq : q < 12) (hL : fw_L (fw_bt x) c a1) (hI : bu = 0 ∨ (¬ bu = 0 ∧ fw_R (fw_bt x) st a3 a4)) (hz : (z0 = 1 ∧ fw_bt x q = true) ∨ (z0 = 0 ∧ fw_bt x q = false))
    (H : ∀ (x' : Int32) (c' : Nat) (st' bu' : Int32) (b1 b2 b3 : Nat → Int32) (b4 b5 b6 : Nat → Int64), fw_L (fw_bt x') c' b1 → (bu' = 0 ∨ (¬ bu' = 0 ∧ fw_R (fw_bt x') st' b3 b4)) → J12 x' (nI (i + 2)) (nI c') st' bu' b1 b2 b3 b4 b5 b6 a7 a8) :
    wL_law_104 post L xs J12 x (nI i) x4 x5 (nI q) (nI (fw_pc q)) (nI c) z0 kc ks (nI c) st bu a1 a2 a3 a4 a5 a6 a7 a8 := by
  have hc := hL.1
  have hm := hL.2.2.2.1 q hq
  -- on, whatever the set and the list are now
  have on : ∀ (x' : Int32) (c' : Nat) (bu' : Int32) (b1 : Nat → Int32), fw_L (fw_bt x') c' b1 → (bu' = 0 ∨ (¬ bu' = 0 ∧ fw_R (fw_bt x') st a3 a4)) → wL_law_199 post L xs J12 x' (nI i) x5 kc ks (nI c') st bu' b1 a2 a3 a4 a5 a6 a7 a8 :=
    fun x' c' bu' b1 g1 g2 => fw_law199 hiL hL2 g1 g2 (fun st' bu' b2 b3 b4 b5 b6 hb hR => H x' c' st' bu' b1 b2 b3 b4 b5 b6 g1 (Or.inr ⟨hb, hR⟩))
  have z1 : fw_bt x q = true → ¬ z0 = 0 := by
    intro g
    rcases hz with ⟨e, _⟩ | ⟨_, e⟩
    · rw [e]
      decide
    · rw [e] at g
      exact absurd g (by decide)
  have z2 : fw_bt x q = false → z0 = 0 := by
    intro g
    rcases hz with ⟨_, e⟩ | ⟨e, _⟩
    · rw [e] at g
      exact absurd g (by decide)
    · exact e
  have no : (∀ k, k < c → ¬ a1 k = nI (fw_pc q)) → fw_bt x q = false := by
    intro g
    cases e : fw_bt x q with
    | false => rfl
    | true =>
      obtain ⟨k, hk, ek⟩ := hm.mp e
      exact absurd ek (g k hk)
  unfold wL_law_104
  refine br_c (fun _ => fw_permit hc (fun g => ?_) (fun j hj ej s hs => ?_)) (fun _ => fw_forbid (fw_pc_in hq) hc (fun g => ?_) (fun g g6 => ?_) (fun g g6 => ?_))
  · refine br_t (z2 (no g)) ?_
    unfold wL_law_185
    exact br_t rfl (nm_r (fw_clr_same (by omega) (no g)) (on x c bu a1 hL hI))
  · refine br_f (z1 (hm.mpr ⟨j, hj, ej⟩)) ?_
    unfold wL_law_185
    exact br_t (pk_sub (b := 1) (by omega)).symm (nm_e (on _ (c - 1) 0 s (fw_L_del hL hj hq ej (fun y hy => fw_bclr x q (by omega) (by omega)) hs) (Or.inl rfl)))
  · have b := hm.mpr g
    refine br_f (z1 b) ?_
    unfold wL_law_144
    exact br_t rfl (pk_le 6 c (fun _ => on x c bu a1 hL hI) (fun _ => nm_r (fw_set_same (by omega) b) (on x c bu a1 hL hI)))
  · refine br_t (z2 (no g)) (pk_le 6 c (fun _ => ?_) (fun z => absurd z (by omega)))
    unfold wL_law_144
    exact br_t rfl (pk_le 6 c (fun _ => on x c bu a1 hL hI) (fun z => absurd z (by omega)))
  · refine br_t (z2 (no g)) (pk_le 6 c (fun z => absurd z (by omega)) (fun _ => ?_))
    unfold wL_law_144
    exact br_t (nI_1 c).symm (pk_le 6 c (fun z => absurd z (by omega)) (fun _ => nm_e (on _ (c + 1) 0 _ (fw_L_add hL g6 hq (no g) (fun y hy => fw_bset x q (by omega) (by omega))) (Or.inl rfl))))
theorem fw_law63 (hiL : i < L) (hL2 : L ≤ 260) (hq : q < 12) (hL : fw_L (fw_bt x) c a1) (hI : bu = 0 ∨ (¬ bu = 0 ∧ fw_R (fw_bt x) st a3 a4))
    (H : ∀ (x' : Int32) (c' : Nat) (st' bu' : Int32) (b1 b2 b3 : Nat → Int32) (b4 b5 b6 : Nat → Int64), fw_L (fw_bt x') c' b1 → (bu' = 0 ∨ (¬ bu' = 0 ∧ fw_R (fw_bt x') st' b3 b4)) → J12 x' (nI (i + 2)) (nI c') st' bu' b1 b2 b3 b4 b5 b6 a7 a8) :
    wL_law_63 post L xs J12 x (nI i) x4 x5 (nI q) kc ks (nI c) st bu a1 a2 a3 a4 a5 a6 a7 a8 := by
  have h81 : wL_law_81 post L xs J12 x (nI i) x4 x5 (nI q) (nI (fw_pc q)) kc ks (nI c) st bu a1 a2 a3 a4 a5 a6 a7 a8 := by
    unfold wL_law_81
    refine fw_ones x ?_
    rw [← hL.2.1]
    exact ek_if (fw_bit1 x q (by omega)) (fun hb => fw_law104 hiL hL2 hq hL hI (Or.inl ⟨rfl, hb⟩) H) (fun hb => fw_law104 hiL hL2 hq hL hI (Or.inr ⟨rfl, Bool.not_eq_true _ ▸ hb⟩) H)
  unfold wL_law_63
  refine pk_le 3 q (fun z => ?_) (fun z => ?_)
  · rw [show (6 : Int32) + nI q = nI (fw_pc q) by unfold fw_pc; rw [if_neg (by omega)]; exact nI_add 6 q]
    exact h81
  · rw [show (3 : Int32) + nI q = nI (fw_pc q) by unfold fw_pc; rw [if_pos z]; exact nI_add 3 q]
    exact h81
end
theorem fw_loop {post : Int32 → Prop} {L : Nat} {xs : Nat → Int32} {kc ks : Nat} {a7 a8 : Nat → Int32} (hL2 : L ≤ 260) (hp : post 1) (n : Nat) :
    ∀ (i c : Nat) (x st bu : Int32) (a1 a2 a3 : Nat → Int32) (a4 a5 a6 : Nat → Int64), L ≤ i + n + 1 → i < 1000 → fw_L (fw_bt x) c a1 → (bu = 0 ∨ (¬ bu = 0 ∧ fw_R (fw_bt x) st a3 a4)) → wL_law_12 post L xs kc ks (n + 1) x (nI i) (nI c) st bu a1 a2 a3 a4 a5 a6 a7 a8 := by
  induction n with
  | zero =>
    intro i c x st bu a1 a2 a3 a4 a5 a6 hi hi2 hL hI
    exact pk_le L (i + 1) (fun _ => hp) (fun z => absurd z (by omega)) rfl (nI_1 i)
  | succ n ih =>
    intro i c x st bu a1 a2 a3 a4 a5 a6 hi hi2 hL hI
    refine pk_le L (i + 1) (fun _ => hp) (fun z => ⟨pk_in i L (by omega), nm_e ⟨pk_in (i + 1) L (by omega) (nI_1 i), nm_e ⟨by decide, ?_⟩⟩⟩) rfl (nI_1 i)
    obtain ⟨j, hj, ej⟩ := pk_andE (xs (nI i + 1).toNatClampNeg) (m := 15) 4 (by decide)
    have e12 : nI j - nI j / 12 * 12 = nI (j % 12) := pk_rem (a := j) (d := 12) (by omega) (by omega) (by omega)
    have on : ∀ q, q < 12 → ∀ x4 x5 : Int32, wL_law_63 post L xs (wL_law_12 post L xs kc ks (n + 1)) x (nI i) x4 x5 (nI q) kc ks (nI c) st bu a1 a2 a3 a4 a5 a6 a7 a8 :=
      fun q hq x4 x5 => fw_law63 (by omega) hL2 hq hL hI (fun x' c' st' bu' b1 b2 b3 b4 b5 b6 g1 g2 => ih (i + 2) c' x' st' bu' b1 b2 b3 b4 b5 b6 (by omega) (by omega) g1 g2)
    refine nm_r (e' := nI (j % 12)) (by rw [ej, e12]) ?_
    refine pk_le 3 (j % 12) (fun _ => on _ (by omega) _ _) (fun g => br_c (fun _ => on _ (by omega) _ _) (fun _ => nm_r (nI_add (j % 12) 3) (on _ (by omega) _ _)))
end
section
theorem i_vc (xs : Nat → Int32) (L : Nat) (hL : L ≤ 260) : wpL_law (fun r => r = 1) L xs :=
  ⟨8, 1488, by omega, by omega, by omega, by omega, by omega, by omega, by omega, by omega, by omega, by omega, by omega, by omega, by omega, by omega, by omega, by omega, by omega, by omega, ⟨L + 1, fw_loop (post := fun r => r = 1) hL rfl L 0 0 0 0 0 _ _ _ _ _ _ (by omega) (by omega) (fw_L_0 (fun i _ => fw_b_0 i)) (Or.inl rfl)⟩⟩
end
