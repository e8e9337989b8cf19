section
/-! ===== Int32 by its bits: mb_t x i ===== -/
def mb_t (x : Int32) (i : Nat) : Bool := x.toBitVec.getLsbD i
theorem mb_ext {x y : Int32} (h : ∀ i, i < 32 → mb_t x i = mb_t y i) : x = y := Int32.toBitVec_inj.mp (BitVec.eq_of_getLsbD_eq (fun i hi => h i hi))
theorem mb_or (x y : Int32) (i : Nat) : mb_t (x ||| y) i = (mb_t x i || mb_t y i) := by unfold mb_t; rw [Int32.toBitVec_or, BitVec.getLsbD_or]
theorem mb_and (x y : Int32) (i : Nat) : mb_t (x &&& y) i = (mb_t x i && mb_t y i) := by unfold mb_t; rw [Int32.toBitVec_and, BitVec.getLsbD_and]
theorem mb_xor (x y : Int32) (i : Nat) : mb_t (x ^^^ y) i = (mb_t x i ^^ mb_t y i) := by unfold mb_t; rw [Int32.toBitVec_xor, BitVec.getLsbD_xor]
theorem mb_big {x : Int32} {i : Nat} (h : 32 ≤ i) : mb_t x i = false := BitVec.getLsbD_of_ge _ _ h
theorem mb_255 (i : Nat) : mb_t 255 i = decide (i < 8) := by
  rcases Nat.lt_or_ge i 32 with h | h
  · exact (by decide +kernel : ∀ i, i < 32 → mb_t 255 i = decide (i < 8)) i h
  · rw [mb_big h, decide_eq_false (by omega)]
theorem mb_65535 (i : Nat) : mb_t 65535 i = decide (i < 16) := by
  rcases Nat.lt_or_ge i 32 with h | h
  · exact (by decide +kernel : ∀ i, i < 32 → mb_t 65535 i = decide (i < 16)) i h
  · rw [mb_big h, decide_eq_false (by omega)]
theorem mb_m1 : ∀ i, i < 32 → mb_t (-1) i = true := by decide +kernel
theorem mb_0 (i : Nat) : mb_t 0 i = false := BitVec.getLsbD_zero
theorem mb_sl : ∀ n, n < 32 → ((nI n &&& 31).toBitVec.smod 32).toNat = n := by decide +kernel
theorem mb_su : ∀ n, n < 32 → (((nI n).toUInt32 &&& Int32.toUInt32 31).toBitVec % 32).toNat = n := by decide +kernel
theorem mb_shl (n : Nat) (hn : n < 32) (x : Int32) {i : Nat} (hi : i < 32) : mb_t (x <<< (nI n &&& 31)) i = (decide (n ≤ i) && mb_t x (i - n)) := by
  unfold mb_t
  rw [Int32.toBitVec_shiftLeft]
  show (x.toBitVec <<< ((nI n &&& 31).toBitVec.smod 32).toNat).getLsbD i = _
  rw [mb_sl n hn, BitVec.getLsbD_shiftLeft]
  rcases Nat.lt_or_ge i n with h | h
  · simp [h, Nat.not_le.mpr h]
  · simp [hi, h, Nat.not_lt.mpr h]
theorem mb_ushr (n : Nat) (hn : n < 32) (x : Int32) (i : Nat) : mb_t ((x.toUInt32 >>> ((nI n).toUInt32 &&& Int32.toUInt32 31)).toInt32) i = mb_t x (n + i) := by
  show (x.toUInt32 >>> ((nI n).toUInt32 &&& Int32.toUInt32 31)).toBitVec.getLsbD i = x.toUInt32.toBitVec.getLsbD (n + i)
  rw [UInt32.toBitVec_shiftRight]
  show (x.toUInt32.toBitVec >>> (((nI n).toUInt32 &&& Int32.toUInt32 31).toBitVec % 32).toNat).getLsbD i = _
  rw [mb_su n hn, BitVec.getLsbD_ushiftRight]
theorem mb_sshr (n : Nat) (hn : n < 32) (x : Int32) {i : Nat} (hi : i < 32) : mb_t (x >>> (nI n &&& 31)) i = if n + i < 32 then mb_t x (n + i) else mb_t x 31 := by
  unfold mb_t
  rw [Int32.toBitVec_shiftRight]
  show (x.toBitVec.sshiftRight ((nI n &&& 31).toBitVec.smod 32).toNat).getLsbD i = _
  rw [mb_sl n hn, BitVec.getLsbD_sshiftRight, BitVec.msb_eq_getLsbD_last]
  simp [hi]
end
section
/-! bits that this class asks -/
theorem mx_dd {p q : Prop} [Decidable p] [Decidable q] (h : p ↔ q) : decide p = decide q := decide_eq_decide.mpr h
theorem mx_z {x : Int32} (h : ∀ i, i < 32 → mb_t x i = false) : x = 0 := mb_ext (fun i hi => by rw [h i hi, mb_0])
theorem mx_sh1 : ∀ n, n < 32 → ∀ i, i < 32 → mb_t ((1 : Int32) <<< (nI n &&& 31)) i = decide (i = n) := by decide +kernel
theorem mx_pred {m i j : Nat} (hij : i < j) (hi : m.testBit i = true) (hj : m.testBit j = true) : (m - 1).testBit j = true := by
  have h1 : (m % 2 ^ j).testBit i = true := by rw [Nat.testBit_mod_two_pow, hi, decide_eq_true hij]; rfl
  have h2 : m % 2 ^ j ≠ 0 := by
    intro e
    rw [e, Nat.zero_testBit] at h1
    exact absurd h1 (by decide)
  have h3 : 2 ^ j * (m / 2 ^ j) + m % 2 ^ j = m := Nat.div_add_mod m (2 ^ j)
  have h4 : m % 2 ^ j < 2 ^ j := Nat.mod_lt _ (Nat.two_pow_pos j)
  have h5 : (m - 1) / 2 ^ j = m / 2 ^ j := by
    have e : m - 1 = 2 ^ j * (m / 2 ^ j) + (m % 2 ^ j - 1) := by
      generalize 2 ^ j * (m / 2 ^ j) = q at h3 ⊢
      omega
    rw [e, Nat.mul_add_div (Nat.two_pow_pos j), Nat.div_eq_of_lt (show m % 2 ^ j - 1 < 2 ^ j by omega), Nat.add_zero]
  rw [Nat.testBit_eq_decide_div_mod_eq] at hj ⊢
  rw [h5]
  exact hj
theorem mx_one1 {x : Int32} (h : x &&& (x - 1) = 0) {i j : Nat} (hij : i < j) (hi : mb_t x i = true) (hj : mb_t x j = true) : False := by
  have hi' : x.toBitVec.toNat.testBit i = true := hi
  have hj' : x.toBitVec.toNat.testBit j = true := hj
  have p := mx_pred hij hi' hj'
  have h0 : x.toBitVec.toNat ≠ 0 := by
    intro e
    rw [e, Nat.zero_testBit] at hi'
    exact absurd hi' (by decide)
  have hlt : x.toBitVec.toNat < 2 ^ 32 := x.toBitVec.isLt
  have e1 : (x - 1).toBitVec.toNat = x.toBitVec.toNat - 1 := by
    show (x.toBitVec - 1#32).toNat = _
    rw [BitVec.toNat_sub]
    show (2 ^ 32 - 1 + x.toBitVec.toNat) % 2 ^ 32 = _
    omega
  have e2 : mb_t (x - 1) j = true := by
    show (x - 1).toBitVec.toNat.testBit j = true
    rw [e1]
    exact p
  have e3 : mb_t (x &&& (x - 1)) j = false := by rw [h, mb_0]
  rw [mb_and, hj, e2] at e3
  exact absurd e3 (by decide)
theorem mx_one {x : Int32} (h : x &&& (x - 1) = 0) {i j : Nat} (hi : mb_t x i = true) (hj : mb_t x j = true) : i = j := by
  rcases Nat.lt_trichotomy i j with g | g | g
  · exact absurd (mx_one1 h g hi hj) (fun z => z)
  · exact g
  · exact absurd (mx_one1 h g hj hi) (fun z => z)
theorem mx_t3 : ∀ i, i < 32 → mb_t 3 i = decide (i < 2) := by decide +kernel
theorem mx_t1 : ∀ i, i < 32 → mb_t 1 i = decide (i < 1) := by decide +kernel
theorem mx_a3 {y : Int32} : y &&& 3 = 0 ↔ mb_t y 0 = false ∧ mb_t y 1 = false := by
  constructor
  · intro h
    have h0 : mb_t (y &&& 3) 0 = false := by rw [h, mb_0]
    have h1 : mb_t (y &&& 3) 1 = false := by rw [h, mb_0]
    rw [mb_and, mx_t3 0 (by omega)] at h0
    rw [mb_and, mx_t3 1 (by omega)] at h1
    exact ⟨by simpa using h0, by simpa using h1⟩
  · intro h
    refine mx_z (fun i hi => ?_)
    rw [mb_and, mx_t3 i hi]
    by_cases e : i < 2
    · have e' : i = 0 ∨ i = 1 := by omega
      rcases e' with e' | e'
      · rw [e', h.1]; rfl
      · rw [e', h.2]; rfl
    · rw [decide_eq_false e, Bool.and_false]
theorem mx_a1 (y : Int32) : y &&& 1 = if mb_t y 0 = true then 1 else 0 := by
  refine mb_ext (fun i hi => ?_)
  rw [mb_and, mx_t1 i hi]
  by_cases e : i < 1
  · have e' : i = 0 := by omega
    rw [e']
    cases hy : mb_t y 0 with
    | false => rw [if_neg (by decide), mb_0]; rfl
    | true => rw [if_pos rfl, mx_t1 0 (by omega)]; rfl
  · rw [decide_eq_false e, Bool.and_false]
    cases hy : mb_t y 0 with
    | false => rw [if_neg (by decide), mb_0]
    | true => rw [if_pos rfl, mx_t1 i hi, decide_eq_false e]
theorem mx_a10 {y : Int32} : y &&& 1 = 0 ↔ mb_t y 0 = false := by
  rw [mx_a1]
  cases mb_t y 0 with
  | false => simp
  | true => simp
theorem mx_a11 {y : Int32} : y &&& 1 = 1 ↔ mb_t y 0 = true := by
  rw [mx_a1]
  cases mb_t y 0 with
  | false => simp
  | true => simp
theorem mx_nn {x : Int32} (h : mb_t x 31 = false) : ¬ x < 0 := by
  intro g
  rw [Int32.lt_iff_toInt_lt] at g
  have h' : x.toBitVec.msb = false := by rw [BitVec.msb_eq_getLsbD_last]; exact h
  have k := BitVec.toInt_nonneg_of_msb_false h'
  have k' : 0 ≤ x.toInt := k
  have z : (0 : Int32).toInt = 0 := rfl
  rw [z] at g
  omega
theorem mx_m1 {e : Nat} (h : e < 2) : ¬ (-1 : Int32) = nI e := by
  intro z
  have : ¬ nI e < 0 := nI_pos (by omega)
  rw [← z] at this
  exact this (by decide)
theorem mx_2v (v : Nat) : 2 * nI v = nI (2 * v) := pk_mul 2 v
/-! the picture -/
def mx_d (c : Int32) (f : Nat → Int32) : Bool := (List.range 16).all (fun l => !(mb_t c l) || decide (f (l / 2) = nI (l % 2)))
def mx_sum (g : Nat → Nat) : Nat → Nat
  | 0 => 0
  | n + 1 => mx_sum g n + g n
def mx_g (a1 : Nat → Int32) (u : Nat → Nat) (f : Nat → Int32) (k : Nat) : Nat := if mx_d (a1 k) f = true then u k else 0
def mx_L (a1 : Nat → Int32) (w : Nat → Nat) (n : Nat) (f : Nat → Int32) : Nat := mx_sum (mx_g a1 w f) n
def mx_H (a1 : Nat → Int32) (w : Nat → Nat) (n : Nat) (f : Nat → Int32) : Prop := ∀ k, k < n → w k = 0 → mx_d (a1 k) f = false
def mx_tot (A : Nat → Int32) : Prop := ∀ v, v < 8 → ∃ e : Nat, e < 2 ∧ A v = nI e
def mx_tri (f : Nat → Int32) : Prop := ∀ v, v < 8 → f v = -1 ∨ ∃ e : Nat, e < 2 ∧ f v = nI e
def mx_ext (f A : Nat → Int32) : Prop := ∀ v, v < 8 → f v = -1 ∨ f v = A v
def mx_agr (g A : Nat → Int32) : Prop := ∀ v, v < 8 → g v < 0 ∨ g v = A v
def mx_OK (n : Nat) (a1 a2 : Nat → Int32) (w : Nat → Nat) : Prop := n ≤ 24 ∧ (∀ k, k < n → a2 k = nI (w k) ∧ w k ≤ 50) ∧ (∀ k, k < n → ∀ i, 16 ≤ i → mb_t (a1 k) i = false)
def mx_op (c : Int32) (f : Nat → Int32) (r : Int32) : Prop := ∀ l, l < 32 → mb_t r l = (mb_t c l && !(decide (f (l / 2) = nI (l % 2))))
def mx_code (ba : Int32) (A : Nat → Int32) : Prop := ¬ ba < 0 ∧ ∀ v, v < 8 → mb_t ba v = decide (A v = nI 1)
def mx_T : Nat → Nat
  | 0 => 1
  | d + 1 => 3 + 2 * mx_T d
theorem mx_d_iff {c : Int32} {f : Nat → Int32} : mx_d c f = true ↔ ∀ l, l < 16 → mb_t c l = true → f (l / 2) = nI (l % 2) := by
  unfold mx_d
  rw [List.all_eq_true]
  constructor
  · intro h l hl hc
    have k : (!(mb_t c l) || decide (f (l / 2) = nI (l % 2))) = true := h l (List.mem_range.mpr hl)
    rw [hc] at k
    simpa using k
  · intro h l hl
    have hl' := List.mem_range.mp hl
    show (!(mb_t c l) || decide (f (l / 2) = nI (l % 2))) = true
    cases hc : mb_t c l with
    | false => rfl
    | true => rw [decide_eq_true (h l hl' hc)]; rfl
theorem mx_d_not {c : Int32} {f : Nat → Int32} (h : mx_d c f = false) : ∃ l, l < 16 ∧ mb_t c l = true ∧ ¬ f (l / 2) = nI (l % 2) := by
  apply Classical.byContradiction
  intro g
  have : mx_d c f = true := mx_d_iff.mpr (fun l hl hc => Classical.byContradiction (fun z => g ⟨l, hl, hc, z⟩))
  rw [h] at this
  exact absurd this (by decide)
theorem mx_d_mono {c : Int32} {f A : Nat → Int32} (he : mx_ext f A) (h : mx_d c f = true) : mx_d c A = true := by
  rw [mx_d_iff] at h ⊢
  intro l hl hc
  have k := h l hl hc
  rcases he (l / 2) (by omega) with e | e
  · rw [e] at k
    exact absurd k (mx_m1 (by omega))
  · rw [← e]
    exact k
theorem mx_op0 {c : Int32} {f : Nat → Int32} {r : Int32} (hc : ∀ i, 16 ≤ i → mb_t c i = false) (h : mx_op c f r) : r = 0 ↔ mx_d c f = true := by
  constructor
  · intro e
    rw [mx_d_iff]
    intro l hl hb
    have k := h l (by omega)
    rw [e, mb_0, hb] at k
    simpa using k
  · intro e
    rw [mx_d_iff] at e
    refine mx_z (fun i hi => ?_)
    rw [h i hi]
    cases hb : mb_t c i with
    | false => rfl
    | true =>
      by_cases h16 : i < 16
      · rw [decide_eq_true (e i h16 hb)]; rfl
      · rw [hc i (by omega)] at hb
        exact absurd hb (by decide)
theorem mx_opd {c : Int32} {f : Nat → Int32} {r : Int32} (hc : ∀ i, 16 ≤ i → mb_t c i = false) (h : mx_op c f r) (h0 : ¬ r = 0) : mx_d c f = false := by
  cases e : mx_d c f with
  | false => rfl
  | true => exact absurd ((mx_op0 hc h).mpr e) h0
/-! sums -/
theorem mx_sum_le {g h : Nat → Nat} {n : Nat} (H : ∀ k, k < n → g k ≤ h k) : mx_sum g n ≤ mx_sum h n := by
  induction n with
  | zero => exact Nat.le_refl _
  | succ n ih =>
    have a := ih (fun k hk => H k (by omega))
    have b := H n (by omega)
    show mx_sum g n + g n ≤ mx_sum h n + h n
    omega
theorem mx_sum_eq {g h : Nat → Nat} {n : Nat} (H : ∀ k, k < n → g k = h k) : mx_sum g n = mx_sum h n :=
  Nat.le_antisymm (mx_sum_le (fun k hk => Nat.le_of_eq (H k hk))) (mx_sum_le (fun k hk => Nat.le_of_eq (H k hk).symm))
theorem mx_sum_gain {g h : Nat → Nat} {n j m : Nat} (H : ∀ k, k < n → g k ≤ h k) (hj : j < n) (hm : g j + m ≤ h j) : mx_sum g n + m ≤ mx_sum h n := by
  induction n with
  | zero => exact absurd hj (by omega)
  | succ n ih =>
    show mx_sum g n + g n + m ≤ mx_sum h n + h n
    by_cases e : j = n
    · have a := mx_sum_le (n := n) (fun k hk => H k (by omega))
      rw [e] at hm
      omega
    · have a := ih (fun k hk => H k (by omega)) (by omega)
      have b := H n (by omega)
      omega
theorem mx_sum_two {f g h : Nat → Nat} {n : Nat} (H : ∀ k, k < n → f k + g k ≤ h k) : mx_sum f n + mx_sum g n ≤ mx_sum h n := by
  induction n with
  | zero => exact Nat.le_refl _
  | succ n ih =>
    have a := ih (fun k hk => H k (by omega))
    have b := H n (by omega)
    show mx_sum f n + f n + (mx_sum g n + g n) ≤ mx_sum h n + h n
    omega
theorem mx_sum_bd {g : Nat → Nat} {n c : Nat} (H : ∀ k, k < n → g k ≤ c) : mx_sum g n ≤ n * c := by
  induction n with
  | zero => exact Nat.zero_le _
  | succ n ih =>
    have a := ih (fun k hk => H k (by omega))
    have b := H n (by omega)
    show mx_sum g n + g n ≤ (n + 1) * c
    rw [Nat.succ_mul]
    omega
theorem mx_L_bd {n : Nat} {a1 a2 : Nat → Int32} {w : Nat → Nat} {f : Nat → Int32} (h : mx_OK n a1 a2 w) : mx_L a1 w n f ≤ 1200 := by
  have a : mx_sum (mx_g a1 w f) n ≤ n * 50 := mx_sum_bd (fun k hk => by
    unfold mx_g
    have := (h.2.1 k hk).2
    split <;> omega)
  have b := h.1
  show mx_sum (mx_g a1 w f) n ≤ 1200
  omega
end
section
section
variable {cl bl ba tl : Int32} {a1 a2 a3 a4 a5 a6 a7 a8 a9 : Nat → Int32}
/-! openLiterals -/
def mx_oi (c : Int32) (f : Nat → Int32) (i : Nat) (x : Int32) : Prop := ∀ l, l < 32 → mb_t x l = (mb_t c l && !(decide (l / 2 < i ∧ f (l / 2) = nI (l % 2))))
theorem mx_oi0 {c : Int32} {f : Nat → Int32} : mx_oi c f 0 c := by
  intro l hl
  rw [decide_eq_false (fun h => absurd h.1 (by omega)), Bool.not_false, Bool.and_true]
theorem mx_oi8 {c : Int32} {f : Nat → Int32} {x : Int32} (hc : ∀ i, 16 ≤ i → mb_t c i = false) (h : mx_oi c f 8 x) : mx_op c f x := by
  intro l hl
  rw [h l hl]
  by_cases e : l < 16
  · have t : (l / 2 < 8 ∧ f (l / 2) = nI (l % 2)) ↔ f (l / 2) = nI (l % 2) := ⟨fun z => z.2, fun z => ⟨by omega, z⟩⟩
    rw [mx_dd t]
  · rw [hc l (by omega), Bool.false_and, Bool.false_and]
theorem mx_oi_skip {c : Int32} {f : Nat → Int32} {i : Nat} {x : Int32} (h : mx_oi c f i x) (hf : f i = -1) : mx_oi c f (i + 1) x := by
  intro l hl
  rw [h l hl]
  have t : (l / 2 < i ∧ f (l / 2) = nI (l % 2)) ↔ (l / 2 < i + 1 ∧ f (l / 2) = nI (l % 2)) := by
    refine ⟨fun z => ⟨by omega, z.2⟩, fun z => ⟨?_, z.2⟩⟩
    have z1 := z.1
    have z2 := z.2
    by_cases q : l / 2 = i
    · rw [q, hf] at z2
      exact absurd z2 (mx_m1 (by omega))
    · omega
  rw [mx_dd t]
theorem mx_oi_cut {c : Int32} {f : Nat → Int32} {i e : Nat} {x : Int32} (hi : i < 8) (he : e < 2) (h : mx_oi c f i x) (hf : f i = nI e) : mx_oi c f (i + 1) (x &&& (((1 : Int32) <<< (((2 * nI i) + (f i)) &&& 31)) ^^^ (-1))) := by
  intro l hl
  rw [mb_and, mb_xor, hf, mx_2v, nI_add, mx_sh1 _ (by omega) l hl, mb_m1 l hl, h l hl]
  by_cases e1 : l = 2 * i + e
  · have t : l / 2 < i + 1 ∧ f (l / 2) = nI (l % 2) := by
      refine ⟨by omega, ?_⟩
      rw [show l / 2 = i by omega, show l % 2 = e by omega]
      exact hf
    rw [decide_eq_true e1, decide_eq_true t]
    simp
  · have t : (l / 2 < i ∧ f (l / 2) = nI (l % 2)) ↔ (l / 2 < i + 1 ∧ f (l / 2) = nI (l % 2)) := by
      refine ⟨fun z => ⟨by omega, z.2⟩, fun z => ⟨?_, z.2⟩⟩
      have z1 := z.1
      have z2 := z.2
      by_cases q : l / 2 = i
      · rw [q, hf, nI_eq (by omega) (by omega)] at z2
        exact absurd (show l = 2 * i + e by omega) e1
      · omega
    rw [decide_eq_false e1, mx_dd t]
    simp
theorem mx_open {post : Int32 → Prop} {k : Nat} (hk : k < 24) (hc : ∀ i, 16 ≤ i → mb_t (a1 k) i = false) (ht : mx_tri a3) (H : ∀ r, mx_op (a1 k) a3 r → post r) : wpX_openLiterals post (cl, bl, ba, tl, a1, a2, a3, a4, a5, a6, a7, a8, a9) (nI k) := by
  refine ⟨pk_in k 24 hk, nm_r (e' := a1 k) (by rw [nI_clamp (by omega)]) ?_⟩
  refine pk_loop (fun n i x => wX_openLiterals_10 post cl bl ba tl a1 a2 a3 a4 a5 a6 a7 a8 a9 n x (nI i)) (fun i x => mx_oi (a1 k) a3 i x) 8 0 (a1 k) (by omega) mx_oi0 ?_ ?_
  · intro n x h
    exact pk_le 8 8 (fun _ => H x (mx_oi8 hc h)) (fun z => absurd z (by omega))
  · intro n i x hi h hw
    refine pk_le 8 i (fun z => absurd z (by omega)) (fun _ => ⟨pk_in i 8 hi, ?_⟩)
    have e : (nI i).toNatClampNeg = i := nI_clamp (by omega)
    rw [e]
    rcases ht i hi with g | ⟨e', he', g⟩
    · exact br_t (by rw [g]; decide) (nm_r (nI_1 i) (hw x (mx_oi_skip h g)))
    · exact br_f (by rw [g]; exact nI_pos (by omega)) ⟨pk_in i 8 hi, nm_e (nm_r (nI_1 i) (hw _ (mx_oi_cut hi he' h g)))⟩
theorem mx_open2 {post : Int32 → Prop} {k : Nat} (hk : k < 24) (hc : ∀ i, 16 ≤ i → mb_t (a1 k) i = false) (ht : mx_tri a5) (H : ∀ r, mx_op (a1 k) a5 r → post r) : wpX_openLiterals_2 post (cl, bl, ba, tl, a1, a2, a3, a4, a5, a6, a7, a8, a9) (nI k) := by
  refine ⟨pk_in k 24 hk, nm_r (e' := a1 k) (by rw [nI_clamp (by omega)]) ?_⟩
  refine pk_loop (fun n i x => wX_openLiterals_2_10 post cl bl ba tl a1 a2 a3 a4 a5 a6 a7 a8 a9 n x (nI i)) (fun i x => mx_oi (a1 k) a5 i x) 8 0 (a1 k) (by omega) mx_oi0 ?_ ?_
  · intro n x h
    exact pk_le 8 8 (fun _ => H x (mx_oi8 hc h)) (fun z => absurd z (by omega))
  · intro n i x hi h hw
    refine pk_le 8 i (fun z => absurd z (by omega)) (fun _ => ⟨pk_in i 8 hi, ?_⟩)
    have e : (nI i).toNatClampNeg = i := nI_clamp (by omega)
    rw [e]
    rcases ht i hi with g | ⟨e', he', g⟩
    · exact br_t (by rw [g]; decide) (nm_r (nI_1 i) (hw x (mx_oi_skip h g)))
    · exact br_f (by rw [g]; exact nI_pos (by omega)) ⟨pk_in i 8 hi, nm_e (nm_r (nI_1 i) (hw _ (mx_oi_cut hi he' h g)))⟩
/-! lossSoFar -/
theorem mx_L_succ {w : Nat → Nat} {i : Nat} {f : Nat → Int32} : mx_L a1 w (i + 1) f = mx_L a1 w i f + mx_g a1 w f i := rfl
theorem mx_lsf {post : Int32 → Prop} {n : Nat} {w : Nat → Nat} (h : mx_OK n a1 a2 w) (ht : mx_tri a3) (H : post (nI (mx_L a1 w n a3))) : wpX_lossSoFar post (nI n, bl, ba, tl, a1, a2, a3, a4, a5, a6, a7, a8, a9) := by
  have hn := h.1
  refine pk_loop (fun m i s => wX_lossSoFar_4 post (nI n) bl ba tl a1 a2 a3 a4 a5 a6 a7 a8 a9 m s (nI i)) (fun i s => s = nI (mx_L a1 w i a3)) n 0 0 (Nat.zero_le _) rfl ?_ ?_
  · intro m s hs
    have hs' : s = nI (mx_L a1 w n a3) := hs
    subst hs'
    exact pk_le n n (fun _ => H) (fun z => absurd z (by omega))
  · intro m i s hi hs hw
    have hs' : s = nI (mx_L a1 w i a3) := hs
    subst hs'
    refine pk_le n i (fun z => absurd z (by omega)) (fun _ => mx_open (by omega) (h.2.2 i hi) ht (fun r hr => ?_))
    refine br_c (fun z => ⟨pk_in i 24 (by omega), ?_⟩) (fun z => ?_)
    · refine nm_r (e' := nI (mx_L a1 w (i + 1) a3)) ?_ (nm_r (nI_1 i) (hw _ rfl))
      have g : mx_g a1 w a3 i = w i := if_pos ((mx_op0 (h.2.2 i hi) hr).mp z)
      rw [nI_clamp (by omega), (h.2.1 i hi).1, nI_add, mx_L_succ, g]
    · refine nm_r (e' := nI (mx_L a1 w (i + 1) a3)) ?_ (nm_r (nI_1 i) (hw _ rfl))
      have g : mx_g a1 w a3 i = 0 := if_neg (by rw [mx_opd (h.2.2 i hi) hr z]; decide)
      rw [mx_L_succ, g, ← nI_0, nI_add]
/-! freeAll, nextValue, takeLeaf, variablesOf -/
theorem mx_fill {f s : Nat → Int32} {i k : Nat} {x : Int32} (hk : k = i) (h : ∀ j, j < i → s j = f j) (hx : x = f i) : ∀ j, j < i + 1 → upd s k x j = f j := by
  intro j hj
  rw [hk]
  by_cases e : j = i
  · rw [e, pk_us, hx]
  · rw [pk_un e]
    exact h j (by omega)
theorem mx_free {post : St1 → Prop} (H : ∀ b4 : Nat → Int32, (∀ v, v < 8 → b4 v = -1) → post (cl, bl, ba, tl, a1, a2, a3, b4, a5, a6, a7, a8, a9)) : wpX_freeAll post (cl, bl, ba, tl, a1, a2, a3, a4, a5, a6, a7, a8, a9) :=
  pk_loop (fun n i s => wX_freeAll_2 post cl bl ba tl n (nI i) a1 a2 a3 s a5 a6 a7 a8 a9) (fun i s => ∀ j, j < i → s j = -1) 8 0 a4 (by omega) (fun j hj => absurd hj (by omega))
    (fun n s h => pk_le 8 8 (fun _ => H s h) (fun z => absurd z (by omega)))
    (fun n i s hi h hw => pk_le 8 i (fun z => absurd z (by omega)) (fun _ => ⟨pk_in i 8 hi, nm_e (nm_r (nI_1 i) (hw _ (mx_fill (f := fun _ => -1) (nI_clamp (by omega)) h rfl)))⟩))
theorem mx_next {post : Int32 → Prop} {v j : Nat} (hv : v < 8) (hj : j ≤ 2) (hy : a3 v + 1 = nI j)
    (H : ∀ x : Nat, j ≤ x → x < 2 → (∀ z : Nat, j ≤ z → z < x → ¬ (a4 v < 0 ∨ a4 v = nI z)) → (a4 v < 0 ∨ a4 v = nI x) → post (nI x))
    (H1 : (∀ z : Nat, j ≤ z → z < 2 → ¬ (a4 v < 0 ∨ a4 v = nI z)) → post (-1)) :
    wpX_nextValue post (cl, bl, ba, tl, a1, a2, a3, a4, a5, a6, a7, a8, a9) (nI v) := by
  have e : (nI v).toNatClampNeg = v := nI_clamp (by omega)
  refine ⟨pk_in v 8 hv, nm_r (e' := nI j) (by rw [e]; exact hy) ?_⟩
  refine pk_loop (σ := Unit) (fun n i _ => wX_nextValue_9 post (nI v) cl bl ba tl a1 a2 a3 a4 a5 a6 a7 a8 a9 n (nI i)) (fun i _ => j ≤ i ∧ ∀ z : Nat, j ≤ z → z < i → ¬ (a4 v < 0 ∨ a4 v = nI z)) 2 j () hj ⟨Nat.le_refl _, fun z h1 h2 => absurd h1 (by omega)⟩ ?_ ?_
  · intro n _ h
    exact pk_le 2 2 (fun _ => H1 h.2) (fun z => absurd z (by omega))
  · intro n i _ hi h hw
    refine pk_le 2 i (fun z => absurd z (by omega)) (fun _ => ⟨pk_in v 8 hv, ?_⟩)
    rw [e]
    refine br_c (fun g => H i h.1 hi h.2 (Or.inl g)) (fun g => ⟨pk_in v 8 hv, ?_⟩)
    refine br_c (fun g2 => H i h.1 hi h.2 (Or.inr g2)) (fun g2 => nm_r (nI_1 i) (hw () ⟨Nat.le_succ_of_le h.1, fun z h1 h2 => ?_⟩))
    by_cases q : z = i
    · rw [q]
      exact fun t => t.elim g g2
    · exact h.2 z h1 (by omega)
theorem mx_tri_of {A : Nat → Int32} (h : mx_tot A) : mx_tri A := fun v hv => Or.inr (h v hv)
theorem mx_e1 : ∀ e, e < 2 → ∀ j, j < 32 → mb_t (nI e) j = decide (e = 1 ∧ j = 0) := by decide +kernel
theorem mx_leaf {post : Int32 → St1 → Prop} {n : Nat} {w : Nat → Nat} (h : mx_OK n a1 a2 w) (ht : mx_tot a3) (H : ∀ b : Int32, mx_code b a3 → post 0 (nI n, nI (mx_L a1 w n a3), b, tl, a1, a2, a3, a4, a5, a6, a7, a8, a9)) : wpX_takeLeaf post (nI n, bl, ba, tl, a1, a2, a3, a4, a5, a6, a7, a8, a9) := by
  refine mx_lsf h (mx_tri_of ht) ?_
  refine pk_loop (fun m i s => wX_takeLeaf_15 post (nI n) (nI (mx_L a1 w n a3)) tl a1 a2 a3 a4 a5 a6 a7 a8 a9 m (nI i) s) (fun i s => ∀ v, v < 32 → mb_t s v = (decide (v < i) && decide (a3 v = nI 1))) 8 0 0 (by omega) ?_ ?_ ?_
  · intro v hv
    rw [mb_0, decide_eq_false (by omega), Bool.false_and]
  · intro m s hs
    refine pk_le 8 8 (fun _ => H s ⟨mx_nn ?_, fun v hv => ?_⟩) (fun z => absurd z (by omega))
    · rw [hs 31 (by omega), decide_eq_false (by omega), Bool.false_and]
    · rw [hs v (by omega), decide_eq_true hv, Bool.true_and]
  · intro m i s hi hs hw
    refine pk_le 8 i (fun z => absurd z (by omega)) (fun _ => ⟨pk_in i 8 hi, nm_e (nm_r (nI_1 i) (hw _ ?_))⟩)
    intro v hv
    obtain ⟨e, he, g⟩ := ht i hi
    rw [nI_clamp (by omega), g, mb_or, hs v hv, mb_shl i (by omega) _ hv, mx_e1 e he _ (by omega)]
    by_cases q : v < i
    · rw [decide_eq_true q, decide_eq_true (show v < i + 1 by omega), decide_eq_false (show ¬ i ≤ v by omega)]
      simp
    · by_cases q2 : v = i
      · rw [q2, g]
        have t : (e = 1 ∧ i - i = 0) ↔ nI e = nI 1 := by
          rw [nI_eq (by omega) (by omega)]
          omega
        rw [mx_dd t]
        simp
      · rw [decide_eq_false q, decide_eq_false (show ¬ v < i + 1 by omega), decide_eq_false (show ¬ (e = 1 ∧ v - i = 0) by omega)]
        simp
theorem mx_vars {post : Int32 → Prop} {k : Nat} (hk : k < 24) (H : ∀ r, (∀ l, l < 16 → mb_t (a1 k) l = true → mb_t r (l / 2) = true) → post r) : wpX_variablesOf post (cl, bl, ba, tl, a1, a2, a3, a4, a5, a6, a7, a8, a9) (nI k) := by
  refine pk_loop (fun m i s => wX_variablesOf_4 post (nI k) cl bl ba tl a1 a2 a3 a4 a5 a6 a7 a8 a9 m s (nI i)) (fun i s => ∀ l, l < 2 * i → mb_t (a1 k) l = true → mb_t s (l / 2) = true) 8 0 0 (by omega) (fun l hl => absurd hl (by omega)) ?_ ?_
  · intro m s h
    exact pk_le 8 8 (fun _ => H s h) (fun z => absurd z (by omega))
  · intro m i s hi h hw
    refine pk_le 8 i (fun z => absurd z (by omega)) (fun _ => ⟨pk_in k 24 hk, ?_⟩)
    rw [nI_clamp (show k < 2 ^ 31 by omega), mx_2v]
    refine ek_if mx_a3 (fun z => nm_e (nm_r (nI_1 i) (hw _ ?_))) (fun z => nm_e (nm_r (nI_1 i) (hw _ ?_)))
    · rw [mb_ushr _ (by omega), mb_ushr _ (by omega)] at z
      intro l hl hb
      rw [mb_or]
      by_cases q : l < 2 * i
      · rw [h l q hb, Bool.true_or]
      · have q' : l = 2 * i + 0 ∨ l = 2 * i + 1 := by omega
        rcases q' with q' | q'
        · rw [q', z.1] at hb
          exact absurd hb (by decide)
        · rw [q', z.2] at hb
          exact absurd hb (by decide)
    · intro l hl hb
      rw [mb_or, mx_sh1 i (by omega) _ (by omega)]
      by_cases q : l < 2 * i
      · rw [h l q hb, Bool.true_or]
      · rw [decide_eq_true (show l / 2 = i by omega), Bool.or_true]
end
end
section
section
variable {cl bl ba tl : Int32} {a1 a2 a3 a4 a5 a6 a7 a8 a9 : Nat → Int32}
/-! step: one literal that follows -/
theorem mx_step {post : Int32 → St1 → Prop} {k T : Nat} {op : Int32} (hT : ∀ v, v < 8 → a5 v = -1 → T < 8) (ht : mx_tri a5)
    (H0 : post 0 (cl, bl, ba, nI T, a1, a2, a3, a4, a5, a6, a7, a8, a9))
    (H1 : ∀ v e : Nat, v < 8 → e < 2 → a5 v = -1 → (∀ l, mb_t op l = true → l = 2 * v + (1 - e)) → post 1 (cl, bl, ba, nI (T + 1), a1, a2, a3, a4, upd a5 v (nI e), upd a6 v (nI k), upd a7 T (nI v), a8, a9)) :
    wpX_step post (cl, bl, ba, nI T, a1, a2, a3, a4, a5, a6, a7, a8, a9) (nI k) op := by
  refine br_c (fun hop => ?_) (fun _ => H0)
  refine pk_loop (σ := Unit) (fun n i _ => wX_step_12 post (nI k) op cl bl ba (nI T) a1 a2 a3 a4 a5 a6 a7 a8 a9 n (nI i)) (fun _ _ => True) 8 0 () (by omega) trivial ?_ ?_
  · intro n _ _
    exact pk_le 8 8 (fun _ => H0) (fun z => absurd z (by omega))
  · intro n i _ hi _ hw
    have e : (nI i).toNatClampNeg = i := nI_clamp (by omega)
    have hJ : wX_step_12 post (nI k) op cl bl ba (nI T) a1 a2 a3 a4 a5 a6 a7 a8 a9 n (nI (i + 1)) := hw () trivial
    refine pk_le 8 i (fun z => absurd z (by omega)) (fun _ => ?_)
    rw [mx_2v]
    refine ek_if mx_a3 (fun z => br_t rfl (nm_r (nI_1 i) hJ)) (fun z => br_f (by decide) ⟨pk_in i 8 hi, ?_⟩)
    rw [mb_ushr _ (by omega), mb_ushr _ (by omega)] at z
    rw [e]
    rcases ht i hi with g | ⟨e', he', g⟩
    · have hlt := hT i hi g
      refine br_f (by rw [g]; decide) ?_
      rw [mx_2v]
      refine ek_if mx_a10 (fun y => ?_) (fun y => ?_)
      · rw [mb_ushr _ (by omega)] at y
        have hb : mb_t op (2 * i + 1) = true := by
          cases q : mb_t op (2 * i + 1) with
          | true => rfl
          | false => exact absurd ⟨y, q⟩ z
        refine ⟨pk_in i 8 hi, nm_r (e' := upd a5 i (nI 0)) (congrArg (fun t => upd a5 t (nI 0)) e) ⟨pk_in i 8 hi, nm_r (e' := upd a6 i (nI k)) (congrArg (fun t => upd a6 t (nI k)) e) ⟨pk_in T 8 hlt, nm_r (e' := upd a7 T (nI i)) (congrArg (fun t => upd a7 t (nI i)) (nI_clamp (by omega))) (nm_r (nI_1 T) (H1 i 0 hi (by omega) g ?_))⟩⟩⟩
        exact fun l hl => mx_one hop hl hb
      · rw [mb_ushr _ (by omega)] at y
        have hb : mb_t op (2 * i + 0) = true := by
          cases q : mb_t op (2 * i + 0) with
          | true => rfl
          | false => exact absurd q y
        refine ⟨pk_in i 8 hi, nm_r (e' := upd a5 i (nI 1)) (congrArg (fun t => upd a5 t (nI 1)) e) ⟨pk_in i 8 hi, nm_r (e' := upd a6 i (nI k)) (congrArg (fun t => upd a6 t (nI k)) e) ⟨pk_in T 8 hlt, nm_r (e' := upd a7 T (nI i)) (congrArg (fun t => upd a7 t (nI i)) (nI_clamp (by omega))) (nm_r (nI_1 T) (H1 i 1 hi (by omega) g ?_))⟩⟩⟩
        exact fun l hl => mx_one hop hl hb
    · exact br_t (by rw [g]; exact nI_pos' (by omega)) (nm_r (nI_1 i) hJ)
/-! the trail -/
def mx_cn (f : Nat → Int32) (v : Nat) : Nat := if f v = -1 then 1 else 0
def mx_rs (a1 a3 a5 a7 : Nat → Int32) (t v k : Nat) : Prop := ∀ l, l < 16 → mb_t (a1 k) l = true → (l / 2 = v ∧ ¬ a5 v = nI (l % 2)) ∨ (a5 (l / 2) = nI (l % 2) ∧ (a3 (l / 2) = a5 (l / 2) ∨ ∃ s, s < t ∧ a7 s = nI (l / 2)))
def mx_TW (n : Nat) (a1 : Nat → Int32) (w u : Nat → Nat) (a3 : Nat → Int32) (T : Nat) (a5 a6 a7 : Nat → Int32) : Prop :=
  mx_tri a5 ∧ T + mx_sum (mx_cn a5) 8 ≤ 8 ∧ (∀ v, v < 8 → a3 v = a5 v ∨ ∃ t, t < T ∧ a7 t = nI v) ∧
  (∀ t, t < T → ∃ v k e : Nat, v < 8 ∧ k < n ∧ e < 2 ∧ a7 t = nI v ∧ a6 v = nI k ∧ a5 v = nI e ∧ (w k = 0 ∨ 0 < u k) ∧ mx_rs a1 a3 a5 a7 t v k)
theorem mx_TW_lt {n T v : Nat} {w u : Nat → Nat} (h : mx_TW n a1 w u a3 T a5 a6 a7) (hv : v < 8) (g : a5 v = -1) : T < 8 := by
  have q := mx_sum_gain (g := fun _ => 0) (h := mx_cn a5) (n := 8) (j := v) (m := 1) (fun k _ => Nat.zero_le _) hv (by
    have : mx_cn a5 v = 1 := if_pos g
    rw [this]
    exact Nat.le_refl _)
  have h2 := h.2.1
  omega
theorem mx_TW0 {n : Nat} {w u : Nat → Nat} (ht : mx_tri a3) (hs : ∀ j, j < 8 → a5 j = a3 j) : mx_TW n a1 w u a3 0 a5 a6 a7 := by
  refine ⟨fun v hv => by rw [hs v hv]; exact ht v hv, ?_, fun v hv => Or.inl (hs v hv).symm, fun t h => absurd h (by omega)⟩
  have q := mx_sum_bd (g := mx_cn a5) (n := 8) (c := 1) (fun k _ => by unfold mx_cn; split <;> omega)
  omega
theorem mx_TW_push {n T k v e : Nat} {w u : Nat → Nat} {op : Int32} (h : mx_TW n a1 w u a3 T a5 a6 a7) (hk : k < n) (hu : w k = 0 ∨ 0 < u k) (hv : v < 8) (he : e < 2) (g : a5 v = -1) (ho : mx_op (a1 k) a5 op) (h1 : ∀ l, mb_t op l = true → l = 2 * v + (1 - e)) : mx_TW n a1 w u a3 (T + 1) (upd a5 v (nI e)) (upd a6 v (nI k)) (upd a7 T (nI v)) := by
  obtain ⟨ht, hs, hcl, htr⟩ := h
  have hne : ∀ l : Nat, a5 (l / 2) = nI (l % 2) → l / 2 ≠ v := by
    intro l q z
    rw [z, g] at q
    exact mx_m1 (by omega) q
  refine ⟨fun x hx => ?_, ?_, fun x hx => ?_, fun t htt => ?_⟩
  · by_cases q : x = v
    · rw [q, pk_us]
      exact Or.inr ⟨e, he, rfl⟩
    · rw [pk_un q]
      exact ht x hx
  · have q := mx_sum_gain (g := mx_cn (upd a5 v (nI e))) (h := mx_cn a5) (n := 8) (j := v) (m := 1) (fun x hx => by
        unfold mx_cn
        by_cases q : x = v
        · rw [q, pk_us, if_neg (fun z => mx_m1 he z.symm)]
          exact Nat.zero_le _
        · rw [pk_un q]
          exact Nat.le_refl _) hv (by
        unfold mx_cn
        rw [pk_us, if_neg (fun z => mx_m1 he z.symm), if_pos g]
        exact Nat.le_refl _)
    omega
  · by_cases q : x = v
    · exact Or.inr ⟨T, Nat.lt_succ_self T, by rw [pk_us, q]⟩
    · rw [pk_un q]
      rcases hcl x hx with z | ⟨t, z1, z2⟩
      · exact Or.inl z
      · exact Or.inr ⟨t, by omega, by rw [pk_un (by omega)]; exact z2⟩
  · by_cases q : t = T
    · refine ⟨v, k, e, hv, hk, he, by rw [q, pk_us], pk_us, pk_us, hu, fun l hl hb => ?_⟩
      by_cases z : a5 (l / 2) = nI (l % 2)
      · have nv := hne l z
        refine Or.inr ⟨by rw [pk_un nv]; exact z, ?_⟩
        rw [pk_un nv]
        rcases hcl (l / 2) (by omega) with y | ⟨s, y1, y2⟩
        · exact Or.inl y
        · exact Or.inr ⟨s, by omega, by rw [pk_un (by omega)]; exact y2⟩
      · have b : mb_t op l = true := by
          rw [ho l (by omega), hb, decide_eq_false z]
          rfl
        have el := h1 l b
        refine Or.inl ⟨by omega, ?_⟩
        rw [pk_us, nI_eq (by omega) (by omega)]
        omega
    · obtain ⟨x, j, d, hx, hj, hd, e1, e2, e3, e4, e5⟩ := htr t (by omega)
      have nx : x ≠ v := by
        intro z
        rw [z, g] at e3
        exact mx_m1 hd e3
      refine ⟨x, j, d, hx, hj, hd, by rw [pk_un q]; exact e1, by rw [pk_un nx]; exact e2, by rw [pk_un nx]; exact e3, e4, fun l hl hb => ?_⟩
      rcases e5 l hl hb with ⟨y1, y2⟩ | ⟨y1, y2⟩
      · exact Or.inl ⟨y1, by rw [pk_un nx]; exact y2⟩
      · have nv := hne l y1
        refine Or.inr ⟨by rw [pk_un nv]; exact y1, ?_⟩
        rw [pk_un nv]
        rcases y2 with y2 | ⟨s, s1, s2⟩
        · exact Or.inl y2
        · exact Or.inr ⟨s, s1, by rw [pk_un (by omega)]; exact s2⟩
/-! unitSteps -/
theorem mx_us82 {post : Int32 → St1 → Prop} {J42 J56 : Int32 → Int32 → Int32 → Int32 → Int32 → Int32 → (Nat → Int32) → (Nat → Int32) → (Nat → Int32) → (Nat → Int32) → (Nat → Int32) → (Nat → Int32) → (Nat → Int32) → (Nat → Int32) → (Nat → Int32) → Prop} {x1 x2 : Int32} {n k T : Nat} {w u : Nat → Nat} (h : mx_OK n a1 a2 w) (hk : k < n) (hu : w k = 0 ∨ 0 < u k) (hT : mx_TW n a1 w u a3 T a5 a6 a7)
    (HC : mx_d (a1 k) a5 = true → post (nI k) (nI n, bl, ba, nI T, a1, a2, a3, a4, a5, a6, a7, a8, a9))
    (HJ : ∀ (y : Int32) (S : Nat) (b5 b6 b7 : Nat → Int32), mx_TW n a1 w u a3 S b5 b6 b7 → J56 y (nI (k + 1)) (nI n) bl ba (nI S) a1 a2 a3 a4 b5 b6 b7 a8 a9) :
    wX_unitSteps_82 post J42 J56 x1 x2 (nI k) (nI n) bl ba (nI T) a1 a2 a3 a4 a5 a6 a7 a8 a9 := by
  have hn := h.1
  refine mx_open2 (by omega) (h.2.2 k hk) hT.1 (fun r hr => ?_)
  refine br_c (fun z => HC ((mx_op0 (h.2.2 k hk) hr).mp z)) (fun z => ?_)
  refine mx_step (fun v hv g => mx_TW_lt hT hv g) hT.1 ?_ (fun v e hv he g h1 => ?_)
  · exact br_t rfl (br_c (fun _ => nm_r (nI_1 k) (HJ _ T a5 a6 a7 hT)) (fun _ => nm_r (nI_1 k) (HJ _ T a5 a6 a7 hT)))
  · exact br_f (by decide) (nm_r (nI_1 k) (HJ _ _ _ _ _ (mx_TW_push hT hk hu hv he g hr h1)))
theorem mx_us56 {post : Int32 → St1 → Prop} {J42 : Int32 → Int32 → Int32 → Int32 → Int32 → Int32 → (Nat → Int32) → (Nat → Int32) → (Nat → Int32) → (Nat → Int32) → (Nat → Int32) → (Nat → Int32) → (Nat → Int32) → (Nat → Int32) → (Nat → Int32) → Prop} {x2 : Int32} {n : Nat} {w u : Nat → Nat} (h : mx_OK n a1 a2 w) (h8 : ∀ j, j < n → a8 j = nI (u j) ∧ u j ≤ 50)
    (HC : ∀ (k T : Nat) (b5 b6 b7 : Nat → Int32), k < n → (w k = 0 ∨ 0 < u k) → mx_TW n a1 w u a3 T b5 b6 b7 → mx_d (a1 k) b5 = true → post (nI k) (nI n, bl, ba, nI T, a1, a2, a3, a4, b5, b6, b7, a8, a9))
    (HJ : ∀ (y : Int32) (T : Nat) (b5 b6 b7 : Nat → Int32), mx_TW n a1 w u a3 T b5 b6 b7 → J42 y (x2 + 1) (nI n) bl ba (nI T) a1 a2 a3 a4 b5 b6 b7 a8 a9) :
    ∀ (m i : Nat), i + m = n → ∀ (x1 : Int32) (T : Nat) (b5 b6 b7 : Nat → Int32), mx_TW n a1 w u a3 T b5 b6 b7 → wX_unitSteps_56 post J42 x2 (m + 1) x1 (nI i) (nI n) bl ba (nI T) a1 a2 a3 a4 b5 b6 b7 a8 a9 := by
  have hn := h.1
  intro m
  induction m with
  | zero =>
    intro i hi x1 T b5 b6 b7 hT
    exact pk_le n i (fun _ => nm_e (HJ x1 T b5 b6 b7 hT)) (fun z => absurd z (by omega))
  | succ m ih =>
    intro i hi x1 T b5 b6 b7 hT
    have hin : i < n := by omega
    have e : (nI i).toNatClampNeg = i := nI_clamp (by omega)
    have hwi := h.2.1 i hin
    have hwb := hwi.2
    have hui := h8 i hin
    have hub := hui.2
    have K : (w i = 0 ∨ 0 < u i) → wX_unitSteps_82 post J42 (wX_unitSteps_56 post J42 x2 (m + 1)) x1 x2 (nI i) (nI n) bl ba (nI T) a1 a2 a3 a4 b5 b6 b7 a8 a9 := fun hu => mx_us82 h hin hu hT (fun z => HC i T b5 b6 b7 hin hu hT z) (fun y S c5 c6 c7 hS => ih (i + 1) (by omega) y S c5 c6 c7 hS)
    refine pk_le n i (fun z => absurd z (by omega)) (fun _ => ⟨pk_in i 24 (by omega), ?_⟩)
    rw [e, hwi.1]
    refine pk_eq (w i) 0 (fun z => K (Or.inl z)) (fun z => ⟨pk_in i 24 (by omega), ?_⟩)
    rw [hui.1]
    exact pk_le (u i) 0 (fun y => nm_r (nI_1 i) (ih (i + 1) (by omega) x1 T b5 b6 b7 hT)) (fun y => K (Or.inr y))
theorem mx_us42 {post : Int32 → St1 → Prop} {n : Nat} {w u : Nat → Nat} (h : mx_OK n a1 a2 w) (h8 : ∀ j, j < n → a8 j = nI (u j) ∧ u j ≤ 50)
    (HC : ∀ (k T : Nat) (b5 b6 b7 : Nat → Int32), k < n → (w k = 0 ∨ 0 < u k) → mx_TW n a1 w u a3 T b5 b6 b7 → mx_d (a1 k) b5 = true → post (nI k) (nI n, bl, ba, nI T, a1, a2, a3, a4, b5, b6, b7, a8, a9))
    (HN : ∀ (T : Nat) (b5 b6 b7 : Nat → Int32), post (-1) (nI n, bl, ba, nI T, a1, a2, a3, a4, b5, b6, b7, a8, a9)) :
    ∀ (m r : Nat), r + m = 9 → ∀ (x1 : Int32) (T : Nat) (b5 b6 b7 : Nat → Int32), mx_TW n a1 w u a3 T b5 b6 b7 → wX_unitSteps_42 post (m + 1) x1 (nI r) (nI n) bl ba (nI T) a1 a2 a3 a4 b5 b6 b7 a8 a9 := by
  intro m
  induction m with
  | zero =>
    intro r hr x1 T b5 b6 b7 hT
    exact pk_le 9 r (fun _ => HN T b5 b6 b7) (fun z => absurd z (by omega))
  | succ m ih =>
    intro r hr x1 T b5 b6 b7 hT
    refine pk_le 9 r (fun z => absurd z (by omega)) (fun _ => br_c (fun _ => HN T b5 b6 b7) (fun _ => ⟨n + 1, ?_⟩))
    exact mx_us56 h h8 HC (fun y S c5 c6 c7 hS => by rw [nI_1]; exact ih (r + 1) (by omega) y S c5 c6 c7 hS) n 0 (Nat.zero_add n) 0 T b5 b6 b7 hT
theorem mx_us {post : Int32 → St1 → Prop} {n : Nat} {w u : Nat → Nat} (h : mx_OK n a1 a2 w) (h8 : ∀ j, j < n → a8 j = nI (u j) ∧ u j ≤ 50) (ht : mx_tri a3)
    (HC : ∀ (k T : Nat) (b5 b6 b7 : Nat → Int32), k < n → (w k = 0 ∨ 0 < u k) → mx_TW n a1 w u a3 T b5 b6 b7 → mx_d (a1 k) b5 = true → post (nI k) (nI n, bl, ba, nI T, a1, a2, a3, a4, b5, b6, b7, a8, a9))
    (HN : ∀ (T : Nat) (b5 b6 b7 : Nat → Int32), post (-1) (nI n, bl, ba, nI T, a1, a2, a3, a4, b5, b6, b7, a8, a9)) :
    wpX_unitSteps post (nI n, bl, ba, tl, a1, a2, a3, a4, a5, a6, a7, a8, a9) := by
  refine pk_loop (σ := (Nat → Int32) × (Nat → Int32)) (fun m i s => wX_unitSteps_2 post (nI n) bl ba tl m (nI i) a1 a2 a3 a4 s.1 s.2 a7 a8 a9) (fun i s => ∀ j, j < i → s.1 j = a3 j) 8 0 (a5, a6) (by omega) (fun j hj => absurd hj (by omega)) ?_ ?_
  · intro m s hs
    refine pk_le 8 8 (fun _ => ⟨10, ?_⟩) (fun z => absurd z (by omega))
    exact mx_us42 h h8 HC HN 9 0 (by omega) 1 0 s.1 s.2 a7 (mx_TW0 ht hs)
  · intro m i s hi hs hw
    refine pk_le 8 i (fun z => absurd z (by omega)) (fun _ => ⟨pk_in i 8 hi, pk_in i 8 hi, nm_e ⟨pk_in i 8 hi, nm_e (nm_r (nI_1 i) (hw (upd s.1 (nI i).toNatClampNeg (a3 (nI i).toNatClampNeg), upd s.2 (nI i).toNatClampNeg (-1)) ?_))⟩⟩)
    exact mx_fill (nI_clamp (by omega)) hs (by rw [nI_clamp (by omega)])
end
end
section
section
variable {cl bl ba tl : Int32} {a1 a2 a3 a4 a5 a6 a7 a8 a9 : Nat → Int32}
/-! the core: no total A over the values keeps every involved clause alive, if it agrees with what follows on the needed variables of the trail below s -/
def mx_core (n : Nat) (a1 a3 a5 a7 : Nat → Int32) (s : Nat) (N : Int32) (a9 : Nat → Int32) : Prop :=
  ∀ A : Nat → Int32, mx_tot A → mx_ext a3 A → (∀ j, j < n → ¬ a9 j = 0 → mx_d (a1 j) A = false) → (∀ t v : Nat, t < s → v < 8 → a7 t = nI v → mb_t N v = true → A v = a5 v) → False
theorem mx_same {A : Nat → Int32} {v e : Nat} (hv : v < 8) (he : mx_ext a3 A) (h2 : e < 2) (z : a3 v = a5 v) (q : a5 v = nI e) : A v = a5 v := by
  rcases he v hv with y | y
  · rw [z, q] at y
    exact absurd y.symm (mx_m1 h2)
  · rw [← y, z]
theorem mx_core0 {n k T : Nat} {w u : Nat → Nat} {N : Int32} (hT : mx_TW n a1 w u a3 T a5 a6 a7) (hk : k < n) (hd : mx_d (a1 k) a5 = true) (hN : ∀ l, l < 16 → mb_t (a1 k) l = true → mb_t N (l / 2) = true) (h9 : ¬ a9 k = 0) : mx_core n a1 a3 a5 a7 T N a9 := by
  intro A hA he hal hag
  obtain ⟨l, hl, hb, hne⟩ := mx_d_not (hal k hk h9)
  have hf := mx_d_iff.mp hd l hl hb
  apply hne
  rw [← hf]
  rcases hT.2.2.1 (l / 2) (by omega) with z | ⟨t, t1, t2⟩
  · exact mx_same (by omega) he (Nat.mod_lt _ (by omega)) z hf
  · exact hag t (l / 2) t1 (by omega) t2 (hN l hl hb)
theorem mx_core_skip {n s v : Nat} {N : Int32} (h : mx_core n a1 a3 a5 a7 (s + 1) N a9) (hv : v < 8) (e : a7 s = nI v) (hb : mb_t N v = false) : mx_core n a1 a3 a5 a7 s N a9 := by
  intro A hA he hal hag
  refine h A hA he hal (fun t x ht hx ex hx2 => ?_)
  by_cases q : t = s
  · rw [q, e, nI_eq (by omega) (by omega)] at ex
    rw [← ex, hb] at hx2
    exact absurd hx2 (by decide)
  · exact hag t x (by omega) hx ex hx2
theorem mx_core_take {n s v k e : Nat} {N r : Int32} (h : mx_core n a1 a3 a5 a7 (s + 1) N a9) (hv : v < 8) (hk : k < n) (he2 : e < 2) (e1 : a7 s = nI v) (e5 : a5 v = nI e) (hrs : mx_rs a1 a3 a5 a7 s v k) (hN : ∀ l, l < 16 → mb_t (a1 k) l = true → mb_t r (l / 2) = true) : mx_core n a1 a3 a5 a7 s (N ||| r) (upd a9 k 1) := by
  intro A hA he hal hag
  obtain ⟨l, hl, hb, hne⟩ := mx_d_not (hal k hk (by rw [pk_us]; decide))
  have hAv : A v = a5 v := by
    rcases hrs l hl hb with ⟨y1, y2⟩ | ⟨y1, y2⟩
    · rw [y1] at hne
      obtain ⟨a, ha, ea⟩ := hA v hv
      rw [ea, nI_eq (by omega) (by omega)] at hne
      rw [e5, nI_eq (by omega) (by omega)] at y2
      rw [ea, e5, show a = e by omega]
    · exfalso
      apply hne
      rw [← y1]
      rcases y2 with z | ⟨t, t1, t2⟩
      · exact mx_same (by omega) he (Nat.mod_lt _ (by omega)) z y1
      · exact hag t (l / 2) t1 (by omega) t2 (by rw [mb_or, hN l hl hb, Bool.or_true])
  refine h A hA he (fun j hj h9 => hal j hj ?_) (fun t x ht hx ex hx2 => ?_)
  · by_cases q : j = k
    · rw [q, pk_us]
      decide
    · rw [pk_un q]
      exact h9
  · by_cases q : t = s
    · rw [q, e1, nI_eq (by omega) (by omega)] at ex
      rw [← ex]
      exact hAv
    · exact hag t x (by omega) hx ex (by rw [mb_or, hx2, Bool.true_or])
/-! the last loop: what is booked goes off -/
def mx_up (a9 : Nat → Int32) (w u : Nat → Nat) (m j : Nat) : Nat := if ¬ a9 j = 0 ∧ 0 < w j then u j - m else u j
theorem mx_b181 {post : Int32 → St1 → Prop} {n m : Nat} {w u : Nat → Nat} (h : mx_OK n a1 a2 w) (h8 : ∀ j, j < n → a8 j = nI (u j) ∧ u j ≤ 50) (hm : ∀ j, j < n → ¬ a9 j = 0 → 0 < w j → m ≤ u j)
    (H : ∀ b8 : Nat → Int32, (∀ j, j < n → b8 j = nI (mx_up a9 w u m j)) → post (nI m) (nI n, bl, ba, tl, a1, a2, a3, a4, a5, a6, a7, b8, a9)) :
    ∃ f, wX_book_181 post (nI m) (nI n) bl ba tl f 0 a1 a2 a3 a4 a5 a6 a7 a8 a9 := by
  have hn := h.1
  refine pk_loop (fun f i s => wX_book_181 post (nI m) (nI n) bl ba tl f (nI i) a1 a2 a3 a4 a5 a6 a7 s a9) (fun i s => ∀ j, j < n → s j = nI (if j < i then mx_up a9 w u m j else u j)) n 0 a8 (Nat.zero_le _) ?_ ?_ ?_
  · intro j hj
    rw [if_neg (by omega)]
    exact (h8 j hj).1
  · intro f s hs
    exact pk_le n n (fun _ => H s (fun j hj => by rw [hs j hj, if_pos hj])) (fun z => absurd z (by omega))
  · intro f i s hi hs hw
    have e : (nI i).toNatClampNeg = i := nI_clamp (by omega)
    have hsi : s i = nI (u i) := by rw [hs i hi, if_neg (by omega)]
    have F : ∀ x : Int32, x = nI (mx_up a9 w u m i) → ∀ j, j < n → upd s i x j = nI (if j < i + 1 then mx_up a9 w u m j else u j) := by
      intro x hx j hj
      by_cases q : j = i
      · rw [q, pk_us, hx, if_pos (by omega)]
      · rw [pk_un q, hs j hj]
        by_cases q2 : j < i
        · rw [if_pos q2, if_pos (by omega)]
        · rw [if_neg q2, if_neg (by omega)]
    have hwi := h.2.1 i hi
    have hwb := hwi.2
    refine pk_le n i (fun z => absurd z (by omega)) (fun _ => ⟨pk_in i 24 (by omega), pk_in i 24 (by omega), ?_⟩)
    rw [e]
    refine br_c (fun z => ⟨pk_in i 24 (by omega), nm_e (nm_r (nI_1 i) (hw _ (F _ ?_)))⟩) (fun z => ⟨pk_in i 24 (by omega), ?_⟩)
    · rw [hsi, show mx_up a9 w u m i = u i from if_neg (fun y => y.1 z)]
      exact pk_sub (Nat.zero_le _)
    · rw [hwi.1]
      refine pk_le (w i) 0 (fun y => ⟨pk_in i 24 (by omega), nm_e (nm_r (nI_1 i) (hw _ (F _ ?_)))⟩) (fun y => ⟨pk_in i 24 (by omega), nm_e (nm_r (nI_1 i) (hw _ (F _ ?_)))⟩)
      · rw [hsi, show mx_up a9 w u m i = u i from if_neg (fun q => absurd q.2 (by omega))]
        exact pk_sub (Nat.zero_le _)
      · rw [hsi, show mx_up a9 w u m i = u i - m from if_pos ⟨z, y⟩]
        exact pk_sub (hm i hi z y)
/-! the least -/
theorem mx_b104 {post : Int32 → St1 → Prop} {n : Nat} {w u : Nat → Nat} (h : mx_OK n a1 a2 w) (h8 : ∀ j, j < n → a8 j = nI (u j) ∧ u j ≤ 50) (hp : ∀ j, j < n → ¬ a9 j = 0 → 0 < w j → 0 < u j)
    (H : ∀ m : Nat, m ≤ 50 → (∀ j, j < n → ¬ a9 j = 0 → 0 < w j → 0 < m ∧ m ≤ u j) → ∃ f, wX_book_181 post (nI m) (nI n) bl ba tl f 0 a1 a2 a3 a4 a5 a6 a7 a8 a9) :
    ∃ f, wX_book_104 post (nI n) bl ba tl a1 a2 a3 a4 a5 a6 a7 a8 a9 f 0 0 := by
  have hn := h.1
  refine pk_loop (σ := Nat) (fun f i m => wX_book_104 post (nI n) bl ba tl a1 a2 a3 a4 a5 a6 a7 a8 a9 f (nI m) (nI i)) (fun i m => m ≤ 50 ∧ ∀ j, j < i → ¬ a9 j = 0 → 0 < w j → 0 < m ∧ m ≤ u j) n 0 0 (Nat.zero_le _) ⟨Nat.zero_le _, fun j hj => absurd hj (by omega)⟩ ?_ ?_
  · intro f m hs
    exact pk_le n n (fun _ => H m hs.1 hs.2) (fun z => absurd z (by omega))
  · intro f i m hi hs hw
    have hm := hs.1
    have e : (nI i).toNatClampNeg = i := nI_clamp (by omega)
    have hwi := h.2.1 i hi
    have hwb := hwi.2
    have hui := h8 i hi
    have hub := hui.2
    have K0 : ¬ (¬ a9 i = 0 ∧ 0 < w i) → wX_book_138 post (wX_book_104 post (nI n) bl ba tl a1 a2 a3 a4 a5 a6 a7 a8 a9 f) (nI m) (nI i) 0 (nI n) bl ba tl a1 a2 a3 a4 a5 a6 a7 a8 a9 := by
      intro hq
      refine br_t rfl (nm_r (nI_1 i) (hw m ⟨hm, fun j hj h9 hwj => ?_⟩))
      by_cases q : j = i
      · rw [q] at h9 hwj
        exact absurd ⟨h9, hwj⟩ hq
      · exact hs.2 j (by omega) h9 hwj
    have K1 : ¬ a9 i = 0 → 0 < w i → (∀ j, j < i → ¬ a9 j = 0 → 0 < w j → u i ≤ u j) → wX_book_160 post (wX_book_104 post (nI n) bl ba tl a1 a2 a3 a4 a5 a6 a7 a8 a9 f) (nI i) (nI n) bl ba tl a1 a2 a3 a4 a5 a6 a7 a8 a9 := by
      intro h9 hw0 hall
      refine ⟨pk_in i 24 (by omega), nm_r (e' := nI (u i)) (by rw [e]; exact hui.1) (nm_r (nI_1 i) (hw (u i) ⟨hub, fun j hj h9j hwj => ?_⟩))⟩
      by_cases q : j = i
      · rw [q]
        exact ⟨hp i hi h9 hw0, Nat.le_refl _⟩
      · exact ⟨hp i hi h9 hw0, hall j (by omega) h9j hwj⟩
    refine pk_le n i (fun z => absurd z (by omega)) (fun _ => ⟨pk_in i 24 (by omega), ?_⟩)
    rw [e]
    refine br_c (fun z => K0 (fun y => y.1 z)) (fun z => ⟨pk_in i 24 (by omega), ?_⟩)
    rw [hwi.1]
    refine pk_le (w i) 0 (fun y => K0 (fun q => absurd q.2 (by omega))) (fun y => ?_)
    refine br_f (by decide) (pk_eq m 0 (fun q => K1 z y (fun j hj h9 hwj => absurd (hs.2 j hj h9 hwj).1 (by omega))) (fun q => ⟨pk_in i 24 (by omega), ?_⟩))
    rw [e, hui.1]
    refine pk_le m (u i) (fun q2 => nm_r (nI_1 i) (hw m ⟨hm, fun j hj h9 hwj => ?_⟩)) (fun q2 => K1 z y (fun j hj h9 hwj => ?_))
    · by_cases q3 : j = i
      · rw [q3]
        exact ⟨by omega, q2⟩
      · exact hs.2 j (by omega) h9 hwj
    · have := (hs.2 j hj h9 hwj).2
      omega
/-! back over the trail -/
theorem mx_b45 {post : Int32 → St1 → Prop} {n T : Nat} {w u : Nat → Nat} (h : mx_OK n a1 a2 w) (hT : mx_TW n a1 w u a3 T a5 a6 a7)
    (H : ∀ b9 : Nat → Int32, (∀ j, j < n → ¬ b9 j = 0 → w j = 0 ∨ 0 < u j) → (∀ A : Nat → Int32, mx_tot A → mx_ext a3 A → ¬ ∀ j, j < n → ¬ b9 j = 0 → mx_d (a1 j) A = false) → ∃ f, wX_book_104 post (nI n) bl ba (nI T) a1 a2 a3 a4 a5 a6 a7 a8 b9 f 0 0) :
    ∀ s : Nat, s ≤ T → ∀ (N : Int32) (b9 : Nat → Int32), (∀ j, j < n → ¬ b9 j = 0 → w j = 0 ∨ 0 < u j) → mx_core n a1 a3 a5 a7 s N b9 → wX_book_45 post (nI n) bl ba (nI T) (s + 1) N (nI s + (-1)) a1 a2 a3 a4 a5 a6 a7 a8 b9 := by
  have hn := h.1
  have hT8 := hT.2.1
  intro s
  induction s with
  | zero =>
    intro hs N b9 hi hc
    exact br_t (by decide) (H b9 hi (fun A hA he hal => hc A hA he hal (fun t v ht => absurd ht (by omega))))
  | succ s ih =>
    intro hs N b9 hi hc
    obtain ⟨v, k, e, hv, hk, he, e1, e2, e3, e4, e5⟩ := hT.2.2.2 s (by omega)
    rw [pk_m1]
    refine br_f (nI_pos (by omega)) ⟨pk_in s 8 (by omega), ?_⟩
    rw [nI_clamp (show s < 2 ^ 31 by omega)]
    refine nm_r (e' := nI v) e1 ?_
    refine ek_if mx_a10 (fun z => nm_e (ih (by omega) N b9 hi (mx_core_skip hc hv e1 ?_))) (fun z => ⟨pk_in v 8 hv, ?_⟩)
    · rw [mb_ushr _ (by omega)] at z
      exact z
    · rw [nI_clamp (show v < 2 ^ 31 by omega), e2, nI_clamp (show k < 2 ^ 31 by omega)]
      refine ⟨pk_in k 24 (by omega), nm_e ⟨pk_in v 8 hv, mx_vars (by omega) (fun r hr => nm_e (nm_e (ih (by omega) (N ||| r) (upd b9 k 1) (fun j hj h9 => ?_) (mx_core_take hc hv hk he e1 e3 e5 hr))))⟩⟩
      by_cases q : j = k
      · rw [q]
        exact e4
      · rw [pk_un q] at h9
        exact hi j hj h9
/-! book -/
theorem mx_book {post : Int32 → St1 → Prop} {n k T : Nat} {w u : Nat → Nat} (h : mx_OK n a1 a2 w) (hT : mx_TW n a1 w u a3 T a5 a6 a7) (h8 : ∀ j, j < n → a8 j = nI (u j) ∧ u j ≤ 50) (hk : k < n) (hu : w k = 0 ∨ 0 < u k) (hd : mx_d (a1 k) a5 = true)
    (H : ∀ (m : Nat) (u2 : Nat → Nat) (b8 b9 : Nat → Int32), m ≤ 50 → (∀ j, j < n → b8 j = nI (u2 j) ∧ u2 j ≤ 50) → (∀ A : Nat → Int32, mx_tot A → mx_ext a3 A → mx_H a1 w n A → mx_sum (mx_g a1 u2 A) n + m ≤ mx_sum (mx_g a1 u A) n ∧ 0 < m) → post (nI m) (nI n, bl, ba, nI T, a1, a2, a3, a4, a5, a6, a7, b8, b9)) :
    wpX_book post (nI n, bl, ba, nI T, a1, a2, a3, a4, a5, a6, a7, a8, a9) (nI k) := by
  have hn := h.1
  refine pk_loop (fun f i s => wX_book_2 post (nI k) (nI n) bl ba (nI T) f (nI i) a1 a2 a3 a4 a5 a6 a7 a8 s) (fun i s => ∀ j, j < i → s j = if j = k then 1 else 0) n 0 a9 (Nat.zero_le _) (fun j hj => absurd hj (by omega)) ?_ ?_
  · intro f s hs
    refine pk_le n n (fun _ => mx_vars (by omega) (fun r hr => nm_r (e' := nI T + (-1)) (Int32.sub_eq_add_neg _ _) ⟨T + 1, ?_⟩)) (fun z => absurd z (by omega))
    refine mx_b45 h hT ?_ T (Nat.le_refl _) r s (fun j hj h9 => ?_) (mx_core0 hT hk hd hr ?_)
    · intro b9 hi hc
      refine mx_b104 h h8 (fun j hj h9 hwj => (hi j hj h9).resolve_left (by omega)) (fun m hm hsel => mx_b181 h h8 (fun j hj h9 hwj => (hsel j hj h9 hwj).2) (fun b8 hb8 => H m (mx_up b9 w u m) b8 b9 hm (fun j hj => ⟨hb8 j hj, ?_⟩) (fun A hA he hH => ?_)))
      · have := (h8 j hj).2
        unfold mx_up
        split <;> omega
      · have hx : ∃ j, j < n ∧ ¬ b9 j = 0 ∧ mx_d (a1 j) A = true := by
          apply Classical.byContradiction
          intro q
          refine hc A hA he (fun j hj h9 => ?_)
          cases z : mx_d (a1 j) A with
          | false => rfl
          | true => exact absurd ⟨j, hj, h9, z⟩ q
        obtain ⟨j, hj, h9, hdj⟩ := hx
        have hw0 : 0 < w j := by
          rcases Nat.eq_zero_or_pos (w j) with z | z
          · rw [hH j hj z] at hdj
            exact absurd hdj (by decide)
          · exact z
        have hsj := hsel j hj h9 hw0
        refine ⟨mx_sum_gain (fun i hi2 => ?_) hj ?_, hsj.1⟩
        · unfold mx_g mx_up
          split
          · split <;> omega
          · exact Nat.le_refl _
        · unfold mx_g mx_up
          rw [if_pos hdj, if_pos hdj, if_pos ⟨h9, hw0⟩]
          omega
    · rw [hs j hj] at h9
      by_cases q : j = k
      · rw [q]
        exact hu
      · rw [if_neg q] at h9
        exact absurd rfl h9
    · rw [hs k hk, if_pos rfl]
      decide
  · intro f i s hi hs hw
    have e : (nI i).toNatClampNeg = i := nI_clamp (by omega)
    refine pk_le n i (fun z => absurd z (by omega)) (fun _ => pk_eq i k (fun z => ⟨pk_in i 24 (by omega), nm_e (nm_r (nI_1 i) (hw _ ?_))⟩) (fun z => ⟨pk_in i 24 (by omega), nm_e (nm_r (nI_1 i) (hw _ ?_))⟩))
    · exact mx_fill (f := fun j => if j = k then 1 else 0) e hs (by rw [if_pos z])
    · exact mx_fill (f := fun j => if j = k then 1 else 0) e hs (by rw [if_neg z])
end
end
section
section
variable {cl bl ba tl : Int32} {a1 a2 a3 a4 a5 a6 a7 a8 a9 : Nat → Int32}
def mx_u0 (a1 : Nat → Int32) (w : Nat → Nat) (a3 : Nat → Int32) (j : Nat) : Nat := if mx_d (a1 j) a3 = true then 0 else w j
theorem mx_w93 {post : Int32 → St1 → Prop} {n b : Nat} {w : Nat → Nat} (h : mx_OK n a1 a2 w) (ht : mx_tri a3) (hb : b ≤ 2000)
    (H0 : ∀ (x : Int32) (b5 b6 b7 b8 b9 : Nat → Int32), (∀ A : Nat → Int32, mx_tot A → mx_ext a3 A → mx_H a1 w n A → b ≤ mx_L a1 w n A) → post 0 (nI n, nI b, ba, x, a1, a2, a3, a4, b5, b6, b7, b8, b9))
    (H1 : ∀ (x : Int32) (b5 b6 b7 b8 b9 : Nat → Int32), mx_L a1 w n a3 < b → post 1 (nI n, nI b, ba, x, a1, a2, a3, a4, b5, b6, b7, b8, b9)) :
    ∀ m r : Nat, r + m = 25 → ∀ (t : Nat) (u : Nat → Nat) (x : Int32) (b5 b6 b7 b8 b9 : Nat → Int32), t < 2100 → (∀ j, j < n → b8 j = nI (u j) ∧ u j ≤ 50) → mx_L a1 w n a3 ≤ t →
      (∀ A : Nat → Int32, mx_tot A → mx_ext a3 A → mx_H a1 w n A → t + mx_sum (mx_g a1 u A) n ≤ mx_L a1 w n A) →
      wX_worthwhile_93 post (m + 1) (nI t) (nI r) (nI n) (nI b) ba x a1 a2 a3 a4 b5 b6 b7 b8 b9 := by
  have hn := h.1
  intro m
  induction m with
  | zero =>
    intro r hr t u x b5 b6 b7 b8 b9 ht2 h8 hL hB
    have K : wX_worthwhile_143 post (nI t) (nI n) (nI b) ba x a1 a2 a3 a4 b5 b6 b7 b8 b9 := pk_le b t (fun z => H0 x b5 b6 b7 b8 b9 (fun A hA he hH => by have := hB A hA he hH; omega)) (fun z => H1 x b5 b6 b7 b8 b9 (by omega))
    exact pk_le 25 r (fun _ => K) (fun z => absurd z (by omega))
  | succ m ih =>
    intro r hr t u x b5 b6 b7 b8 b9 ht2 h8 hL hB
    have K : wX_worthwhile_143 post (nI t) (nI n) (nI b) ba x a1 a2 a3 a4 b5 b6 b7 b8 b9 := pk_le b t (fun z => H0 x b5 b6 b7 b8 b9 (fun A hA he hH => by have := hB A hA he hH; omega)) (fun z => H1 x b5 b6 b7 b8 b9 (by omega))
    refine pk_le 25 r (fun z => absurd z (by omega)) (fun _ => pk_le b t (fun _ => K) (fun z => mx_us h h8 ht ?_ ?_))
    · intro k T c5 c6 c7 hk hu hT hd
      refine br_t (nI_pos' (by omega)) (mx_book h hT h8 hk hu hd (fun q u2 c8 c9 hq h82 hg => ?_))
      refine pk_eq q 0 (fun z0 => H0 _ _ _ _ _ _ (fun A hA he hH => absurd (hg A hA he hH).2 (by omega))) (fun z0 => nm_r (nI_add t q) (nm_r (nI_1 r) (ih (r + 1) (by omega) (t + q) u2 _ _ _ _ _ _ (by omega) h82 (by omega) (fun A hA he hH => ?_))))
      have p1 := hB A hA he hH
      have p2 := (hg A hA he hH).1
      omega
    · intro T c5 c6 c7
      exact br_f (by decide) (H1 _ _ _ _ _ _ (by omega))
theorem mx_w7 {post : Int32 → St1 → Prop} {n b : Nat} {w : Nat → Nat} (h : mx_OK n a1 a2 w) (ht : mx_tri a3) (hb : b ≤ 2000)
    (H0 : ∀ (x : Int32) (b5 b6 b7 b8 b9 : Nat → Int32), (∀ A : Nat → Int32, mx_tot A → mx_ext a3 A → mx_H a1 w n A → b ≤ mx_L a1 w n A) → post 0 (nI n, nI b, ba, x, a1, a2, a3, a4, b5, b6, b7, b8, b9))
    (H1 : ∀ (x : Int32) (b5 b6 b7 b8 b9 : Nat → Int32), mx_H a1 w n a3 → mx_L a1 w n a3 < b → post 1 (nI n, nI b, ba, x, a1, a2, a3, a4, b5, b6, b7, b8, b9)) :
    ∃ f, wX_worthwhile_7 post (nI (mx_L a1 w n a3)) (nI n) (nI b) ba tl f 0 a1 a2 a3 a4 a5 a6 a7 a8 a9 := by
  have hn := h.1
  have hLb : mx_L a1 w n a3 ≤ 1200 := mx_L_bd h
  refine pk_loop (fun f i s => wX_worthwhile_7 post (nI (mx_L a1 w n a3)) (nI n) (nI b) ba tl f (nI i) a1 a2 a3 a4 a5 a6 a7 s a9) (fun i s => ∀ j, j < i → s j = nI (mx_u0 a1 w a3 j) ∧ (w j = 0 → mx_d (a1 j) a3 = false)) n 0 a8 (Nat.zero_le _) (fun j hj => absurd hj (by omega)) ?_ ?_
  · intro f s hs
    refine pk_le n n (fun _ => ⟨26, ?_⟩) (fun z => absurd z (by omega))
    have hH : mx_H a1 w n a3 := fun k hk hw => (hs k hk).2 hw
    refine mx_w93 h ht hb H0 (fun x b5 b6 b7 b8 b9 hl => H1 x b5 b6 b7 b8 b9 hH hl) 25 0 (by omega) (mx_L a1 w n a3) (mx_u0 a1 w a3) tl a5 a6 a7 s a9 (by omega) (fun j hj => ⟨(hs j hj).1, ?_⟩) (Nat.le_refl _) (fun A hA he hHA => ?_)
    · have := (h.2.1 j hj).2
      unfold mx_u0
      split <;> omega
    · refine mx_sum_two (fun k hk => ?_)
      unfold mx_g mx_u0
      cases q : mx_d (a1 k) a3 with
      | true =>
        rw [mx_d_mono he q]
        simp
      | false => simp
  · intro f i s hi hs hw
    have e : (nI i).toNatClampNeg = i := nI_clamp (by omega)
    have hwi := h.2.1 i hi
    have hwb := hwi.2
    have F : ∀ x : Nat, x = mx_u0 a1 w a3 i → (w i = 0 → mx_d (a1 i) a3 = false) → wX_worthwhile_7 post (nI (mx_L a1 w n a3)) (nI n) (nI b) ba tl f (nI (i + 1)) a1 a2 a3 a4 a5 a6 a7 (upd s i (nI x)) a9 := by
      intro x hx hal
      refine hw _ (fun j hj => ?_)
      by_cases q : j = i
      · rw [q, pk_us, hx]
        exact ⟨rfl, hal⟩
      · rw [pk_un q]
        exact hs j (by omega)
    have K0 : mx_u0 a1 w a3 i = 0 → (w i = 0 → mx_d (a1 i) a3 = false) → wX_worthwhile_63 post (wX_worthwhile_7 post (nI (mx_L a1 w n a3)) (nI n) (nI b) ba tl f) (nI (mx_L a1 w n a3)) (nI i) (nI n) (nI b) ba tl a1 a2 a3 a4 a5 a6 a7 s a9 := by
      intro h0 hal
      exact br_t rfl ⟨pk_in i 24 (by omega), nm_r (e' := upd s i (nI 0)) (congrArg (fun t => upd s t (nI 0)) e) (nm_r (nI_1 i) (F 0 h0.symm hal))⟩
    have K1 : mx_d (a1 i) a3 = false → wX_worthwhile_64 post (wX_worthwhile_7 post (nI (mx_L a1 w n a3)) (nI n) (nI b) ba tl f) (nI (mx_L a1 w n a3)) (nI i) 1 (nI n) (nI b) ba tl a1 a2 a3 a4 a5 a6 a7 s a9 := by
      intro hal
      refine br_f (by decide) ⟨pk_in i 24 (by omega), pk_in i 24 (by omega), nm_r (e' := upd s i (nI (w i))) (by rw [e, hwi.1]) (nm_r (nI_1 i) (F (w i) ?_ (fun _ => hal)))⟩
      unfold mx_u0
      rw [hal]
      rfl
    have K2 : (w i = 0 → mx_d (a1 i) a3 = false) → wX_worthwhile_38 post (wX_worthwhile_7 post (nI (mx_L a1 w n a3)) (nI n) (nI b) ba tl f) (nI (mx_L a1 w n a3)) (nI i) (nI n) (nI b) ba tl a1 a2 a3 a4 a5 a6 a7 s a9 := by
      intro hal
      refine ⟨pk_in i 24 (by omega), ?_⟩
      rw [e, hwi.1]
      refine pk_le (w i) 0 (fun y => K0 ?_ hal) (fun y => mx_open (by omega) (h.2.2 i hi) ht (fun r hr => br_c (fun z => K0 (if_pos ((mx_op0 (h.2.2 i hi) hr).mp z)) hal) (fun z => K1 (mx_opd (h.2.2 i hi) hr z))))
      unfold mx_u0
      split <;> omega
    refine pk_le n i (fun z => absurd z (by omega)) (fun _ => ⟨pk_in i 24 (by omega), ?_⟩)
    rw [e, hwi.1]
    refine pk_eq (w i) 0 (fun y => mx_open (by omega) (h.2.2 i hi) ht (fun r hr => br_c (fun z => H0 _ _ _ _ _ _ (fun A hA he hH => ?_)) (fun z => K2 (fun _ => mx_opd (h.2.2 i hi) hr z)))) (fun y => K2 (fun z => absurd z y))
    have q := mx_d_mono he ((mx_op0 (h.2.2 i hi) hr).mp z)
    rw [hH i hi y] at q
    exact absurd q (by decide)
theorem mx_worth {post : Int32 → St1 → Prop} {n b : Nat} {w : Nat → Nat} (h : mx_OK n a1 a2 w) (ht : mx_tri a3) (hb : b ≤ 2000)
    (H0 : ∀ (x : Int32) (b5 b6 b7 b8 b9 : Nat → Int32), (∀ A : Nat → Int32, mx_tot A → mx_ext a3 A → mx_H a1 w n A → b ≤ mx_L a1 w n A) → post 0 (nI n, nI b, ba, x, a1, a2, a3, a4, b5, b6, b7, b8, b9))
    (H1 : ∀ (x : Int32) (b5 b6 b7 b8 b9 : Nat → Int32), mx_H a1 w n a3 → mx_L a1 w n a3 < b → post 1 (nI n, nI b, ba, x, a1, a2, a3, a4, b5, b6, b7, b8, b9)) :
    wpX_worthwhile post (nI n, nI b, ba, tl, a1, a2, a3, a4, a5, a6, a7, a8, a9) :=
  mx_lsf h ht (mx_w7 h ht hb H0 H1)
end
end
section
section
variable {cl bl ba tl : Int32} {a1 a2 a3 a4 a5 a6 a7 a8 a9 : Nat → Int32}
/-- the best so far: none, or an assignment that is allowed -/
def mx_V (g a1 : Nat → Int32) (w : Nat → Nat) (n b : Nat) (ba : Int32) : Prop := (ba = -1 ∧ b = 2000) ∨ ∃ A : Nat → Int32, mx_tot A ∧ mx_agr g A ∧ mx_H a1 w n A ∧ b = mx_L a1 w n A ∧ mx_code ba A
/-- values from place d on are set, as given; below none is -/
def mx_at (g a3 : Nat → Int32) (d : Nat) : Prop := ∀ v, v < 8 → (v < d → a3 v = -1) ∧ (d ≤ v → (∃ e : Nat, e < 2 ∧ a3 v = nI e) ∧ (g v < 0 ∨ g v = a3 v))
def mx_c (t j : Nat) : Nat := 1 + (2 - j) * (1 + t)
theorem mx_c_lt {t j k : Nat} (h : j < k) (h2 : k ≤ 2) : mx_c t k + 1 + t ≤ mx_c t j := by
  have q : (j = 0 ∧ k = 1) ∨ (j = 0 ∧ k = 2) ∨ (j = 1 ∧ k = 2) := by omega
  unfold mx_c
  rcases q with ⟨q1, q2⟩ | ⟨q1, q2⟩ | ⟨q1, q2⟩ <;> subst q1 <;> subst q2 <;> omega
theorem mx_at_tri {g a3 : Nat → Int32} {d : Nat} (h : mx_at g a3 d) : mx_tri a3 := by
  intro v hv
  by_cases q : v < d
  · exact Or.inl ((h v hv).1 q)
  · exact Or.inr ((h v hv).2 (by omega)).1
theorem mx_at_put {g a3 : Nat → Int32} {d x : Nat} (hd : d < 8) (h : mx_at g a3 (d + 1)) (hx : x < 2) (hg : g d < 0 ∨ g d = nI x) : mx_at g (upd a3 d (nI x)) d := by
  intro v hv
  by_cases q : v = d
  · rw [q, pk_us]
    exact ⟨fun z => absurd z (by omega), fun _ => ⟨⟨x, hx, rfl⟩, hg⟩⟩
  · rw [pk_un q]
    exact ⟨fun z => (h v hv).1 (by omega), fun z => (h v hv).2 (by omega)⟩
theorem mx_ext_put {a3 A : Nat → Int32} {d : Nat} {x : Int32} (h : mx_ext a3 A) (hA : A d = x) : mx_ext (upd a3 d x) A := by
  intro v hv
  by_cases q : v = d
  · rw [q, pk_us, hA]
    exact Or.inr rfl
  · rw [pk_un q]
    exact h v hv
theorem mx_L_mono {n : Nat} {w : Nat → Nat} {A : Nat → Int32} (h : mx_ext a3 A) : mx_L a1 w n a3 ≤ mx_L a1 w n A := by
  refine mx_sum_le (fun k hk => ?_)
  unfold mx_g
  by_cases q : mx_d (a1 k) a3 = true
  · rw [if_pos q, if_pos (mx_d_mono h q)]
    exact Nat.le_refl _
  · rw [if_neg q]
    exact Nat.zero_le _
theorem mx_sub {post : St1 → Prop} {n : Nat} {w : Nat → Nat} (h : mx_OK n a1 a2 w) :
    ∀ d : Nat, d ≤ 8 → ∀ (s b : Nat) (ba tl : Int32) (a3 a5 a6 a7 a8 a9 : Nat → Int32), s + mx_T d ≤ 1990 → b ≤ 2000 → mx_at a4 a3 d → mx_V a4 a1 w n b ba → (d = 0 → mx_H a1 w n a3 ∧ mx_L a1 w n a3 < b) →
      (∀ (s2 b2 : Nat) (ba2 tl2 : Int32) (b5 b6 b7 b8 b9 : Nat → Int32), s2 ≤ s + mx_T d → b2 ≤ b → mx_V a4 a1 w n b2 ba2 → (∀ A : Nat → Int32, mx_tot A → mx_agr a4 A → mx_ext a3 A → mx_H a1 w n A → b2 ≤ mx_L a1 w n A) →
        wX_search_38 post (3000 - s2) (nI d) (nI s2) (nI n) (nI b2) ba2 tl2 a1 a2 a3 a4 b5 b6 b7 b8 b9) →
      wX_search_38 post (3000 - s) (nI d + (-1)) (nI s) (nI n) (nI b) ba tl a1 a2 a3 a4 a5 a6 a7 a8 a9 := by
  intro d
  induction d with
  | zero =>
    intro _ s b ba tl a3 a5 a6 a7 a8 a9 hs hb hat hV h0 K
    have hs' : s + 1 ≤ 1990 := hs
    rw [show 3000 - s = (3000 - (s + 1)) + 1 by omega]
    have htot : mx_tot a3 := fun v hv => ((hat v hv).2 (Nat.zero_le _)).1
    refine pk_le 2000 s (fun z => absurd z (by omega)) (fun _ => br_f (by decide) (br_f (by decide) (mx_leaf h htot (fun c hc => nm_r (nI_1 s) ?_))))
    exact K (s + 1) (mx_L a1 w n a3) c _ _ _ _ _ _ (Nat.le_refl _) (by have := (h0 rfl).2; omega) (Or.inr ⟨a3, htot, fun v hv => ((hat v hv).2 (Nat.zero_le _)).2, (h0 rfl).1, rfl, hc⟩) (fun A hA hg he hH => mx_L_mono he)
  | succ d ih =>
    intro hd s0 b0 ba0 tl0 a3 a5 a6 a7 a8 a9 hs0 hb0 hat hV0 _ K
    have hT : mx_T (d + 1) = 3 + 2 * mx_T d := rfl
    have hc0 : mx_c (mx_T d) 0 = 3 + 2 * mx_T d := by unfold mx_c; omega
    have hd8 : d < 8 := by omega
    have ha3 : a3 d = -1 := (hat d hd8).1 (by omega)
    have e : (nI d).toNatClampNeg = d := nI_clamp (by omega)
    rw [pk_m1]
    have lev : ∀ q j : Nat, j + q = 2 → ∀ (s b : Nat) (ba tl : Int32) (c3 b5 b6 b7 b8 b9 : Nat → Int32), s + mx_c (mx_T d) j ≤ s0 + mx_T (d + 1) → b ≤ b0 → (∀ v, v ≠ d → c3 v = a3 v) → c3 d + 1 = nI j → mx_V a4 a1 w n b ba →
        (∀ (A : Nat → Int32) (x : Nat), mx_tot A → mx_agr a4 A → mx_ext a3 A → mx_H a1 w n A → x < j → A d = nI x → b ≤ mx_L a1 w n A) →
        wX_search_38 post (3000 - s) (nI d) (nI s) (nI n) (nI b) ba tl a1 a2 c3 a4 b5 b6 b7 b8 b9 := by
      intro q
      induction q using Nat.strongRecOn with
      | ind q ihq =>
        intro j hj s b ba tl c3 b5 b6 b7 b8 b9 hs hb hc3 hy hV hbest
        have hcj : 1 ≤ mx_c (mx_T d) j := by unfold mx_c; omega
        have hup : ∀ x : Int32, upd c3 d x = upd a3 d x := by
          intro x
          funext v
          by_cases z : v = d
          · rw [z, pk_us, pk_us]
          · rw [pk_un z, pk_un z]
            exact hc3 v z
        rw [show 3000 - s = (3000 - (s + 1)) + 1 by omega]
        refine pk_le 2000 s (fun z => absurd z (by omega)) (fun _ => pk_le 8 d (fun z => absurd z (by omega)) (fun _ => br_t (nI_pos' (by omega)) (mx_next hd8 (by omega) hy ?_ ?_)))
        · intro x hjx hx2 hskip hg
          refine ⟨pk_in d 8 hd8, nm_r (e' := upd a3 d (nI x)) (by rw [e]; exact hup _) ⟨pk_in d 8 hd8, ?_⟩⟩
          rw [e, pk_us]
          have hat2 : mx_at a4 (upd a3 d (nI x)) d := mx_at_put hd8 hat hx2 hg
          have hcost := mx_c_lt (t := mx_T d) (show j < x + 1 by omega) (show x + 1 ≤ 2 by omega)
          have hbest2 : ∀ b2 : Nat, b2 ≤ b → (∀ A : Nat → Int32, mx_tot A → mx_agr a4 A → mx_ext (upd a3 d (nI x)) A → mx_H a1 w n A → b2 ≤ mx_L a1 w n A) → ∀ (A : Nat → Int32) (y : Nat), mx_tot A → mx_agr a4 A → mx_ext a3 A → mx_H a1 w n A → y < x + 1 → A d = nI y → b2 ≤ mx_L a1 w n A := by
            intro b2 hb2 hall A y hA hgA he hH hyx hAd
            by_cases z1 : y < j
            · exact Nat.le_trans hb2 (hbest A y hA hgA he hH z1 hAd)
            · by_cases z2 : y = x
              · exact hall A hA hgA (mx_ext_put he (by rw [hAd, z2])) hH
              · have z3 := hgA d hd8
                rw [hAd] at z3
                exact absurd z3 (hskip y (by omega) (by omega))
          refine br_t (nI_pos' (by omega)) (mx_worth h (mx_at_tri hat2) (by omega) ?_ ?_)
          · intro tl2 d5 d6 d7 d8 d9 hpr
            refine br_t rfl (nm_r (nI_1 s) ?_)
            exact ihq (2 - (x + 1)) (by omega) (x + 1) (by omega) (s + 1) b ba tl2 (upd a3 d (nI x)) d5 d6 d7 d8 d9 (by omega) hb (fun v hv => pk_un hv) (by rw [pk_us, nI_1]) hV (hbest2 b (Nat.le_refl _) (fun A hA hgA he hH => hpr A hA he hH))
          · intro tl2 d5 d6 d7 d8 d9 hHa hLa
            refine br_f (by decide) (nm_r (e' := nI d + (-1)) (Int32.sub_eq_add_neg _ _) (nm_r (nI_1 s) ?_))
            refine ih (by omega) (s + 1) b ba tl2 (upd a3 d (nI x)) d5 d6 d7 d8 d9 (by omega) (by omega) hat2 hV (fun _ => ⟨hHa, hLa⟩) ?_
            intro s2 b2 ba2 tl3 f5 f6 f7 f8 f9 hs2 hb2 hV2 hall
            exact ihq (2 - (x + 1)) (by omega) (x + 1) (by omega) s2 b2 ba2 tl3 (upd a3 d (nI x)) f5 f6 f7 f8 f9 (by omega) (by omega) (fun v hv => pk_un hv) (by rw [pk_us, nI_1]) hV2 (hbest2 b2 hb2 hall)
        · intro hskip
          have hback : upd c3 d (-1) = a3 := by
            rw [hup]
            funext v
            by_cases z : v = d
            · rw [z, pk_us, ha3]
            · rw [pk_un z]
          refine ⟨pk_in d 8 hd8, nm_r (e' := a3) (by rw [e]; exact hback) ⟨pk_in d 8 hd8, ?_⟩⟩
          rw [e, ha3]
          refine br_f (by decide) (nm_r (nI_1 d) (nm_r (nI_1 s) ?_))
          refine K (s + 1) b ba tl b5 b6 b7 b8 b9 (by omega) hb hV (fun A hA hgA he hH => ?_)
          obtain ⟨y, hy2, hAd⟩ := hA d hd8
          by_cases z1 : y < j
          · exact hbest A y hA hgA he hH z1 hAd
          · have z3 := hgA d hd8
            rw [hAd] at z3
            exact absurd z3 (hskip y (by omega) hy2)
    exact lev 2 0 (by omega) s0 b0 ba0 tl0 a3 a5 a6 a7 a8 a9 (by omega) (Nat.le_refl _) (fun v _ => rfl) (by rw [ha3]; decide) hV0 (fun A x _ _ _ _ hx => absurd hx (by omega))
/-- what a search answers -/
def mx_R (g a1 : Nat → Int32) (w : Nat → Nat) (n b : Nat) (ba : Int32) : Prop := (ba = -1 ∧ ∀ A : Nat → Int32, mx_tot A → mx_agr g A → ¬ mx_H a1 w n A) ∨ ∃ A : Nat → Int32, mx_tot A ∧ mx_agr g A ∧ mx_H a1 w n A ∧ b = mx_L a1 w n A ∧ mx_code ba A ∧ ∀ B : Nat → Int32, mx_tot B → mx_agr g B → mx_H a1 w n B → mx_L a1 w n A ≤ mx_L a1 w n B
theorem mx_search {post : St1 → Prop} {n : Nat} {w : Nat → Nat} (h : mx_OK n a1 a2 w) (H : ∀ (b : Nat) (c x : Int32) (b3 b5 b6 b7 b8 b9 : Nat → Int32), mx_R a4 a1 w n b c → post (nI n, nI b, c, x, a1, a2, b3, a4, b5, b6, b7, b8, b9)) :
    wpX_search post (nI n, bl, ba, tl, a1, a2, a3, a4, a5, a6, a7, a8, a9) := by
  refine pk_loop (fun f i s => wX_search_14 post (nI n) 2000 (-1) tl f (nI i) a1 a2 s a4 a5 a6 a7 a8 a9) (fun i s => ∀ j, j < i → s j = -1) 8 0 a3 (by omega) (fun j hj => absurd hj (by omega)) ?_ ?_
  · intro f s hs
    refine pk_le 8 8 (fun _ => ⟨3000, ?_⟩) (fun z => absurd z (by omega))
    have hat : mx_at a4 s 8 := fun v hv => ⟨fun _ => hs v hv, fun z => absurd z (by omega)⟩
    have e7 : (7 : Int32) = nI 8 + (-1) := by decide
    rw [e7]
    refine mx_sub (a4 := a4) h 8 (Nat.le_refl _) 0 2000 (-1) tl s a5 a6 a7 a8 a9 (by decide) (Nat.le_refl _) hat (Or.inl ⟨rfl, rfl⟩) (fun z => absurd z (by omega)) ?_
    intro s2 b2 c x b5 b6 b7 b8 b9 hs2 hb2 hV hall
    have hT8 : mx_T 8 = 1021 := by decide
    have hs3 : s2 ≤ 1021 := by omega
    rw [show 3000 - s2 = (2999 - s2) + 1 by omega]
    refine pk_le 2000 s2 (fun z => absurd z (by omega)) (fun _ => pk_le 8 8 (fun _ => H b2 c x s b5 b6 b7 b8 b9 ?_) (fun z => absurd z (by omega)))
    have hext : ∀ A : Nat → Int32, mx_ext s A := fun A v hv => Or.inl (hs v hv)
    rcases hV with ⟨v1, v2⟩ | ⟨A, v1, v2, v3, v4, v5⟩
    · refine Or.inl ⟨v1, fun A hA hg hH => ?_⟩
      have q1 := hall A hA hg (hext A) hH
      have q2 : mx_L a1 w n A ≤ 1200 := mx_L_bd h
      omega
    · exact Or.inr ⟨A, v1, v2, v3, v4, v5, fun B hB hg hH => by rw [← v4]; exact hall B hB hg (hext B) hH⟩
  · intro f i s hi hs hw
    exact pk_le 8 i (fun z => absurd z (by omega)) (fun _ => ⟨pk_in i 8 hi, nm_e (nm_r (nI_1 i) (hw _ (mx_fill (f := fun _ => -1) (nI_clamp (by omega)) hs rfl)))⟩)
end
end
section
section
variable {cl bl ba tl : Int32} {a1 a2 a3 a4 a5 a6 a7 a8 a9 : Nat → Int32}
/-- the least loss over the allowed assignments with P; none if there is none -/
def mx_min (P : (Nat → Int32) → Prop) (a1 : Nat → Int32) (w : Nat → Nat) (n : Nat) (o : Option Nat) : Prop :=
  (o = none ∧ ∀ A : Nat → Int32, mx_tot A → P A → ¬ mx_H a1 w n A) ∨ ∃ m : Nat, o = some m ∧ m ≤ 1200 ∧ (∃ A : Nat → Int32, mx_tot A ∧ P A ∧ mx_H a1 w n A ∧ mx_L a1 w n A = m) ∧ ∀ A : Nat → Int32, mx_tot A → P A → mx_H a1 w n A → m ≤ mx_L a1 w n A
def mx_r (o : Option Nat) : Int32 := match o with
  | none => -1
  | some m => nI m
def mx_bst (a1 : Nat → Int32) (w : Nat → Nat) (n : Nat) (r : Int32) : Prop := (r = -1 ∧ ∀ A : Nat → Int32, mx_tot A → ¬ mx_H a1 w n A) ∨ ∃ A : Nat → Int32, mx_tot A ∧ mx_H a1 w n A ∧ mx_code r A ∧ ∀ B : Nat → Int32, mx_tot B → mx_H a1 w n B → mx_L a1 w n A ≤ mx_L a1 w n B
theorem mx_R_min {g : Nat → Int32} {P : (Nat → Int32) → Prop} {n b : Nat} {w : Nat → Nat} {c : Int32} (h : mx_OK n a1 a2 w) (hP : ∀ A : Nat → Int32, mx_agr g A ↔ P A) (hR : mx_R g a1 w n b c) : (c < 0 ∧ mx_min P a1 w n none) ∨ (¬ c < 0 ∧ mx_min P a1 w n (some b)) := by
  rcases hR with ⟨r1, r2⟩ | ⟨A, r1, r2, r3, r4, r5, r6⟩
  · exact Or.inl ⟨by rw [r1]; decide, Or.inl ⟨rfl, fun A hA hp => r2 A hA ((hP A).mpr hp)⟩⟩
  · refine Or.inr ⟨r5.1, Or.inr ⟨b, rfl, ?_, ⟨A, r1, (hP A).mp r2, r3, r4.symm⟩, fun B hB hp hH => ?_⟩⟩
    · rw [r4]
      exact mx_L_bd h
    · rw [r4]
      exact r6 B hB ((hP B).mpr hp) hH
theorem mx_all {b4 : Nat → Int32} (h4 : ∀ v, v < 8 → b4 v = -1) (A : Nat → Int32) : mx_agr b4 A := fun v hv => Or.inl (by rw [h4 v hv]; decide)
theorem mx_loss {post : Int32 → St1 → Prop} {n : Nat} {w : Nat → Nat} (h : mx_OK n a1 a2 w) (H : ∀ (o : Option Nat) (x y z : Int32) (b3 b4 b5 b6 b7 b8 b9 : Nat → Int32), mx_min (fun _ => True) a1 w n o → post (mx_r o) (nI n, x, y, z, a1, a2, b3, b4, b5, b6, b7, b8, b9)) : wpX_loss post (nI n, bl, ba, tl, a1, a2, a3, a4, a5, a6, a7, a8, a9) := by
  refine mx_free (fun b4 h4 => mx_search h (fun b c x b3 b5 b6 b7 b8 b9 hR => ?_))
  rcases mx_R_min (P := fun _ => True) h (fun A => ⟨fun _ => trivial, fun _ => mx_all h4 A⟩) hR with ⟨q, hm⟩ | ⟨q, hm⟩
  · exact br_t q (H none _ _ _ _ _ _ _ _ _ _ hm)
  · exact br_f q (H (some b) _ _ _ _ _ _ _ _ _ _ hm)
theorem mx_best {post : Int32 → St1 → Prop} {n : Nat} {w : Nat → Nat} (h : mx_OK n a1 a2 w) (H : ∀ (r x y z : Int32) (b3 b4 b5 b6 b7 b8 b9 : Nat → Int32), mx_bst a1 w n r → post r (nI n, x, y, z, a1, a2, b3, b4, b5, b6, b7, b8, b9)) : wpX_best post (nI n, bl, ba, tl, a1, a2, a3, a4, a5, a6, a7, a8, a9) := by
  refine mx_free (fun b4 h4 => mx_search h (fun b c x b3 b5 b6 b7 b8 b9 hR => H c _ _ _ _ _ _ _ _ _ _ ?_))
  rcases hR with ⟨r1, r2⟩ | ⟨A, r1, r2, r3, r4, r5, r6⟩
  · exact Or.inl ⟨r1, fun A hA => r2 A hA (mx_all h4 A)⟩
  · exact Or.inr ⟨A, r1, r3, r5, fun B hB hH => r6 B hB (mx_all h4 B) hH⟩
theorem mx_poss {post : Int32 → St1 → Prop} {n : Nat} {w : Nat → Nat} (h : mx_OK n a1 a2 w) (H : ∀ (p x y z : Int32) (b3 b4 b5 b6 b7 b8 b9 : Nat → Int32), ((p = 0 ∧ ∀ A : Nat → Int32, mx_tot A → ¬ mx_H a1 w n A) ∨ (p = 1 ∧ ∃ A : Nat → Int32, mx_tot A ∧ mx_H a1 w n A)) → post p (nI n, x, y, z, a1, a2, b3, b4, b5, b6, b7, b8, b9)) : wpX_possible post (nI n, bl, ba, tl, a1, a2, a3, a4, a5, a6, a7, a8, a9) := by
  refine mx_free (fun b4 h4 => mx_search h (fun b c x b3 b5 b6 b7 b8 b9 hR => ?_))
  rcases hR with ⟨r1, r2⟩ | ⟨A, r1, r2, r3, r4, r5, r6⟩
  · exact br_t (by rw [r1]; decide) (H 0 _ _ _ _ _ _ _ _ _ _ (Or.inl ⟨rfl, fun A hA => r2 A hA (mx_all h4 A)⟩))
  · exact br_f r5.1 (H 1 _ _ _ _ _ _ _ _ _ _ (Or.inr ⟨rfl, A, r1, r3⟩))
theorem mx_lw {post : Int32 → St1 → Prop} {n v e : Nat} {w : Nat → Nat} {p0 : Int32} (h : mx_OK n a1 a2 w) (hv : v < 8) (he : e < 2) (e1 : (p0 >>> ((1 : Int32) &&& 31)) &&& 7 = nI v) (e2 : 1 - (p0 &&& 1) = nI e)
    (H : ∀ (o : Option Nat) (x y z : Int32) (b3 b4 b5 b6 b7 b8 b9 : Nat → Int32), mx_min (fun A => A v = nI e) a1 w n o → post (mx_r o) (nI n, x, y, z, a1, a2, b3, b4, b5, b6, b7, b8, b9)) : wpX_lossWith post (nI n, bl, ba, tl, a1, a2, a3, a4, a5, a6, a7, a8, a9) p0 := by
  refine mx_free (fun b4 h4 => ⟨by rw [e1]; exact pk_in v 8 hv, nm_r (e' := upd b4 v (nI e)) (by rw [e1, e2, nI_clamp (by omega)]) (mx_search h (fun b c x b3 b5 b6 b7 b8 b9 hR => ?_))⟩)
  have hP : ∀ A : Nat → Int32, mx_agr (upd b4 v (nI e)) A ↔ A v = nI e := by
    intro A
    constructor
    · intro hA
      have q := hA v hv
      rw [pk_us] at q
      rcases q with q | q
      · exact absurd q (nI_pos (by omega))
      · exact q.symm
    · intro hA x hx
      by_cases q : x = v
      · rw [q, pk_us]
        exact Or.inr hA.symm
      · rw [pk_un q]
        exact mx_all h4 A x hx
  rcases mx_R_min (P := fun A => A v = nI e) h hP hR with ⟨q, hm⟩ | ⟨q, hm⟩
  · exact br_t q (H none _ _ _ _ _ _ _ _ _ _ hm)
  · exact br_f q (H (some b) _ _ _ _ _ _ _ _ _ _ hm)
/-! lesser -/
def mx_les (a b : Option Nat) : Option Nat := match a, b with
  | none, b => b
  | some a, none => some a
  | some a, some b => some (if b ≤ a then b else a)
theorem mx_min_le {P : (Nat → Int32) → Prop} {n m : Nat} {w : Nat → Nat} (h : mx_min P a1 w n (some m)) : m ≤ 1200 := by
  rcases h with ⟨q, _⟩ | ⟨k, q, hk, _⟩
  · exact absurd q (by simp)
  · rw [Option.some.inj q]
    exact hk
theorem mx_min_none {P : (Nat → Int32) → Prop} {n : Nat} {w : Nat → Nat} (h : mx_min P a1 w n none) {A : Nat → Int32} (hA : mx_tot A) (hp : P A) : ¬ mx_H a1 w n A := by
  rcases h with ⟨_, q⟩ | ⟨k, q, _⟩
  · exact q A hA hp
  · exact absurd q (by simp)
theorem mx_min_ex {P : (Nat → Int32) → Prop} {n m : Nat} {w : Nat → Nat} (h : mx_min P a1 w n (some m)) : ∃ A : Nat → Int32, mx_tot A ∧ P A ∧ mx_H a1 w n A ∧ mx_L a1 w n A = m := by
  rcases h with ⟨q, _⟩ | ⟨k, q, _, hk, _⟩
  · exact absurd q (by simp)
  · rw [Option.some.inj q]
    exact hk
theorem mx_min_lb {P : (Nat → Int32) → Prop} {n m : Nat} {w : Nat → Nat} (h : mx_min P a1 w n (some m)) {A : Nat → Int32} (hA : mx_tot A) (hp : P A) (hH : mx_H a1 w n A) : m ≤ mx_L a1 w n A := by
  rcases h with ⟨q, _⟩ | ⟨k, q, _, _, hk⟩
  · exact absurd q (by simp)
  · rw [Option.some.inj q]
    exact hk A hA hp hH
theorem mx_lesser {post : Int32 → Prop} {a b : Option Nat} (ha : ∀ m, a = some m → m ≤ 1200) (hb : ∀ m, b = some m → m ≤ 1200) (H : post (mx_r (mx_les a b))) : wpL_lesser post () (mx_r a) (mx_r b) := by
  cases a with
  | none => exact br_f (by decide) H
  | some a =>
    have ha' := ha a rfl
    cases b with
    | none => exact br_t (nI_pos' (by omega)) (br_f (by decide) H)
    | some b =>
      have hb' := hb b rfl
      refine br_t (nI_pos' (by omega)) (br_t (nI_pos' (by omega)) (pk_le b a (fun z => ?_) (fun z => ?_)))
      · have q : mx_les (some a) (some b) = some b := congrArg some (if_pos z)
        rw [q] at H
        exact H
      · have q : mx_les (some a) (some b) = some a := congrArg some (if_neg (by omega))
        rw [q] at H
        exact H
theorem mx_min_les {n v : Nat} {w : Nat → Nat} {o oy on : Option Nat} (hv : v < 8) (ho : mx_min (fun _ => True) a1 w n o) (hy : mx_min (fun A => A v = nI 1) a1 w n oy) (hn : mx_min (fun A => A v = nI 0) a1 w n on) : o = mx_les oy on := by
  cases o with
  | none =>
    cases oy with
    | none =>
      cases on with
      | none => rfl
      | some b =>
        obtain ⟨A, q1, _, q3, _⟩ := mx_min_ex hn
        exact absurd q3 (mx_min_none ho q1 trivial)
    | some a =>
      obtain ⟨A, q1, _, q3, _⟩ := mx_min_ex hy
      exact absurd q3 (mx_min_none ho q1 trivial)
  | some m =>
    obtain ⟨A, q1, _, q3, q4⟩ := mx_min_ex ho
    obtain ⟨e, he, hAe⟩ := q1 v hv
    cases oy with
    | none =>
      have e0 : e = 0 := by
        rcases Nat.eq_zero_or_pos e with z | z
        · exact z
        · rw [show e = 1 by omega] at hAe
          exact absurd q3 (mx_min_none hy q1 hAe)
      rw [e0] at hAe
      cases on with
      | none => exact absurd q3 (mx_min_none hn q1 hAe)
      | some b =>
        have p1 := mx_min_lb hn q1 hAe q3
        obtain ⟨B, r1, _, r3, r4⟩ := mx_min_ex hn
        have p2 := mx_min_lb ho r1 trivial r3
        exact congrArg some (by omega)
    | some a =>
      obtain ⟨B, r1, _, r3, r4⟩ := mx_min_ex hy
      have p2 := mx_min_lb ho r1 trivial r3
      cases on with
      | none =>
        have e1 : e = 1 := by
          rcases Nat.eq_zero_or_pos e with z | z
          · rw [z] at hAe
            exact absurd q3 (mx_min_none hn q1 hAe)
          · omega
        rw [e1] at hAe
        have p1 := mx_min_lb hy q1 hAe q3
        exact congrArg some (by omega)
      | some b =>
        obtain ⟨C, s1, _, s3, s4⟩ := mx_min_ex hn
        have p3 := mx_min_lb ho s1 trivial s3
        refine congrArg some ?_
        rcases Nat.eq_zero_or_pos e with z | z
        · rw [z] at hAe
          have p1 := mx_min_lb hn q1 hAe q3
          split <;> omega
        · rw [show e = 1 by omega] at hAe
          have p1 := mx_min_lb hy q1 hAe q3
          split <;> omega
theorem mx_min_bst {n v x : Nat} {w : Nat → Nat} {o ox : Option Nat} {r : Int32} (hb : mx_bst a1 w n r) (hr : ¬ r < 0) (hv : v < 8) (hx : x < 2) (hbit : mb_t r v = decide (x = 1)) (ho : mx_min (fun _ => True) a1 w n o) (hox : mx_min (fun A => A v = nI x) a1 w n ox) : mx_r ox = mx_r o := by
  rcases hb with ⟨q, _⟩ | ⟨A, q1, q2, q3, q4⟩
  · rw [q] at hr
    exact absurd (by decide) hr
  · obtain ⟨e, he, hAe⟩ := q1 v hv
    have hc := q3.2 v hv
    rw [hbit, hAe] at hc
    have hex : e = x := by
      have t := decide_eq_decide.mp hc
      rw [nI_eq (by omega) (by omega)] at t
      omega
    rw [hex] at hAe
    cases o with
    | none => exact absurd q2 (mx_min_none ho q1 trivial)
    | some m =>
      cases ox with
      | none => exact absurd q2 (mx_min_none hox q1 hAe)
      | some a =>
        have p1 := mx_min_lb hox q1 hAe q2
        obtain ⟨B, r1, _, r3, r4⟩ := mx_min_ex hox
        have p2 := mx_min_lb ho r1 trivial r3
        obtain ⟨C, s1, _, s3, s4⟩ := mx_min_ex ho
        have p3 := q4 C s1 s3
        rw [show a = m by omega]
/-! holds -/
theorem mx_k1 : ∀ v, v < 8 → ((2 * nI v) >>> ((1 : Int32) &&& 31)) &&& 7 = nI v ∧ 1 - ((2 * nI v) &&& 1) = nI 1 := by decide +kernel
theorem mx_k2 : ∀ v, v < 8 → ((2 * nI v + 1) >>> ((1 : Int32) &&& 31)) &&& 7 = nI v ∧ 1 - ((2 * nI v + 1) &&& 1) = nI 0 := by decide +kernel
theorem mx_bitr {r : Int32} {v : Nat} (hv : v < 8) : (r >>> (nI v &&& 31)) &&& 1 = 1 ↔ mb_t r v = true := by
  rw [mx_a11, mb_sshr v (by omega) r (by omega), if_pos (by omega), Nat.add_zero]
theorem mx_h62 {post : Int32 → St1 → Prop} {n : Nat} {w : Nat → Nat} {o : Option Nat} {r : Int32} (h : mx_OK n a1 a2 w) (ho : mx_min (fun _ => True) a1 w n o) (hb : mx_bst a1 w n r)
    (H : ∀ (x y z : Int32) (b3 b4 b5 b6 b7 b8 b9 : Nat → Int32), post 1 (nI n, x, y, z, a1, a2, b3, b4, b5, b6, b7, b8, b9)) :
    ∀ m i : Nat, i + m = 8 → ∀ (x y z : Int32) (b3 b4 b5 b6 b7 b8 b9 : Nat → Int32), wL_holds_62 post (mx_r o) r (m + 1) (nI i) (nI n) x y z a1 a2 b3 b4 b5 b6 b7 b8 b9 := by
  intro m
  induction m with
  | zero =>
    intro i hi x y z b3 b4 b5 b6 b7 b8 b9
    exact pk_le 8 i (fun _ => H x y z b3 b4 b5 b6 b7 b8 b9) (fun q => absurd q (by omega))
  | succ m ih =>
    intro i hi x y z b3 b4 b5 b6 b7 b8 b9
    have hi8 : i < 8 := by omega
    refine pk_le 8 i (fun q => absurd q (by omega)) (fun _ => mx_lw h hi8 (by omega) (mx_k1 i hi8).1 (mx_k1 i hi8).2 (fun oy x2 y2 z2 c3 c4 c5 c6 c7 c8 c9 hy => mx_lw h hi8 (by omega) (mx_k2 i hi8).1 (mx_k2 i hi8).2 (fun on x3 y3 z3 d3 d4 d5 d6 d7 d8 d9 hn => mx_lesser (fun k hk => by rw [hk] at hy; exact mx_min_le hy) (fun k hk => by rw [hk] at hn; exact mx_min_le hn) ?_)))
    rw [← mx_min_les hi8 ho hy hn]
    refine br_t rfl (br_c (fun q => nm_r (nI_1 i) (ih (i + 1) (by omega) x3 y3 z3 d3 d4 d5 d6 d7 d8 d9)) (fun q => ek_if (mx_bitr hi8) (fun q2 => ?_) (fun q2 => ?_)))
    · exact br_t (mx_min_bst hb q hi8 (by omega) (by rw [q2]; rfl) ho hy) (nm_r (nI_1 i) (ih (i + 1) (by omega) x3 y3 z3 d3 d4 d5 d6 d7 d8 d9))
    · exact br_t (mx_min_bst hb q hi8 (by omega) (by rw [Bool.eq_false_iff.mpr q2]; rfl) ho hn) (nm_r (nI_1 i) (ih (i + 1) (by omega) x3 y3 z3 d3 d4 d5 d6 d7 d8 d9))
theorem mx_holds {post : Int32 → St1 → Prop} {n : Nat} {w : Nat → Nat} (h : mx_OK n a1 a2 w)
    (H : ∀ (x y z : Int32) (b3 b4 b5 b6 b7 b8 b9 : Nat → Int32), post 1 (nI n, x, y, z, a1, a2, b3, b4, b5, b6, b7, b8, b9)) :
    wpL_holds post (nI n, bl, ba, tl, a1, a2, a3, a4, a5, a6, a7, a8, a9) := by
  unfold wpL_holds
  refine mx_loss h (fun o x y z b3 b4 b5 b6 b7 b8 b9 ho => ?_)
  refine mx_best h (fun r x2 y2 z2 c3 c4 c5 c6 c7 c8 c9 hr => ?_)
  refine mx_poss h (fun p x3 y3 z3 d3 d4 d5 d6 d7 d8 d9 hp => ?_)
  have F : ∃ f, wL_holds_62 post (mx_r o) r f 0 (nI n) x3 y3 z3 a1 a2 d3 d4 d5 d6 d7 d8 d9 := ⟨9, mx_h62 h ho hr H 8 0 (by omega) x3 y3 z3 d3 d4 d5 d6 d7 d8 d9⟩
  cases o with
  | none =>
    have hr1 : r = -1 := by
      rcases hr with ⟨q, _⟩ | ⟨A, q1, q2, _⟩
      · exact q
      · exact absurd q2 (mx_min_none ho q1 trivial)
    have hp1 : p = 0 := by
      rcases hp with ⟨q, _⟩ | ⟨_, A, q1, q2⟩
      · exact q
      · exact absurd q2 (mx_min_none ho q1 trivial)
    subst hr1
    subst hp1
    exact br_f (by decide) (br_t (by decide) (br_t rfl (br_t rfl (br_t rfl (br_t rfl F)))))
  | some m =>
    have hm := mx_min_le ho
    obtain ⟨A, q1, _, q2, _⟩ := mx_min_ex ho
    have hr1 : ¬ r = -1 := by
      rcases hr with ⟨_, q⟩ | ⟨B, _, _, q3, _⟩
      · exact absurd q2 (q A q1)
      · intro z
        rw [z] at q3
        exact q3.1 (by decide)
    have hp1 : p = 1 := by
      rcases hp with ⟨_, q⟩ | ⟨q, _⟩
      · exact absurd q2 (q A q1)
      · exact q
    have hm1 : ¬ nI m = -1 := by
      intro z
      have : ¬ nI m < 0 := nI_pos (by omega)
      rw [z] at this
      exact this (by decide)
    subst hp1
    exact br_t rfl (br_f (nI_pos (by omega)) (br_t rfl (br_f hr1 (br_f hm1 (br_t rfl F)))))
end
end
section
section
variable {cl bl ba tl : Int32} {a1 a2 a3 a4 a5 a6 a7 a8 a9 : Nat → Int32}
/-! addClause, hard, soft, drop -/
/-- b1, w2 is a1, w with one clause of weight q more -/
def mx_more (n q : Nat) (a1 b1 : Nat → Int32) (w w2 : Nat → Nat) : Prop := (∀ k, k < n → b1 k = a1 k ∧ w2 k = w k) ∧ w2 n = q
theorem mx_add {post : Int32 → St1 → Prop} {n q : Nat} {w : Nat → Nat} {c p1 : Int32} (h : mx_OK n a1 a2 w) (hq : q ≤ 50) (hp : p1 = nI q)
    (HF : post (-1) (nI n, bl, ba, tl, a1, a2, a3, a4, a5, a6, a7, a8, a9))
    (HA : ∀ (b1 b2 : Nat → Int32) (w2 : Nat → Nat), mx_OK (n + 1) b1 b2 w2 → mx_more n q a1 b1 w w2 → post (nI (n + 1)) (nI (n + 1), bl, ba, tl, b1, b2, a3, a4, a5, a6, a7, a8, a9)) :
    wpX_addClause post (nI n, bl, ba, tl, a1, a2, a3, a4, a5, a6, a7, a8, a9) c p1 := by
  have hn := h.1
  refine pk_lt n 24 (fun z => ⟨pk_in n 24 z, nm_r (e' := upd a1 n (c &&& 65535)) (by rw [nI_clamp (by omega)]) ⟨pk_in n 24 z, nm_r (e' := upd a2 n (nI q)) (by rw [nI_clamp (by omega), hp]) (nm_r (nI_1 n) (HA _ _ (fun k => if k = n then q else w k) ⟨by omega, fun k hk => ?_, fun k hk i hi => ?_⟩ ⟨fun k hk => ⟨pk_un (by omega), if_neg (by omega)⟩, if_pos rfl⟩))⟩⟩) (fun _ => HF)
  · dsimp only
    by_cases e : k = n
    · rw [e, pk_us, if_pos rfl]
      exact ⟨rfl, hq⟩
    · rw [pk_un e, if_neg e]
      exact h.2.1 k (by omega)
  · by_cases e : k = n
    · rw [e, pk_us, mb_and, mb_65535, decide_eq_false (by omega), Bool.and_false]
    · rw [pk_un e]
      exact h.2.2 k (by omega) i hi
theorem mx_hard {post : Int32 → St1 → Prop} {n : Nat} {w : Nat → Nat} {c : Int32} (h : mx_OK n a1 a2 w)
    (HF : post (-1) (nI n, bl, ba, tl, a1, a2, a3, a4, a5, a6, a7, a8, a9))
    (HA : ∀ (b1 b2 : Nat → Int32) (w2 : Nat → Nat), mx_OK (n + 1) b1 b2 w2 → mx_more n 0 a1 b1 w w2 → post (nI (n + 1)) (nI (n + 1), bl, ba, tl, b1, b2, a3, a4, a5, a6, a7, a8, a9)) :
    wpX_hard post (nI n, bl, ba, tl, a1, a2, a3, a4, a5, a6, a7, a8, a9) c := by
  unfold wpX_hard
  exact mx_add (q := 0) h (by omega) rfl HF HA
theorem mx_soft {post : Int32 → St1 → Prop} {n q : Nat} {w : Nat → Nat} {c : Int32} (h : mx_OK n a1 a2 w) (hq1 : 1 ≤ q) (hq : q ≤ 50)
    (HF : post (-1) (nI n, bl, ba, tl, a1, a2, a3, a4, a5, a6, a7, a8, a9))
    (HA : ∀ (b1 b2 : Nat → Int32) (w2 : Nat → Nat), mx_OK (n + 1) b1 b2 w2 → mx_more n q a1 b1 w w2 → post (nI (n + 1)) (nI (n + 1), bl, ba, tl, b1, b2, a3, a4, a5, a6, a7, a8, a9)) :
    wpX_soft post (nI n, bl, ba, tl, a1, a2, a3, a4, a5, a6, a7, a8, a9) c (nI q) := by
  refine pk_lt q 1 (fun z => absurd z (by omega)) (fun _ => pk_le q 50 (fun _ => ?_) (fun z => absurd z (by omega)))
  exact mx_add h hq rfl HF HA
theorem mx_drop {post : Int32 → St1 → Prop} {n p : Nat} {w : Nat → Nat} (h : mx_OK (n + 1) a1 a2 w) (hp : p < n + 1)
    (H : ∀ (b1 b2 : Nat → Int32) (w2 : Nat → Nat), mx_OK n b1 b2 w2 → post (nI n) (nI n, bl, ba, tl, b1, b2, a3, a4, a5, a6, a7, a8, a9)) :
    wpX_drop post (nI (n + 1), bl, ba, tl, a1, a2, a3, a4, a5, a6, a7, a8, a9) (nI p) := by
  have hn := h.1
  refine br_f (nI_pos (by omega)) (pk_lt p (n + 1) (fun _ => nm_r (nI_pred n) ?_) (fun z => absurd z (by omega)))
  refine pk_loop (σ := (Nat → Int32) × (Nat → Int32)) (fun f i s => wX_drop_26 post (nI n) bl ba tl f (nI i) s.1 s.2 a3 a4 a5 a6 a7 a8 a9) (fun i s => ∀ k, k < n + 1 → (∃ x : Nat, x ≤ 50 ∧ s.2 k = nI x) ∧ ∀ j, 16 ≤ j → mb_t (s.1 k) j = false) n p (a1, a2) (by omega) (fun k hk => ⟨⟨w k, (h.2.1 k hk).2, (h.2.1 k hk).1⟩, h.2.2 k hk⟩) ?_ ?_
  · intro f s hs
    refine pk_le n n (fun _ => H s.1 s.2 (fun k => (s.2 k).toNatClampNeg) ⟨by omega, fun k hk => ?_, fun k hk => (hs k (by omega)).2⟩) (fun z => absurd z (by omega))
    obtain ⟨x, hx, e⟩ := (hs k (by omega)).1
    show s.2 k = nI (s.2 k).toNatClampNeg ∧ (s.2 k).toNatClampNeg ≤ 50
    rw [e, nI_clamp (by omega)]
    exact ⟨rfl, hx⟩
  · intro f i s hi hs hw
    have e : (nI i).toNatClampNeg = i := nI_clamp (by omega)
    have e1 : (nI i + 1).toNatClampNeg = i + 1 := by rw [nI_1, nI_clamp (by omega)]
    refine pk_le n i (fun z => absurd z (by omega)) (fun _ => ⟨pk_in (i + 1) 24 (by omega) (nI_1 i), pk_in i 24 (by omega), nm_e ⟨pk_in (i + 1) 24 (by omega) (nI_1 i), pk_in i 24 (by omega), nm_e (nm_r (nI_1 i) (hw (upd s.1 (nI i).toNatClampNeg (s.1 (nI i + 1).toNatClampNeg), upd s.2 (nI i).toNatClampNeg (s.2 (nI i + 1).toNatClampNeg)) ?_))⟩⟩)
    intro k hk
    show (∃ x : Nat, x ≤ 50 ∧ upd s.2 (nI i).toNatClampNeg (s.2 (nI i + 1).toNatClampNeg) k = nI x) ∧ ∀ j, 16 ≤ j → mb_t (upd s.1 (nI i).toNatClampNeg (s.1 (nI i + 1).toNatClampNeg) k) j = false
    rw [e, e1]
    by_cases q : k = i
    · rw [q, pk_us, pk_us]
      exact hs (i + 1) (by omega)
    · rw [pk_un q, pk_un q]
      exact hs k hk
/-! one clause more: what becomes of the least loss -/
theorem mx_more_L {n q : Nat} {b1 : Nat → Int32} {w w2 : Nat → Nat} (h : mx_more n q a1 b1 w w2) (A : Nat → Int32) : mx_L a1 w n A ≤ mx_L b1 w2 (n + 1) A ∧ mx_L b1 w2 (n + 1) A ≤ mx_L a1 w n A + q := by
  have e : mx_L b1 w2 n A = mx_L a1 w n A := mx_sum_eq (fun k hk => by
    unfold mx_g
    rw [(h.1 k hk).1, (h.1 k hk).2])
  have g : mx_g b1 w2 A n ≤ q := by
    unfold mx_g
    rw [h.2]
    split <;> omega
  rw [mx_L_succ, e]
  omega
theorem mx_more_H {n q : Nat} {b1 : Nat → Int32} {w w2 : Nat → Nat} {A : Nat → Int32} (h : mx_more n q a1 b1 w w2) (hH : mx_H b1 w2 (n + 1) A) : mx_H a1 w n A := by
  intro k hk hw
  have q := hH k (by omega)
  rw [(h.1 k hk).1, (h.1 k hk).2] at q
  exact q hw
theorem mx_more_H2 {n q : Nat} {b1 : Nat → Int32} {w w2 : Nat → Nat} {A : Nat → Int32} (h : mx_more n q a1 b1 w w2) (hq : 1 ≤ q) (hH : mx_H a1 w n A) : mx_H b1 w2 (n + 1) A := by
  intro k hk hw
  by_cases e : k = n
  · rw [e, h.2] at hw
    omega
  · have hk' : k < n := by omega
    rw [(h.1 k hk').2] at hw
    rw [(h.1 k hk').1]
    exact hH k hk' hw
theorem mx_more_none {n q : Nat} {b1 : Nat → Int32} {w w2 : Nat → Nat} {o2 : Option Nat} (h : mx_more n q a1 b1 w w2) (h1 : mx_min (fun _ => True) a1 w n none) (h2 : mx_min (fun _ => True) b1 w2 (n + 1) o2) : o2 = none := by
  cases o2 with
  | none => rfl
  | some m =>
    obtain ⟨A, q1, _, q3, _⟩ := mx_min_ex h2
    exact absurd (mx_more_H h q3) (mx_min_none h1 q1 trivial)
theorem mx_more_le {n q m m2 : Nat} {b1 : Nat → Int32} {w w2 : Nat → Nat} (h : mx_more n q a1 b1 w w2) (h1 : mx_min (fun _ => True) a1 w n (some m)) (h2 : mx_min (fun _ => True) b1 w2 (n + 1) (some m2)) : m ≤ m2 := by
  obtain ⟨A, q1, _, q3, q4⟩ := mx_min_ex h2
  have p := mx_min_lb h1 q1 trivial (mx_more_H h q3)
  have p2 := (mx_more_L h A).1
  omega
theorem mx_more_soft {n q m : Nat} {b1 : Nat → Int32} {w w2 : Nat → Nat} {o2 : Option Nat} (h : mx_more n q a1 b1 w w2) (hq : 1 ≤ q) (h1 : mx_min (fun _ => True) a1 w n (some m)) (h2 : mx_min (fun _ => True) b1 w2 (n + 1) o2) : ∃ m2 : Nat, o2 = some m2 ∧ m ≤ m2 ∧ m2 ≤ m + q := by
  obtain ⟨A, q1, _, q3, q4⟩ := mx_min_ex h1
  cases o2 with
  | none => exact absurd (mx_more_H2 h hq q3) (mx_min_none h2 q1 trivial)
  | some m2 =>
    refine ⟨m2, rfl, mx_more_le h h1 h2, ?_⟩
    have p := mx_min_lb h2 q1 trivial (mx_more_H2 h hq q3)
    have p2 := (mx_more_L h A).2
    omega
theorem mx_min_uq {n : Nat} {w : Nat → Nat} {o o2 : Option Nat} (h1 : mx_min (fun _ => True) a1 w n o) (h2 : mx_min (fun _ => True) a1 w n o2) : o2 = o := by
  cases o with
  | none =>
    cases o2 with
    | none => rfl
    | some m2 =>
      obtain ⟨A, q1, _, q3, _⟩ := mx_min_ex h2
      exact absurd q3 (mx_min_none h1 q1 trivial)
  | some m =>
    obtain ⟨A, q1, _, q3, q4⟩ := mx_min_ex h1
    cases o2 with
    | none => exact absurd q3 (mx_min_none h2 q1 trivial)
    | some m2 =>
      obtain ⟨B, r1, _, r3, r4⟩ := mx_min_ex h2
      have p1 := mx_min_lb h1 r1 trivial r3
      have p2 := mx_min_lb h2 q1 trivial q3
      exact congrArg some (by omega)
end
end
section
section
variable {cl bl ba tl : Int32} {a1 a2 a3 a4 a5 a6 a7 a8 a9 : Nat → Int32}
theorem mx_l276 {J : Int32 → Int32 → Int32 → Int32 → Int32 → Int32 → (Nat → Int32) → (Nat → Int32) → (Nat → Int32) → (Nat → Int32) → (Nat → Int32) → (Nat → Int32) → (Nat → Int32) → (Nat → Int32) → (Nat → Int32) → Prop} {xs : Nat → Int32} {L i n kc ks : Nat} {w : Nat → Nat} (h : mx_OK n a1 a2 w) (hi : i + 3 ≤ L) (hL : L ≤ 260)
    (HJ : ∀ (n : Nat) (w : Nat → Nat) (x y z : Int32) (b1 b2 b3 b4 b5 b6 b7 b8 b9 : Nat → Int32), mx_OK n b1 b2 w → J (nI n) (nI (i + 3)) (nI n) x y z b1 b2 b3 b4 b5 b6 b7 b8 b9) :
    wL_law_276 (fun r => r = 1) L xs J (nI n) (nI i) kc ks (nI n) bl ba tl a1 a2 a3 a4 a5 a6 a7 a8 a9 := by
  refine ⟨pk_in (i + 2) L (by omega) (nI_add i 2) (by omega), br_c (fun _ => mx_holds h (fun x y z b3 b4 b5 b6 b7 b8 b9 => br_f (by decide) (nm_r (nI_add i 3) (HJ n w x y z _ _ b3 b4 b5 b6 b7 b8 b9 h)))) (fun _ => nm_r (nI_add i 3) (HJ n w _ _ _ _ _ _ _ _ _ _ _ _ h))⟩
theorem mx_l244 {J : Int32 → Int32 → Int32 → Int32 → Int32 → Int32 → (Nat → Int32) → (Nat → Int32) → (Nat → Int32) → (Nat → Int32) → (Nat → Int32) → (Nat → Int32) → (Nat → Int32) → (Nat → Int32) → (Nat → Int32) → Prop} {xs : Nat → Int32} {L i n kc ks : Nat} {w : Nat → Nat} {x2 x9 : Int32} (h : mx_OK n a1 a2 w) (hi : i + 3 ≤ L) (hL : L ≤ 260) (hx : (x9 = -1 ∧ x2 = nI n) ∨ x9 = nI n)
    (HJ : ∀ (n : Nat) (w : Nat → Nat) (x y z : Int32) (b1 b2 b3 b4 b5 b6 b7 b8 b9 : Nat → Int32), mx_OK n b1 b2 w → J (nI n) (nI (i + 3)) (nI n) x y z b1 b2 b3 b4 b5 b6 b7 b8 b9) :
    wL_law_244 (fun r => r = 1) L xs J x2 (nI i) x9 kc ks (nI n) bl ba tl a1 a2 a3 a4 a5 a6 a7 a8 a9 := by
  have hn := h.1
  rcases hx with ⟨e1, e2⟩ | e1
  · subst e1
    subst e2
    exact br_t (by decide) (mx_l276 h hi hL HJ)
  · subst e1
    exact br_f (nI_pos (by omega)) (mx_l276 h hi hL HJ)
theorem mx_l147 {J : Int32 → Int32 → Int32 → Int32 → Int32 → Int32 → (Nat → Int32) → (Nat → Int32) → (Nat → Int32) → (Nat → Int32) → (Nat → Int32) → (Nat → Int32) → (Nat → Int32) → (Nat → Int32) → (Nat → Int32) → Prop} {xs : Nat → Int32} {L i n kc ks : Nat} {w : Nat → Nat} {x2 x9 : Int32} (h : mx_OK n a1 a2 w) (hi : i + 3 ≤ L) (hL : L ≤ 260) (hx : (x9 = -1 ∧ x2 = nI n) ∨ x9 = nI n)
    (HJ : ∀ (n : Nat) (w : Nat → Nat) (x y z : Int32) (b1 b2 b3 b4 b5 b6 b7 b8 b9 : Nat → Int32), mx_OK n b1 b2 w → J (nI n) (nI (i + 3)) (nI n) x y z b1 b2 b3 b4 b5 b6 b7 b8 b9) :
    wL_law_147 (fun r => r = 1) L xs J x2 (nI i) x9 kc ks (nI n) bl ba tl a1 a2 a3 a4 a5 a6 a7 a8 a9 := by
  have hn := h.1
  rcases hx with ⟨e1, e2⟩ | e1
  · subst e1
    subst e2
    exact br_t (by decide) (mx_l276 h hi hL HJ)
  · subst e1
    exact br_f (nI_pos (by omega)) (mx_l276 h hi hL HJ)
/-- a soft clause, and what the law says of it -/
theorem mx_l189 {J : Int32 → Int32 → Int32 → Int32 → Int32 → Int32 → (Nat → Int32) → (Nat → Int32) → (Nat → Int32) → (Nat → Int32) → (Nat → Int32) → (Nat → Int32) → (Nat → Int32) → (Nat → Int32) → (Nat → Int32) → Prop} {xs : Nat → Int32} {L i n q kc ks : Nat} {w : Nat → Nat} {o : Option Nat} {c : Int32} (h : mx_OK n a1 a2 w) (hi : i + 3 ≤ L) (hL : L ≤ 260) (hq1 : 1 ≤ q) (hq : q ≤ 50) (ho : mx_min (fun _ => True) a1 w n o)
    (HJ : ∀ (n : Nat) (w : Nat → Nat) (x y z : Int32) (b1 b2 b3 b4 b5 b6 b7 b8 b9 : Nat → Int32), mx_OK n b1 b2 w → J (nI n) (nI (i + 3)) (nI n) x y z b1 b2 b3 b4 b5 b6 b7 b8 b9) :
    wL_law_189 (fun r => r = 1) L xs J (nI n) (nI i) (nI q) (mx_r o) c kc ks (nI n) bl ba tl a1 a2 a3 a4 a5 a6 a7 a8 a9 := by
  have hn := h.1
  refine mx_soft h hq1 hq ?_ ?_
  · refine mx_loss h (fun o2 x y z b3 b4 b5 b6 b7 b8 b9 ho2 => ?_)
    have e := mx_min_uq ho ho2
    subst e
    cases o2 with
    | none => exact br_f (by decide) (br_t (by decide) (mx_l244 h hi hL (Or.inl ⟨rfl, rfl⟩) HJ))
    | some m =>
      have hm := mx_min_le ho
      exact br_t (nI_pos' (by omega)) (pk_lt m m (fun z => absurd z (by omega)) (fun _ => br_f (by decide) (pk_le m m (fun _ => mx_l244 h hi hL (Or.inl ⟨rfl, rfl⟩) HJ) (fun z => absurd z (by omega)))))
  · intro c1 c2 w2 h2 hmore
    refine mx_loss h2 (fun o2 x y z b3 b4 b5 b6 b7 b8 b9 ho2 => ?_)
    cases o with
    | none =>
      have e := mx_more_none hmore ho ho2
      subst e
      exact br_f (by decide) (br_t (by decide) (mx_l244 h2 hi hL (Or.inr rfl) HJ))
    | some m =>
      have hm := mx_min_le ho
      obtain ⟨m2, e, hm1, hm2⟩ := mx_more_soft hmore hq1 ho ho2
      subst e
      exact br_t (nI_pos' (by omega)) (pk_lt m2 m (fun z => absurd z (by omega)) (fun _ => br_t (nI_pos' (by omega)) (pk_le m2 (m + q) (fun _ => mx_l244 h2 hi hL (Or.inr rfl) HJ) (fun z => absurd z (by omega)) rfl (nI_add m q))))
/-- one turn -/
theorem mx_l75 {J : Int32 → Int32 → Int32 → Int32 → Int32 → Int32 → (Nat → Int32) → (Nat → Int32) → (Nat → Int32) → (Nat → Int32) → (Nat → Int32) → (Nat → Int32) → (Nat → Int32) → (Nat → Int32) → (Nat → Int32) → Prop} {xs : Nat → Int32} {L i n kc ks : Nat} {w : Nat → Nat} {x4 x5 z0 z1 : Int32} (h : mx_OK n a1 a2 w) (hi : i + 3 ≤ L) (hL : L ≤ 260)
    (HJ : ∀ (n : Nat) (w : Nat → Nat) (x y z : Int32) (b1 b2 b3 b4 b5 b6 b7 b8 b9 : Nat → Int32), mx_OK n b1 b2 w → J (nI n) (nI (i + 3)) (nI n) x y z b1 b2 b3 b4 b5 b6 b7 b8 b9) :
    wL_law_75 (fun r => r = 1) L xs J (nI n) (nI i) x4 x5 z0 z1 kc ks (nI n) bl ba tl a1 a2 a3 a4 a5 a6 a7 a8 a9 := by
  have hn := h.1
  obtain ⟨j, hj, ej⟩ := pk_andE (xs (nI i + 2).toNatClampNeg) (m := 255) 8 (by decide)
  have hj' : j < 256 := hj
  have e7 : 1 + (((xs (nI i + 2).toNatClampNeg) &&& 255) - ((xs (nI i + 2).toNatClampNeg) &&& 255) / 50 * 50) = nI (1 + j % 50) := by
    rw [ej]
    show nI 1 + (nI j - nI j / nI 50 * nI 50) = nI (1 + j % 50)
    rw [pk_rem (by omega) (by omega) (by omega), nI_add]
  refine nm_e ⟨pk_in (i + 2) L (by omega) (nI_add i 2) (by omega), by decide, nm_r e7 (mx_loss h (fun o x y z b3 b4 b5 b6 b7 b8 b9 ho => ?_))⟩
  refine br_c (fun _ => br_c (fun _ => pk_le n 0 (fun _ => mx_l276 h hi hL HJ) (fun zn => ⟨nI_ne0 zn (by omega), ?_⟩)) (fun _ => br_c (fun _ => mx_l189 h hi hL (by omega) (by omega) ho HJ) (fun _ => mx_l189 h hi hL (by omega) (by omega) ho HJ))) (fun _ => mx_hard h ?_ ?_)
  · obtain ⟨k, hk, ek⟩ := pk_andE x5 (m := 255) 8 (by decide)
    have hk' : k < 256 := hk
    obtain ⟨p, rfl⟩ : ∃ p, n = p + 1 := ⟨n - 1, by omega⟩
    rw [ek, pk_rem (by omega) (by omega) (by omega)]
    exact mx_drop h (Nat.mod_lt _ (by omega)) (fun c1 c2 w2 h2 => mx_l276 h2 hi hL HJ)
  · refine mx_loss h (fun o2 x2 y2 z2 c3 c4 c5 c6 c7 c8 c9 ho2 => ?_)
    have e := mx_min_uq ho ho2
    subst e
    cases o2 with
    | none => exact br_f (by decide) (br_t (by decide) (mx_l147 h hi hL (Or.inl ⟨rfl, rfl⟩) HJ))
    | some m =>
      have hm := mx_min_le ho
      exact br_t (nI_pos' (by omega)) (br_f (nI_pos (by omega)) (pk_le m m (fun _ => mx_l147 h hi hL (Or.inl ⟨rfl, rfl⟩) HJ) (fun z => absurd z (by omega))))
  · intro c1 c2 w2 h2 hmore
    refine mx_loss h2 (fun o2 x2 y2 z2 d3 d4 d5 d6 d7 d8 d9 ho2 => ?_)
    cases o with
    | none =>
      have e := mx_more_none hmore ho ho2
      subst e
      exact br_f (by decide) (br_t (by decide) (mx_l147 h2 hi hL (Or.inr rfl) HJ))
    | some m =>
      have hm := mx_min_le ho
      cases o2 with
      | none => exact br_t (nI_pos' (by omega)) (br_t (by decide) (mx_l147 h2 hi hL (Or.inr rfl) HJ))
      | some m2 =>
        have hm2 := mx_min_le ho2
        have hle := mx_more_le hmore ho ho2
        exact br_t (nI_pos' (by omega)) (br_f (nI_pos (by omega)) (pk_le m m2 (fun _ => mx_l147 h2 hi hL (Or.inr rfl) HJ) (fun z => absurd z (by omega))))
/-- the law's loop -/
theorem mx_l12 {xs : Nat → Int32} {L kc ks : Nat} (hL : L ≤ 260) : ∀ m i : Nat, i ≤ L → L < i + m → ∀ (n : Nat) (w : Nat → Nat) (x y z : Int32) (b1 b2 b3 b4 b5 b6 b7 b8 b9 : Nat → Int32), mx_OK n b1 b2 w → wL_law_12 (fun r => r = 1) L xs kc ks m (nI n) (nI i) (nI n) x y z b1 b2 b3 b4 b5 b6 b7 b8 b9 := by
  intro m
  induction m with
  | zero =>
    intro i hi hm
    exact absurd hm (by omega)
  | succ m ih =>
    intro i hi hm n w x y z b1 b2 b3 b4 b5 b6 b7 b8 b9 h
    refine pk_lt L (i + 3) (fun _ => mx_holds h (fun x2 y2 z2 c3 c4 c5 c6 c7 c8 c9 => rfl)) (fun hi3 => ⟨pk_in i L (by omega) rfl (by omega), nm_e ⟨pk_in (i + 1) L (by omega) (nI_1 i) (by omega), nm_e ?_⟩⟩) rfl (nI_add i 3)
    have HJ : ∀ (n : Nat) (w : Nat → Nat) (x y z : Int32) (b1 b2 b3 b4 b5 b6 b7 b8 b9 : Nat → Int32), mx_OK n b1 b2 w → wL_law_12 (fun r => r = 1) L xs kc ks m (nI n) (nI (i + 3)) (nI n) x y z b1 b2 b3 b4 b5 b6 b7 b8 b9 := fun n w x y z b1 b2 b3 b4 b5 b6 b7 b8 b9 h => ih (i + 3) (by omega) (by omega) n w x y z b1 b2 b3 b4 b5 b6 b7 b8 b9 h
    exact br_c (fun _ => mx_l75 h hi3 hL HJ) (fun _ => mx_l75 h hi3 hL HJ)
theorem i_vc (xs : Nat → Int32) (L : Nat) (hL : L ≤ 260) : wpL_law (fun r => r = 1) L xs := by
  refine ⟨9, 136, by omega, by omega, ?_⟩
  refine ⟨by omega, by omega, by omega, by omega, by omega, by omega, by omega, by omega, by omega, by omega, by omega, by omega, by omega, by omega, by omega, by omega, by omega, by omega, ⟨L + 1, ?_⟩⟩
  exact mx_l12 hL (L + 1) 0 (Nat.zero_le _) (by omega) 0 (fun _ => 0) 0 0 0 _ _ _ _ _ _ _ _ _ ⟨by omega, fun k hk => absurd hk (by omega), fun k hk => absurd hk (by omega)⟩
end
end
