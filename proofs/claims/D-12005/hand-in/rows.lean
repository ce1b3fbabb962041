section
/-! ===== counting ===== -/
def re_cn (p : Nat → Bool) : Nat → Nat
  | 0 => 0
  | n + 1 => re_cn p n + (if p n = true then 1 else 0)
def re_sm (f : Nat → Nat) : Nat → Nat
  | 0 => 0
  | n + 1 => re_sm f n + f n
theorem re_cn_t {p : Nat → Bool} {n : Nat} (h : p n = true) : re_cn p (n + 1) = re_cn p n + 1 := by
  show re_cn p n + (if p n = true then 1 else 0) = _
  rw [if_pos h]
theorem re_cn_f {p : Nat → Bool} {n : Nat} (h : p n = false) : re_cn p (n + 1) = re_cn p n := by
  show re_cn p n + (if p n = true then 1 else 0) = _
  rw [if_neg (by rw [h]; decide), Nat.add_zero]
theorem re_cn_le (p : Nat → Bool) (n : Nat) : re_cn p n ≤ n := by
  induction n with
  | zero => exact Nat.le_refl 0
  | succ n ih =>
    cases h : p n
    · rw [re_cn_f h]; omega
    · rw [re_cn_t h]; omega
theorem re_cn_mono {p q : Nat → Bool} {n : Nat} (h : ∀ i, i < n → p i = true → q i = true) : re_cn p n ≤ re_cn q n := by
  induction n with
  | zero => exact Nat.le_refl 0
  | succ n ih =>
    have t := ih (fun i hi => h i (by omega))
    cases hp : p n
    · rw [re_cn_f hp]
      cases hq : q n
      · rw [re_cn_f hq]; exact t
      · rw [re_cn_t hq]; omega
    · rw [re_cn_t hp, re_cn_t (h n (by omega) hp)]; omega
theorem re_cn_add (p : Nat → Bool) (a b : Nat) : re_cn p (a + b) = re_cn p a + re_cn (fun i => p (a + i)) b := by
  induction b with
  | zero => rfl
  | succ b ih =>
    show re_cn p (a + b) + (if p (a + b) = true then 1 else 0) = re_cn p a + (re_cn (fun i => p (a + i)) b + (if p (a + b) = true then 1 else 0))
    rw [ih]; omega
theorem re_cn_zero {p : Nat → Bool} {n : Nat} (h : ∀ i, i < n → p i = false) : re_cn p n = 0 := by
  induction n with
  | zero => rfl
  | succ n ih => rw [re_cn_f (h n (by omega))]; exact ih (fun i hi => h i (by omega))
theorem re_cn_up (p : Nat → Bool) {a b : Nat} (h : a ≤ b) : re_cn p a ≤ re_cn p b := by
  obtain ⟨k, rfl⟩ : ∃ k, b = a + k := ⟨b - a, by omega⟩
  rw [re_cn_add]; omega
theorem re_cn_lt {p : Nat → Bool} {a b : Nat} (h : a < b) (ha : p a = true) : re_cn p a < re_cn p b := by
  have t := re_cn_up p (show a + 1 ≤ b from h)
  rw [re_cn_t ha] at t
  omega
theorem re_cn_prod {p q g : Nat → Bool} {m : Nat} (D : Nat) (h : ∀ d c, d < D → c < m → p (d * m + c) = true → q c = true ∧ g d = true) : re_cn p (D * m) ≤ re_cn g D * re_cn q m := by
  induction D with
  | zero => rw [Nat.zero_mul]; exact Nat.zero_le _
  | succ D ih =>
    have t := ih (fun d c hd hc => h d c (by omega) hc)
    rw [Nat.succ_mul, re_cn_add]
    cases hg : g D
    · rw [re_cn_f hg, re_cn_zero (p := fun i => p (D * m + i)) (n := m)]
      · exact t
      · intro i hi
        cases hp : p (D * m + i)
        · rfl
        · have := (h D i (by omega) hi hp).2
          rw [hg] at this
          exact absurd this (by decide)
    · have t2 : re_cn (fun i => p (D * m + i)) m ≤ re_cn q m := re_cn_mono (fun i hi hp => (h D i (by omega) hi hp).1)
      rw [re_cn_t hg, Nat.succ_mul]
      omega
theorem re_sm_cn (A : Nat → Nat) (b : Nat → Bool) (F : Nat) : re_sm (fun f => A f + (if b f = true then 1 else 0)) F = re_sm A F + re_cn b F := by
  induction F with
  | zero => rfl
  | succ F ih =>
    show re_sm (fun f => A f + (if b f = true then 1 else 0)) F + (A F + (if b F = true then 1 else 0)) = (re_sm A F + A F) + (re_cn b F + (if b F = true then 1 else 0))
    rw [ih]; omega
theorem re_sm_0 (F : Nat) : re_sm (fun _ => 0) F = 0 := by
  induction F with
  | zero => rfl
  | succ F ih =>
    show re_sm (fun _ => 0) F + 0 = 0
    rw [ih]
theorem re_sm_add (A B : Nat → Nat) (F : Nat) : re_sm (fun f => A f + B f) F = re_sm A F + re_sm B F := by
  induction F with
  | zero => rfl
  | succ F ih =>
    show re_sm (fun f => A f + B f) F + (A F + B F) = (re_sm A F + A F) + (re_sm B F + B F)
    rw [ih]; omega
theorem re_sm_up (f : Nat → Nat) {a b : Nat} (h : a ≤ b) : re_sm f a ≤ re_sm f b := by
  induction b with
  | zero => rw [show a = 0 by omega]; exact Nat.le_refl _
  | succ b ih =>
    rcases Nat.lt_or_ge a (b + 1) with z | z
    · have := ih (by omega)
      show _ ≤ re_sm f b + f b
      omega
    · rw [show a = b + 1 by omega]; exact Nat.le_refl _
/-- a double count: each c is counted for at most K of the f -/
theorem re_dbl (p : Nat → Bool) (h : Nat → Nat → Bool) (K F n : Nat) (hk : ∀ c, c < n → re_cn (fun f => h c f) F ≤ K) : re_sm (fun f => re_cn (fun c => p c && h c f) n) F ≤ K * re_cn p n := by
  induction n with
  | zero =>
    show re_sm (fun _ => 0) F ≤ _
    rw [re_sm_0]; exact Nat.zero_le _
  | succ n ih =>
    have t := ih (fun c hc => hk c (by omega))
    show re_sm (fun f => re_cn (fun c => p c && h c f) n + (if (p n && h n f) = true then 1 else 0)) F ≤ _
    rw [re_sm_cn (fun f => re_cn (fun c => p c && h c f) n) (fun f => p n && h n f) F]
    cases hp : p n
    · rw [re_cn_f hp, re_cn_zero (p := fun f => false && h n f) (fun i hi => Bool.false_and _)]
      exact t
    · have e : re_cn (fun f => true && h n f) F ≤ K := Nat.le_trans (re_cn_mono (fun i hi z => by simpa using z)) (hk n (by omega))
      rw [re_cn_t hp, Nat.mul_succ]
      omega
/-! ===== powers of eight ===== -/
theorem re_8 {L : Nat} (h : L ≤ 3) : (L = 0 ∧ 8 ^ L = 1) ∨ (L = 1 ∧ 8 ^ L = 8) ∨ (L = 2 ∧ 8 ^ L = 64) ∨ (L = 3 ∧ 8 ^ L = 512) := by
  have : L = 0 ∨ L = 1 ∨ L = 2 ∨ L = 3 := by omega
  rcases this with rfl | rfl | rfl | rfl <;> simp
theorem re_8s (L : Nat) : 8 ^ (L + 1) = 8 ^ L * 8 := Nat.pow_succ ..
theorem re_8p (L : Nat) : 0 < 8 ^ L := Nat.pow_pos (by decide)
/-! ===== members as bits ===== -/
def re_m (a : Nat → Int64) (r L c : Nat) : Bool := (a (r * 11 + L + c / 64)).toBitVec.getLsbD (c % 64)
def re_one (c : Nat) : Int64 := (1 : Int64) <<< ((nI c &&& 63).toInt64 &&& 63)
def re_set (a : Nat → Int64) (r L c : Nat) : Nat → Int64 := vp_updL a (r * 11 + L + c / 64) (a (r * 11 + L + c / 64) ||| re_one c)
theorem re_ts_bit {w : Int64} {s : UInt64} {j : Nat} (hj : j < 64) (hs : s.toNat = j) : ((w.toUInt64 >>> s).toInt64 &&& 1) = 0 ↔ w.toBitVec.getLsbD j = false := by
  have e : (w.toUInt64 >>> s).toInt64.toBitVec = w.toBitVec >>> j := by
    apply BitVec.eq_of_toNat_eq
    show (w.toUInt64 >>> s).toNat = _
    rw [UInt64.toNat_shiftRight, hs, Nat.mod_eq_of_lt hj, BitVec.toNat_ushiftRight]
    rfl
  rw [← Int64.toBitVec_inj, Int64.toBitVec_and, e]
  show w.toBitVec >>> j &&& 1#64 = 0#64 ↔ _
  constructor
  · intro h
    have t := congrArg (fun x => x.getLsbD 0) h
    simpa using t
  · intro h
    apply BitVec.eq_of_getLsbD_eq
    intro i hi
    cases i with
    | zero => simp [h]
    | succ i => simp
theorem re_a63 {c : Nat} (h : c < 512) : nI c &&& 63 = nI (c % 64) := pk_andN (by omega) 6 (by decide)
theorem re_cu : ∀ k, k < 64 → ((nI k).toInt64.toUInt64 &&& Int64.toUInt64 63).toNat = k := by decide +kernel
theorem re_tw : ∀ k, k < 64 → ((1 : Int64) <<< ((nI k).toInt64 &&& 63)).toBitVec = BitVec.twoPow 64 k := by decide +kernel
theorem re_bit0 (w : Int64) {c : Nat} (hc : c < 512) : ((w.toUInt64 >>> ((nI c &&& 63).toInt64.toUInt64 &&& Int64.toUInt64 63)).toInt64 &&& 1) = 0 ↔ w.toBitVec.getLsbD (c % 64) = false := by
  rw [re_a63 hc]
  exact re_ts_bit (by omega) (re_cu _ (by omega))
theorem re_or1 (w : Int64) {c j : Nat} (hc : c < 512) (hj : j < 64) : (w ||| re_one c).toBitVec.getLsbD j = (w.toBitVec.getLsbD j || decide (c % 64 = j)) := by
  unfold re_one
  rw [re_a63 hc, Int64.toBitVec_or, BitVec.getLsbD_or, re_tw _ (by omega), BitVec.getLsbD_twoPow]
  have : c % 64 < 64 := by omega
  simp [this]
theorem re_w11 {r L c : Nat} (hL : L ≤ 3) (hc : c < 8 ^ L) : r * 11 + L + c / 64 < r * 11 + 11 := by
  rcases re_8 hL with ⟨e, e2⟩ | ⟨e, e2⟩ | ⟨e, e2⟩ | ⟨e, e2⟩ <;> rw [e2] at hc <;> omega
theorem re_512 {L c : Nat} (hL : L ≤ 3) (hc : c < 8 ^ L) : c < 512 := by
  rcases re_8 hL with ⟨e, e2⟩ | ⟨e, e2⟩ | ⟨e, e2⟩ | ⟨e, e2⟩ <;> rw [e2] at hc <;> omega
theorem re_inj {r r' L L' c c' : Nat} (hL : L ≤ 3) (hL' : L' ≤ 3) (hc : c < 8 ^ L) (hc' : c' < 8 ^ L') (h1 : r' * 11 + L' + c' / 64 = r * 11 + L + c / 64) (h2 : c % 64 = c' % 64) : r' = r ∧ L' = L ∧ c' = c := by
  have t1 := re_w11 (r := r) hL hc
  have t2 := re_w11 (r := r') hL' hc'
  have hr : r' = r := by omega
  subst hr
  have key : L + c / 64 = L' + c' / 64 := by omega
  rcases re_8 hL with ⟨e, e2⟩ | ⟨e, e2⟩ | ⟨e, e2⟩ | ⟨e, e2⟩ <;> rw [e2] at hc <;>
    rcases re_8 hL' with ⟨f, f2⟩ | ⟨f, f2⟩ | ⟨f, f2⟩ | ⟨f, f2⟩ <;> rw [f2] at hc' <;> omega
theorem re_set_old {a : Nat → Int64} {r L c r' L' c' : Nat} (hL : L ≤ 3) (hc : c < 8 ^ L) (h : re_m a r' L' c' = true) : re_m (re_set a r L c) r' L' c' = true := by
  unfold re_m re_set
  by_cases e : r' * 11 + L' + c' / 64 = r * 11 + L + c / 64
  · rw [e, pk_uLs, re_or1 _ (re_512 hL hc) (by omega), ← e]
    unfold re_m at h
    rw [h, Bool.true_or]
  · rw [pk_uLn e]; exact h
theorem re_set_new {a : Nat → Int64} {r L c r' L' c' : Nat} (hL : L ≤ 3) (hL' : L' ≤ 3) (hc : c < 8 ^ L) (hc' : c' < 8 ^ L') (h : re_m (re_set a r L c) r' L' c' = true) : re_m a r' L' c' = true ∨ (r' = r ∧ L' = L ∧ c' = c) := by
  unfold re_m re_set at h
  by_cases e : r' * 11 + L' + c' / 64 = r * 11 + L + c / 64
  · rw [e, pk_uLs, re_or1 _ (re_512 hL hc) (by omega), ← e] at h
    rw [Bool.or_eq_true] at h
    rcases h with h | h
    · exact Or.inl h
    · exact Or.inr (re_inj hL hL' hc hc' e (of_decide_eq_true h))
  · rw [pk_uLn e] at h
    exact Or.inl h
theorem re_set_out {a : Nat → Int64} {r L c k : Nat} (hL : L ≤ 3) (hc : c < 8 ^ L) (h : k < r * 11 ∨ r * 11 + 11 ≤ k) : re_set a r L c k = a k := by
  have t := re_w11 (r := r) hL hc
  exact pk_uLn (by omega)
/-! ===== the invariant of one rule ===== -/
def re_I (gd : Nat → Nat → Bool) (a : Nat → Int64) (r s : Nat) : Prop := re_m a r 0 0 = true ∧ ∀ L, L < s → ∀ c, c < 8 ^ (L + 1) → re_m a r (L + 1) c = true → re_m a r L (c % 8 ^ L) = true ∧ gd (r * 3 + L) (c / 8 ^ L) = true
theorem re_next {L c g : Nat} (hc : c < 8 ^ L) (hg : g < 8) : c + g * 8 ^ L < 8 ^ (L + 1) ∧ (c + g * 8 ^ L) % 8 ^ L = c ∧ (c + g * 8 ^ L) / 8 ^ L = g := by
  refine ⟨?_, ?_, ?_⟩
  · rw [re_8s]
    have : g * 8 ^ L ≤ 7 * 8 ^ L := Nat.mul_le_mul_right _ (by omega)
    omega
  · rw [Nat.add_mul_mod_self_right, Nat.mod_eq_of_lt hc]
  · rw [Nat.add_mul_div_right _ _ (re_8p L), Nat.div_eq_of_lt hc, Nat.zero_add]
theorem re_I_set {gd : Nat → Nat → Bool} {a : Nat → Int64} {r s L c g : Nat} (hs : s ≤ 3) (hL : L < s) (hc : c < 8 ^ L) (hg : g < 8) (hI : re_I gd a r s) (hm : re_m a r L c = true) (hgd : gd (r * 3 + L) g = true) : re_I gd (re_set a r (L + 1) (c + g * 8 ^ L)) r s := by
  obtain ⟨n1, n2, n3⟩ := re_next hc hg
  refine ⟨re_set_old (by omega) n1 hI.1, fun L' hL' c' hc' h => ?_⟩
  rcases re_set_new (by omega) (by omega) n1 hc' h with h | ⟨_, e1, e2⟩
  · exact ⟨re_set_old (by omega) n1 (hI.2 L' hL' c' hc' h).1, (hI.2 L' hL' c' hc' h).2⟩
  · have e1' : L' = L := by omega
    subst e1'
    rw [e2, n2, n3]
    exact ⟨re_set_old (by omega) n1 hm, hgd⟩
theorem re_I_cong {gd : Nat → Nat → Bool} {a a' : Nat → Int64} {r s : Nat} (hs : s ≤ 3) (h : ∀ k, r * 11 ≤ k → k < r * 11 + 11 → a' k = a k) (hI : re_I gd a r s) : re_I gd a' r s := by
  have e : ∀ L c, L ≤ 3 → c < 8 ^ L → re_m a' r L c = re_m a r L c := by
    intro L c hL hc
    unfold re_m
    rw [h _ (by omega) (re_w11 hL hc)]
  refine ⟨by rw [e 0 0 (by omega) (by decide)]; exact hI.1, fun L hL c hc hm => ?_⟩
  rw [e _ _ (by omega) hc] at hm
  rw [e _ _ (by omega) (Nat.mod_lt _ (re_8p L))]
  exact hI.2 L hL c hc hm
/-! digits -/
def re_dg (c i : Nat) : Nat := c / 8 ^ i % 8
theorem re_dig {gd : Nat → Nat → Bool} {a : Nat → Int64} {r s : Nat} (hI : re_I gd a r s) : ∀ L, L ≤ s → ∀ c, c < 8 ^ L → re_m a r L c = true → ∀ i, i < L → gd (r * 3 + i) (re_dg c i) = true := by
  intro L
  induction L with
  | zero => intro _ c _ _ i hi; exact absurd hi (by omega)
  | succ L ih =>
    intro hL c hc hm i hi
    obtain ⟨h1, h2⟩ := hI.2 L (by omega) c hc hm
    by_cases e : i = L
    · subst e
      unfold re_dg
      rw [Nat.mod_eq_of_lt (Nat.div_lt_of_lt_mul (by rw [re_8s] at hc; exact hc))]
      exact h2
    · have t := ih (by omega) _ (Nat.mod_lt _ (re_8p L)) h1 i (by omega)
      have e2 : re_dg (c % 8 ^ L) i = re_dg c i := by
        unfold re_dg
        obtain ⟨k, rfl⟩ : ∃ k, L = i + (k + 1) := ⟨L - i - 1, by omega⟩
        rw [Nat.pow_add, Nat.mod_mul_right_div_self, Nat.pow_succ, Nat.mul_comm (8 ^ k) 8, Nat.mod_mul_right_mod]
      rw [e2] at t
      exact t
/-- one level's count against the level before it -/
theorem re_lev {gd : Nat → Nat → Bool} {a : Nat → Int64} {r s L : Nat} (hI : re_I gd a r s) (hL : L < s) : re_cn (fun c => re_m a r (L + 1) c) (8 ^ (L + 1)) ≤ re_cn (fun d => gd (r * 3 + L) d) 8 * re_cn (fun c => re_m a r L c) (8 ^ L) := by
  rw [re_8s, Nat.mul_comm (8 ^ L) 8]
  refine re_cn_prod 8 (fun d c hd hc h => ?_)
  have n := re_next hc hd
  have e : d * 8 ^ L + c = c + d * 8 ^ L := by omega
  rw [e] at h
  obtain ⟨h1, h2⟩ := hI.2 L hL _ n.1 h
  rw [n.2.1] at h1
  rw [n.2.2] at h2
  exact ⟨h1, h2⟩
end
section
/-! ===== numbers ===== -/
theorem re_sl : ∀ n, n < 32 → ((nI n &&& 31).toBitVec.smod 32).toNat = n := by decide +kernel
theorem re_pb : ∀ P, P < 128 → ∀ d, d < 8 → ((nI P >>> (nI d &&& 31)) &&& 1) = nI (if P.testBit d = true then 1 else 0) := by decide +kernel
theorem re_cod : ∀ L, L < 4 → (1 : Int32) <<< ((3 * nI L) &&& 31) = nI (8 ^ L) := by decide +kernel
theorem re_nxt : ∀ L, L < 3 → ∀ g, g < 8 → ∀ c, c < 64 → c < 8 ^ L → nI c ||| (nI g <<< ((3 * nI L) &&& 31)) = nI (c + g * 8 ^ L) := by decide +kernel
theorem re_dgt : ∀ i, i < 3 → ∀ c, c < 512 → (nI c >>> ((3 * nI i) &&& 31)) &&& 7 = nI (c / 8 ^ i % 8) := by decide +kernel
theorem re_wd (r L : Nat) {c : Nat} (h : c < 512) : ((nI r * 11) + nI L) + (nI c >>> ((6 : Int32) &&& 31)) = nI (r * 11 + L + c / 64) := by
  rw [pk_shrN (by omega) _ 6 (by decide), show (11 : Int32) = nI 11 from rfl, pk_mul, nI_add, nI_add]
/-! ===== the facts and the conditions ===== -/
def re_ok (a1 a2 a3 a5 a6 a7 : Nat → Int32) (c g : Nat) : Bool := decide (a1 g = a5 c) && ((decide (4 ≤ a6 c) || decide (a6 c = a2 g)) && (decide (4 ≤ a7 c) || decide (a7 c = a3 g)))
def re_gd (P : Nat) (a1 a2 a3 a5 a6 a7 a8 : Nat → Int32) (c d : Nat) : Bool := if a8 c = 0 then decide (d < 7) && (P.testBit d && re_ok a1 a2 a3 a5 a6 a7 c d) else decide (d = 7)
theorem re_gdP {P : Nat} {a1 a2 a3 a5 a6 a7 a8 : Nat → Int32} {c d : Nat} (h0 : a8 c = 0) (hd : d < 7) (hP : P.testBit d = true) (hk : re_ok a1 a2 a3 a5 a6 a7 c d = true) : re_gd P a1 a2 a3 a5 a6 a7 a8 c d = true := by
  unfold re_gd
  rw [if_pos h0, hP, hk, decide_eq_true hd]
  rfl
theorem re_gdN {P : Nat} {a1 a2 a3 a5 a6 a7 a8 : Nat → Int32} {c : Nat} (h0 : ¬ a8 c = 0) : re_gd P a1 a2 a3 a5 a6 a7 a8 c 7 = true := by
  unfold re_gd
  rw [if_neg h0]
  rfl
theorem re_gdE {P : Nat} {a1 a2 a3 a5 a6 a7 a8 : Nat → Int32} {c d : Nat} (h : re_gd P a1 a2 a3 a5 a6 a7 a8 c d = true) : (a8 c = 0 → d < 7 ∧ P.testBit d = true ∧ re_ok a1 a2 a3 a5 a6 a7 c d = true) ∧ (¬ a8 c = 0 → d = 7) := by
  unfold re_gd at h
  by_cases h0 : a8 c = 0
  · rw [if_pos h0] at h
    rw [Bool.and_eq_true, Bool.and_eq_true] at h
    exact ⟨fun _ => ⟨of_decide_eq_true h.1, h.2.1, h.2.2⟩, fun z => absurd h0 z⟩
  · rw [if_neg h0] at h
    exact ⟨fun z => absurd z h0, fun _ => of_decide_eq_true h⟩
section
variable {p : Int32} {a1 a2 a3 a4 a5 a6 a7 a8 : Nat → Int32} {w b : Nat → Int64} {x y : Nat → Int32}
theorem re_has {post : Int32 → Prop} {P : Nat} {q : Int32} (hP : P < 128) (h1 : ∀ g, g < 7 → q = nI g → P.testBit g = true → post 1) (h0 : (∀ g, g < 7 → q = nI g → P.testBit g = false) → post 0) : wpX_has post (nI P, a1, a2, a3, a4, a5, a6, a7, a8, w, b, x, y) q := by
  rcases pk_ix q (n := 7) (by decide) with h | h | ⟨j, hj, rfl⟩
  · exact br_t h (h0 (fun g hg e => absurd h (by rw [e]; exact nI_pos (by omega))))
  · have hn : ¬ q < 0 := by
      intro z
      rw [Int32.lt_iff_toInt_lt] at z
      rw [Int32.le_iff_toInt_le] at h
      have e7 : (nI 7).toInt = 7 := by decide
      have e0 : (0 : Int32).toInt = 0 := by decide
      omega
    exact br_f hn (br_t h (h0 (fun g hg e => absurd h (by rw [e]; exact nI_ge hg (by decide)))))
  · refine br_f (nI_pos (by omega)) (br_f (nI_ge (b := 7) hj (by decide)) ?_)
    rw [re_pb P hP j (by omega)]
    cases hb : P.testBit j
    · exact br_t rfl (h0 (fun g hg e => by rw [← (nI_eq (by omega) (by omega)).mp e]; exact hb))
    · exact br_f (by decide) (h1 j hj rfl hb)
theorem re_hasN {post : Int32 → Prop} {P g : Nat} (hP : P < 128) (hg : g < 7) (h1 : P.testBit g = true → post 1) (h0 : P.testBit g = false → post 0) : wpX_has post (nI P, a1, a2, a3, a4, a5, a6, a7, a8, w, b, x, y) (nI g) :=
  re_has hP (fun g' hg' e h => h1 (by rw [(nI_eq (by omega) (by omega)).mp e]; exact h)) (fun h => h0 (h g hg rfl))
theorem re_isIn {post : Int32 → Prop} {r L c : Nat} (hr : r < 3) (hL : L ≤ 3) (hc : c < 8 ^ L) (h1 : re_m w r L c = true → post 1) (h0 : re_m w r L c = false → post 0) : wpX_isIn post (p, a1, a2, a3, a4, a5, a6, a7, a8, w, b, x, y) (nI r) (nI L) (nI c) := by
  have t := re_w11 (r := r) hL hc
  have hc' := re_512 hL hc
  unfold wpX_isIn wpX_wordOf
  dsimp only
  rw [re_wd r L hc', nI_clamp (by omega)]
  refine ⟨vp_in_nI (by omega) (by decide), ?_⟩
  refine ek_if (re_bit0 _ hc') h0 (fun z => h1 ?_)
  unfold re_m
  cases e : (w (r * 11 + L + c / 64)).toBitVec.getLsbD (c % 64)
  · exact absurd e z
  · rfl
theorem re_wasIn {post : Int32 → Prop} {r L c : Nat} (hr : r < 3) (hL : L ≤ 3) (hc : c < 8 ^ L) (h1 : re_m b r L c = true → post 1) (h0 : re_m b r L c = false → post 0) : wpX_wasIn post (p, a1, a2, a3, a4, a5, a6, a7, a8, w, b, x, y) (nI r) (nI L) (nI c) := by
  have t := re_w11 (r := r) hL hc
  have hc' := re_512 hL hc
  unfold wpX_wasIn wpX_wordOf
  dsimp only
  rw [re_wd r L hc', nI_clamp (by omega)]
  refine ⟨vp_in_nI (by omega) (by decide), ?_⟩
  refine ek_if (re_bit0 _ hc') h0 (fun z => h1 ?_)
  unfold re_m
  cases e : (b (r * 11 + L + c / 64)).toBitVec.getLsbD (c % 64)
  · exact absurd e z
  · rfl
theorem re_put {post : St1 → Prop} {r L c : Nat} (hr : r < 3) (hL : L ≤ 3) (hc : c < 8 ^ L) (h : post (p, a1, a2, a3, a4, a5, a6, a7, a8, re_set w r L c, b, x, y)) : wpX_put post (p, a1, a2, a3, a4, a5, a6, a7, a8, w, b, x, y) (nI r) (nI L) (nI c) := by
  have t := re_w11 (r := r) hL hc
  have hc' := re_512 hL hc
  unfold wpX_put wpX_wordOf
  dsimp only
  rw [re_wd r L hc', nI_clamp (by omega)]
  exact ⟨vp_in_nI (by omega) (by decide), vp_in_nI (by omega) (by decide), nm_e h⟩
theorem re_meets {post : Int32 → St1 → Prop} {d v : Int32} (hd : ∃ k : Nat, k < 8 ∧ d = nI k) (H : ∀ r y', (r = 0 ∨ r = 1) → (r = 1 → 4 ≤ d ∨ d = v) → post r (p, a1, a2, a3, a4, a5, a6, a7, a8, w, b, x, y')) : wpX_meets post (p, a1, a2, a3, a4, a5, a6, a7, a8, w, b, x, y) d v := by
  obtain ⟨k, hk, rfl⟩ := hd
  have e11 : wX_meets_11 post (nI k) v p a1 a2 a3 a4 a5 a6 a7 a8 w b x y := by
    unfold wX_meets_11
    refine br_c (fun e => H 1 y (Or.inr rfl) (fun _ => Or.inl (by rw [e]; decide))) (fun _ => br_c (fun e => H 1 y (Or.inr rfl) (fun _ => Or.inr e)) (fun _ => H 0 y (Or.inl rfl) (fun z => absurd z (by decide))))
  refine pk_lt k 4 (fun _ => e11) (fun h4 => pk_eq k 7 (fun _ => e11) (fun h7 => ?_))
  have h4' : (4 : Int32) ≤ nI k := nI_le (a := 4) h4 (by omega)
  refine nm_r (e' := nI (k - 4)) (pk_sub (a := k) (b := 4) h4) ⟨vp_in_nI (by omega) (by decide), ?_⟩
  refine br_c (fun _ => ⟨vp_in_nI (by omega) (by decide), nm_e (H 1 _ (Or.inr rfl) (fun _ => Or.inl h4'))⟩) (fun _ => ⟨vp_in_nI (by omega) (by decide), ?_⟩)
  exact br_c (fun _ => H 1 _ (Or.inr rfl) (fun _ => Or.inl h4')) (fun _ => H 0 _ (Or.inl rfl) (fun z => absurd z (by decide)))
theorem re_f94 {post : Int32 → St1 → Prop} {k r : Int32} (hr : r = 0 ∨ r = 1) (H : ∀ x', post r (p, a1, a2, a3, a4, a5, a6, a7, a8, w, b, x', y)) : ∃ n, wX_fits_94 post k r p n 0 a1 a2 a3 a4 a5 a6 a7 a8 w b x y := by
  have nr : narrow .boolean (.int r) = .int r := by
    rcases hr with rfl | rfl <;> rfl
  exact pk_loop (fun n i s => wX_fits_94 post k r p n (nI i) a1 a2 a3 a4 a5 a6 a7 a8 w b s y) (fun _ _ => True) 3 0 x (by omega) trivial
    (fun n s _ => br_t (by decide) ⟨nr, H s⟩)
    (fun n i s hi _ hw => br_f (nI_ge (b := 3) hi (by decide)) (br_c (fun _ => ⟨nr, H s⟩) (fun _ => br_c (fun _ => ⟨nr, H s⟩) (fun _ => ⟨vp_in_nI hi (by decide), vp_in_nI hi (by decide), nm_e (nm_r (nI_1 i) (hw _ trivial))⟩))))
theorem re_f20 {post : Int32 → St1 → Prop} {k : Int32} {c g : Nat} (hc : c < 9) (hg : g < 7) (h6 : ∃ d : Nat, d < 8 ∧ a6 c = nI d) (h7 : ∃ d : Nat, d < 8 ∧ a7 c = nI d) (H : ∀ r x' y', (r = 0 ∨ r = 1) → (r = 1 → (4 ≤ a6 c ∨ a6 c = a2 g) ∧ (4 ≤ a7 c ∨ a7 c = a3 g)) → post r (p, a1, a2, a3, a4, a5, a6, a7, a8, w, b, x', y')) : ∃ n, wX_fits_20 post (nI c) (nI g) k p n 0 a1 a2 a3 a4 a5 a6 a7 a8 w b x y := by
  refine pk_loop (fun n i s => wX_fits_20 post (nI c) (nI g) k p n (nI i) a1 a2 a3 a4 a5 a6 a7 a8 w b x s) (fun _ _ => True) 3 0 y (by omega) trivial ?_ ?_
  · intro n s _
    refine br_t (by decide) ⟨vp_in_nI hc (by decide), vp_in_nI hg (by decide), ?_⟩
    rw [nI_clamp (n := c) (by omega), nI_clamp (n := g) (by omega)]
    refine re_meets h6 (fun r y' hr ho => ?_)
    refine br_c (fun e => re_f94 (Or.inl rfl) (fun x' => H 0 x' y' (Or.inl rfl) (fun z => absurd z (by decide)))) (fun e => ⟨vp_in_nI hc (by decide), vp_in_nI hg (by decide), ?_⟩)
    refine re_meets h7 (fun r2 y2 hr2 ho2 => ?_)
    refine br_c (fun e => re_f94 (Or.inl rfl) (fun x' => H 0 x' y2 (Or.inl rfl) (fun z => absurd z (by decide)))) (fun e2 => ?_)
    have q1 : r = 1 := by rcases hr with h | h; exact absurd h e; exact h
    have q2 : r2 = 1 := by rcases hr2 with h | h; exact absurd h e2; exact h
    exact re_f94 (Or.inr rfl) (fun x' => H 1 x' y2 (Or.inr rfl) (fun _ => ⟨ho q1, ho2 q2⟩))
  · intro n i s hi _ hw
    exact br_f (nI_ge (b := 3) hi (by decide)) ⟨vp_in_nI hi (by decide), vp_in_nI hi (by decide), nm_e (nm_r (nI_1 i) (hw _ trivial))⟩
theorem re_fits {post : Int32 → St1 → Prop} {k : Int32} {c g : Nat} (hc : c < 9) (hg : g < 7) (h6 : ∃ d : Nat, d < 8 ∧ a6 c = nI d) (h7 : ∃ d : Nat, d < 8 ∧ a7 c = nI d) (H : ∀ r x' y', (r = 0 ∨ r = 1) → (r = 1 → re_ok a1 a2 a3 a5 a6 a7 c g = true) → post r (p, a1, a2, a3, a4, a5, a6, a7, a8, w, b, x', y')) : wpX_fits post (p, a1, a2, a3, a4, a5, a6, a7, a8, w, b, x, y) (nI c) (nI g) k := by
  refine ⟨vp_in_nI hg (by decide), vp_in_nI hc (by decide), ?_⟩
  rw [nI_clamp (n := c) (by omega), nI_clamp (n := g) (by omega)]
  refine br_c (fun e => re_f20 hc hg h6 h7 (fun r x' y' hr ho => H r x' y' hr (fun z => ?_))) (fun _ => H 0 x y (Or.inl rfl) (fun z => absurd z (by decide)))
  obtain ⟨o1, o2⟩ := ho z
  unfold re_ok
  rw [decide_eq_true e, Bool.true_and, Bool.and_eq_true, Bool.or_eq_true, Bool.or_eq_true]
  exact ⟨o1.imp decide_eq_true decide_eq_true, o2.imp decide_eq_true decide_eq_true⟩
end
end
section
theorem re_cell (r i : Nat) : nI r * 3 + nI i = nI (r * 3 + i) := by
  rw [show (3 : Int32) = nI 3 from rfl, pk_mul, nI_add]
def re_W (a : Nat → Int32) : Prop := ∀ k, k < 9 → ∃ d : Nat, d < 8 ∧ a k = nI d
section
variable {p : Int32} {a1 a2 a3 a4 a5 a6 a7 a8 : Nat → Int32} {w b : Nat → Int64} {x y : Nat → Int32}
theorem re_b26 {post : St1 → Prop} {r L c : Nat} (hr : r < 3) (hL : L < 3) (hc : c < 512) (h6 : re_W a6) (h7 : re_W a7) (H : ∀ x' y', post (p, a1, a2, a3, a4, a5, a6, a7, a8, w, b, x', y')) : ∃ n, wX_bindAlong_26 post (nI r) (nI L) (nI c) n 0 p a1 a2 a3 a4 a5 a6 a7 a8 w b x y := by
  refine pk_loop (fun n i s => wX_bindAlong_26 post (nI r) (nI L) (nI c) n (nI i) p a1 a2 a3 a4 a5 a6 a7 a8 w b s.1 s.2) (fun _ _ => True) L 0 (x, y) (by omega) trivial ?_ ?_
  · intro n s _
    exact br_t (nI_le (Nat.le_refl L) (by omega)) (H s.1 s.2)
  · intro n i s hi _ hw
    refine br_f (nI_ge hi (by omega)) (nm_r (re_dgt i (by omega) c hc) (pk_eq (c / 8 ^ i % 8) 7 (fun _ => nm_r (nI_1 i) (hw s trivial)) (fun ne => ?_)))
    rw [re_cell r i]
    exact re_fits (by omega) (by omega) (h6 _ (by omega)) (h7 _ (by omega)) (fun _ x' y' _ _ => nm_r (nI_1 i) (hw (x', y') trivial))
theorem re_b3 {post : St1 → Prop} {r L c : Nat} (hr : r < 3) (hL : L < 3) (hc : c < 512) (h6 : re_W a6) (h7 : re_W a7) (H : ∀ x' y', post (p, a1, a2, a3, a4, a5, a6, a7, a8, w, b, x', y')) : ∃ n, wX_bindAlong_3 post (nI r) (nI L) (nI c) p n 0 a1 a2 a3 a4 a5 a6 a7 a8 w b x y := by
  refine pk_loop (fun n i s => wX_bindAlong_3 post (nI r) (nI L) (nI c) p n (nI i) a1 a2 a3 a4 a5 a6 a7 a8 w b s y) (fun _ _ => True) 3 0 x (by omega) trivial ?_ ?_
  · intro n s _
    exact br_t (by decide) (re_b26 hr hL hc h6 h7 H)
  · intro n i s hi _ hw
    exact br_f (nI_ge (b := 3) hi (by decide)) ⟨vp_in_nI hi (by decide), nm_e (nm_r (nI_1 i) (hw _ trivial))⟩
theorem re_bind {post : St1 → Prop} {r L c : Nat} (hr : r < 3) (hL : L < 3) (hc : c < 512) (h6 : re_W a6) (h7 : re_W a7) (H : ∀ x' y', post (p, a1, a2, a3, a4, a5, a6, a7, a8, w, b, x', y')) : wpX_bindAlong post (p, a1, a2, a3, a4, a5, a6, a7, a8, w, b, x, y) (nI r) (nI L) (nI c) :=
  re_b3 hr hL hc h6 h7 H
theorem re_any {post : Int32 → St1 → Prop} {P c : Nat} (hP : P < 128) (hc : c < 9) (h6 : re_W a6) (h7 : re_W a7) (H : ∀ r x' y', post r (nI P, a1, a2, a3, a4, a5, a6, a7, a8, w, b, x', y')) : wpX_anyFits post (nI P, a1, a2, a3, a4, a5, a6, a7, a8, w, b, x, y) (nI c) := by
  refine pk_loop (fun n i s => wX_anyFits_2 post (nI c) n (nI i) (nI P) a1 a2 a3 a4 a5 a6 a7 a8 w b s.1 s.2) (fun _ _ => True) 7 0 (x, y) (by omega) trivial ?_ ?_
  · intro n s _
    exact br_t (by decide) (H 0 s.1 s.2)
  · intro n i s hi _ hw
    refine br_f (nI_ge (b := 7) hi (by decide)) (re_hasN hP hi (fun _ => ?_) (fun _ => ?_))
    · refine br_f (by decide) (re_fits hc hi (h6 _ hc) (h7 _ hc) (fun r x' y' _ _ => ?_))
      exact br_c (fun _ => nm_r (nI_1 i) (hw (x', y') trivial)) (fun _ => H 1 x' y')
    · exact br_t rfl (nm_r (nI_1 i) (hw s trivial))
theorem re_n95 {post : St1 → Prop} {r L e : Nat} {z : Int32} (hr : r < 3) (hL : L < 3) (he : e < 8 ^ (L + 1)) (H0 : post (p, a1, a2, a3, a4, a5, a6, a7, a8, w, b, x, y)) (H1 : post (p, a1, a2, a3, a4, a5, a6, a7, a8, re_set w r (L + 1) e, b, x, y)) : wX_extendNegated_95 post (nI L) (nI r) (nI e) z p a1 a2 a3 a4 a5 a6 a7 a8 w b x y := by
  unfold wX_extendNegated_95
  rw [nI_1 L]
  exact br_c (fun _ => H0) (fun _ => re_put hr (by omega) he H1)
theorem re_n64 {post : St1 → Prop} {P r L e : Nat} {o ad : Int32} (hP : P < 128) (hr : r < 3) (hL : L < 3) (he : e < 8 ^ (L + 1)) (h6 : re_W a6) (h7 : re_W a7) (H0 : ∀ x' y', post (nI P, a1, a2, a3, a4, a5, a6, a7, a8, w, b, x', y')) (H1 : ∀ x' y', post (nI P, a1, a2, a3, a4, a5, a6, a7, a8, re_set w r (L + 1) e, b, x', y')) : wX_extendNegated_64 post (nI (r * 3 + L)) (nI L) o ad (nI r) (nI e) (nI P) a1 a2 a3 a4 a5 a6 a7 a8 w b x y := by
  have e80 : wX_extendNegated_80 post (nI (r * 3 + L)) (nI L) (nI r) (nI e) (nI P) a1 a2 a3 a4 a5 a6 a7 a8 w b x y := by
    unfold wX_extendNegated_80
    refine re_any hP (by omega) h6 h7 (fun q x' y' => ?_)
    exact br_c (fun _ => re_n95 hr hL he (H0 x' y') (H1 x' y')) (fun _ => re_n95 hr hL he (H0 x' y') (H1 x' y'))
  unfold wX_extendNegated_64
  exact br_c (fun _ => e80) (fun _ => br_c (fun _ => e80) (fun _ => re_n95 hr hL he (H0 x y) (H1 x y)))
theorem re_n39 {post : St1 → Prop} {P r L e : Nat} {o f ad z : Int32} (hP : P < 128) (hr : r < 3) (hL : L < 3) (he : e < 8 ^ (L + 1)) (h6 : re_W a6) (h7 : re_W a7) (hf : ¬ o = 0 → ∃ g : Nat, g < 7 ∧ f = nI g) (H0 : ∀ x' y', post (nI P, a1, a2, a3, a4, a5, a6, a7, a8, w, b, x', y')) (H1 : ∀ x' y', post (nI P, a1, a2, a3, a4, a5, a6, a7, a8, re_set w r (L + 1) e, b, x', y')) : wX_extendNegated_39 post (nI (r * 3 + L)) (nI L) o f ad (nI r) (nI e) z (nI P) a1 a2 a3 a4 a5 a6 a7 a8 w b x y := by
  unfold wX_extendNegated_39
  refine br_c (fun _ => re_n64 hP hr hL he h6 h7 H0 H1) (fun ho => ?_)
  obtain ⟨g, hg, rfl⟩ := hf ho
  refine re_fits (by omega) hg (h6 _ (by omega)) (h7 _ (by omega)) (fun q x' y' _ _ => ?_)
  exact br_c (fun _ => re_n95 hr hL he (H0 x' y') (H1 x' y')) (fun _ => re_n64 hP hr hL he h6 h7 H0 H1)
theorem re_neg {post : St1 → Prop} {P r L c : Nat} {o f ad : Int32} (hP : P < 128) (hr : r < 3) (hL : L < 3) (hc : c < 8 ^ L) (h6 : re_W a6) (h7 : re_W a7) (hf : ¬ o = 0 → ∃ g : Nat, g < 7 ∧ f = nI g) (H0 : ∀ x' y', post (nI P, a1, a2, a3, a4, a5, a6, a7, a8, w, b, x', y')) (H1 : ∀ x' y', post (nI P, a1, a2, a3, a4, a5, a6, a7, a8, re_set w r (L + 1) (c + 7 * 8 ^ L), b, x', y')) : wpX_extendNegated post (nI P, a1, a2, a3, a4, a5, a6, a7, a8, w, b, x, y) (nI (r * 3 + L)) (nI c) (nI L) o f ad := by
  have hn := (re_next hc (show 7 < 8 by decide)).1
  have hc64 : c < 64 := by
    rcases re_8 (show L ≤ 3 by omega) with ⟨e, e2⟩ | ⟨e, e2⟩ | ⟨e, e2⟩ | ⟨e, e2⟩ <;> rw [e2] at hc <;> omega
  have e1 : nI (r * 3 + L) / 3 = nI r := by
    have t := pk_div (a := r * 3 + L) (d := 3) (by omega) (by decide) (by decide)
    rw [show (r * 3 + L) / 3 = r by omega] at t
    exact t
  have n39 : ∀ z, wX_extendNegated_39 post (nI (r * 3 + L)) (nI L) o f ad (nI r) (nI (c + 7 * 8 ^ L)) z (nI P) a1 a2 a3 a4 a5 a6 a7 a8 w b x y := fun z => re_n39 hP hr hL hn h6 h7 hf H0 H1
  refine ⟨by decide, nm_r e1 (nm_r (re_nxt L hL 7 (by decide) c hc64 hc) ?_)⟩
  rw [nI_1 L]
  exact br_c (fun _ => n39 0) (fun _ => re_wasIn hr (by omega) hn (fun _ => br_f (by decide) (n39 1)) (fun _ => br_t rfl (n39 0)))
theorem re_e126 {post : St1 → Prop} {J : Int32 → Int32 → (Nat → Int32) → (Nat → Int32) → (Nat → Int32) → (Nat → Int32) → (Nat → Int32) → (Nat → Int32) → (Nat → Int32) → (Nat → Int32) → (Nat → Int64) → (Nat → Int64) → (Nat → Int32) → (Nat → Int32) → Prop} {Q : (Nat → Int64) → Prop} {x3 x4 x7 k z : Int32} {P r L c g : Nat} (hr : r < 3) (hL : L < 3) (hc : c < 8 ^ L) (hg : g < 7) (h6 : re_W a6) (h7 : re_W a7) (hz : ¬ z = 0 → P.testBit g = true) (hk : ¬ k = 0 → P.testBit g = true ∧ re_ok a1 a2 a3 a5 a6 a7 (r * 3 + L) g = true) (hQ : Q w) (hS : P.testBit g = true → re_ok a1 a2 a3 a5 a6 a7 (r * 3 + L) g = true → Q (re_set w r (L + 1) (c + g * 8 ^ L))) (hJ : ∀ w' x' y', Q w' → J (nI (g + 1)) p a1 a2 a3 a4 a5 a6 a7 a8 w' b x' y') : wX_extend_126 post J (nI r) (nI L) x3 x4 (nI (r * 3 + L)) x7 (nI g) (nI (c + g * 8 ^ L)) k z p a1 a2 a3 a4 a5 a6 a7 a8 w b x y := by
  have hn := (re_next hc (show g < 8 by omega)).1
  have hcell : r * 3 + L < 9 := by omega
  have e150 : ∀ x' y', P.testBit g = true → re_ok a1 a2 a3 a5 a6 a7 (r * 3 + L) g = true → wX_extend_150 post J (nI r) (nI L) x3 x4 (nI (r * 3 + L)) x7 (nI g) (nI (c + g * 8 ^ L)) p a1 a2 a3 a4 a5 a6 a7 a8 w b x' y' := by
    intro x' y' t1 t2
    unfold wX_extend_150
    rw [nI_1 L]
    exact re_put hr (by omega) hn (nm_r (nI_1 g) (hJ _ _ _ (hS t1 t2)))
  unfold wX_extend_126
  refine br_c (fun _ => br_c (fun _ => nm_r (nI_1 g) (hJ _ _ _ hQ)) (fun z1 => ?_)) (fun k1 => e150 x y (hk k1).1 (hk k1).2)
  refine re_fits hcell hg (h6 _ hcell) (h7 _ hcell) (fun q x' y' hq ho => ?_)
  refine br_c (fun _ => nm_r (nI_1 g) (hJ _ _ _ hQ)) (fun q1 => e150 x' y' (hz z1) (ho ?_))
  rcases hq with h | h
  · exact absurd h q1
  · exact h
theorem re_e98 {post : St1 → Prop} {J : Int32 → Int32 → (Nat → Int32) → (Nat → Int32) → (Nat → Int32) → (Nat → Int32) → (Nat → Int32) → (Nat → Int32) → (Nat → Int32) → (Nat → Int32) → (Nat → Int64) → (Nat → Int64) → (Nat → Int32) → (Nat → Int32) → Prop} {Q : (Nat → Int64) → Prop} {x3 x4 x7 k : Int32} {P r L c g : Nat} (hP : P < 128) (hr : r < 3) (hL : L < 3) (hc : c < 8 ^ L) (hg : g < 7) (h6 : re_W a6) (h7 : re_W a7) (hk : ¬ k = 0 → P.testBit g = true ∧ re_ok a1 a2 a3 a5 a6 a7 (r * 3 + L) g = true) (hQ : Q w) (hS : P.testBit g = true → re_ok a1 a2 a3 a5 a6 a7 (r * 3 + L) g = true → Q (re_set w r (L + 1) (c + g * 8 ^ L))) (hJ : ∀ w' x' y', Q w' → J (nI (g + 1)) (nI P) a1 a2 a3 a4 a5 a6 a7 a8 w' b x' y') : wX_extend_98 post J (nI r) (nI L) x3 x4 (nI (r * 3 + L)) x7 (nI g) (nI (c + g * 8 ^ L)) k (nI P) a1 a2 a3 a4 a5 a6 a7 a8 w b x y := by
  unfold wX_extend_98
  refine re_hasN hP hg (fun t => ?_) (fun _ => ?_)
  · have e121 : wX_extend_121 post J (nI r) (nI L) x3 x4 (nI (r * 3 + L)) x7 (nI g) (nI (c + g * 8 ^ L)) k (nI P) a1 a2 a3 a4 a5 a6 a7 a8 w b x y := re_e126 hr hL hc hg h6 h7 (fun _ => t) hk hQ hS hJ
    have e125 : wX_extend_125 post J (nI r) (nI L) x3 x4 (nI (r * 3 + L)) x7 (nI g) (nI (c + g * 8 ^ L)) k (nI P) a1 a2 a3 a4 a5 a6 a7 a8 w b x y := re_e126 hr hL hc hg h6 h7 (fun _ => t) hk hQ hS hJ
    exact br_f (by decide) (br_c (fun _ => e121) (fun _ => br_c (fun _ => e121) (fun _ => e125)))
  · have e125 : wX_extend_125 post J (nI r) (nI L) x3 x4 (nI (r * 3 + L)) x7 (nI g) (nI (c + g * 8 ^ L)) k (nI P) a1 a2 a3 a4 a5 a6 a7 a8 w b x y := re_e126 (P := P) hr hL hc hg h6 h7 (fun z => absurd rfl z) hk hQ hS hJ
    exact br_t rfl e125
theorem re_e51 {post : St1 → Prop} {Q : (Nat → Int64) → Prop} {x4 x7 : Int32} {P r L c : Nat} (hP : P < 128) (hr : r < 3) (hL : L < 3) (hc : c < 8 ^ L) (h6 : re_W a6) (h7 : re_W a7) (hK : ¬ x7 = 0 → ∀ g, g < 7 → ¬ nI g = x4 → re_m b r (L + 1) (c + g * 8 ^ L) = true → P.testBit g = true ∧ re_ok a1 a2 a3 a5 a6 a7 (r * 3 + L) g = true) (hQ : Q w) (hS : ∀ w' g, g < 7 → Q w' → P.testBit g = true → re_ok a1 a2 a3 a5 a6 a7 (r * 3 + L) g = true → Q (re_set w' r (L + 1) (c + g * 8 ^ L))) (H : ∀ w' x' y', Q w' → post (nI P, a1, a2, a3, a4, a5, a6, a7, a8, w', b, x', y')) : ∃ n, wX_extend_51 post (nI r) (nI L) (nI c) x4 (nI (r * 3 + L)) x7 n 0 (nI P) a1 a2 a3 a4 a5 a6 a7 a8 w b x y := by
  have hc64 : c < 64 := by
    rcases re_8 (show L ≤ 3 by omega) with ⟨e, e2⟩ | ⟨e, e2⟩ | ⟨e, e2⟩ | ⟨e, e2⟩ <;> rw [e2] at hc <;> omega
  refine pk_loop (σ := (Nat → Int64) × (Nat → Int32) × (Nat → Int32)) (fun n i s => wX_extend_51 post (nI r) (nI L) (nI c) x4 (nI (r * 3 + L)) x7 n (nI i) (nI P) a1 a2 a3 a4 a5 a6 a7 a8 s.1 b s.2.1 s.2.2) (fun _ s => Q s.1) 7 0 (w, x, y) (by omega) hQ ?_ ?_
  · intro n s hs
    exact br_t (by decide) (H s.1 s.2.1 s.2.2 hs)
  · intro n i s hi hs hw
    have hJ : ∀ w' x' y', Q w' → wX_extend_51 post (nI r) (nI L) (nI c) x4 (nI (r * 3 + L)) x7 n (nI (i + 1)) (nI P) a1 a2 a3 a4 a5 a6 a7 a8 w' b x' y' := fun w' x' y' hq => hw (w', x', y') hq
    have e97 : wX_extend_97 post (wX_extend_51 post (nI r) (nI L) (nI c) x4 (nI (r * 3 + L)) x7 n) (nI r) (nI L) (nI c) x4 (nI (r * 3 + L)) x7 (nI i) (nI (c + i * 8 ^ L)) (nI P) a1 a2 a3 a4 a5 a6 a7 a8 s.1 b s.2.1 s.2.2 := re_e98 hP hr hL hc hi h6 h7 (fun z => absurd rfl z) hs (hS s.1 i hi hs) hJ
    refine br_f (nI_ge (b := 7) hi (by decide)) (nm_r (re_nxt L hL i (by omega) c hc64 hc) ?_)
    rw [nI_1 L]
    refine br_c (fun _ => e97) (fun h7' => br_c (fun _ => e97) (fun hne => ?_))
    refine re_wasIn hr (by omega) (re_next hc (show i < 8 by omega)).1 (fun hm => br_f (by decide) ?_) (fun _ => br_t rfl e97)
    exact re_e98 hP hr hL hc hi h6 h7 (fun _ => hK h7' i hi hne hm) hs (hS s.1 i hi hs) hJ
theorem re_ext {post : St1 → Prop} {Q : (Nat → Int64) → Prop} {fI ad : Int32} {P r L c : Nat} (hP : P < 128) (hr : r < 3) (hL : L < 3) (hc : c < 8 ^ L) (h6 : re_W a6) (h7 : re_W a7) (hf : re_m b r L c = true → ∃ g : Nat, g < 7 ∧ fI = nI g) (hK : a8 (r * 3 + L) = 0 → re_m b r L c = true → ∀ g, g < 7 → ¬ nI g = fI → re_m b r (L + 1) (c + g * 8 ^ L) = true → P.testBit g = true ∧ re_ok a1 a2 a3 a5 a6 a7 (r * 3 + L) g = true) (hQ : Q w) (hS : ∀ w' g, g < 8 → Q w' → re_gd P a1 a2 a3 a5 a6 a7 a8 (r * 3 + L) g = true → Q (re_set w' r (L + 1) (c + g * 8 ^ L))) (H : ∀ w' x' y', Q w' → post (nI P, a1, a2, a3, a4, a5, a6, a7, a8, w', b, x', y')) : wpX_extend post (nI P, a1, a2, a3, a4, a5, a6, a7, a8, w, b, x, y) (nI r) (nI L) (nI c) fI ad := by
  refine nm_r (re_cell r L) ?_
  have main : ∀ o : Int32, (¬ o = 0 → re_m b r L c = true) → ∀ (x' y' : Nat → Int32) (post' : St1 → Prop), (∀ w' x' y', Q w' → post' (nI P, a1, a2, a3, a4, a5, a6, a7, a8, w', b, x', y')) → vp_in (nI (r * 3 + L)) 9 ∧ ((a8 (nI (r * 3 + L)).toNatClampNeg = 0 → (∃ n, wX_extend_51 post (nI r) (nI L) (nI c) fI (nI (r * 3 + L)) o n 0 (nI P) a1 a2 a3 a4 a5 a6 a7 a8 w b x' y')) ∧ (¬ a8 (nI (r * 3 + L)).toNatClampNeg = 0 → wpX_extendNegated post' (nI P, a1, a2, a3, a4, a5, a6, a7, a8, w, b, x', y') (nI (r * 3 + L)) (nI c) (nI L) o fI ad)) := by
    intro o ho x' y' post' H'
    refine ⟨vp_in_nI (by omega) (by decide), ?_⟩
    rw [nI_clamp (by omega)]
    refine br_c (fun h0 => ?_) (fun h1 => ?_)
    · exact re_e51 hP hr hL hc h6 h7 (fun z => hK h0 (ho z)) hQ (fun w' g hg hq t1 t2 => hS w' g (by omega) hq (re_gdP h0 hg t1 t2)) H
    · exact re_neg hP hr hL hc h6 h7 (fun z => hf (ho z)) (fun x' y' => H' w x' y' hQ) (fun x' y' => H' _ x' y' (hS w 7 (by decide) hQ (re_gdN h1)))
  exact re_wasIn hr (by omega) hc (fun hm => re_bind hr hL (re_512 (by omega) hc) h6 h7 (fun x' y' => main 1 (fun _ => hm) x' y' _ (fun w' x' y' hq => H w' x' y' hq))) (fun _ => re_bind hr hL (re_512 (by omega) hc) h6 h7 (fun x' y' => main 0 (fun z => absurd rfl z) x' y' _ (fun w' x' y' hq => H w' x' y' hq)))
end
end
section
theorem re_w (r i : Nat) : nI r * 11 + nI i = nI (r * 11 + i) := by
  rw [show (11 : Int32) = nI 11 from rfl, pk_mul, nI_add]
theorem re_w0 (r : Nat) : nI r * 11 = nI (r * 11) := by
  rw [show (11 : Int32) = nI 11 from rfl, pk_mul]
theorem re_codes {post : Int32 → Prop} {L : Nat} (hL : L ≤ 3) (h : post (nI (8 ^ L))) : wpX_codes post () (nI L) := by
  unfold wpX_codes
  rw [re_cod L (by omega)]
  exact h
theorem re_l512 {L : Nat} (hL : L ≤ 3) : 8 ^ L ≤ 512 := by
  rcases re_8 hL with ⟨e, e2⟩ | ⟨e, e2⟩ | ⟨e, e2⟩ | ⟨e, e2⟩ <;> omega
theorem re_m_cong {a a' : Nat → Int64} {r L c : Nat} (h : a' (r * 11 + L + c / 64) = a (r * 11 + L + c / 64)) : re_m a' r L c = re_m a r L c := by
  unfold re_m
  rw [h]
theorem re_m_zero {a : Nat → Int64} {r L c : Nat} (h : a (r * 11 + L + c / 64) = 0) : re_m a r L c = false := by
  unfold re_m
  rw [h]
  exact BitVec.getLsbD_zero
theorem re_I0 {gd : Nat → Nat → Bool} {a : Nat → Int64} {r s : Nat} (hs : s ≤ 3) (h0 : a (r * 11) = 1) (hz : ∀ k, 1 ≤ k → k < 11 → a (r * 11 + k) = 0) : re_I gd a r s := by
  refine ⟨?_, fun L hL c hc h => ?_⟩
  · unfold re_m
    rw [show r * 11 + 0 + 0 / 64 = r * 11 by omega, h0]
    decide
  · have t := re_w11 (r := r) (show L + 1 ≤ 3 by omega) hc
    have e : a (r * 11 + (L + 1) + c / 64) = 0 := by
      rw [show r * 11 + (L + 1) + c / 64 = r * 11 + (L + 1 + c / 64) by omega]
      exact hz _ (by omega) (by omega)
    rw [re_m_zero e] at h
    exact absurd h (by decide)
section
variable {p : Int32} {a1 a2 a3 a4 a5 a6 a7 a8 : Nat → Int32} {w w0 b : Nat → Int64} {x y : Nat → Int32}
theorem re_u106 {post : St1 → Prop} {J : Int32 → Int32 → (Nat → Int32) → (Nat → Int32) → (Nat → Int32) → (Nat → Int32) → (Nat → Int32) → (Nat → Int32) → (Nat → Int32) → (Nat → Int32) → (Nat → Int64) → (Nat → Int64) → (Nat → Int32) → (Nat → Int32) → Prop} {fI ad : Int32} {P r s L : Nat} (hP : P < 128) (hr : r < 3) (hs : s ≤ 3) (hL : L < s) (h6 : re_W a6) (h7 : re_W a7)
    (hB1 : ∀ c, c < 8 ^ L → re_m b r L c = true → ∃ g : Nat, g < 7 ∧ fI = nI g)
    (hB2 : a8 (r * 3 + L) = 0 → ∀ c g, c < 8 ^ L → g < 7 → ¬ nI g = fI → re_m b r (L + 1) (c + g * 8 ^ L) = true → P.testBit g = true ∧ re_ok a1 a2 a3 a5 a6 a7 (r * 3 + L) g = true)
    (hI : re_I (re_gd P a1 a2 a3 a5 a6 a7 a8) w r s) (hF : ∀ k, k < r * 11 ∨ r * 11 + 11 ≤ k → w k = w0 k)
    (hJ : ∀ w' x' y', re_I (re_gd P a1 a2 a3 a5 a6 a7 a8) w' r s → (∀ k, k < r * 11 ∨ r * 11 + 11 ≤ k → w' k = w0 k) → J (nI (L + 1)) (nI P) a1 a2 a3 a4 a5 a6 a7 a8 w' b x' y') :
    ∃ n, wX_update_106 post J (nI r) fI ad (nI L) n 0 (nI P) a1 a2 a3 a4 a5 a6 a7 a8 w b x y := by
  have h512 := re_l512 (show L ≤ 3 by omega)
  refine pk_loop (σ := (Nat → Int64) × (Nat → Int32) × (Nat → Int32)) (fun n i t => wX_update_106 post J (nI r) fI ad (nI L) n (nI i) (nI P) a1 a2 a3 a4 a5 a6 a7 a8 t.1 b t.2.1 t.2.2) (fun _ t => re_I (re_gd P a1 a2 a3 a5 a6 a7 a8) t.1 r s ∧ ∀ k, k < r * 11 ∨ r * 11 + 11 ≤ k → t.1 k = w0 k) (8 ^ L) 0 (w, x, y) (Nat.zero_le _) ⟨hI, hF⟩ ?_ ?_
  · intro n t ht
    unfold wX_update_106
    exact re_codes (by omega) (br_t (nI_le (Nat.le_refl _) (by omega)) (nm_r (nI_1 L) (hJ _ _ _ ht.1 ht.2)))
  · intro n i t hi ht hw
    unfold wX_update_106
    refine re_codes (by omega) (br_f (nI_ge hi (by omega)) (re_isIn hr (by omega) hi (fun hm => br_f (by decide) ?_) (fun _ => br_t rfl (nm_r (nI_1 i) (hw t ht)))))
    refine re_ext (Q := fun w' => (re_I (re_gd P a1 a2 a3 a5 a6 a7 a8) w' r s ∧ ∀ k, k < r * 11 ∨ r * 11 + 11 ≤ k → w' k = w0 k) ∧ re_m w' r L i = true) hP hr (by omega) hi h6 h7 (hB1 i hi) (fun h0 _ g hg hne hmb => hB2 h0 i g hi hg hne hmb) ⟨ht, hm⟩ ?_ (fun w' x' y' hq => nm_r (nI_1 i) (hw (w', x', y') hq.1))
    intro w' g hg hq hgd
    have n1 := (re_next hi hg).1
    exact ⟨⟨re_I_set hs hL hi hg hq.1.1 hq.2 hgd, fun k hk => by rw [re_set_out (by omega) n1 hk]; exact hq.1.2 k hk⟩, re_set_old (by omega) n1 hq.2⟩
theorem re_u92 {post : St1 → Prop} {fI ad : Int32} {P r s : Nat} (hP : P < 128) (hr : r < 3) (hs : s ≤ 3) (h4 : a4 r = nI s) (h6 : re_W a6) (h7 : re_W a7)
    (hB1 : ∀ L, L < s → ∀ c, c < 8 ^ L → re_m b r L c = true → ∃ g : Nat, g < 7 ∧ fI = nI g)
    (hB2 : ∀ L, L < s → a8 (r * 3 + L) = 0 → ∀ c g, c < 8 ^ L → g < 7 → ¬ nI g = fI → re_m b r (L + 1) (c + g * 8 ^ L) = true → P.testBit g = true ∧ re_ok a1 a2 a3 a5 a6 a7 (r * 3 + L) g = true)
    (hI : re_I (re_gd P a1 a2 a3 a5 a6 a7 a8) w r s) (hF : ∀ k, k < r * 11 ∨ r * 11 + 11 ≤ k → w k = w0 k)
    (H : ∀ w' x' y', re_I (re_gd P a1 a2 a3 a5 a6 a7 a8) w' r s → (∀ k, k < r * 11 ∨ r * 11 + 11 ≤ k → w' k = w0 k) → post (nI P, a1, a2, a3, a4, a5, a6, a7, a8, w', b, x', y')) :
    ∃ n, wX_update_92 post (nI r) fI ad n 0 (nI P) a1 a2 a3 a4 a5 a6 a7 a8 w b x y := by
  refine pk_loop (σ := (Nat → Int64) × (Nat → Int32) × (Nat → Int32)) (fun n i t => wX_update_92 post (nI r) fI ad n (nI i) (nI P) a1 a2 a3 a4 a5 a6 a7 a8 t.1 b t.2.1 t.2.2) (fun _ t => re_I (re_gd P a1 a2 a3 a5 a6 a7 a8) t.1 r s ∧ ∀ k, k < r * 11 ∨ r * 11 + 11 ≤ k → t.1 k = w0 k) s 0 (w, x, y) (by omega) ⟨hI, hF⟩ ?_ ?_
  · intro n t ht
    refine ⟨vp_in_nI hr (by decide), ?_⟩
    rw [nI_clamp (n := r) (by omega), h4]
    exact br_t (nI_le (Nat.le_refl _) (by omega)) (H _ _ _ ht.1 ht.2)
  · intro n i t hi ht hw
    refine ⟨vp_in_nI hr (by decide), ?_⟩
    rw [nI_clamp (n := r) (by omega), h4]
    refine br_f (nI_ge hi (by omega)) ?_
    exact re_u106 hP hr hs hi h6 h7 (hB1 i hi) (hB2 i hi) ht.1 ht.2 (fun w' x' y' q1 q2 => hw (w', x', y') ⟨q1, q2⟩)
theorem re_update {post : St1 → Prop} {fI ad : Int32} {P r s : Nat} (hP : P < 128) (hr : r < 3) (hs : s ≤ 3) (h4 : a4 r = nI s) (h6 : re_W a6) (h7 : re_W a7)
    (hf : fI = -1 ∨ ∃ f : Nat, f < 7 ∧ fI = nI f ∧ ∀ L, L < s → a8 (r * 3 + L) = 0 → ∀ c g, c < 8 ^ L → g < 7 → g ≠ f → re_m w r (L + 1) (c + g * 8 ^ L) = true → P.testBit g = true ∧ re_ok a1 a2 a3 a5 a6 a7 (r * 3 + L) g = true)
    (H : ∀ w' b' x' y', re_I (re_gd P a1 a2 a3 a5 a6 a7 a8) w' r s → (∀ k, k < r * 11 ∨ r * 11 + 11 ≤ k → w' k = w k) → post (nI P, a1, a2, a3, a4, a5, a6, a7, a8, w', b', x', y')) :
    wpX_update post (nI P, a1, a2, a3, a4, a5, a6, a7, a8, w, b, x, y) (nI r) fI ad := by
  refine pk_loop (σ := (Nat → Int64) × (Nat → Int64)) (fun n i t => wX_update_3 post (nI r) fI ad (nI P) n (nI i) a1 a2 a3 a4 a5 a6 a7 a8 t.1 t.2 x y) (fun i t => (∀ k, k < i → t.1 (r * 11 + k) = 0 ∧ (0 ≤ fI → t.2 (r * 11 + k) = w (r * 11 + k)) ∧ (¬ 0 ≤ fI → t.2 (r * 11 + k) = 0)) ∧ ∀ k, k < r * 11 ∨ r * 11 + i ≤ k → t.1 k = w k) 11 0 (w, b) (by omega) ⟨fun k hk => absurd hk (by omega), fun k _ => rfl⟩ ?_ ?_
  · intro n t ht
    obtain ⟨t1, t2⟩ := ht
    have hin : vp_in (nI (r * 11)) 33 := vp_in_nI (by omega) (by decide)
    have hI : re_I (re_gd P a1 a2 a3 a5 a6 a7 a8) (vp_updL t.1 (r * 11) 1) r s := by
      refine re_I0 hs pk_uLs (fun k k1 k2 => ?_)
      rw [pk_uLn (by omega)]
      exact (t1 k k2).1
    have hF : ∀ k, k < r * 11 ∨ r * 11 + 11 ≤ k → vp_updL t.1 (r * 11) 1 k = w k := by
      intro k hk
      rw [pk_uLn (by omega)]
      exact t2 k hk
    refine br_t (by decide) ?_
    rw [re_w0 r, nI_clamp (n := r * 11) (by omega)]
    refine ⟨hin, nm_e (br_c (fun h0 => ⟨hin, nm_e ?_⟩) (fun h0 => ⟨hin, nm_e ?_⟩))⟩
    · rcases hf with e | ⟨f, hf7, e, hf2⟩
      · rw [e] at h0
        exact absurd h0 (by decide)
      · refine re_u92 (w0 := w) hP hr hs h4 h6 h7 (fun _ _ _ _ _ => ⟨f, hf7, e⟩) ?_ hI hF (fun w' x' y' q1 q2 => H w' _ x' y' q1 q2)
        intro L hL h8 c g hc hg hne hm
        have n1 := (re_next hc (show g < 8 by omega)).1
        have n2 := re_w11 (r := r) (show L + 1 ≤ 3 by omega) n1
        refine hf2 L hL h8 c g hc hg (fun z => hne (by rw [e, z])) ?_
        rw [← hm]
        refine (re_m_cong ?_).symm
        rw [pk_uLn (by omega), show r * 11 + (L + 1) + (c + g * 8 ^ L) / 64 = r * 11 + (L + 1 + (c + g * 8 ^ L) / 64) by omega]
        exact (t1 _ (by omega)).2.1 h0
    · have hz : ∀ L c, L ≤ 3 → c < 8 ^ L → re_m (vp_updL t.2 (r * 11) 0) r L c = false := by
        intro L c hL hc
        have n2 := re_w11 (r := r) hL hc
        refine re_m_zero ?_
        by_cases e : r * 11 + L + c / 64 = r * 11
        · rw [e, pk_uLs]
        · rw [pk_uLn e, show r * 11 + L + c / 64 = r * 11 + (L + c / 64) by omega]
          exact (t1 _ (by omega)).2.2 h0
      refine re_u92 (w0 := w) hP hr hs h4 h6 h7 ?_ ?_ hI hF (fun w' x' y' q1 q2 => H w' _ x' y' q1 q2)
      · intro L hL c hc hm
        rw [hz L c (by omega) hc] at hm
        exact absurd hm (by decide)
      · intro L hL h8 c g hc hg hne hm
        rw [hz (L + 1) _ (by omega) (re_next hc (show g < 8 by omega)).1] at hm
        exact absurd hm (by decide)
  · intro n i t hi ht hw
    obtain ⟨t1, t2⟩ := ht
    have hin : vp_in (nI (r * 11 + i)) 33 := vp_in_nI (by omega) (by decide)
    have e41 : ∀ z : Int64, (0 ≤ fI → z = w (r * 11 + i)) → (¬ 0 ≤ fI → z = 0) → wX_update_41 post (wX_update_3 post (nI r) fI ad (nI P) n) (nI r) fI ad (nI i) z (nI (r * 11 + i)) (nI P) a1 a2 a3 a4 a5 a6 a7 a8 t.1 t.2 x y := by
      intro z z1 z2
      unfold wX_update_41
      rw [re_w r i, nI_clamp (n := r * 11 + i) (by omega)]
      refine ⟨hin, nm_e ⟨hin, nm_e (nm_r (nI_1 i) (hw (vp_updL t.1 (r * 11 + i) 0, vp_updL t.2 (r * 11 + i) z) ⟨?_, ?_⟩))⟩⟩
      · intro k hk
        by_cases e : k = i
        · subst e
          exact ⟨pk_uLs, fun h => by rw [← z1 h]; exact pk_uLs, fun h => by rw [← z2 h]; exact pk_uLs⟩
        · have q := t1 k (by omega)
          have ne : r * 11 + k ≠ r * 11 + i := by omega
          exact ⟨by rw [← q.1]; exact pk_uLn ne, fun h => by rw [← q.2.1 h]; exact pk_uLn ne, fun h => by rw [← q.2.2 h]; exact pk_uLn ne⟩
      · intro k hk
        rw [← t2 k (by omega)]
        exact pk_uLn (by omega)
    refine br_f (nI_ge (b := 11) hi (by decide)) ?_
    rw [re_w r i, nI_clamp (n := r * 11 + i) (by omega)]
    exact br_c (fun h => ⟨hin, e41 _ (fun _ => t2 _ (by omega)) (fun z => absurd h z)⟩) (fun h => e41 0 (fun z => absurd z h) (fun _ => rfl))
end
end
section
theorem re_add1 : ∀ P, P < 128 → ∀ f, f < 7 → nI P ||| ((1 : Int32) <<< (nI f &&& 31)) = nI (P ||| 2 ^ f) ∧ P ||| 2 ^ f < 128 ∧ ∀ g, g < 7 → g ≠ f → (P ||| 2 ^ f).testBit g = P.testBit g := by decide +kernel
theorem re_rem1 : ∀ P, P < 128 → ∀ f, f < 7 → nI P &&& (((1 : Int32) <<< (nI f &&& 31)) ^^^ (-1)) = nI (P &&& (127 ^^^ 2 ^ f)) ∧ P &&& (127 ^^^ 2 ^ f) < 128 ∧ ∀ g, g < 7 → g ≠ f → (P &&& (127 ^^^ 2 ^ f)).testBit g = P.testBit g := by decide +kernel
theorem re_I_gd {gd gd' : Nat → Nat → Bool} {a : Nat → Int64} {r s : Nat} (h : ∀ L, L < s → ∀ d, gd' (r * 3 + L) d = gd (r * 3 + L) d) (hI : re_I gd a r s) : re_I gd' a r s :=
  ⟨hI.1, fun L hL c hc hm => ⟨(hI.2 L hL c hc hm).1, by rw [h L hL]; exact (hI.2 L hL c hc hm).2⟩⟩
theorem re_gd_cong {P : Nat} {a1 a2 a3 a5 a6 a7 a8 a5' a6' a7' a8' : Nat → Int32} {c d : Nat} (h5 : a5' c = a5 c) (h6 : a6' c = a6 c) (h7 : a7' c = a7 c) (h8 : a8' c = a8 c) : re_gd P a1 a2 a3 a5' a6' a7' a8' c d = re_gd P a1 a2 a3 a5 a6 a7 a8 c d := by
  unfold re_gd re_ok
  rw [h5, h6, h7, h8]
/-- what is true of the engine between two calls -/
def re_K (P : Nat) (s : Nat → Nat) (a1 a2 a3 a4 a5 a6 a7 a8 : Nat → Int32) (w : Nat → Int64) : Prop := P < 128 ∧ (∀ r, r < 3 → s r ≤ 3 ∧ a4 r = nI (s r)) ∧ re_W a6 ∧ re_W a7 ∧ ∀ r, r < 3 → re_I (re_gd P a1 a2 a3 a5 a6 a7 a8) w r (s r)
theorem re_pre {P P' f r s : Nat} {a1 a2 a3 a5 a6 a7 a8 a1' a2' a3' : Nat → Int32} {w w' : Nat → Int64} (hs : s ≤ 3) (hI : re_I (re_gd P a1 a2 a3 a5 a6 a7 a8) w r s) (hw : ∀ k, r * 11 ≤ k → w' k = w k) (hg : ∀ g, g < 7 → g ≠ f → P'.testBit g = P.testBit g ∧ a1' g = a1 g ∧ a2' g = a2 g ∧ a3' g = a3 g) :
    ∀ L, L < s → a8 (r * 3 + L) = 0 → ∀ c g, c < 8 ^ L → g < 7 → g ≠ f → re_m w' r (L + 1) (c + g * 8 ^ L) = true → P'.testBit g = true ∧ re_ok a1' a2' a3' a5 a6 a7 (r * 3 + L) g = true := by
  intro L hL h8 c g hc hg7 hne hm
  have n := re_next hc (show g < 8 by omega)
  rw [re_m_cong (hw _ (by omega))] at hm
  have q := (hI.2 L hL _ n.1 hm).2
  rw [n.2.2] at q
  have q2 := (re_gdE q).1 h8
  obtain ⟨g0, g1, g2, g3⟩ := hg g hg7 hne
  refine ⟨by rw [g0]; exact q2.2.1, ?_⟩
  have q3 := q2.2.2
  unfold re_ok at q3 ⊢
  rw [g1, g2, g3]
  exact q3
def re_J (gd : Nat → Nat → Bool) (s : Nat → Nat) (w0 : Nat → Int64) (i : Nat) (w : Nat → Int64) : Prop := (∀ r, r < i → re_I gd w r (s r)) ∧ ∀ k, i * 11 ≤ k → w k = w0 k
theorem re_J1 {gd : Nat → Nat → Bool} {s : Nat → Nat} {w0 w w' : Nat → Int64} {i : Nat} (hs : ∀ r, r < i → s r ≤ 3) (h : re_J gd s w0 i w) (hI : re_I gd w' i (s i)) (hF : ∀ k, k < i * 11 ∨ i * 11 + 11 ≤ k → w' k = w k) : re_J gd s w0 (i + 1) w' := by
  refine ⟨fun r hr => ?_, fun k hk => ?_⟩
  · by_cases e : r = i
    · rw [e]; exact hI
    · exact re_I_cong (hs r (by omega)) (fun k k1 k2 => hF k (by omega)) (h.1 r (by omega))
  · rw [hF k (by omega)]
    exact h.2 k (by omega)
theorem re_isRule {post : Int32 → Prop} {q : Int32} (h0 : post 0) (h1 : ∀ r : Nat, r < 3 → q = nI r → post 1) : wpX_isRule post () q := by
  unfold wpX_isRule
  rcases pk_ix q (n := 3) (by decide) with h | h | ⟨j, hj, e⟩
  · exact br_t h h0
  · exact br_c (fun _ => h0) (fun _ => br_t h h0)
  · exact br_c (fun _ => h0) (fun _ => br_c (fun _ => h0) (fun _ => h1 j hj e))
theorem re_isRuleN {post : Int32 → Prop} {r : Nat} (hr : r < 3) (h1 : post 1) : wpX_isRule post () (nI r) := by
  unfold wpX_isRule
  exact br_f (nI_pos (by omega)) (br_f (nI_ge (b := 3) hr (by decide)) h1)
theorem re_factOk {post : Int32 → Prop} {k a b : Int32} (h0 : post 0) (h1 : post 1) : wpX_factOk post () k a b := by
  unfold wpX_factOk
  exact br_c (fun _ => h0) (fun _ => br_c (fun _ => h0) (fun _ => br_c (fun _ => h0) (fun _ => br_c (fun _ => h0) (fun _ => br_c (fun _ => h0) (fun _ => br_c (fun _ => h0) (fun _ => h1))))))
section
variable {P : Nat} {s : Nat → Nat} {a1 a2 a3 a4 a5 a6 a7 a8 : Nat → Int32} {w b : Nat → Int64} {x y : Nat → Int32}
theorem re_remove {post : Int32 → St1 → Prop} {q : Int32} (hK : re_K P s a1 a2 a3 a4 a5 a6 a7 a8 w) (H : ∀ r P' s' a1' a2' a3' a4' a5' a6' a7' a8' w' b' x' y', re_K P' s' a1' a2' a3' a4' a5' a6' a7' a8' w' → post r (nI P', a1', a2', a3', a4', a5', a6', a7', a8', w', b', x', y')) : wpX_remove post (nI P, a1, a2, a3, a4, a5, a6, a7, a8, w, b, x, y) q := by
  obtain ⟨hP, h4, h6, h7, hI⟩ := hK
  unfold wpX_remove
  dsimp only
  refine re_has hP (fun f hf e _ => br_f (by decide) ?_) (fun _ => br_t rfl (H _ _ _ _ _ _ _ _ _ _ _ _ _ _ _ ⟨hP, h4, h6, h7, hI⟩))
  subst e
  obtain ⟨f1, f2, f3⟩ := re_rem1 P hP f hf
  refine nm_r f1 ?_
  refine pk_loop (σ := (Nat → Int64) × (Nat → Int64) × (Nat → Int32) × (Nat → Int32)) (fun n i t => wX_remove_26 post (nI f) n (nI i) (nI (P &&& (127 ^^^ 2 ^ f))) a1 a2 a3 a4 a5 a6 a7 a8 t.1 t.2.1 t.2.2.1 t.2.2.2) (fun i t => re_J (re_gd (P &&& (127 ^^^ 2 ^ f)) a1 a2 a3 a5 a6 a7 a8) s w i t.1) 3 0 (w, b, x, y) (by omega) ⟨fun r hr => absurd hr (by omega), fun _ _ => rfl⟩ ?_ ?_
  · intro n t ht
    exact br_t (by decide) (H _ _ s _ _ _ _ _ _ _ _ _ _ _ _ ⟨f2, h4, h6, h7, ht.1⟩)
  · intro n i t hi ht hw
    refine br_f (nI_ge (b := 3) hi (by decide)) ?_
    refine re_update f2 hi (h4 i hi).1 (h4 i hi).2 h6 h7 (Or.inr ⟨f, hf, rfl, re_pre (h4 i hi).1 (hI i hi) ht.2 (fun g g1 g2 => ⟨f3 g g1 g2, rfl, rfl, rfl⟩)⟩) ?_
    intro w' b' x' y' q1 q2
    exact nm_r (nI_1 i) (hw (w', b', x', y') (re_J1 (fun r hr => (h4 r (by omega)).1) ht q1 q2))
theorem re_add {post : Int32 → St1 → Prop} {k1 k2 k3 : Int32} (hK : re_K P s a1 a2 a3 a4 a5 a6 a7 a8 w) (H : ∀ r P' s' a1' a2' a3' a4' a5' a6' a7' a8' w' b' x' y', re_K P' s' a1' a2' a3' a4' a5' a6' a7' a8' w' → post r (nI P', a1', a2', a3', a4', a5', a6', a7', a8', w', b', x', y')) : wpX_add post (nI P, a1, a2, a3, a4, a5, a6, a7, a8, w, b, x, y) k1 k2 k3 := by
  have hK' := hK
  obtain ⟨hP, h4, h6, h7, hI⟩ := hK
  unfold wpX_add
  dsimp only
  refine re_factOk (br_t rfl (H _ _ _ _ _ _ _ _ _ _ _ _ _ _ _ hK')) (br_f (by decide) ?_)
  refine pk_loop (σ := Unit) (fun n i _ => wX_add_14 post k1 k2 k3 (nI P) a1 a2 a3 a4 a5 a6 a7 a8 w b x y n (nI i)) (fun _ _ => True) 7 0 () (by omega) trivial ?_ ?_
  · intro n t _
    exact br_t (by decide) (H _ _ _ _ _ _ _ _ _ _ _ _ _ _ _ hK')
  · intro n f t hf _ hw
    refine br_f (nI_ge (b := 7) hf (by decide)) (re_hasN hP hf (fun _ => br_f (by decide) (nm_r (nI_1 f) (hw () trivial))) (fun _ => br_t rfl ?_))
    obtain ⟨f1, f2, f3⟩ := re_add1 P hP f hf
    have hin : vp_in (nI f) 7 := vp_in_nI hf (by decide)
    refine nm_r f1 ?_
    rw [nI_clamp (n := f) (by omega)]
    refine ⟨hin, nm_e ⟨hin, nm_e ⟨hin, nm_e ?_⟩⟩⟩
    refine pk_loop (σ := (Nat → Int64) × (Nat → Int64) × (Nat → Int32) × (Nat → Int32)) (fun n i t => wX_add_73 post (nI f) n (nI i) (nI (P ||| 2 ^ f)) (upd a1 f k1.toInt8.toInt32) (upd a2 f k2.toInt8.toInt32) (upd a3 f k3.toInt8.toInt32) a4 a5 a6 a7 a8 t.1 t.2.1 t.2.2.1 t.2.2.2) (fun i t => re_J (re_gd (P ||| 2 ^ f) (upd a1 f k1.toInt8.toInt32) (upd a2 f k2.toInt8.toInt32) (upd a3 f k3.toInt8.toInt32) a5 a6 a7 a8) s w i t.1) 3 0 (w, b, x, y) (by omega) ⟨fun r hr => absurd hr (by omega), fun _ _ => rfl⟩ ?_ ?_
    · intro n t ht
      exact br_t (by decide) (H _ _ s _ _ _ _ _ _ _ _ _ _ _ _ ⟨f2, h4, h6, h7, ht.1⟩)
    · intro n i t hi ht hw
      refine br_f (nI_ge (b := 3) hi (by decide)) ?_
      refine re_update f2 hi (h4 i hi).1 (h4 i hi).2 h6 h7 (Or.inr ⟨f, hf, rfl, re_pre (h4 i hi).1 (hI i hi) ht.2 (fun g g1 g2 => ⟨f3 g g1 g2, pk_un g2, pk_un g2, pk_un g2⟩)⟩) ?_
      intro w' b' x' y' q1 q2
      exact nm_r (nI_1 i) (hw (w', b', x', y') (re_J1 (fun r hr => (h4 r (by omega)).1) ht q1 q2))
theorem re_byte8 : ∀ j, j < 8 → (nI j).toInt8.toInt32 = nI j := by decide +kernel
theorem re_WU {a : Nat → Int32} {c : Nat} {z : Int32} (h : re_W a) (hz : ∃ j : Nat, j < 8 ∧ z = nI j) : re_W (upd a c z.toInt8.toInt32) := by
  intro k hk
  by_cases e : k = c
  · obtain ⟨j, hj, rfl⟩ := hz
    rw [e, pk_us, re_byte8 j hj]
    exact ⟨j, hj, rfl⟩
  · rw [pk_un e]
    exact h k hk
theorem re_drop {post : Int32 → St1 → Prop} {q : Int32} (hK : re_K P s a1 a2 a3 a4 a5 a6 a7 a8 w) (H : ∀ r P' s' a1' a2' a3' a4' a5' a6' a7' a8' w' b' x' y', re_K P' s' a1' a2' a3' a4' a5' a6' a7' a8' w' → post r (nI P', a1', a2', a3', a4', a5', a6', a7', a8', w', b', x', y')) : wpX_drop post (nI P, a1, a2, a3, a4, a5, a6, a7, a8, w, b, x, y) q := by
  have hK' := hK
  obtain ⟨hP, h4, h6, h7, hI⟩ := hK
  unfold wpX_drop
  dsimp only
  refine re_isRule (br_t rfl (H _ _ _ _ _ _ _ _ _ _ _ _ _ _ _ hK')) (fun r hr e => br_f (by decide) ?_)
  subst e
  have hin : vp_in (nI r) 3 := vp_in_nI hr (by decide)
  refine ⟨hin, ?_⟩
  rw [nI_clamp (n := r) (by omega), (h4 r hr).2]
  refine br_c (fun _ => H _ _ _ _ _ _ _ _ _ _ _ _ _ _ _ hK') (fun hne => ⟨hin, hin, ?_⟩)
  have hs3 := (h4 r hr).1
  have hs0 : 0 < s r := by
    rcases Nat.eq_zero_or_pos (s r) with z | z
    · rw [z] at hne
      exact absurd rfl hne
    · exact z
  have e1 : (nI (s r) - 1).toInt8.toInt32 = nI (s r - 1) := by
    have : s r = 1 ∨ s r = 2 ∨ s r = 3 := by omega
    rcases this with z | z | z <;> rw [z] <;> decide
  refine nm_r (congrArg (fun z => upd a4 r z) e1) ?_
  have h4' : ∀ r', r' < 3 → (if r' = r then s r - 1 else s r') ≤ 3 ∧ upd a4 r (nI (s r - 1)) r' = nI (if r' = r then s r - 1 else s r') := by
    intro r' hr'
    by_cases e : r' = r
    · rw [if_pos e, e, pk_us]
      exact ⟨by omega, rfl⟩
    · rw [if_neg e, pk_un e]
      exact h4 r' hr'
  refine re_update (s := s r - 1) hP hr (by omega) pk_us h6 h7 (Or.inl rfl) ?_
  intro w' b' x' y' q1 q2
  refine ⟨hin, H _ _ (fun r' => if r' = r then s r - 1 else s r') _ _ _ _ _ _ _ _ _ _ _ _ ⟨hP, h4', h6, h7, ?_⟩⟩
  intro r' hr'
  dsimp only
  by_cases e : r' = r
  · rw [if_pos e, e]
    exact q1
  · rw [if_neg e]
    exact re_I_cong (h4 r' hr').1 (fun k k1 k2 => q2 k (by omega)) (hI r' hr')
theorem re_cond {post : Int32 → St1 → Prop} {q v : Int32} (hK : re_K P s a1 a2 a3 a4 a5 a6 a7 a8 w) (H : ∀ r P' s' a1' a2' a3' a4' a5' a6' a7' a8' w' b' x' y', re_K P' s' a1' a2' a3' a4' a5' a6' a7' a8' w' → post r (nI P', a1', a2', a3', a4', a5', a6', a7', a8', w', b', x', y')) : wpX_condition post (nI P, a1, a2, a3, a4, a5, a6, a7, a8, w, b, x, y) q v := by
  have hK' := hK
  obtain ⟨hP, h4, h6, h7, hI⟩ := hK
  have HK : ∀ r, post r (nI P, a1, a2, a3, a4, a5, a6, a7, a8, w, b, x, y) := fun r => H r _ _ _ _ _ _ _ _ _ _ _ _ _ _ hK'
  unfold wpX_condition
  dsimp only
  refine re_isRule (br_t rfl (HK _)) (fun r hr e => br_f (by decide) (br_c (fun _ => HK _) (fun _ => br_c (fun _ => HK _) (fun _ => br_c (fun _ => ?_) (fun _ => HK _)))))
  subst e
  have hin : vp_in (nI r) 3 := vp_in_nI hr (by decide)
  refine ⟨hin, ?_⟩
  rw [nI_clamp (n := r) (by omega), (h4 r hr).2]
  have hs3 := (h4 r hr).1
  refine pk_lt (s r) 3 (fun hs => ⟨hin, nm_r (re_cell r (s r)) ?_⟩) (fun _ => HK _)
  have hc : vp_in (nI (r * 3 + s r)) 9 := vp_in_nI (by omega) (by decide)
  have e1 : (nI (s r) + 1).toInt8.toInt32 = nI (s r + 1) := by
    have : s r = 0 ∨ s r = 1 ∨ s r = 2 := by omega
    rcases this with z | z | z <;> rw [z] <;> decide
  have h4' : ∀ r', r' < 3 → (if r' = r then s r + 1 else s r') ≤ 3 ∧ upd a4 r (nI (s r + 1)) r' = nI (if r' = r then s r + 1 else s r') := by
    intro r' hr'
    by_cases e : r' = r
    · rw [if_pos e, e, pk_us]
      exact ⟨by omega, rfl⟩
    · rw [if_neg e, pk_un e]
      exact h4 r' hr'
  have fin : ∀ (z z5 z6 z7 : Int32), re_W (upd a6 (r * 3 + s r) z6) → re_W (upd a7 (r * 3 + s r) z7) → wX_condition_104 post (nI r) z (nI (r * 3 + s r)) (nI P) a1 a2 a3 a4 (upd a5 (r * 3 + s r) z5) (upd a6 (r * 3 + s r) z6) (upd a7 (r * 3 + s r) z7) a8 w b x y := by
    intro z z5 z6 z7 g6 g7
    unfold wX_condition_104
    rw [nI_clamp (n := r) (by omega), (h4 r hr).2, e1, nI_clamp (n := r * 3 + s r) (by omega)]
    refine ⟨hc, nm_e ⟨hin, hin, nm_e ?_⟩⟩
    refine re_update (s := s r + 1) hP hr (by omega) pk_us g6 g7 (Or.inl rfl) ?_
    intro w' b' x' y' q1 q2
    refine ⟨hin, H _ _ (fun r' => if r' = r then s r + 1 else s r') _ _ _ _ _ _ _ _ _ _ _ _ ⟨hP, h4', g6, g7, ?_⟩⟩
    intro r' hr'
    dsimp only
    by_cases e : r' = r
    · rw [if_pos e, e]
      exact q1
    · rw [if_neg e]
      have hs' := (h4 r' hr').1
      refine re_I_cong hs' (fun k k1 k2 => q2 k (by omega)) (re_I_gd (fun L hL d => ?_) (hI r' hr'))
      have ne : r' * 3 + L ≠ r * 3 + s r := by omega
      exact re_gd_cong (pk_un ne) (pk_un ne) (pk_un ne) (pk_un ne)
  rw [nI_clamp (n := r * 3 + s r) (by omega)]
  have g6 : re_W (upd a6 (r * 3 + s r) ((v >>> ((2 : Int32) &&& 31)) &&& 7).toInt8.toInt32) := re_WU h6 (pk_andE _ 3 (by decide))
  have g7 : re_W (upd a7 (r * 3 + s r) ((v >>> ((5 : Int32) &&& 31)) &&& 7).toInt8.toInt32) := re_WU h7 (pk_andE _ 3 (by decide))
  exact ⟨hc, nm_e ⟨hc, nm_e ⟨hc, nm_e (br_c (fun _ => fin 0 _ _ _ g6 g7) (fun _ => fin 1 _ _ _ g6 g7))⟩⟩⟩
theorem re_turn {post : St1 → Prop} {q1 q2 q3 q4 : Int32} (hK : re_K P s a1 a2 a3 a4 a5 a6 a7 a8 w) (H : ∀ P' s' a1' a2' a3' a4' a5' a6' a7' a8' w' b' x' y', re_K P' s' a1' a2' a3' a4' a5' a6' a7' a8' w' → post (nI P', a1', a2', a3', a4', a5', a6', a7', a8', w', b', x', y')) : wpL_turn post (nI P, a1, a2, a3, a4, a5, a6, a7, a8, w, b, x, y) q1 q2 q3 q4 := by
  have H' : ∀ (r : Int32) P' s' a1' a2' a3' a4' a5' a6' a7' a8' w' b' x' y', re_K P' s' a1' a2' a3' a4' a5' a6' a7' a8' w' → post (nI P', a1', a2', a3', a4', a5', a6', a7', a8', w', b', x', y') := fun _ => H
  refine nm_e (br_c (fun _ => br_c (fun _ => re_drop hK H') (fun _ => br_c (fun _ => re_remove hK H') (fun _ => re_add hK H'))) (fun _ => br_c (fun _ => ?_) (fun _ => ?_)))
  · unfold wL_turn_30
    exact re_cond hK H'
  · unfold wL_turn_30
    exact re_cond hK H'
end
theorem re_init {post : St1 → Prop} (H : ∀ P' s' a1' a2' a3' a4' a5' a6' a7' a8' w' b' x' y', re_K P' s' a1' a2' a3' a4' a5' a6' a7' a8' w' → post (nI P', a1', a2', a3', a4', a5', a6', a7', a8', w', b', x', y')) : wpX_init post 12 132 0 := by
  refine ⟨by omega, by omega, by omega, by omega, by omega, by omega, by omega, by omega, by omega, by omega, by omega, by omega, by omega, by omega, by omega, by omega, by omega, by omega, by omega, by omega, by omega, by omega, by omega, by omega, ?_⟩
  refine pk_loop (fun n i t => wX_init_99 post 12 132 12 132 0 n (nI i) (fun _ => 0) (fun _ => 0) (fun _ => 0) (fun _ => 0) (fun _ => 0) (fun _ => 0) (fun _ => 0) (fun _ => 0) t (fun _ => 0) (fun _ => 0) (fun _ => 0)) (fun i t => ∀ r, r < i → t (r * 11) = 1) 3 0 (fun _ => 0) (by omega) (fun r hr => absurd hr (by omega)) ?_ ?_
  · intro n t ht
    refine br_t (by decide) (H 0 (fun _ => 0) _ _ _ _ _ _ _ _ _ _ _ _ ⟨by omega, fun r hr => ⟨Nat.zero_le 3, rfl⟩, fun k hk => ⟨0, by omega, rfl⟩, fun k hk => ⟨0, by omega, rfl⟩, fun r hr => ⟨?_, fun L hL => absurd hL (Nat.not_lt_zero L)⟩⟩)
    unfold re_m
    rw [show r * 11 + 0 + 0 / 64 = r * 11 by omega, ht r hr]
    decide
  · intro n i t hi ht hw
    refine br_f (nI_ge (b := 3) hi (by decide)) ?_
    rw [re_w0 i, nI_clamp (n := i * 11) (by omega)]
    refine ⟨vp_in_nI (by omega) (by decide), nm_e (nm_r (nI_1 i) (hw _ ?_))⟩
    intro r hr
    by_cases e : r = i
    · rw [e, pk_uLs]
    · rw [pk_uLn (by omega)]
      exact ht r (by omega)
end
section
theorem re_mis : ∀ L, L < 4 → (511 : Int32) &&& ((nI (8 ^ L) - 1) ^^^ (-1)) = nI (512 - 8 ^ L) := by decide +kernel
theorem re_orm : ∀ L, L < 4 → ∀ c, c < 512 → c < 8 ^ L → nI c ||| nI (512 - 8 ^ L) = nI (c + (512 - 8 ^ L)) := by decide +kernel
/-- how many partial matches of rule r after L conditions -/
def re_c (w : Nat → Int64) (r L : Nat) : Nat := re_cn (fun c => re_m w r L c) (8 ^ L)
theorem re_c_le {w : Nat → Int64} {r L : Nat} (hL : L ≤ 3) : re_c w r L ≤ 512 := Nat.le_trans (re_cn_le _ _) (re_l512 hL)
def re_h (c f : Nat) : Nat → Bool
  | 0 => false
  | L + 1 => re_h c f L || decide (re_dg c L = f)
theorem re_h_up {c f : Nat} {i L : Nat} (h : i ≤ L) (hi : re_h c f i = true) : re_h c f L = true := by
  induction L with
  | zero =>
    rw [show i = 0 by omega] at hi
    exact hi
  | succ L ih =>
    by_cases e : i = L + 1
    · rw [← e]; exact hi
    · show (re_h c f L || decide (re_dg c L = f)) = true
      rw [ih (by omega), Bool.true_or]
def re_uc (w : Nat → Int64) (s : Nat → Nat) (f r : Nat) : Nat := re_cn (fun c => re_m w r (s r) c && re_h c f (s r)) (8 ^ s r)
def re_us (w : Nat → Int64) (s : Nat → Nat) (f : Nat) : Nat := re_sm (fun r => re_uc w s f r) 3
def re_F (P : Nat) (a1 a2 a3 a5 a6 a7 : Nat → Int32) (c : Nat) : Nat := re_cn (fun f => P.testBit f && re_ok a1 a2 a3 a5 a6 a7 c f) 7
theorem re_const {post : Int32 → Prop} {d v : Int32} (h1 : (decide (4 ≤ d) || decide (d = v)) = true → post 1) (h0 : (decide (4 ≤ d) || decide (d = v)) = false → post 0) : wpX_constant post () d v := by
  unfold wpX_constant
  refine br_c (fun h => h1 ?_) (fun h => br_c (fun g => h1 ?_) (fun g => h0 ?_))
  · rw [decide_eq_true h, Bool.true_or]
  · rw [decide_eq_true g, Bool.or_true]
  · rw [decide_eq_false h, decide_eq_false g]
    rfl
theorem re_holds {post : Int32 → Prop} {c L f : Nat} (hL : L ≤ 3) (hc : c < 512) (hf : f < 7) (h1 : re_h c f L = true → post 1) (h0 : re_h c f L = false → post 0) : wpX_holds post () (nI c) (nI L) (nI f) := by
  refine pk_loop (σ := Unit) (fun n i _ => wX_holds_2 post (nI c) (nI L) (nI f) n (nI i)) (fun i _ => re_h c f i = false) L 0 () (by omega) rfl ?_ ?_
  · intro n _ h
    exact br_t (nI_le (Nat.le_refl L) (by omega)) (h0 h)
  · intro n i _ hi h hw
    refine br_f (nI_ge hi (by omega)) ?_
    rw [re_dgt i (by omega) c hc]
    refine pk_eq (c / 8 ^ i % 8) f (fun e => h1 (re_h_up (i := i + 1) (by omega) ?_)) (fun e => nm_r (nI_1 i) (hw () ?_))
    · show (re_h c f i || decide (c / 8 ^ i % 8 = f)) = true
      rw [decide_eq_true e, Bool.or_true]
    · show (re_h c f i || decide (c / 8 ^ i % 8 = f)) = false
      rw [decide_eq_false e, h]
      rfl
section
variable {p : Int32} {P : Nat} {s : Nat → Nat} {a1 a2 a3 a4 a5 a6 a7 a8 : Nat → Int32} {w b : Nat → Int64} {x y : Nat → Int32}
theorem re_count {post : Int32 → Prop} {r L : Nat} (hr : r < 3) (hL : L ≤ 3) (h : post (nI (re_c w r L))) : wpX_countAt post (p, a1, a2, a3, a4, a5, a6, a7, a8, w, b, x, y) (nI r) (nI L) := by
  have h512 := re_l512 hL
  refine pk_loop (σ := Unit) (fun n i _ => wX_countAt_5 post (nI r) (nI L) p a1 a2 a3 a4 a5 a6 a7 a8 w b x y n (nI (re_cn (fun c => re_m w r L c) i)) (nI i)) (fun _ _ => True) (8 ^ L) 0 () (Nat.zero_le _) trivial ?_ ?_
  · intro n _ _
    unfold wX_countAt_5
    exact re_codes hL (br_t (nI_le (Nat.le_refl _) (by omega)) h)
  · intro n i _ hi _ hw
    unfold wX_countAt_5
    refine re_codes hL (br_f (nI_ge hi (by omega)) (re_isIn hr hL hi (fun hm => br_f (by decide) (nm_r (e' := nI (re_cn (fun c => re_m w r L c) (i + 1))) ?_ (nm_r (nI_1 i) (hw () trivial)))) (fun hm => br_t rfl (nm_r (e' := nI (re_cn (fun c => re_m w r L c) (i + 1))) ?_ (nm_r (nI_1 i) (hw () trivial))))))
    · rw [re_cn_t (p := fun c => re_m w r L c) hm, nI_1]
    · rw [re_cn_f (p := fun c => re_m w r L c) hm, Int32.add_zero]
theorem re_matches {post : Int32 → Prop} {r k : Nat} (hr : r < 3) (hk : k ≤ 3) (h4 : a4 r = nI k) (h : post (nI (re_c w r k))) : wpX_matches post (p, a1, a2, a3, a4, a5, a6, a7, a8, w, b, x, y) (nI r) := by
  unfold wpX_matches
  dsimp only
  refine re_isRuleN hr (br_f (by decide) ⟨vp_in_nI hr (by decide), ?_⟩)
  rw [nI_clamp (n := r) (by omega), h4]
  exact re_count hr hk h
theorem re_match {post : Int32 → Prop} {r k j : Nat} (hr : r < 3) (hk : k ≤ 3) (h4 : a4 r = nI k) (hj : j < 2 ^ 31) (H1 : ∀ c, c < 8 ^ k → re_m w r k c = true → re_cn (fun c => re_m w r k c) c = j → post (nI (c + (512 - 8 ^ k)))) (H2 : re_c w r k ≤ j → post (-1)) : wpX_match post (p, a1, a2, a3, a4, a5, a6, a7, a8, w, b, x, y) (nI r) (nI j) := by
  have h512 := re_l512 hk
  unfold wpX_match
  dsimp only
  refine re_isRuleN hr (br_f (by decide) ⟨vp_in_nI hr (by decide), ?_⟩)
  rw [nI_clamp (n := r) (by omega), h4]
  refine nm_e (re_codes hk (nm_r (re_mis k (by omega)) ?_))
  refine pk_loop (σ := Unit) (fun n i _ => wX_match_36 post (nI r) (nI j) (nI k) (nI (512 - 8 ^ k)) p a1 a2 a3 a4 a5 a6 a7 a8 w b x y n (nI (re_cn (fun c => re_m w r k c) i)) (nI i)) (fun i _ => re_cn (fun c => re_m w r k c) i ≤ j) (8 ^ k) 0 () (Nat.zero_le _) (Nat.zero_le _) ?_ ?_
  · intro n _ h
    unfold wX_match_36
    exact re_codes hk (br_t (nI_le (Nat.le_refl _) (by omega)) (H2 h))
  · intro n i _ hi h hw
    have hn := re_cn_le (fun c => re_m w r k c) i
    unfold wX_match_36
    refine re_codes hk (br_f (nI_ge hi (by omega)) (re_isIn hr hk hi (fun hm => br_f (by decide) ?_) (fun hm => br_t rfl (nm_r (nI_1 i) ?_))))
    · refine pk_eq (re_cn (fun c => re_m w r k c) i) j (fun e => ?_) (fun e => ?_)
      · rw [re_orm k (by omega) i (by omega) hi]
        exact H1 i hi hm e
      · refine nm_r (e' := nI (re_cn (fun c => re_m w r k c) (i + 1))) ?_ (nm_r (nI_1 i) (hw () ?_))
        · rw [re_cn_t (p := fun c => re_m w r k c) hm, nI_1]
        · rw [re_cn_t (p := fun c => re_m w r k c) hm]
          omega
    · have t := hw () (by rw [re_cn_f (p := fun c => re_m w r k c) hm]; exact h)
      rw [re_cn_f (p := fun c => re_m w r k c) hm] at t
      exact t
theorem re_partial {post : Int32 → Prop} {r k j : Nat} (hr : r < 3) (hk : k ≤ 3) (h4 : a4 r = nI k) (hj : j < 2 ^ 31) (H1 : j ≤ k → post (nI (re_c w r j))) (H2 : k < j → post (-1)) : wpX_partial post (p, a1, a2, a3, a4, a5, a6, a7, a8, w, b, x, y) (nI r) (nI j) := by
  unfold wpX_partial
  dsimp only
  refine re_isRuleN hr (br_f (by decide) (br_f (nI_pos hj) ⟨vp_in_nI hr (by decide), ?_⟩))
  rw [nI_clamp (n := r) (by omega), h4]
  exact pk_lt k j H2 (fun h => re_count hr (by omega) (H1 h))
theorem re_looks {post : Int32 → Prop} {c g : Nat} (hc : c < 9) (hg : g < 7) (h1 : re_ok a1 a2 a3 a5 a6 a7 c g = true → post 1) (h0 : re_ok a1 a2 a3 a5 a6 a7 c g = false → post 0) : wpX_looksRight post (p, a1, a2, a3, a4, a5, a6, a7, a8, w, b, x, y) (nI c) (nI g) := by
  have hin : vp_in (nI c) 9 := vp_in_nI hc (by decide)
  have hig : vp_in (nI g) 7 := vp_in_nI hg (by decide)
  refine ⟨hig, hin, ?_⟩
  rw [nI_clamp (n := c) (by omega), nI_clamp (n := g) (by omega)]
  refine br_c (fun e => ⟨hin, hig, ?_⟩) (fun e => h0 ?_)
  · refine re_const (fun e2 => br_f (by decide) ⟨hin, hig, ?_⟩) (fun e2 => br_t rfl (h0 ?_))
    · refine re_const (fun e3 => br_f (by decide) (h1 ?_)) (fun e3 => br_t rfl (h0 ?_))
      · unfold re_ok
        rw [e2, e3, decide_eq_true e]
        rfl
      · unfold re_ok
        rw [e2, e3, decide_eq_true e]
        rfl
    · unfold re_ok
      rw [e2, decide_eq_true e]
      rfl
  · unfold re_ok
    rw [decide_eq_false e]
    rfl
theorem re_fitting {post : Int32 → Prop} {r k j : Nat} (hP : P < 128) (hr : r < 3) (hk : k ≤ 3) (h4 : a4 r = nI k) (hj : j < 2 ^ 31) (H1 : j < k → post (nI (re_F P a1 a2 a3 a5 a6 a7 (r * 3 + j)))) (H2 : k ≤ j → post (-1)) : wpX_fitting post (nI P, a1, a2, a3, a4, a5, a6, a7, a8, w, b, x, y) (nI r) (nI j) := by
  unfold wpX_fitting
  dsimp only
  refine re_isRuleN hr (br_f (by decide) (br_f (nI_pos hj) ⟨vp_in_nI hr (by decide), ?_⟩))
  rw [nI_clamp (n := r) (by omega), h4]
  refine pk_lt j k (fun h => ?_) H2
  refine pk_loop (σ := Unit) (fun n i _ => wX_fitting_28 post (nI r) (nI j) (nI P) a1 a2 a3 a4 a5 a6 a7 a8 w b x y n (nI (re_cn (fun f => P.testBit f && re_ok a1 a2 a3 a5 a6 a7 (r * 3 + j) f) i)) (nI i)) (fun _ _ => True) 7 0 () (by omega) trivial ?_ ?_
  · intro n _ _
    exact br_t (by decide) (H1 h)
  · intro n i _ hi _ hw
    have hf : (P.testBit i && re_ok a1 a2 a3 a5 a6 a7 (r * 3 + j) i) = false → nI (re_cn (fun f => P.testBit f && re_ok a1 a2 a3 a5 a6 a7 (r * 3 + j) f) i) + 0 = nI (re_cn (fun f => P.testBit f && re_ok a1 a2 a3 a5 a6 a7 (r * 3 + j) f) (i + 1)) := by
      intro z
      rw [re_cn_f (p := fun f => P.testBit f && re_ok a1 a2 a3 a5 a6 a7 (r * 3 + j) f) z, Int32.add_zero]
    refine br_f (nI_ge (b := 7) hi (by decide)) (re_hasN hP hi (fun hb => br_f (by decide) ?_) (fun hb => br_t rfl (nm_r (hf (by rw [hb]; rfl)) (nm_r (nI_1 i) (hw () trivial)))))
    rw [re_cell r j]
    refine re_looks (by omega) hi (fun ho => br_f (by decide) (nm_r (e' := nI (re_cn (fun f => P.testBit f && re_ok a1 a2 a3 a5 a6 a7 (r * 3 + j) f) (i + 1))) ?_ (nm_r (nI_1 i) (hw () trivial)))) (fun ho => br_t rfl (nm_r (hf (by rw [ho, Bool.and_false])) (nm_r (nI_1 i) (hw () trivial))))
    rw [re_cn_t (p := fun f => P.testBit f && re_ok a1 a2 a3 a5 a6 a7 (r * 3 + j) f) (by rw [hb, ho]; rfl), nI_1]
theorem re_us30 {post : Int32 → Prop} {J : Int32 → Int32 → Prop} {f r k A : Nat} (hf : f < 7) (hr : r < 3) (hk : k ≤ 3) (hJ : J (nI (A + re_cn (fun c => re_m w r k c && re_h c f k) (8 ^ k))) (nI (r + 1))) : ∃ n, wX_uses_30 post J (nI f) (nI r) (nI k) p a1 a2 a3 a4 a5 a6 a7 a8 w b x y n (nI A) 0 := by
  have h512 := re_l512 hk
  refine pk_loop (σ := Unit) (fun n i _ => wX_uses_30 post J (nI f) (nI r) (nI k) p a1 a2 a3 a4 a5 a6 a7 a8 w b x y n (nI (A + re_cn (fun c => re_m w r k c && re_h c f k) i)) (nI i)) (fun _ _ => True) (8 ^ k) 0 () (Nat.zero_le _) trivial ?_ ?_
  · intro n _ _
    unfold wX_uses_30
    exact re_codes hk (br_t (nI_le (Nat.le_refl _) (by omega)) (nm_r (nI_1 r) hJ))
  · intro n i _ hi _ hw
    have hz : (re_m w r k i && re_h i f k) = false → nI (A + re_cn (fun c => re_m w r k c && re_h c f k) i) + 0 = nI (A + re_cn (fun c => re_m w r k c && re_h c f k) (i + 1)) := by
      intro z
      rw [re_cn_f (p := fun c => re_m w r k c && re_h c f k) z, Int32.add_zero]
    unfold wX_uses_30
    refine re_codes hk (br_f (nI_ge hi (by omega)) (re_isIn hr hk hi (fun hm => br_f (by decide) ?_) (fun hm => br_t rfl (nm_r (hz (by rw [hm]; rfl)) (nm_r (nI_1 i) (hw () trivial))))))
    refine re_holds hk (by omega) hf (fun ho => br_f (by decide) (nm_r (e' := nI (A + re_cn (fun c => re_m w r k c && re_h c f k) (i + 1))) ?_ (nm_r (nI_1 i) (hw () trivial)))) (fun ho => br_t rfl (nm_r (hz (by rw [ho, Bool.and_false])) (nm_r (nI_1 i) (hw () trivial))))
    rw [re_cn_t (p := fun c => re_m w r k c && re_h c f k) (by rw [hm, ho]; rfl), nI_1, Nat.add_assoc]
theorem re_usesN {post : Int32 → Prop} {f : Nat} (hf : f < 7) (h4 : ∀ r, r < 3 → s r ≤ 3 ∧ a4 r = nI (s r)) (h : post (nI (re_us w s f))) : ∃ n, wX_uses_14 post (nI f) p a1 a2 a3 a4 a5 a6 a7 a8 w b x y n 0 0 := by
  refine pk_loop (σ := Unit) (fun n i _ => wX_uses_14 post (nI f) p a1 a2 a3 a4 a5 a6 a7 a8 w b x y n (nI (re_sm (fun r => re_uc w s f r) i)) (nI i)) (fun _ _ => True) 3 0 () (by omega) trivial ?_ ?_
  · intro n _ _
    exact br_t (by decide) h
  · intro n i _ hi _ hw
    refine br_f (nI_ge (b := 3) hi (by decide)) ⟨vp_in_nI hi (by decide), ?_⟩
    rw [nI_clamp (n := i) (by omega), (h4 i hi).2]
    exact nm_e (re_us30 hf hi (h4 i hi).1 (hw () trivial))
theorem re_uses {post : Int32 → Prop} {q : Int32} (hP : P < 128) (h4 : ∀ r, r < 3 → s r ≤ 3 ∧ a4 r = nI (s r)) (h1 : ∀ f, f < 7 → q = nI f → P.testBit f = true → post (nI (re_us w s f))) (h0 : (∀ f, f < 7 → q = nI f → P.testBit f = false) → post (-1)) : wpX_uses post (nI P, a1, a2, a3, a4, a5, a6, a7, a8, w, b, x, y) q := by
  unfold wpX_uses
  dsimp only
  refine re_has hP (fun f hf e hb => br_f (by decide) ?_) (fun h => br_t rfl (h0 h))
  have t := h1 f hf e hb
  subst e
  exact re_usesN hf h4 t
def re_rd (B : Nat → Bool) (i : Nat) : Nat := re_sm (fun r => if B r = true then 2 ^ r else 0) i
theorem re_rdT (B : Nat → Bool) {r : Nat} (hr : r < 3) : re_rd B 3 < 128 ∧ (re_rd B 3).testBit r = B r := by
  have e : re_rd B 3 = (0 + (if B 0 = true then 2 ^ 0 else 0)) + (if B 1 = true then 2 ^ 1 else 0) + (if B 2 = true then 2 ^ 2 else 0) := rfl
  rw [e]
  have : r = 0 ∨ r = 1 ∨ r = 2 := by omega
  rcases this with rfl | rfl | rfl
  · cases B 0 <;> cases B 1 <;> cases B 2 <;> decide
  · cases B 0 <;> cases B 1 <;> cases B 2 <;> decide
  · cases B 0 <;> cases B 1 <;> cases B 2 <;> decide
theorem re_rdL (B : Nat → Bool) {i : Nat} (hi : i ≤ 3) : re_rd B i < 2 ^ i := by
  induction i with
  | zero => exact Nat.zero_lt_one
  | succ i ih =>
    have t := ih (by omega)
    show re_rd B i + (if B i = true then 2 ^ i else 0) < _
    rw [Nat.pow_succ]
    split <;> omega
theorem re_rdO : ∀ i, i < 3 → ∀ a, a < 8 → a < 2 ^ i → nI a ||| ((1 : Int32) <<< (nI i &&& 31)) = nI (a + 2 ^ i) := by decide +kernel
theorem re_rd8 : ∀ a, a < 8 → nI a ||| 0 = nI a := by decide +kernel
theorem re_ready {post : Int32 → Prop} (h4 : ∀ r, r < 3 → s r ≤ 3 ∧ a4 r = nI (s r)) (h : post (nI (re_rd (fun r => decide (0 < re_c w r (s r))) 3))) : wpX_ready post (p, a1, a2, a3, a4, a5, a6, a7, a8, w, b, x, y) := by
  refine pk_loop (σ := Unit) (fun n i _ => wX_ready_4 post p a1 a2 a3 a4 a5 a6 a7 a8 w b x y n (nI (re_rd (fun r => decide (0 < re_c w r (s r))) i)) (nI i)) (fun _ _ => True) 3 0 () (by omega) trivial ?_ ?_
  · intro n _ _
    exact br_t (by decide) h
  · intro n i _ hi _ hw
    have hl := re_rdL (fun r => decide (0 < re_c w r (s r))) (show i ≤ 3 by omega)
    have h8 : (2 : Nat) ^ i ≤ 8 := by
      have : i = 0 ∨ i = 1 ∨ i = 2 := by omega
      rcases this with rfl | rfl | rfl <;> decide
    have hle := re_c_le (w := w) (r := i) (h4 i hi).1
    refine br_f (nI_ge (b := 3) hi (by decide)) (re_matches hi (h4 i hi).1 (h4 i hi).2 ?_)
    refine pk_le (re_c w i (s i)) 0 (fun z => nm_r (e' := nI (re_rd (fun r => decide (0 < re_c w r (s r))) (i + 1))) ?_ (nm_r (nI_1 i) (hw () trivial))) (fun z => nm_r (e' := nI (re_rd (fun r => decide (0 < re_c w r (s r))) (i + 1))) ?_ (nm_r (nI_1 i) (hw () trivial)))
    · rw [re_rd8 _ (by omega)]
      show _ = nI (re_rd (fun r => decide (0 < re_c w r (s r))) i + (if decide (0 < re_c w i (s i)) = true then 2 ^ i else 0))
      rw [decide_eq_false (by omega), if_neg (by decide), Nat.add_zero]
    · rw [re_rdO i hi _ (by omega) hl]
      show _ = nI (re_rd (fun r => decide (0 < re_c w r (s r))) i + (if decide (0 < re_c w i (s i)) = true then 2 ^ i else 0))
      rw [decide_eq_true z, if_pos rfl]
theorem re_ones {post : Int32 → Prop} (hP : P < 128) (h : post (nI (re_cn (fun f => P.testBit f) 7))) : wpL_ones post () (nI P) := by
  refine pk_loop (σ := Unit) (fun n i _ => wL_ones_4 post (nI P) n (nI (re_cn (fun f => P.testBit f) i)) (nI i)) (fun _ _ => True) 7 0 () (by omega) trivial ?_ ?_
  · intro n _ _
    exact br_t (by decide) h
  · intro n i _ hi _ hw
    refine br_f (nI_ge (b := 7) hi (by decide)) ?_
    rw [re_pb P hP i (by omega), nI_add]
    exact nm_e (nm_r (nI_1 i) (hw () trivial))
end
end
section
theorem re_m7 : ∀ m, m < 512 → nI m &&& 7 = nI (m % 8) ∧ (nI m >>> ((3 : Int32) &&& 31)) &&& 7 = nI (m / 8 % 8) ∧ nI m >>> ((6 : Int32) &&& 31) = nI (m / 64) := by decide +kernel
def re_D (P d : Nat) : Prop := d = 7 ∨ (d < 7 ∧ P.testBit d = true)
theorem re_gdD {P : Nat} {a1 a2 a3 a5 a6 a7 a8 : Nat → Int32} {c d : Nat} (h : re_gd P a1 a2 a3 a5 a6 a7 a8 c d = true) : re_D P d := by
  have t := re_gdE h
  by_cases h0 : a8 c = 0
  · exact Or.inr ⟨(t.1 h0).1, (t.1 h0).2.1⟩
  · exact Or.inl (t.2 h0)
theorem re_dM {P k c : Nat} (hk : k ≤ 3) (hc : c < 8 ^ k) (hD : ∀ i, i < k → re_D P (re_dg c i)) : re_D P ((c + (512 - 8 ^ k)) % 8) ∧ re_D P ((c + (512 - 8 ^ k)) / 8 % 8) ∧ re_D P ((c + (512 - 8 ^ k)) / 64) := by
  have e0 : re_dg c 0 = c % 8 := by
    show c / 8 ^ 0 % 8 = _
    rw [Nat.pow_zero, Nat.div_one]
  have e1 : re_dg c 1 = c / 8 % 8 := rfl
  have e2 : re_dg c 2 = c / 64 % 8 := rfl
  rcases re_8 hk with ⟨e, f⟩ | ⟨e, f⟩ | ⟨e, f⟩ | ⟨e, f⟩ <;> rw [f] at hc ⊢
  · exact ⟨Or.inl (by omega), Or.inl (by omega), Or.inl (by omega)⟩
  · have d0 := hD 0 (by omega)
    rw [e0] at d0
    refine ⟨?_, Or.inl (by omega), Or.inl (by omega)⟩
    rw [show (c + (512 - 8)) % 8 = c % 8 by omega]
    exact d0
  · have d0 := hD 0 (by omega)
    have d1 := hD 1 (by omega)
    rw [e0] at d0
    rw [e1] at d1
    refine ⟨?_, ?_, Or.inl (by omega)⟩
    · rw [show (c + (512 - 64)) % 8 = c % 8 by omega]
      exact d0
    · rw [show (c + (512 - 64)) / 8 % 8 = c / 8 % 8 by omega]
      exact d1
  · have d0 := hD 0 (by omega)
    have d1 := hD 1 (by omega)
    have d2 := hD 2 (by omega)
    rw [e0] at d0
    rw [e1] at d1
    rw [e2] at d2
    refine ⟨?_, ?_, ?_⟩
    · rw [show (c + (512 - 512)) % 8 = c % 8 by omega]
      exact d0
    · rw [show (c + (512 - 512)) / 8 % 8 = c / 8 % 8 by omega]
      exact d1
    · rw [show (c + (512 - 512)) / 64 = c / 64 % 8 by omega]
      exact d2
theorem re_F7 {P : Nat} {a1 a2 a3 a5 a6 a7 : Nat → Int32} {c : Nat} : re_F P a1 a2 a3 a5 a6 a7 c ≤ 7 := re_cn_le _ _
theorem re_F1 {P : Nat} {a1 a2 a3 a5 a6 a7 : Nat → Int32} {c : Nat} : re_F P a1 a2 a3 a5 a6 a7 c ≤ re_cn (fun f => P.testBit f) 7 := by
  refine re_cn_mono (fun i hi h => ?_)
  rw [Bool.and_eq_true] at h
  exact h.1
/-- how many facts may stand at a condition's place -/
theorem re_bd {P : Nat} {a1 a2 a3 a5 a6 a7 a8 : Nat → Int32} {c : Nat} : re_cn (fun d => re_gd P a1 a2 a3 a5 a6 a7 a8 c d) 8 ≤ re_F P a1 a2 a3 a5 a6 a7 c ∨ re_cn (fun d => re_gd P a1 a2 a3 a5 a6 a7 a8 c d) 8 ≤ 1 := by
  by_cases h0 : a8 c = 0
  · refine Or.inl ?_
    have e : re_gd P a1 a2 a3 a5 a6 a7 a8 c 7 = false := by
      cases h : re_gd P a1 a2 a3 a5 a6 a7 a8 c 7
      · rfl
      · exact absurd ((re_gdE h).1 h0).1 (by decide)
    rw [re_cn_f (p := fun d => re_gd P a1 a2 a3 a5 a6 a7 a8 c d) e]
    refine re_cn_mono (fun i hi h => ?_)
    have t := (re_gdE h).1 h0
    show (P.testBit i && re_ok a1 a2 a3 a5 a6 a7 c i) = true
    rw [t.2.1, t.2.2]
    rfl
  · refine Or.inr ?_
    have e : re_cn (fun d => re_gd P a1 a2 a3 a5 a6 a7 a8 c d) 7 = 0 := by
      refine re_cn_zero (fun i hi => ?_)
      show re_gd P a1 a2 a3 a5 a6 a7 a8 c i = false
      cases h : re_gd P a1 a2 a3 a5 a6 a7 a8 c i
      · rfl
      · exact absurd ((re_gdE h).2 h0) (by omega)
    have t : re_cn (fun d => re_gd P a1 a2 a3 a5 a6 a7 a8 c d) 8 = re_cn (fun d => re_gd P a1 a2 a3 a5 a6 a7 a8 c d) 7 + 1 := re_cn_t (p := fun d => re_gd P a1 a2 a3 a5 a6 a7 a8 c d) (n := 7) (re_gdN h0)
    rw [t, e]
    exact Nat.le_refl 1
/-- the bound of one step, by the naturals -/
theorem re_step {P : Nat} {a1 a2 a3 a5 a6 a7 a8 : Nat → Int32} {w : Nat → Int64} {r k i : Nat} (hI : re_I (re_gd P a1 a2 a3 a5 a6 a7 a8) w r k) (hi : i < k) : re_c w r (i + 1) ≤ re_c w r i * (if 0 < re_F P a1 a2 a3 a5 a6 a7 (r * 3 + i) then re_F P a1 a2 a3 a5 a6 a7 (r * 3 + i) else 1) := by
  have t := re_lev hI hi
  refine Nat.le_trans t ?_
  rw [Nat.mul_comm]
  refine Nat.mul_le_mul_left _ ?_
  rcases re_bd (P := P) (a1 := a1) (a2 := a2) (a3 := a3) (a5 := a5) (a6 := a6) (a7 := a7) (a8 := a8) (c := r * 3 + i) with h | h
  · split
    · exact h
    · omega
  · split
    · omega
    · exact h
theorem re_c0 {gd : Nat → Nat → Bool} {w : Nat → Int64} {r k : Nat} (hI : re_I gd w r k) : re_c w r 0 = 1 := by
  show re_cn (fun c => re_m w r 0 c) (0 + 1) = 1
  rw [re_cn_t (p := fun c => re_m w r 0 c) hI.1]
  rfl
theorem re_ne1 {n : Nat} (h : n < 2 ^ 31) : ¬ nI n ≤ -1 := by
  rw [Int32.le_iff_toInt_le, nI_toInt h]
  have : (-1 : Int32).toInt = -1 := by decide
  omega
section
variable {P : Nat} {s : Nat → Nat} {a1 a2 a3 a4 a5 a6 a7 a8 : Nat → Int32} {w b : Nat → Int64} {x y : Nat → Int32}
theorem re_exit {post : Int32 → Prop} {r n : Nat} (hK : re_K P s a1 a2 a3 a4 a5 a6 a7 a8 w) (hr : r < 3) (hn : n = re_c w r (s r)) (h : post 1) : wpX_partial (fun r_8 => (r_8 = 1 → (wpX_match (fun r_10 => (((r_10 = (-1) → (wpX_ready (fun r_12 => (((((r_12 >>> (nI r &&& 31)) &&& 1) = 1 → (wL_matches_363 post (nI n) 1 (nI P) a1 a2 a3 a4 a5 a6 a7 a8 w b x y)) ∧ (¬ ((r_12 >>> (nI r &&& 31)) &&& 1) = 1 → (wL_matches_363 post (nI n) 0 (nI P) a1 a2 a3 a4 a5 a6 a7 a8 w b x y))))) (nI P, a1, a2, a3, a4, a5, a6, a7, a8, w, b, x, y))) ∧ (¬ r_10 = (-1) → (post 0))))) (nI P, a1, a2, a3, a4, a5, a6, a7, a8, w, b, x, y) (nI r) (nI n))) ∧ (¬ r_8 = 1 → (post 0))) (nI P, a1, a2, a3, a4, a5, a6, a7, a8, w, b, x, y) (nI r) 0 := by
  obtain ⟨hP, h4, h6, h7, hI⟩ := hK
  have hk := (h4 r hr).1
  have hle : n ≤ 512 := by rw [hn]; exact re_c_le hk
  refine re_partial (j := 0) hr hk (h4 r hr).2 (by decide) (fun _ => ?_) (fun z => absurd z (by omega))
  rw [re_c0 (hI r hr)]
  refine br_t rfl ?_
  refine re_match hr hk (h4 r hr).2 (by omega) (fun c hc hm e => ?_) (fun _ => br_t rfl ?_)
  · have t := re_cn_lt (p := fun c => re_m w r (s r) c) hc hm
    have t2 : n = re_cn (fun c => re_m w r (s r) c) (8 ^ s r) := hn
    exact absurd t (by omega)
  · refine re_ready h4 ?_
    obtain ⟨r1, r2⟩ := re_rdT (fun r => decide (0 < re_c w r (s r))) hr
    rw [re_pb _ r1 r (by omega), r2]
    have b1 : wL_matches_363 post (nI n) (nI (if decide (0 < re_c w r (s r)) = true then 1 else 0)) (nI P) a1 a2 a3 a4 a5 a6 a7 a8 w b x y := by
      unfold wL_matches_363
      refine pk_le n 0 (fun z => ?_) (fun z => ?_)
      · rw [decide_eq_false (by omega), if_neg (by decide)]
        exact br_t rfl h
      · rw [decide_eq_true (by omega), if_pos rfl]
        exact br_t rfl h
    refine br_c (fun e => ?_) (fun e => ?_)
    · rw [e] at b1
      exact b1
    · by_cases hp : 0 < re_c w r (s r)
      · rw [decide_eq_true hp, if_pos rfl] at e
        exact absurd rfl e
      · rw [decide_eq_false hp, if_neg (by decide)] at b1
        exact b1
theorem re_l293 {post : Int32 → Prop} {J : Int32 → Int32 → Int32 → Prop} {x2 x5 : Int32} {r i m n q : Nat} (hq : n ≤ m * q) (hn : n ≤ 512) (hm : m * q < 2 ^ 31) (hJ : J x5 (nI n) (nI (i + 1))) : wL_matches_293 post J (nI r) x2 (nI P) x5 (nI i) (nI n) (nI q) (nI m) (nI n) (nI P) a1 a2 a3 a4 a5 a6 a7 a8 w b x y := by
  unfold wL_matches_293
  rw [pk_mul]
  exact br_t (nI_le hq hm) (nm_r (nI_1 i) hJ)
/-- a condition that is there: f facts look right at it, m partial matches before it, n behind it -/
theorem re_l218 {post : Int32 → Prop} {J : Int32 → Int32 → Int32 → Prop} {x2 z : Int32} {r i m n f : Nat} (hP : P < 128) (hf : f ≤ 7) (hf1 : f ≤ re_cn (fun f => P.testBit f) 7) (hm : m ≤ 512) (hn : n ≤ 512) (hq : n ≤ m * (if 0 < f then f else 1)) (hJ : J z (nI n) (nI (i + 1))) : wL_matches_218 post J (nI r) x2 (nI P) (nI m) (nI i) (nI f) (nI n) z (nI P) a1 a2 a3 a4 a5 a6 a7 a8 w b x y := by
  unfold wL_matches_218
  have ho := re_cn_le (fun f => P.testBit f) 7
  have e268 : wL_matches_268 post J (nI r) x2 (nI P) z (nI m) (nI i) (nI f) (nI n) (nI P) a1 a2 a3 a4 a5 a6 a7 a8 w b x y := by
    unfold wL_matches_268
    refine br_f (nI_pos (by omega)) (br_f (nI_pos (by omega)) ?_)
    have hb : m * f ≤ 512 * 7 := Nat.mul_le_mul hm hf
    refine pk_le f 0 (fun h => ?_) (fun h => ?_)
    · rw [if_neg (by omega)] at hq
      exact re_l293 (q := 1) hq hn (by omega) hJ
    · rw [if_pos h] at hq
      exact re_l293 hq hn (by omega) hJ
  refine re_ones hP (br_f (nI_nlt hf1 (by omega)) (br_f ?_ (br_t (nI_pos' (by omega)) ?_)))
  · rw [Int32.lt_iff_toInt_lt, nI_toInt (by omega)]
    have : (-1 : Int32).toInt = -1 := by decide
    omega
  · unfold wL_matches_245
    refine br_t (nI_pos' (by omega)) ?_
    unfold wL_matches_255
    refine br_t rfl (br_c (fun _ => e268) (fun hne => br_c (fun e => ?_) (fun _ => e268)))
    have hm0 : m = 0 := by
      have t : nI m = nI 0 := e
      exact (nI_eq (by omega) (by omega)).mp t
    rw [hm0, Nat.zero_mul] at hq
    have hn0 : n = 0 := by omega
    rw [hn0] at hne
    exact absurd (by decide) hne
/-- no condition there -/
theorem re_l218n {post : Int32 → Prop} {J : Int32 → Int32 → Int32 → Prop} {x2 x6 z : Int32} {r i : Nat} (hP : P < 128) (hJ : J z (-1) (nI (i + 1))) : wL_matches_218 post J (nI r) x2 (nI P) x6 (nI i) (-1) (-1) z (nI P) a1 a2 a3 a4 a5 a6 a7 a8 w b x y := by
  unfold wL_matches_218
  have ho := re_cn_le (fun f => P.testBit f) 7
  refine re_ones hP (br_f ?_ (br_f (by decide) (br_f (by decide) ?_)))
  · rw [Int32.lt_iff_toInt_lt, nI_toInt (by omega)]
    have : (-1 : Int32).toInt = -1 := by decide
    omega
  · unfold wL_matches_245
    refine br_f (by decide) ?_
    unfold wL_matches_255
    refine br_t rfl (br_t (by decide) ?_)
    unfold wL_matches_268
    exact br_t (by decide) (nm_r (nI_1 i) hJ)
theorem re_p7 {a : Nat} (h : a ≤ 3) : 7 ^ a ≤ 343 := by
  have : a = 0 ∨ a = 1 ∨ a = 2 ∨ a = 3 := by omega
  rcases this with rfl | rfl | rfl | rfl <;> decide
theorem re_l177 {post : Int32 → Prop} {r n : Nat} (hK : re_K P s a1 a2 a3 a4 a5 a6 a7 a8 w) (hr : r < 3) (hn : n = re_c w r (s r)) (h : post 1) : ∃ fu, wL_matches_177 post (nI r) (nI n) (nI P) (nI P) a1 a2 a3 a4 a5 a6 a7 a8 w b x y fu 1 1 0 := by
  have hK' := hK
  obtain ⟨hP, h4, h6, h7, hI⟩ := hK
  have hk := (h4 r hr).1
  refine pk_loop (σ := Int32 × Int32) (fun fu i t => wL_matches_177 post (nI r) (nI n) (nI P) (nI P) a1 a2 a3 a4 a5 a6 a7 a8 w b x y fu t.1 t.2 (nI i)) (fun i t => ∃ M : Nat, t.1 = nI M ∧ M ≤ 7 ^ (min i (s r)) ∧ re_c w r (min i (s r)) ≤ M ∧ (i ≤ s r → t.2 = nI (re_c w r i)) ∧ (s r < i → t.2 = -1)) 3 0 (1, 1) (by omega) ⟨1, rfl, ?_, ?_, ?_, ?_⟩ ?_ ?_
  · rw [Nat.zero_min]; decide
  · rw [Nat.zero_min, re_c0 (hI r hr)]; decide
  · intro _
    rw [re_c0 (hI r hr)]
    rfl
  · intro z; exact absurd z (by omega)
  · rintro fu ⟨t1, t2⟩ ⟨M, e, m1, m2, _, _⟩
    rw [show min 3 (s r) = s r by omega] at m1 m2
    have m3 := re_p7 hk
    have e' : t1 = nI M := e
    subst e'
    refine br_t (by decide) (br_f (nI_pos (by omega)) (br_f (nI_nlt (b := n) (a := 343) (by omega) (by decide)) (br_f (nI_nlt (by omega) (by omega)) ?_)))
    exact re_exit hK' hr hn h
  · rintro fu i ⟨t1, t2⟩ hi ⟨M, e, m1, m2, m3, m4⟩ hw
    have e' : t1 = nI M := e
    subst e'
    refine br_f (nI_ge (b := 3) hi (by decide)) ?_
    have e1 : nI i + 1 = nI (i + 1) := nI_1 i
    refine re_fitting hP hr hk (h4 r hr).2 (by omega) (fun z => ?_) (fun z => ?_)
    · rw [e1]
      refine re_partial hr hk (h4 r hr).2 (by omega) (fun _ => ?_) (fun z' => absurd z' (by omega))
      have hF7 := re_F7 (P := P) (a1 := a1) (a2 := a2) (a3 := a3) (a5 := a5) (a6 := a6) (a7 := a7) (c := r * 3 + i)
      have hF1 := re_F1 (P := P) (a1 := a1) (a2 := a2) (a3 := a3) (a5 := a5) (a6 := a6) (a7 := a7) (c := r * 3 + i)
      have hst := re_step (hI r hr) z
      have hc1 := re_c_le (w := w) (r := r) (show i ≤ 3 by omega)
      have hc2 := re_c_le (w := w) (r := r) (show i + 1 ≤ 3 by omega)
      have e2 : t2 = nI (re_c w r i) := m3 (by omega)
      subst e2
      rw [show min i (s r) = i by omega] at m1 m2
      have m5 := re_p7 (show i ≤ 3 by omega)
      have m6 : 7 ^ (i + 1) = 7 ^ i * 7 := Nat.pow_succ ..
      refine pk_le (re_F P a1 a2 a3 a5 a6 a7 (r * 3 + i)) 0 (fun f0 => ?_) (fun f0 => ?_)
      · refine re_l218 hP hF7 hF1 hc1 hc2 hst (hw (nI M, nI (re_c w r (i + 1))) ⟨M, rfl, ?_, ?_, fun _ => rfl, fun z' => absurd z' (by omega)⟩)
        · rw [show min (i + 1) (s r) = i + 1 by omega]
          omega
        · rw [show min (i + 1) (s r) = i + 1 by omega]
          rw [if_neg (by omega), Nat.mul_one] at hst
          omega
      · rw [pk_mul]
        refine re_l218 hP hF7 hF1 hc1 hc2 hst (hw (nI (M * re_F P a1 a2 a3 a5 a6 a7 (r * 3 + i)), nI (re_c w r (i + 1))) ⟨M * re_F P a1 a2 a3 a5 a6 a7 (r * 3 + i), rfl, ?_, ?_, fun _ => rfl, fun z' => absurd z' (by omega)⟩)
        · rw [show min (i + 1) (s r) = i + 1 by omega, m6]
          exact Nat.mul_le_mul m1 hF7
        · rw [show min (i + 1) (s r) = i + 1 by omega]
          rw [if_pos f0] at hst
          exact Nat.le_trans hst (Nat.mul_le_mul_right _ m2)
    · rw [e1]
      refine re_partial hr hk (h4 r hr).2 (by omega) (fun z' => absurd z' (by omega)) (fun _ => ?_)
      refine br_t (by decide) ?_
      refine re_l218n hP (hw (nI M, -1) ⟨M, rfl, ?_, ?_, fun z' => absurd z' (by omega), fun _ => rfl⟩)
      · rw [show min (i + 1) (s r) = min i (s r) by omega]
        exact m1
      · rw [show min (i + 1) (s r) = min i (s r) by omega]
        exact m2
theorem re_l124 {post : Int32 → Prop} {J : Int32 → Int32 → Prop} {x1 x2 x3 l : Int32} {k m : Nat} (hm : m < 512) (hl : ¬ nI m ≤ l) (hJ : J (nI m) (nI (k + 1))) : wL_matches_124 post J x1 x2 x3 l (nI k) (nI m) 1 1 1 (nI P) a1 a2 a3 a4 a5 a6 a7 a8 w b x y := by
  unfold wL_matches_124
  exact br_f hl (br_f (nI_nlt (b := m) (a := 511) (by omega) (by decide)) (br_f (by decide) (br_f (by decide) (br_f (by decide) (nm_r (nI_1 k) hJ)))))
theorem re_lbit {d : Nat} (hP : P < 128) (h : re_D P d) (h7 : ¬ nI d = 7) : ((nI P >>> (nI d &&& 31)) &&& 1) = 1 := by
  rcases h with h | ⟨h, h2⟩
  · rw [h] at h7
    exact absurd rfl h7
  · rw [re_pb P hP d (by omega), h2, if_pos rfl]
    rfl
theorem re_l17 {post : Int32 → Prop} {r n : Nat} (hK : re_K P s a1 a2 a3 a4 a5 a6 a7 a8 w) (hr : r < 3) (hn : n = re_c w r (s r)) (h : post 1) : ∃ fu, wL_matches_17 post (nI r) (nI n) (nI P) (nI P) a1 a2 a3 a4 a5 a6 a7 a8 w b x y fu (-1) 0 := by
  have hK' := hK
  obtain ⟨hP, h4, h6, h7, hI⟩ := hK
  have hk := (h4 r hr).1
  have hle : n ≤ 512 := by rw [hn]; exact re_c_le hk
  have h512 := re_l512 hk
  refine pk_loop (σ := Int32) (fun fu i t => wL_matches_17 post (nI r) (nI n) (nI P) (nI P) a1 a2 a3 a4 a5 a6 a7 a8 w b x y fu t (nI i)) (fun i t => t = -1 ∨ ∃ c, c < 8 ^ s r ∧ re_cn (fun c => re_m w r (s r) c) c < i ∧ t = nI (c + (512 - 8 ^ s r))) n 0 (-1) (by omega) (Or.inl rfl) ?_ ?_
  · intro fu t ht
    exact br_t (nI_le (Nat.le_refl n) (by omega)) (re_l177 hK' hr hn h)
  · intro fu i t hi ht hw
    refine br_f (nI_ge hi (by omega)) ?_
    refine re_match hr hk (h4 r hr).2 (by omega) (fun c hc hm e => ?_) (fun z => absurd z (by omega))
    have hM : c + (512 - 8 ^ s r) < 512 := by omega
    obtain ⟨d1, d2, d3⟩ := re_dM hk hc (fun j hj => re_gdD (re_dig (hI r hr) (s r) (Nat.le_refl _) c hc hm j hj))
    obtain ⟨q1, q2, q3⟩ := re_m7 _ hM
    have hl : ¬ nI (c + (512 - 8 ^ s r)) ≤ t := by
      rcases ht with rfl | ⟨c', hc', hi', rfl⟩
      · exact re_ne1 (by omega)
      · refine nI_ge ?_ (by omega)
        have : c' < c := by
          rcases Nat.lt_or_ge c' c with g | g
          · exact g
          · have t2 := re_cn_up (fun c => re_m w r (s r) c) g
            exact absurd t2 (by omega)
        omega
    have e124 := re_l124 (post := post) (J := wL_matches_17 post (nI r) (nI n) (nI P) (nI P) a1 a2 a3 a4 a5 a6 a7 a8 w b x y fu) (x1 := nI r) (x2 := nI n) (x3 := nI P) (P := P) (a1 := a1) (a2 := a2) (a3 := a3) (a4 := a4) (a5 := a5) (a6 := a6) (a7 := a7) (a8 := a8) (w := w) (b := b) (x := x) (y := y) hM hl (hw _ (Or.inr ⟨c, hc, by rw [e]; omega, rfl⟩))
    have e94 : wL_matches_94 post (wL_matches_17 post (nI r) (nI n) (nI P) (nI P) a1 a2 a3 a4 a5 a6 a7 a8 w b x y fu) (nI r) (nI n) (nI P) t (nI i) (nI (c + (512 - 8 ^ s r))) 1 1 (nI P) a1 a2 a3 a4 a5 a6 a7 a8 w b x y := by
      unfold wL_matches_94
      rw [q3]
      exact br_c (fun _ => e124) (fun z => br_t (re_lbit hP d3 z) e124)
    have e60 : wL_matches_60 post (wL_matches_17 post (nI r) (nI n) (nI P) (nI P) a1 a2 a3 a4 a5 a6 a7 a8 w b x y fu) (nI r) (nI n) (nI P) t (nI i) (nI (c + (512 - 8 ^ s r))) 1 (nI P) a1 a2 a3 a4 a5 a6 a7 a8 w b x y := by
      unfold wL_matches_60
      rw [q2]
      exact br_c (fun _ => e94) (fun z => br_t (re_lbit hP d2 z) e94)
    rw [q1]
    exact br_c (fun _ => e60) (fun z => br_t (re_lbit hP d1 z) e60)
theorem re_lmatches {post : Int32 → Prop} {r : Nat} (hK : re_K P s a1 a2 a3 a4 a5 a6 a7 a8 w) (hr : r < 3) (h : post 1) : wpL_matches post (nI P, a1, a2, a3, a4, a5, a6, a7, a8, w, b, x, y) (nI r) := by
  unfold wpL_matches
  dsimp only
  exact re_matches hr (hK.2.1 r hr).1 (hK.2.1 r hr).2 (re_l17 hK hr rfl h)
end
end
section
theorem re_cn_or (p q : Nat → Bool) (n : Nat) : re_cn (fun i => p i || q i) n ≤ re_cn p n + re_cn q n := by
  induction n with
  | zero => exact Nat.le_refl 0
  | succ n ih =>
    show re_cn (fun i => p i || q i) n + (if (p n || q n) = true then 1 else 0) ≤ (re_cn p n + (if p n = true then 1 else 0)) + (re_cn q n + (if q n = true then 1 else 0))
    cases p n <;> cases q n <;> simp <;> omega
theorem re_cn_one (d n : Nat) : re_cn (fun f => decide (d = f)) n ≤ 1 := by
  have h : ∀ n, re_cn (fun f => decide (d = f)) n ≤ (if d < n then 1 else 0) := by
    intro n
    induction n with
    | zero => exact Nat.zero_le _
    | succ n ih =>
      show re_cn (fun f => decide (d = f)) n + (if decide (d = n) = true then 1 else 0) ≤ _
      by_cases e : d = n
      · rw [decide_eq_true e, if_pos rfl, if_pos (by omega)]
        rw [if_neg (by omega)] at ih
        omega
      · rw [decide_eq_false e, if_neg (by decide)]
        by_cases e2 : d < n
        · rw [if_pos (by omega)]
          rw [if_pos e2] at ih
          omega
        · rw [if_neg (by omega)]
          rw [if_neg e2] at ih
          omega
  have t := h n
  split at t <;> omega
theorem re_h3 (c F L : Nat) : re_cn (fun f => re_h c f L) F ≤ L := by
  induction L with
  | zero =>
    rw [re_cn_zero (p := fun f => re_h c f 0) (fun _ _ => rfl)]
    exact Nat.le_refl 0
  | succ L ih =>
    have t := re_cn_or (fun f => re_h c f L) (fun f => decide (re_dg c L = f)) F
    have t2 := re_cn_one (re_dg c L) F
    show re_cn (fun f => re_h c f L || decide (re_dg c L = f)) F ≤ L + 1
    omega
def re_sum (w : Nat → Int64) (s : Nat → Nat) (i : Nat) : Nat := re_sm (fun r => re_c w r (s r)) i
theorem re_us_le (w : Nat → Int64) (s : Nat → Nat) (f : Nat) : re_us w s f ≤ re_sum w s 3 := by
  have h : ∀ r, re_uc w s f r ≤ re_c w r (s r) := by
    intro r
    refine re_cn_mono (fun i hi z => ?_)
    rw [Bool.and_eq_true] at z
    exact z.1
  have h0 := h 0
  have h1 := h 1
  have h2 := h 2
  show ((0 + re_uc w s f 0) + re_uc w s f 1) + re_uc w s f 2 ≤ ((0 + re_c w 0 (s 0)) + re_c w 1 (s 1)) + re_c w 2 (s 2)
  omega
theorem re_us_sum (w : Nat → Int64) (s : Nat → Nat) (F : Nat) (hs : ∀ r, r < 3 → s r ≤ 3) : re_sm (fun f => re_us w s f) F ≤ 3 * re_sum w s 3 := by
  have h : ∀ r, r < 3 → re_sm (fun f => re_uc w s f r) F ≤ 3 * re_c w r (s r) := by
    intro r hr
    exact re_dbl (fun c => re_m w r (s r) c) (fun c f => re_h c f (s r)) 3 F (8 ^ s r) (fun c _ => Nat.le_trans (re_h3 c F (s r)) (hs r hr))
  have h0 := h 0 (by omega)
  have h1 := h 1 (by omega)
  have h2 := h 2 (by omega)
  have e : re_sm (fun f => re_us w s f) F = re_sm (fun f => re_uc w s f 0) F + re_sm (fun f => re_uc w s f 1) F + re_sm (fun f => re_uc w s f 2) F := by
    rw [← re_sm_add, ← re_sm_add]
    show re_sm (fun f => ((0 + re_uc w s f 0) + re_uc w s f 1) + re_uc w s f 2) F = _
    congr 1
    funext f
    omega
  have e2 : re_sum w s 3 = ((0 + re_c w 0 (s 0)) + re_c w 1 (s 1)) + re_c w 2 (s 2) := rfl
  omega
theorem re_sum_le {w : Nat → Int64} {s : Nat → Nat} (hs : ∀ r, r < 3 → s r ≤ 3) : re_sum w s 3 ≤ 1536 := by
  have h0 := re_c_le (w := w) (r := 0) (hs 0 (by omega))
  have h1 := re_c_le (w := w) (r := 1) (hs 1 (by omega))
  have h2 := re_c_le (w := w) (r := 2) (hs 2 (by omega))
  have e2 : re_sum w s 3 = ((0 + re_c w 0 (s 0)) + re_c w 1 (s 1)) + re_c w 2 (s 2) := rfl
  omega
section
variable {P : Nat} {s : Nat → Nat} {a1 a2 a3 a4 a5 a6 a7 a8 : Nat → Int32} {w b : Nat → Int64} {x y : Nat → Int32} {post : Int32 → Prop} {L : Nat} {xs : Nat → Int32} {J10 : Int32 → Int32 → (Nat → Int32) → (Nat → Int32) → (Nat → Int32) → (Nat → Int32) → (Nat → Int32) → (Nat → Int32) → (Nat → Int32) → (Nat → Int32) → (Nat → Int64) → (Nat → Int64) → (Nat → Int32) → (Nat → Int32) → Prop} {J83 : Int32 → Int32 → Prop} {kc ks : Nat}
theorem re_l127 {x2 x3 x4 x5 : Int32} (hJ : J83 x4 (x5 + 1)) : wL_law_127 post L xs J10 J83 x2 x3 x4 x5 (-1) kc ks (nI P) a1 a2 a3 a4 a5 a6 a7 a8 w b x y := by
  unfold wL_law_127 wL_law_128
  refine br_t (by decide) ?_
  unfold wL_law_145
  exact br_t rfl (br_t rfl (nm_e hJ))
theorem re_l128 {x2 x5 : Int32} {m T u : Nat} (hu : u ≤ m) (hm : m ≤ 1536) (hJ : J83 (nI (T + u)) (x5 + 1)) : wL_law_128 post L xs J10 J83 x2 (nI m) (nI T) x5 (nI u) 1 kc ks (nI P) a1 a2 a3 a4 a5 a6 a7 a8 w b x y := by
  have e145 : wL_law_145 post L xs J10 J83 x2 (nI m) x5 (nI u) 1 (nI (T + u)) kc ks (nI P) a1 a2 a3 a4 a5 a6 a7 a8 w b x y := by
    unfold wL_law_145
    exact br_f (by decide) (br_f (nI_pos (by omega)) (br_t (nI_le hu (by omega)) (nm_e hJ)))
  unfold wL_law_128
  refine pk_le u 0 (fun z => ?_) (fun z => ?_)
  · rw [show T + u = T by omega] at e145
    exact e145
  · rw [nI_add]
    exact e145
theorem re_isRule0 {post : Int32 → Prop} {q : Int32} (h : ∀ r : Nat, r < 3 → ¬ q = nI r) (h0 : post 0) : wpX_isRule post () q :=
  re_isRule h0 (fun r hr e => absurd e (h r hr))
theorem re_l83 {x2 : Int32} (hK : re_K P s a1 a2 a3 a4 a5 a6 a7 a8 w) (hJ : J10 (x2 + 4) (nI P) a1 a2 a3 a4 a5 a6 a7 a8 w b x y) : ∃ fu, wL_law_83 post L xs J10 x2 (nI (re_sum w s 3)) kc ks (nI P) a1 a2 a3 a4 a5 a6 a7 a8 w b x y fu 0 (-1) := by
  obtain ⟨hP, h4, h6, h7, hI⟩ := hK
  have hs : ∀ r, r < 3 → s r ≤ 3 := fun r hr => (h4 r hr).1
  have hm := re_sum_le (w := w) hs
  have main : ∃ fu, wL_law_83 post L xs J10 x2 (nI (re_sum w s 3)) kc ks (nI P) a1 a2 a3 a4 a5 a6 a7 a8 w b x y fu (nI 0) (nI 0) := by
    refine pk_loop (σ := Nat) (fun fu i T => wL_law_83 post L xs J10 x2 (nI (re_sum w s 3)) kc ks (nI P) a1 a2 a3 a4 a5 a6 a7 a8 w b x y fu (nI T) (nI i)) (fun i T => T ≤ re_sm (fun f => re_us w s f) i) 9 0 0 (by omega) (Nat.zero_le _) ?_ ?_
    · intro fu T hT
      have hU := re_us_sum w s 9 hs
      refine br_t (by decide) ?_
      rw [show (3 : Int32) = nI 3 from rfl, pk_mul]
      refine br_f (nI_nlt (by omega) (by omega)) ?_
      refine br_f (nI_pos (by omega)) ?_
      refine br_f (nI_nlt (a := 127) (b := P) (by omega) (by decide)) ?_
      unfold wpX_matches
      dsimp only
      refine re_isRule0 (fun r hr e => ?_) (br_t rfl (br_t rfl ?_))
      · have t : nI 3 = nI r := e
        exact absurd ((nI_eq (by omega) (by omega)).mp t) (by omega)
      unfold wpX_match
      dsimp only
      refine re_isRule0 (fun r hr e => ?_) (br_t rfl (br_t rfl ?_))
      · exact absurd (show nI r < 0 from by rw [← e]; decide) (nI_pos (by omega))
      refine re_partial (r := 0) (j := 4) (by omega) (hs 0 (by omega)) (h4 0 (by omega)).2 (by decide) (fun z => absurd (hs 0 (by omega)) (by omega)) (fun _ => br_t rfl ?_)
      unfold wpX_fitting
      dsimp only
      refine re_isRule0 (fun r hr e => ?_) (br_t rfl (br_t rfl (nm_e hJ)))
      · have t : nI 3 = nI r := e
        exact absurd ((nI_eq (by omega) (by omega)).mp t) (by omega)
    · intro fu i T hi hT hw
      refine br_f (nI_ge (b := 9) hi (by decide)) ?_
      have e1 : nI i + 1 = nI (i + 1) := nI_1 i
      have e127 : wL_law_127 post L xs J10 (wL_law_83 post L xs J10 x2 (nI (re_sum w s 3)) kc ks (nI P) a1 a2 a3 a4 a5 a6 a7 a8 w b x y fu) x2 (nI (re_sum w s 3)) (nI T) (nI i) (-1) kc ks (nI P) a1 a2 a3 a4 a5 a6 a7 a8 w b x y := by
        refine re_l127 ?_
        rw [e1]
        exact hw T (Nat.le_trans hT (re_sm_up _ (by omega)))
      refine re_uses hP h4 (fun f hf e hb => ?_) (fun hb => ?_)
      · have ef : i = f := (nI_eq (by omega) (by omega)).mp e
        subst ef
        refine br_f (nI_pos (by omega)) (br_f (nI_ge (b := 7) hf (by decide)) ?_)
        refine br_t (by rw [re_pb P hP i (by omega), hb, if_pos rfl]; rfl) ?_
        refine re_l128 (re_us_le w s i) hm ?_
        rw [e1]
        refine hw (T + re_us w s i) ?_
        show T + re_us w s i ≤ re_sm (fun f => re_us w s f) i + re_us w s i
        omega
      · refine br_f (nI_pos (by omega)) (br_c (fun _ => e127) (fun z => ?_))
        have hi7 : i < 7 := by
          rcases Nat.lt_or_ge i 7 with g | g
          · exact g
          · exact absurd (nI_le (a := 7) g (by omega)) z
        refine br_f (by rw [re_pb P hP i (by omega), hb i hi7 rfl, if_neg (by decide)]; decide) e127
  obtain ⟨fu, hfu⟩ := main
  refine ⟨fu + 1, br_f (by decide) ?_⟩
  refine re_uses hP h4 (fun f hf e _ => ?_) (fun _ => ?_)
  · exact absurd (show nI f < 0 from by rw [← e]; decide) (nI_pos (by omega))
  · exact br_t (by decide) (re_l127 hfu)
theorem re_l48 {x2 : Int32} (hK : re_K P s a1 a2 a3 a4 a5 a6 a7 a8 w) (hJ : J10 (x2 + 4) (nI P) a1 a2 a3 a4 a5 a6 a7 a8 w b x y) : ∃ fu, wL_law_48 post L xs J10 x2 0 kc ks (nI P) a1 a2 a3 a4 a5 a6 a7 a8 w b x y fu 0 0 := by
  refine pk_loop (σ := Unit) (fun fu i _ => wL_law_48 post L xs J10 x2 0 kc ks (nI P) a1 a2 a3 a4 a5 a6 a7 a8 w b x y fu (nI (re_sum w s i)) (nI i)) (fun _ _ => True) 3 0 () (by omega) trivial ?_ ?_
  · intro fu _ _
    exact br_t (by decide) (re_l83 hK hJ)
  · intro fu i _ hi _ hw
    refine br_f (nI_ge (b := 3) hi (by decide)) (re_matches hi (hK.2.1 i hi).1 (hK.2.1 i hi).2 (nm_r (nI_add _ _) ?_))
    exact re_lmatches hK hi (br_f (by decide) (nm_r (nI_1 i) (hw () trivial)))
end
def re_S (u : St1) : Prop := ∃ P s, u.1 = nI P ∧ re_K P s u.2.1 u.2.2.1 u.2.2.2.1 u.2.2.2.2.1 u.2.2.2.2.2.1 u.2.2.2.2.2.2.1 u.2.2.2.2.2.2.2.1 u.2.2.2.2.2.2.2.2.1 u.2.2.2.2.2.2.2.2.2.1
theorem re_l10 {post : Int32 → Prop} {L kc ks : Nat} {xs : Nat → Int32} (hL : L ≤ 260) (h : post 1) (u : St1) (hu : re_S u) : ∃ fu, wL_law_10 post L xs kc ks fu 0 u.1 u.2.1 u.2.2.1 u.2.2.2.1 u.2.2.2.2.1 u.2.2.2.2.2.1 u.2.2.2.2.2.2.1 u.2.2.2.2.2.2.2.1 u.2.2.2.2.2.2.2.2.1 u.2.2.2.2.2.2.2.2.2.1 u.2.2.2.2.2.2.2.2.2.2.1 u.2.2.2.2.2.2.2.2.2.2.2.1 u.2.2.2.2.2.2.2.2.2.2.2.2 := by
  refine pk_loop (σ := St1) (fun fu i u => wL_law_10 post L xs kc ks fu (nI (4 * i)) u.1 u.2.1 u.2.2.1 u.2.2.2.1 u.2.2.2.2.1 u.2.2.2.2.2.1 u.2.2.2.2.2.2.1 u.2.2.2.2.2.2.2.1 u.2.2.2.2.2.2.2.2.1 u.2.2.2.2.2.2.2.2.2.1 u.2.2.2.2.2.2.2.2.2.2.1 u.2.2.2.2.2.2.2.2.2.2.2.1 u.2.2.2.2.2.2.2.2.2.2.2.2) (fun _ u => re_S u) (L / 4) 0 u (by omega) hu ?_ ?_
  · intro fu u _
    have e3 : nI (4 * (L / 4)) + 3 = nI (4 * (L / 4) + 3) := nI_add _ 3
    show (Int32.ofNat L ≤ nI (4 * (L / 4)) + 3 → _) ∧ _
    rw [e3]
    exact br_t (nI_le (a := L) (by omega) (by omega)) h
  · rintro fu i ⟨p, a1, a2, a3, a4, a5, a6, a7, a8, w, b, x, y⟩ hi ⟨P, s, e, hK⟩ hw
    have e' : p = nI P := e
    subst e'
    have hK' : re_K P s a1 a2 a3 a4 a5 a6 a7 a8 w := hK
    have e1 : nI (4 * i) + 1 = nI (4 * i + 1) := nI_add _ 1
    have e2 : nI (4 * i) + 2 = nI (4 * i + 2) := nI_add _ 2
    have e3 : nI (4 * i) + 3 = nI (4 * i + 3) := nI_add _ 3
    have e4 : nI (4 * i) + 4 = nI (4 * (i + 1)) := nI_add _ 4
    have q0 : vp_in (nI (4 * i)) L := vp_in_nI (by omega) (by omega)
    have q1 : vp_in (nI (4 * i) + 1) L := by rw [e1]; exact vp_in_nI (by omega) (by omega)
    have q2 : vp_in (nI (4 * i) + 2) L := by rw [e2]; exact vp_in_nI (by omega) (by omega)
    have q3 : vp_in (nI (4 * i) + 3) L := by rw [e3]; exact vp_in_nI (by omega) (by omega)
    have ng : ¬ (Int32.ofNat L ≤ nI (4 * i) + 3) := by rw [e3]; exact nI_ge (b := L) (by omega) (by omega)
    refine br_f ng ⟨q0, q1, q2, q3, re_turn hK' ?_⟩
    intro P' s' a1' a2' a3' a4' a5' a6' a7' a8' w' b' x' y' k'
    refine re_l48 k' ?_
    rw [e4]
    exact hw (nI P', a1', a2', a3', a4', a5', a6', a7', a8', w', b', x', y') ⟨P', s', rfl, k'⟩
theorem i_vc (xs : Nat → Int32) (L : Nat) (hL : L ≤ 260) : wpL_law (fun r => r = 1) L xs := by
  refine ⟨12, 132, by omega, by omega, re_init ?_⟩
  intro P' s' a1' a2' a3' a4' a5' a6' a7' a8' w' b' x' y' k'
  exact re_l10 (post := fun r => r = 1) hL rfl (nI P', a1', a2', a3', a4', a5', a6', a7', a8', w', b', x', y') ⟨P', s', rfl, k'⟩
end
