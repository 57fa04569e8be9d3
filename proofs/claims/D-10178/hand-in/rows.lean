section
/-! bits: rows of laws/BITS.to-paste under names of ours -/
def cb_t (x : Int32) (i : Nat) : Bool := x.toBitVec.getLsbD i
theorem cb_or (x y : Int32) (i : Nat) : cb_t (x ||| y) i = (cb_t x i || cb_t y i) := by unfold cb_t; rw [Int32.toBitVec_or, BitVec.getLsbD_or]
theorem cb_and (x y : Int32) (i : Nat) : cb_t (x &&& y) i = (cb_t x i && cb_t y i) := by unfold cb_t; rw [Int32.toBitVec_and, BitVec.getLsbD_and]
theorem cb_xor (x y : Int32) (i : Nat) : cb_t (x ^^^ y) i = (cb_t x i ^^ cb_t y i) := by unfold cb_t; rw [Int32.toBitVec_xor, BitVec.getLsbD_xor]
theorem cb_ext {x y : Int32} (h : ∀ i, i < 32 → cb_t x i = cb_t y i) : x = y := Int32.toBitVec_inj.mp (BitVec.eq_of_getLsbD_eq (fun i hi => h i hi))
theorem cb_m1 : ∀ i, i < 32 → cb_t (-1) i = true := by decide +kernel
theorem cb_0 (i : Nat) : cb_t 0 i = false := BitVec.getLsbD_zero
theorem cb_sl : ∀ n, n < 32 → ((nI n &&& 31).toBitVec.smod 32).toNat = n := by decide +kernel
theorem cb_shl (n : Nat) (hn : n < 32) (x : Int32) {i : Nat} (hi : i < 32) : cb_t (x <<< (nI n &&& 31)) i = (decide (n ≤ i) && cb_t x (i - n)) := by
  unfold cb_t
  rw [Int32.toBitVec_shiftLeft]
  show (x.toBitVec <<< ((nI n &&& 31).toBitVec.smod 32).toNat).getLsbD i = _
  rw [cb_sl n hn, BitVec.getLsbD_shiftLeft]
  rcases Nat.lt_or_ge i n with h | h
  · simp [h, Nat.not_le.mpr h]
  · simp [hi, h, Nat.not_lt.mpr h]
theorem cb_sshr (n : Nat) (hn : n < 32) (x : Int32) {i : Nat} (hi : i < 32) : cb_t (x >>> (nI n &&& 31)) i = if n + i < 32 then cb_t x (n + i) else cb_t x 31 := by
  unfold cb_t
  rw [Int32.toBitVec_shiftRight]
  show (x.toBitVec.sshiftRight ((nI n &&& 31).toBitVec.smod 32).toNat).getLsbD i = _
  rw [cb_sl n hn, BitVec.getLsbD_sshiftRight, BitVec.msb_eq_getLsbD_last]
  simp [hi]
/-- one bit -/
theorem cb_one {n i : Nat} (hn : n < 32) (hi : i < 32) : cb_t ((1 : Int32) <<< (nI n &&& 31)) i = decide (i = n) := by
  rw [cb_shl n hn 1 hi]
  have h1 : ∀ j, j < 32 → cb_t 1 j = decide (j = 0) := by decide +kernel
  rw [h1 (i - n) (by omega)]
  by_cases e : i = n
  · subst e
    simp
  · rw [decide_eq_false e]
    by_cases g : n ≤ i
    · rw [decide_eq_false (show ¬ i - n = 0 by omega), Bool.and_false]
    · rw [decide_eq_false g, Bool.false_and]
theorem cb_31 : ∀ j, j < 32 → cb_t 31 j = decide (j < 5) := by decide +kernel
/-- the test 'own & bit' -/
theorem cb_test {x : Int32} {n : Nat} (hn : n < 32) : x &&& ((1 : Int32) <<< (nI n &&& 31)) = 0 ↔ cb_t x n = false := by
  constructor
  · intro h
    have := cb_and x ((1 : Int32) <<< (nI n &&& 31)) n
    rw [h, cb_0, cb_one hn hn] at this
    simpa using this.symm
  · intro h
    apply cb_ext
    intro i hi
    rw [cb_and, cb_one hn hi, cb_0]
    by_cases e : i = n
    · rw [e, h, Bool.false_and]
    · rw [decide_eq_false e, Bool.and_false]
theorem cb_set {x : Int32} {n i : Nat} (hn : n < 32) (hi : i < 32) : cb_t (x ||| ((1 : Int32) <<< (nI n &&& 31))) i = (cb_t x i || decide (i = n)) := by
  rw [cb_or, cb_one hn hi]
theorem cb_clr {x : Int32} {n i : Nat} (hn : n < 32) (hi : i < 32) : cb_t (x &&& (((1 : Int32) <<< (nI n &&& 31)) ^^^ (-1))) i = (cb_t x i && !decide (i = n)) := by
  rw [cb_and, cb_xor, cb_one hn hi, cb_m1 i hi, Bool.xor_true]
/-- the row of a fork: five bits of p onto those of q -/
theorem cb_fork {x : Int32} {p q i : Nat} (hp : p < 4) (hq : q < 4) (hi : i < 20) :
    cb_t ((x &&& (((31 : Int32) <<< (nI (5 * q) &&& 31)) ^^^ (-1))) ||| (((x >>> (nI (5 * p) &&& 31)) &&& 31) <<< (nI (5 * q) &&& 31))) i
      = if 5 * q ≤ i ∧ i < 5 * q + 5 then cb_t x (5 * p + (i - 5 * q)) else cb_t x i := by
  rw [cb_or, cb_and, cb_xor, cb_m1 i (by omega), cb_shl (5 * q) (by omega) _ (show i < 32 by omega), cb_shl (5 * q) (by omega) _ (show i < 32 by omega), Bool.xor_true, cb_31 (i - 5 * q) (by omega), cb_and, cb_31 (i - 5 * q) (by omega), cb_sshr (5 * p) (by omega) _ (show i - 5 * q < 32 by omega)]
  by_cases g : 5 * q ≤ i ∧ i < 5 * q + 5
  · rw [if_pos g, decide_eq_true g.1, decide_eq_true (show i - 5 * q < 5 by omega), if_pos (by omega)]
    simp
  · rw [if_neg g]
    by_cases g1 : 5 * q ≤ i
    · rw [decide_eq_false (show ¬ i - 5 * q < 5 by omega)]
      simp
    · rw [decide_eq_false g1]
      simp
/-! small ints -/
theorem cw_b8 : ∀ n, n < 128 → (nI n).toInt8.toInt32 = nI n := by decide +kernel
theorem cw_up {n : Nat} (h : n < 127) : (nI n + 1).toInt8.toInt32 = nI (n + 1) := by
  rw [nI_1]
  exact cw_b8 _ (by omega)
theorem cw_dn {n : Nat} (h0 : 0 < n) (h : n < 128) : (nI n - 1).toInt8.toInt32 = nI (n - 1) := by
  obtain ⟨m, rfl⟩ : ∃ m, n = m + 1 := ⟨n - 1, by omega⟩
  rw [nI_pred]
  exact cw_b8 _ (by omega)
theorem cw_neg : (-1 : Int32) < 0 := by decide
theorem cw_n0 : ¬ (0 : Int32) ≤ -1 := by decide
theorem cw_n1 {n : Nat} (h : n < 2 ^ 31) : ¬ nI n = -1 := fun e => nI_pos h (by rw [e]; decide)
theorem cw_n1' {x : Int32} {n : Nat} (hx : x = nI n) (h : n < 2 ^ 31) : ¬ x = -1 := by
  rw [hx]
  exact cw_n1 h
theorem cw_inj {a b : Nat} (h : nI a = nI b) (ha : a < 2 ^ 31 := by omega) (hb : b < 2 ^ 31 := by omega) : a = b := (nI_eq ha hb).mp h
theorem cw_4 (f i : Nat) : (4 : Int32) * nI f + nI i = nI (4 * f + i) := by
  show nI 4 * nI f + nI i = _
  rw [pk_mul, nI_add]
theorem cw_40 (f : Nat) : (4 : Int32) * nI f = nI (4 * f + 0) := by
  show nI 4 * nI f = _
  rw [pk_mul, Nat.add_zero]
theorem cw_5 (f i : Nat) : (5 : Int32) * nI f + nI i = nI (5 * f + i) := by
  show nI 5 * nI f + nI i = _
  rw [pk_mul, nI_add]
theorem cw_50 (f : Nat) : (5 : Int32) * nI f = nI (5 * f) := by
  show nI 5 * nI f = _
  rw [pk_mul]
theorem cw_8 (f i : Nat) : (8 : Int32) * nI f + nI i = nI (8 * f + i) := by
  show nI 8 * nI f + nI i = _
  rw [pk_mul, nI_add]
theorem cw_20 (f i : Nat) : (20 : Int32) * nI f + nI i = nI (20 * f + i) := by
  show nI 20 * nI f + nI i = _
  rw [pk_mul, nI_add]
theorem cw_s2 {k : Nat} (h : k < 2 ^ 31) : nI k >>> ((2 : Int32) &&& 31) = nI (k / 4) := pk_shrN h _ 2 (by decide)
theorem cw_s3 {k : Nat} (h : k < 2 ^ 31) : nI k >>> ((3 : Int32) &&& 31) = nI (k / 8) := pk_shrN h _ 3 (by decide)
theorem cw_m3 {k : Nat} (h : k < 2 ^ 31) : nI k &&& 3 = nI (k % 4) := pk_andN (by omega) 2 (by decide)
theorem cw_m7 {k : Nat} (h : k < 2 ^ 31) : nI k &&& 7 = nI (k % 8) := pk_andN (by omega) 3 (by decide)
theorem cw_bool0 : vp_nar .boolean 0 = 0 := by decide
theorem cw_bool1 : vp_nar .boolean 1 = 1 := by decide
theorem cw_bool {x : Int32} (h : x = 0 ∨ x = 1) : vp_nar .boolean x = x := by
  rcases h with h | h
  · rw [h]; exact cw_bool0
  · rw [h]; exact cw_bool1
theorem cw_upd2 (f : Nat → Int32) (k : Nat) (x y : Int32) : upd (upd f k x) k y = upd f k y := by
  funext j
  by_cases e : j = k
  · rw [e, pk_us, pk_us]
  · rw [pk_un e, pk_un e, pk_un e]
theorem cw_updS (f : Nat → Int32) (k : Nat) : upd f k (f k) = f := by
  funext j
  by_cases e : j = k
  · rw [e, pk_us]
  · rw [pk_un e]
/-! counting: how many of the first k places hold c -/
def cw_cnt (a : Nat → Int32) (c : Nat) : Nat → Nat
  | 0 => 0
  | k + 1 => cw_cnt a c k + if a k = nI c then 1 else 0
theorem cw_cnt_le (a : Nat → Int32) (c k : Nat) : cw_cnt a c k ≤ k := by
  induction k with
  | zero => exact Nat.le_refl 0
  | succ k ih =>
    show cw_cnt a c k + (if a k = nI c then 1 else 0) ≤ k + 1
    split <;> omega
theorem cw_cnt_mono (a : Nat → Int32) (c : Nat) {j k : Nat} (h : j ≤ k) : cw_cnt a c j ≤ cw_cnt a c k := by
  induction k with
  | zero => rw [show j = 0 by omega]; exact Nat.le_refl _
  | succ k ih =>
    show _ ≤ cw_cnt a c k + (if a k = nI c then 1 else 0)
    by_cases e : j = k + 1
    · rw [e]; exact Nat.le_refl _
    · have := ih (by omega)
      omega
theorem cw_cnt_pos {a : Nat → Int32} {c k e : Nat} (he : e < k) (h : a e = nI c) : 0 < cw_cnt a c k := by
  have h1 := cw_cnt_mono a c (show e + 1 ≤ k by omega)
  have h2 : cw_cnt a c (e + 1) = cw_cnt a c e + (if a e = nI c then 1 else 0) := rfl
  rw [if_pos h] at h2
  omega
theorem cw_cnt_two {a : Nat → Int32} {c k e e' : Nat} (he : e < e') (hk : e' < k) (h : a e = nI c) (h' : a e' = nI c) : 2 ≤ cw_cnt a c k := by
  have h1 := cw_cnt_mono a c (show e' + 1 ≤ k by omega)
  have h2 : cw_cnt a c (e' + 1) = cw_cnt a c e' + (if a e' = nI c then 1 else 0) := rfl
  have h3 : 0 < cw_cnt a c e' := cw_cnt_pos he h
  rw [if_pos h'] at h2
  omega
theorem cw_cnt_one {a : Nat → Int32} {c e e' : Nat} (h1 : cw_cnt a c 20 ≤ 1) (he : e < 20) (he' : e' < 20) (h : a e = nI c) (h' : a e' = nI c) : e' = e := by
  rcases Nat.lt_trichotomy e e' with g | g | g
  · have := cw_cnt_two g he' h h'
    omega
  · exact g.symm
  · have := cw_cnt_two g he h' h
    omega
theorem cw_cnt_out (a : Nat → Int32) (c : Nat) (x : Int32) {e k : Nat} (h : k ≤ e) : cw_cnt (upd a e x) c k = cw_cnt a c k := by
  induction k with
  | zero => rfl
  | succ k ih =>
    show cw_cnt (upd a e x) c k + (if upd a e x k = nI c then 1 else 0) = cw_cnt a c k + (if a k = nI c then 1 else 0)
    rw [ih (by omega), pk_un (show k ≠ e by omega)]
theorem cw_cnt_upd (a : Nat → Int32) (c : Nat) (x : Int32) {e k : Nat} (h : e < k) : cw_cnt (upd a e x) c k + (if a e = nI c then 1 else 0) = cw_cnt a c k + (if x = nI c then 1 else 0) := by
  induction k with
  | zero => omega
  | succ k ih =>
    show cw_cnt (upd a e x) c k + (if upd a e x k = nI c then 1 else 0) + (if a e = nI c then 1 else 0) = cw_cnt a c k + (if a k = nI c then 1 else 0) + (if x = nI c then 1 else 0)
    by_cases g : e = k
    · rw [g, cw_cnt_out a c x (Nat.le_refl k), pk_us]
      omega
    · rw [pk_un (show k ≠ e by omega)]
      have := ih (by omega)
      omega
/-! sums, and a content that no page shows -/
def cw_sm (f : Nat → Nat) : Nat → Nat
  | 0 => 0
  | k + 1 => cw_sm f k + f k
theorem cw_sm_add (f g : Nat → Nat) (m : Nat) : cw_sm (fun c => f c + g c) m = cw_sm f m + cw_sm g m := by
  induction m with
  | zero => rfl
  | succ m ih =>
    show cw_sm (fun c => f c + g c) m + (f m + g m) = cw_sm f m + f m + (cw_sm g m + g m)
    rw [ih]
    omega
theorem cw_sm_ge (f : Nat → Nat) (m : Nat) (h : ∀ c, c < m → 1 ≤ f c) : m ≤ cw_sm f m := by
  induction m with
  | zero => exact Nat.zero_le _
  | succ m ih =>
    show m + 1 ≤ cw_sm f m + f m
    have := ih (fun c hc => h c (by omega))
    have := h m (by omega)
    omega
theorem cw_sm_gt (f : Nat → Nat) (m d : Nat) (h : ∀ c, c < m → 1 ≤ f c) (hd : d < m) (h2 : 2 ≤ f d) : m + 1 ≤ cw_sm f m := by
  induction m with
  | zero => omega
  | succ m ih =>
    show m + 1 + 1 ≤ cw_sm f m + f m
    have g := h m (by omega)
    by_cases e : d = m
    · have := cw_sm_ge f m (fun c hc => h c (by omega))
      rw [e] at h2
      omega
    · have := ih (fun c hc => h c (by omega)) (by omega)
      omega
theorem cw_sm_z (x : Int32) (m : Nat) (h : ∀ c, c < m → ¬ x = nI c) : cw_sm (fun c => if x = nI c then 1 else 0) m = 0 := by
  induction m with
  | zero => rfl
  | succ m ih =>
    show cw_sm (fun c => if x = nI c then 1 else 0) m + (if x = nI m then 1 else 0) = 0
    rw [ih (fun c hc => h c (by omega)), if_neg (h m (by omega))]
theorem cw_sm_1 (x : Int32) (m : Nat) (hm : m < 2 ^ 31) : cw_sm (fun c => if x = nI c then 1 else 0) m ≤ 1 := by
  induction m with
  | zero => exact Nat.zero_le _
  | succ m ih =>
    show cw_sm (fun c => if x = nI c then 1 else 0) m + (if x = nI m then 1 else 0) ≤ 1
    by_cases e : x = nI m
    · rw [cw_sm_z x m (fun c hc g => by have := cw_inj (e.symm.trans g); omega), if_pos e]
      omega
    · rw [if_neg e]
      have := ih (by omega)
      omega
theorem cw_tot (a : Nat → Int32) (k : Nat) : cw_sm (fun c => cw_cnt a c k) 20 ≤ k := by
  induction k with
  | zero => exact Nat.le_of_eq (show cw_sm (fun _ => 0) 20 = 0 by decide)
  | succ k ih =>
    show cw_sm (fun c => cw_cnt a c k + (if a k = nI c then 1 else 0)) 20 ≤ k + 1
    rw [cw_sm_add (fun c => cw_cnt a c k) (fun c => if a k = nI c then 1 else 0) 20]
    have := cw_sm_1 (a k) 20 (by omega)
    omega
theorem cw_tot1 (a : Nat → Int32) (k e : Nat) (he : e < k) (h : a e = -1) : cw_sm (fun c => cw_cnt a c k) 20 + 1 ≤ k := by
  induction k with
  | zero => omega
  | succ k ih =>
    show cw_sm (fun c => cw_cnt a c k + (if a k = nI c then 1 else 0)) 20 + 1 ≤ k + 1
    rw [cw_sm_add (fun c => cw_cnt a c k) (fun c => if a k = nI c then 1 else 0) 20]
    by_cases g : e = k
    · rw [g] at h
      rw [cw_sm_z (a k) 20 (fun c hc z => cw_n1 (show c < 2 ^ 31 by omega) (z.symm.trans h))]
      have := cw_tot a k
      omega
    · have := ih (by omega)
      have := cw_sm_1 (a k) 20 (by omega)
      omega
/-- a page that shows nothing: some content is without user -/
theorem cw_free1 {a : Nat → Int32} {e : Nat} (he : e < 20) (h : a e = -1) : ∃ c, c < 20 ∧ cw_cnt a c 20 = 0 := by
  by_cases g : ∃ c, c < 20 ∧ cw_cnt a c 20 = 0
  · exact g
  · have h1 := cw_sm_ge (fun c => cw_cnt a c 20) 20 (fun c hc => by
      rcases Nat.eq_zero_or_pos (cw_cnt a c 20) with z | z
      · exact absurd ⟨c, hc, z⟩ g
      · exact z)
    have h2 := cw_tot1 a 20 e he h
    omega
/-- a content with two users: some content is without user -/
theorem cw_free2 {a : Nat → Int32} {d : Nat} (hd : d < 20) (h : 2 ≤ cw_cnt a d 20) : ∃ c, c < 20 ∧ cw_cnt a c 20 = 0 := by
  by_cases g : ∃ c, c < 20 ∧ cw_cnt a c 20 = 0
  · exact g
  · have h1 := cw_sm_gt (fun c => cw_cnt a c 20) 20 d (fun c hc => by
      rcases Nat.eq_zero_or_pos (cw_cnt a c 20) with z | z
      · exact absurd ⟨c, hc, z⟩ g
      · exact z) hd h
    have h2 := cw_tot a 20
    omega
end
section
/-! the picture of the frames: V c i is cell i of content c -/
def cw_sv (a6 a7 : Nat → Int32) (c i : Nat) : Int32 := if a6 c = 0 then 0 else a7 (4 * c + i)
def cw_B (V : Nat → Nat → Int32) (n : Nat) (a5 a6 a7 a8 a9 a11 : Nat → Int32) : Prop :=
  (1 ≤ n ∧ n ≤ 6) ∧
  (∀ c, c < 20 → a5 c = -1 ∨ ∃ f, f < n ∧ a5 c = nI f ∧ a8 f = nI c) ∧
  (∀ f, f < n → a8 f = -1 ∨ ∃ c, c < 20 ∧ a8 f = nI c ∧ a5 c = nI f) ∧
  (∀ c, c < 20 → a5 c = -1 → ∀ i, i < 4 → V c i = cw_sv a6 a7 c i) ∧
  (∀ c f, c < 20 → f < n → a5 c = nI f → ∀ i, i < 4 → a9 (4 * f + i) = V c i) ∧
  (∀ c f, c < 20 → f < n → a5 c = nI f → a11 f = 0 → ∀ i, i < 4 → V c i = cw_sv a6 a7 c i)
section
variable {V V' : Nat → Nat → Int32} {n c f : Nat} {a5 a6 a7 a8 a9 a11 a6' a7' a9' : Nat → Int32}
theorem cw_B_n (h : cw_B V n a5 a6 a7 a8 a9 a11) : n ≤ 6 := h.1.2
/-- what a frame holds, from the content -/
theorem cw_B_58 (h : cw_B V n a5 a6 a7 a8 a9 a11) (hc : c < 20) (hf : f < n) (e : a5 c = nI f) : a8 f = nI c := by
  obtain ⟨⟨_, b0⟩, b1, _⟩ := h
  rcases b1 c hc with g | ⟨f', hf', g1, g2⟩
  · exact absurd g (cw_n1' e (by omega))
  · rw [cw_inj (e.symm.trans g1)]
    exact g2
/-- and from the frame -/
theorem cw_B_85 (h : cw_B V n a5 a6 a7 a8 a9 a11) (hc : c < 20) (hf : f < n) (e : a8 f = nI c) : a5 c = nI f := by
  obtain ⟨⟨_, b0⟩, _, b2, _⟩ := h
  rcases b2 f hf with g | ⟨c', hc', g1, g2⟩
  · exact absurd g (cw_n1' e (by omega))
  · rw [cw_inj (e.symm.trans g1)]
    exact g2
theorem cw_B_inj (h : cw_B V n a5 a6 a7 a8 a9 a11) {c' : Nat} (hc : c < 20) (hc' : c' < 20) (hf : f < n) (e : a5 c = nI f) (e' : a5 c' = nI f) : c' = c :=
  cw_inj ((cw_B_58 h hc' hf e').symm.trans (cw_B_58 h hc hf e))
/-- a content leaves its frame -/
theorem cw_B_take (h : cw_B V n a5 a6 a7 a8 a9 a11) (hc : c < 20) (hf : f < n) (e : a5 c = nI f)
    (h1 : ∀ i, i < 4 → V' c i = cw_sv a6' a7' c i) (h2 : ∀ c' i, c' < 20 → c' ≠ c → i < 4 → V' c' i = V c' i ∧ cw_sv a6' a7' c' i = cw_sv a6 a7 c' i) :
    cw_B V' n (upd a5 c (-1)) a6' a7' (upd a8 f (-1)) a9 a11 := by
  have e8 := cw_B_58 h hc hf e
  have inj := fun (c' : Nat) (hc' : c' < 20) (e' : a5 c' = nI f) => cw_B_inj h hc hc' hf e e'
  obtain ⟨⟨b, b0⟩, b1, b2, b3, b4, b5⟩ := h
  refine ⟨⟨b, b0⟩, fun c' hc' => ?_, fun f' hf' => ?_, fun c' hc' g i hi => ?_, fun c' f' hc' hf' g i hi => ?_, fun c' f' hc' hf' g z i hi => ?_⟩
  · by_cases q : c' = c
    · rw [q, pk_us]
      exact Or.inl rfl
    · rw [pk_un q]
      rcases b1 c' hc' with g | ⟨f', hf', g1, g2⟩
      · exact Or.inl g
      · refine Or.inr ⟨f', hf', g1, ?_⟩
        rw [pk_un (fun z => q (inj c' hc' (by rw [← z]; exact g1)))]
        exact g2
  · by_cases q : f' = f
    · rw [q, pk_us]
      exact Or.inl rfl
    · rw [pk_un q]
      rcases b2 f' hf' with g | ⟨c', hc', g1, g2⟩
      · exact Or.inl g
      · refine Or.inr ⟨c', hc', g1, ?_⟩
        rw [pk_un (fun z => q (cw_inj (g2.symm.trans (by rw [z]; exact e))))]
        exact g2
  · by_cases q : c' = c
    · rw [q]
      exact h1 i hi
    · rw [pk_un q] at g
      rw [(h2 c' i hc' q hi).1, (h2 c' i hc' q hi).2]
      exact b3 c' hc' g i hi
  · by_cases q : c' = c
    · rw [q, pk_us] at g
      exact absurd g.symm (cw_n1 (by omega))
    · rw [pk_un q] at g
      rw [(h2 c' i hc' q hi).1]
      exact b4 c' f' hc' hf' g i hi
  · by_cases q : c' = c
    · rw [q, pk_us] at g
      exact absurd g.symm (cw_n1 (by omega))
    · rw [pk_un q] at g
      rw [(h2 c' i hc' q hi).1, (h2 c' i hc' q hi).2]
      exact b5 c' f' hc' hf' g z i hi
/-- a content comes into an empty frame -/
theorem cw_B_in (h : cw_B V n a5 a6 a7 a8 a9 a11) (hc : c < 20) (hf : f < n) (e5 : a5 c = -1) (e8 : a8 f = -1)
    (h1 : ∀ i, i < 4 → a9' (4 * f + i) = cw_sv a6 a7 c i) (h2 : ∀ k, k < 4 * f ∨ 4 * f + 4 ≤ k → a9' k = a9 k) :
    cw_B V n (upd a5 c (nI f)) a6 a7 (upd a8 f (nI c)) a9' (upd a11 f 0) := by
  have n5 : ∀ c', c' < 20 → ¬ a5 c' = nI f := fun c' hc' g => absurd e8 (cw_n1' (cw_B_58 h hc' hf g) (by omega))
  have n8 : ∀ f', f' < n → ¬ a8 f' = nI c := fun f' hf' g => absurd e5 (cw_n1' (cw_B_85 h hc hf' g) (by have := h.1.2; omega))
  obtain ⟨⟨b, b0⟩, b1, b2, b3, b4, b5⟩ := h
  refine ⟨⟨b, b0⟩, fun c' hc' => ?_, fun f' hf' => ?_, fun c' hc' g i hi => ?_, fun c' f' hc' hf' g i hi => ?_, fun c' f' hc' hf' g z i hi => ?_⟩
  · by_cases q : c' = c
    · rw [q, pk_us]
      exact Or.inr ⟨f, hf, rfl, pk_us⟩
    · rw [pk_un q]
      rcases b1 c' hc' with g | ⟨f', hf', g1, g2⟩
      · exact Or.inl g
      · refine Or.inr ⟨f', hf', g1, ?_⟩
        rw [pk_un (fun z => n5 c' hc' (by rw [← z]; exact g1))]
        exact g2
  · by_cases q : f' = f
    · rw [q, pk_us]
      exact Or.inr ⟨c, hc, rfl, pk_us⟩
    · rw [pk_un q]
      rcases b2 f' hf' with g | ⟨c', hc', g1, g2⟩
      · exact Or.inl g
      · refine Or.inr ⟨c', hc', g1, ?_⟩
        rw [pk_un (fun z => n8 f' hf' (by rw [← z]; exact g1))]
        exact g2
  · by_cases q : c' = c
    · rw [q, pk_us] at g
      exact absurd g (cw_n1 (by omega))
    · rw [pk_un q] at g
      exact b3 c' hc' g i hi
  · by_cases q : c' = c
    · rw [q, pk_us] at g
      rw [q, ← cw_inj g, h1 i hi, b3 c hc e5 i hi]
    · rw [pk_un q] at g
      have qf : f' ≠ f := fun z => n5 c' hc' (by rw [← z]; exact g)
      rw [h2 _ (by omega)]
      exact b4 c' f' hc' hf' g i hi
  · by_cases q : c' = c
    · rw [q]
      exact b3 c hc e5 i hi
    · rw [pk_un q] at g
      have qf : f' ≠ f := fun z => n5 c' hc' (by rw [← z]; exact g)
      rw [pk_un qf] at z
      exact b5 c' f' hc' hf' g z i hi
/-- a store into a frame -/
theorem cw_B_wr (h : cw_B V n a5 a6 a7 a8 a9 a11) (hc : c < 20) (hf : f < n) (e : a5 c = nI f)
    (h1 : ∀ i, i < 4 → a9' (4 * f + i) = V' c i) (h2 : ∀ k, k < 4 * f ∨ 4 * f + 4 ≤ k → a9' k = a9 k) (h3 : ∀ c' i, c' < 20 → c' ≠ c → i < 4 → V' c' i = V c' i) :
    cw_B V' n a5 a6 a7 a8 a9' (upd a11 f 1) := by
  have inj := fun (c' : Nat) (hc' : c' < 20) (e' : a5 c' = nI f) => cw_B_inj h hc hc' hf e e'
  obtain ⟨⟨b, b0⟩, b1, b2, b3, b4, b5⟩ := h
  refine ⟨⟨b, b0⟩, b1, b2, fun c' hc' g i hi => ?_, fun c' f' hc' hf' g i hi => ?_, fun c' f' hc' hf' g z i hi => ?_⟩
  · have q : c' ≠ c := fun q => absurd (by rw [← q]; exact g) (cw_n1' e (by omega))
    rw [h3 c' i hc' q hi]
    exact b3 c' hc' g i hi
  · by_cases q : c' = c
    · rw [q] at g
      rw [q, cw_inj (g.symm.trans e)]
      exact h1 i hi
    · have qf : f' ≠ f := fun z => q (inj c' hc' (by rw [← z]; exact g))
      rw [h2 _ (by omega), h3 c' i hc' q hi]
      exact b4 c' f' hc' hf' g i hi
  · by_cases qf : f' = f
    · rw [qf, pk_us] at z
      exact absurd z (by decide)
    · have q : c' ≠ c := fun q => qf (cw_inj (g.symm.trans (by rw [q]; exact e)))
      rw [pk_un qf] at z
      rw [h3 c' i hc' q hi]
      exact b5 c' f' hc' hf' g z i hi
/-- a content begins anew, all 0 -/
theorem cw_B_new (h : cw_B V n a5 a6 a7 a8 a9 a11) (hc : c < 20) (e : a5 c = -1)
    (h1 : ∀ i, i < 4 → V' c i = 0) (h3 : ∀ c' i, c' < 20 → c' ≠ c → i < 4 → V' c' i = V c' i) :
    cw_B V' n (upd a5 c (-1)) (upd a6 c 0) a7 a8 a9 a11 := by
  rw [← e, cw_updS]
  obtain ⟨⟨b, b0⟩, b1, b2, b3, b4, b5⟩ := h
  have sv : ∀ c' i, c' ≠ c → cw_sv (upd a6 c 0) a7 c' i = cw_sv a6 a7 c' i := fun c' i q => by
    unfold cw_sv
    rw [pk_un q]
  refine ⟨⟨b, b0⟩, b1, b2, fun c' hc' g i hi => ?_, fun c' f' hc' hf' g i hi => ?_, fun c' f' hc' hf' g z i hi => ?_⟩
  · by_cases q : c' = c
    · rw [q, h1 i hi]
      unfold cw_sv
      rw [pk_us, if_pos rfl]
    · rw [h3 c' i hc' q hi, sv c' i q]
      exact b3 c' hc' g i hi
  · have q : c' ≠ c := fun q => absurd e (cw_n1' (by rw [← q]; exact g) (by omega))
    rw [h3 c' i hc' q hi]
    exact b4 c' f' hc' hf' g i hi
  · have q : c' ≠ c := fun q => absurd e (cw_n1' (by rw [← q]; exact g) (by omega))
    rw [h3 c' i hc' q hi, sv c' i q]
    exact b5 c' f' hc' hf' g z i hi
end
/-! the picture of the pages -/
def cw_A (a2 a3 a4 : Nat → Int32) : Prop :=
  (∀ e, e < 20 → a2 e = -1 ∨ ∃ c, c < 20 ∧ a2 e = nI c) ∧
  (∀ e, e < 20 → a3 e = 0 ∨ a3 e = 1) ∧
  (∀ c, c < 20 → a4 c = nI (cw_cnt a2 c 20)) ∧
  (∀ e e' c, e < 20 → e' < 20 → c < 20 → a2 e = nI c → a2 e' = nI c → a3 e = a3 e')
def cw_D (a1 a2 : Nat → Int32) : Prop := ∀ p g, p < 4 → g < 5 → a1 p = 0 → a2 (5 * p + g) = -1
def cw_L (a4 a5 : Nat → Int32) : Prop := ∀ c, c < 20 → a4 c = 0 → a5 c = -1
def cw_F (V : Nat → Nat → Int32) (fc hd : Int32) (a5 a6 a7 a8 a9 a11 : Nat → Int32) : Prop := ∃ n h : Nat, fc = nI n ∧ hd = nI h ∧ h < n ∧ cw_B V n a5 a6 a7 a8 a9 a11
/-- pages and frames -/
def cw_N (V : Nat → Nat → Int32) (fc hd : Int32) (a2 a3 a4 a5 a6 a7 a8 a9 a11 : Nat → Int32) : Prop := cw_A a2 a3 a4 ∧ cw_L a4 a5 ∧ cw_F V fc hd a5 a6 a7 a8 a9 a11
def cw_M (V : Nat → Nat → Int32) (fc hd : Int32) (a1 a2 a3 a4 a5 a6 a7 a8 a9 a10 a11 : Nat → Int32) : Prop := cw_D a1 a2 ∧ cw_N V fc hd a2 a3 a4 a5 a6 a7 a8 a9 a11
/-- what page e shows at cell i -/
def cw_v (a2 : Nat → Int32) (V : Nat → Nat → Int32) (e i : Nat) : Int32 := if a2 e < 0 then 0 else V (a2 e).toNatClampNeg i
section
variable {V : Nat → Nat → Int32} {c e s : Nat} {x : Int32} {a1 a2 a3 a4 : Nat → Int32}
theorem cw_v_n (h : a2 e = -1) (i : Nat) : cw_v a2 V e i = 0 := by
  unfold cw_v
  rw [h, if_pos cw_neg]
theorem cw_v_s (h : a2 e = nI c) (hc : c < 20) (i : Nat) : cw_v a2 V e i = V c i := by
  unfold cw_v
  rw [h, if_neg (nI_pos (by omega)), nI_clamp (by omega)]
theorem cw_A_ge (h : cw_A a2 a3 a4) (he : e < 20) (g : ¬ a2 e < 0) : ∃ c, c < 20 ∧ a2 e = nI c := by
  rcases h.1 e he with z | z
  · exact absurd (by rw [z]; exact cw_neg) g
  · exact z
theorem cw_A_lt (h : cw_A a2 a3 a4) (he : e < 20) (g : a2 e < 0) : a2 e = -1 := by
  rcases h.1 e he with z | ⟨c, hc, z⟩
  · exact z
  · rw [z] at g
    exact absurd g (nI_pos (by omega))
theorem cw_cnt0 (h : cw_cnt a2 c 20 = 0) {e : Nat} (he : e < 20) : ¬ a2 e = nI c := fun g => by
  have := cw_cnt_pos he g
  omega
/-- a page without content begins to show content c, whose pages (if any) are alike in kind -/
theorem cw_A_add (h : cw_A a2 a3 a4) (he : e < 20) (hc : c < 20) (e2 : a2 e = -1) (hx : x = 0 ∨ x = 1) (hs : ∀ e', e' < 20 → a2 e' = nI c → a3 e' = x) :
    cw_A (upd a2 e (nI c)) (upd a3 e x) (upd a4 c (nI (cw_cnt a2 c 20 + 1))) := by
  obtain ⟨h1, h2, h3, h4⟩ := h
  have ne : ∀ d, d < 20 → ¬ a2 e = nI d := fun d hd => by
    rw [e2]
    exact fun z => cw_n1 (show d < 2 ^ 31 by omega) z.symm
  refine ⟨fun e' he' => ?_, fun e' he' => ?_, fun d hd => ?_, fun e' e'' d he' he'' hd g' g'' => ?_⟩
  · by_cases q : e' = e
    · rw [q, pk_us]
      exact Or.inr ⟨c, hc, rfl⟩
    · rw [pk_un q]
      exact h1 e' he'
  · by_cases q : e' = e
    · rw [q, pk_us]
      exact hx
    · rw [pk_un q]
      exact h2 e' he'
  · have u := cw_cnt_upd a2 d (nI c) he
    rw [if_neg (ne d hd)] at u
    by_cases q : d = c
    · rw [q, if_pos rfl] at u
      rw [q, pk_us, ← u, Nat.add_zero]
    · rw [if_neg (fun z => q (cw_inj z).symm), Nat.add_zero, Nat.add_zero] at u
      rw [pk_un q, u]
      exact h3 d hd
  · by_cases q' : e' = e
    · by_cases q'' : e'' = e
      · rw [q', q'']
      · rw [q', pk_us] at g'
        rw [pk_un q'', ← g'] at g''
        rw [q', pk_us, pk_un q'']
        exact (hs e'' he'' g'').symm
    · by_cases q'' : e'' = e
      · rw [q'', pk_us] at g''
        rw [pk_un q', ← g''] at g'
        rw [q'', pk_us, pk_un q']
        exact hs e' he' g'
      · rw [pk_un q'] at g'
        rw [pk_un q''] at g''
        rw [pk_un q', pk_un q'']
        exact h4 e' e'' d he' he'' hd g' g''
/-- a page ceases to show content c -/
theorem cw_A_sub (h : cw_A a2 a3 a4) (he : e < 20) (hc : c < 20) (e2 : a2 e = nI c) :
    cw_A (upd a2 e (-1)) a3 (upd a4 c (nI (cw_cnt a2 c 20 - 1))) := by
  obtain ⟨h1, h2, h3, h4⟩ := h
  have keep : ∀ e' d, e' < 20 → d < 20 → upd a2 e (-1) e' = nI d → a2 e' = nI d := fun e' d he' hd g => by
    by_cases q : e' = e
    · rw [q, pk_us] at g
      exact absurd g.symm (cw_n1 (by omega))
    · rw [pk_un q] at g
      exact g
  refine ⟨fun e' he' => ?_, h2, fun d hd => ?_, fun e' e'' d he' he'' hd g' g'' => h4 e' e'' d he' he'' hd (keep e' d he' hd g') (keep e'' d he'' hd g'')⟩
  · by_cases q : e' = e
    · rw [q, pk_us]
      exact Or.inl rfl
    · rw [pk_un q]
      exact h1 e' he'
  · have u := cw_cnt_upd a2 d (-1) he
    rw [if_neg (fun z : (-1 : Int32) = nI d => cw_n1 (show d < 2 ^ 31 by omega) z.symm), Nat.add_zero] at u
    by_cases q : d = c
    · rw [q, if_pos e2] at u
      rw [q, pk_us, ← u, Nat.add_sub_cancel]
    · rw [if_neg (fun z : a2 e = nI d => q (cw_inj (e2.symm.trans z)).symm), Nat.add_zero] at u
      rw [pk_un q, u]
      exact h3 d hd
/-- the kind of a page without content is free -/
theorem cw_A_kind (h : cw_A a2 a3 a4) (he : e < 20) (e2 : a2 e = -1) (hx : x = 0 ∨ x = 1) : cw_A a2 (upd a3 e x) a4 := by
  obtain ⟨h1, h2, h3, h4⟩ := h
  refine ⟨h1, fun e' he' => ?_, h3, fun e' e'' d he' he'' hd g' g'' => ?_⟩
  · by_cases q : e' = e
    · rw [q, pk_us]
      exact hx
    · rw [pk_un q]
      exact h2 e' he'
  · have q' : e' ≠ e := fun q => absurd e2 (cw_n1' (by rw [← q]; exact g') (by omega))
    have q'' : e'' ≠ e := fun q => absurd e2 (cw_n1' (by rw [← q]; exact g'') (by omega))
    rw [pk_un q', pk_un q'']
    exact h4 e' e'' d he' he'' hd g' g''
end
end
section
/-! frames: pageOut, freeFrame, bringIn -/
section
variable {V : Nat → Nat → Int32} {n h f c : Nat} {fc hd : Int32} {a1 a2 a3 a4 a5 a6 a7 a8 a9 a10 a11 : Nat → Int32}
theorem cw_pageOut {post : St2 → Prop} (hB : cw_B V n a5 a6 a7 a8 a9 a11) (hf : f < n) (hc : c < 20) (h8 : a8 f = nI c)
    (H : ∀ a5' a6' a7' a8', cw_B V n a5' a6' a7' a8' a9 a11 → a8' f = -1 → (∀ d, d < 20 → a5 d = -1 → a5' d = -1) → post (fc, hd, a1, a2, a3, a4, a5', a6', a7', a8', a9, a10, a11)) :
    wpX_pageOut post (fc, hd, a1, a2, a3, a4, a5, a6, a7, a8, a9, a10, a11) (nI f) := by
  have hn := cw_B_n hB
  have h5 := cw_B_85 hB hc hf h8
  have k5 : ∀ d, d < 20 → a5 d = -1 → upd a5 c (-1) d = -1 := fun d _ g => by
    by_cases q : d = c
    · rw [q, pk_us]
    · rw [pk_un q]
      exact g
  refine ⟨pk_in f 6 (by omega), nm_r (e' := nI c) (by rw [nI_clamp (by omega)]; exact h8) ⟨pk_in f 6 (by omega), br_c (fun z => ?_) (fun z => ?_)⟩⟩
  · rw [nI_clamp (by omega)] at z
    refine ⟨pk_in c 20 hc, nm_r (e' := upd a5 c (-1)) (by rw [nI_clamp (by omega)]) ⟨pk_in f 6 (by omega), nm_r (e' := upd a8 f (-1)) (by rw [nI_clamp (by omega)]) ?_⟩⟩
    exact H _ _ _ _ (cw_B_take hB hc hf h5 (fun i hi => hB.2.2.2.2.2 c f hc hf h5 z i hi) (fun c' i _ _ _ => ⟨rfl, rfl⟩)) pk_us k5
  · refine pk_loop (fun m i s => wX_pageOut_18 post (nI f) (nI c) fc hd m (nI i) a1 a2 a3 a4 a5 a6 s a8 a9 a10 a11)
      (fun i s => (∀ j, j < i → s (4 * c + j) = a9 (4 * f + j)) ∧ (∀ k, k < 4 * c ∨ 4 * c + 4 ≤ k → s k = a7 k)) 4 0 a7 (by omega) ⟨fun j hj => absurd hj (by omega), fun k _ => rfl⟩ ?_ ?_
    · intro m s hs
      refine pk_le 4 4 (fun _ => ?_) (fun z => absurd z (by omega))
      refine ⟨pk_in c 20 hc, nm_r (e' := upd a6 c 1) (by rw [nI_clamp (by omega)]) ?_⟩
      refine ⟨pk_in c 20 hc, nm_r (e' := upd a5 c (-1)) (by rw [nI_clamp (by omega)]) ⟨pk_in f 6 (by omega), nm_r (e' := upd a8 f (-1)) (by rw [nI_clamp (by omega)]) ?_⟩⟩
      refine H _ _ _ _ (cw_B_take hB hc hf h5 (fun i hi => ?_) (fun c' i hc' q hi => ⟨rfl, ?_⟩)) pk_us k5
      · unfold cw_sv
        rw [pk_us, if_neg (by decide), hs.1 i hi]
        exact (hB.2.2.2.2.1 c f hc hf h5 i hi).symm
      · unfold cw_sv
        rw [pk_un q, hs.2 _ (by omega)]
    · intro m i s hi hs hw
      refine pk_le 4 i (fun z => absurd z (by omega)) (fun _ => ?_)
      refine ⟨pk_in (4 * f + i) 24 (by omega) (cw_4 f i), pk_in (4 * c + i) 80 (by omega) (cw_4 c i), nm_r (e' := upd s (4 * c + i) (a9 (4 * f + i))) (by rw [pk_cl (4 * f + i) (cw_4 f i), pk_cl (4 * c + i) (cw_4 c i)]) (nm_r (nI_1 i) (hw _ ⟨fun j hj => ?_, fun k hk => ?_⟩))⟩
      · by_cases q : j = i
        · rw [q, pk_us]
        · rw [pk_un (by omega)]
          exact hs.1 j (by omega)
      · rw [pk_un (by omega)]
        exact hs.2 k hk
theorem cw_free_92 {post : Int32 → St2 → Prop} (hB : cw_B V n a5 a6 a7 a8 a9 a11) (hh : h < n) (hA : ∀ f, f < n → ¬ a8 f = -1)
    (H : ∀ f h' a5' a6' a7' a8', f < n → h' < n → cw_B V n a5' a6' a7' a8' a9 a11 → a8' f = -1 → (∀ d, d < 20 → a5 d = -1 → a5' d = -1) → post (nI f) ((nI n), (nI h'), a1, a2, a3, a4, a5', a6', a7', a8', a9, a10, a11)) :
    wX_freeFrame_92 post (nI n) (nI h) a1 a2 a3 a4 a5 a6 a7 a8 a9 a10 a11 := by
  have hn := cw_B_n hB
  obtain ⟨c, hc, h8, _⟩ : ∃ c, c < 20 ∧ a8 h = nI c ∧ a5 c = nI h := by
    rcases hB.2.2.1 h hh with z | z
    · exact absurd z (hA h hh)
    · exact z
  refine pk_le n (h + 1) (fun z => ?_) (fun z => ?_) rfl (nI_1 h)
  · exact cw_pageOut hB hh hc h8 (fun a5' a6' a7' a8' b1 b2 b3 => H h 0 a5' a6' a7' a8' hh (by omega) b1 b2 b3)
  · rw [nI_1 h]
    exact cw_pageOut hB hh hc h8 (fun a5' a6' a7' a8' b1 b2 b3 => H h (h + 1) a5' a6' a7' a8' hh (by omega) b1 b2 b3)
theorem cw_free {post : Int32 → St2 → Prop} (hB : cw_B V n a5 a6 a7 a8 a9 a11) (hh : h < n)
    (H : ∀ f h' a5' a6' a7' a8' a10', f < n → h' < n → cw_B V n a5' a6' a7' a8' a9 a11 → a8' f = -1 → (∀ d, d < 20 → a5 d = -1 → a5' d = -1) → post (nI f) ((nI n), (nI h'), a1, a2, a3, a4, a5', a6', a7', a8', a9, a10', a11)) :
    wpX_freeFrame post ((nI n), (nI h), a1, a2, a3, a4, a5, a6, a7, a8, a9, a10, a11) := by
  have hn := cw_B_n hB
  refine pk_loop (σ := Unit) (fun m i _ => wX_freeFrame_2 post (nI n) (nI h) a1 a2 a3 a4 a5 a6 a7 a8 a9 a10 a11 m (nI i)) (fun i _ => ∀ j, j < i → ¬ a8 j = -1) n 0 () (by omega) (fun j hj => absurd hj (by omega)) ?_ ?_
  · intro m _ hA
    refine pk_le n n (fun _ => ?_) (fun z => absurd z (by omega))
    refine pk_loop (σ := Nat × (Nat → Int32)) (fun m i s => wX_freeFrame_29 post (nI n) m (nI i) (nI s.1) a1 a2 a3 a4 a5 a6 a7 a8 a9 s.2 a11) (fun _ s => s.1 < n) n 0 (h, a10) (by omega) hh ?_ ?_
    · intro m s hs
      refine pk_le n n (fun _ => ?_) (fun z => absurd z (by omega))
      exact cw_free_92 hB hs hA (fun f h' a5' a6' a7' a8' g1 g2 g3 g4 g5 => H f h' a5' a6' a7' a8' s.2 g1 g2 g3 g4 g5)
    · intro m i s hi hs hw
      have hs' : s.1 < n := hs
      refine pk_le n i (fun z => absurd z (by omega)) (fun _ => ⟨pk_in s.1 6 (by omega), br_c (fun z => ?_) (fun z => ⟨pk_in s.1 6 (by omega), nm_e ?_⟩)⟩)
      · exact cw_free_92 hB hs hA (fun f h' a5' a6' a7' a8' g1 g2 g3 g4 g5 => H f h' a5' a6' a7' a8' s.2 g1 g2 g3 g4 g5)
      · refine pk_le n (s.1 + 1) (fun z => nm_r (nI_1 i) ?_) (fun z => nm_r (nI_1 s.1) (nm_r (nI_1 i) ?_)) rfl (nI_1 s.1)
        · exact hw (0, _) (show 0 < n by omega)
        · exact hw (s.1 + 1, _) z
  · intro m i _ hi hA hw
    refine pk_le n i (fun z => absurd z (by omega)) (fun _ => ⟨pk_in i 6 (by omega), br_c (fun z => nm_r (nI_1 i) (hw () (fun j hj => ?_))) (fun z => ?_)⟩)
    · rw [nI_clamp (by omega)] at z
      by_cases q : j = i
      · rw [q]
        exact fun g => cw_n0 (by rw [← g]; exact z)
      · exact hA j (by omega)
    · rw [nI_clamp (by omega)] at z
      rcases hB.2.2.1 i hi with g | ⟨c, hc, g, _⟩
      · exact H i h a5 a6 a7 a8 a10 hi hh hB g (fun _ _ g => g)
      · rw [g] at z
        exact absurd (nI_pos' (by omega)) z
theorem cw_bring {post : Int32 → St2 → Prop} (hB : cw_B V n a5 a6 a7 a8 a9 a11) (hh : h < n) (hc : c < 20)
    (H : ∀ f h' a5' a6' a7' a8' a9' a10' a11', f < n → h' < n → cw_B V n a5' a6' a7' a8' a9' a11' → a5' c = nI f → (∀ d, d < 20 → d ≠ c → a5 d = -1 → a5' d = -1) → post (nI f) ((nI n), (nI h'), a1, a2, a3, a4, a5', a6', a7', a8', a9', a10', a11')) :
    wpX_bringIn post ((nI n), (nI h), a1, a2, a3, a4, a5, a6, a7, a8, a9, a10, a11) (nI c) := by
  have hn := cw_B_n hB
  refine ⟨pk_in c 20 hc, ?_⟩
  rcases hB.2.1 c hc with g | ⟨f, hf, g, g8⟩
  · refine br_t (by rw [nI_clamp (by omega), g]; exact cw_neg) ?_
    refine cw_free hB hh (fun f h' a5' a6' a7' a8' a10' hf hh' hB' g8 g5 => ?_)
    refine ⟨pk_in f 6 (by omega), nm_r (e' := upd a8' f (nI c)) (by rw [nI_clamp (by omega), cw_b8 c (by omega)]) ⟨pk_in c 20 hc, nm_r (e' := upd a5' c (nI f)) (by rw [nI_clamp (by omega), cw_b8 f (by omega)]) ⟨pk_in f 6 (by omega), nm_r (e' := upd a10' f 1) (by rw [nI_clamp (by omega)]) ⟨pk_in f 6 (by omega), nm_r (e' := upd a11 f 0) (by rw [nI_clamp (by omega)]) ?_⟩⟩⟩⟩
    refine pk_loop (fun m i s => wX_bringIn_65 post (nI c) (nI f) (nI n) (nI h') m (nI i) a1 a2 a3 a4 (upd a5' c (nI f)) a6' a7' (upd a8' f (nI c)) s (upd a10' f 1) (upd a11 f 0))
      (fun i s => (∀ j, j < i → s (4 * f + j) = cw_sv a6' a7' c j) ∧ (∀ k, k < 4 * f ∨ 4 * f + 4 ≤ k → s k = a9 k)) 4 0 a9 (by omega) ⟨fun j hj => absurd hj (by omega), fun k _ => rfl⟩ ?_ ?_
    · intro m s hs
      refine pk_le 4 4 (fun _ => ?_) (fun z => absurd z (by omega))
      refine H f h' _ _ _ _ _ _ _ hf hh' (cw_B_in hB' hc hf (g5 c hc g) g8 hs.1 hs.2) pk_us (fun d hd q z => ?_)
      rw [pk_un q]
      exact g5 d hd z
    · intro m i s hi hs hw
      have st : ∀ x, x = cw_sv a6' a7' c i → (∀ j, j < i + 1 → upd s (4 * f + i) x (4 * f + j) = cw_sv a6' a7' c j) ∧ (∀ k, k < 4 * f ∨ 4 * f + 4 ≤ k → upd s (4 * f + i) x k = a9 k) := by
        intro x hx
        refine ⟨fun j hj => ?_, fun k hk => ?_⟩
        · by_cases q : j = i
          · rw [q, pk_us, hx]
          · rw [pk_un (by omega)]
            exact hs.1 j (by omega)
        · rw [pk_un (by omega)]
          exact hs.2 k hk
      refine pk_le 4 i (fun z => absurd z (by omega)) (fun _ => ⟨pk_in c 20 hc, br_c (fun z => ?_) (fun z => ?_)⟩)
      · rw [nI_clamp (by omega)] at z
        refine ⟨pk_in (4 * f + i) 24 (by omega) (cw_4 f i), nm_r (e' := upd s (4 * f + i) 0) (by rw [pk_cl (4 * f + i) (cw_4 f i)]) (nm_r (nI_1 i) (hw _ (st 0 ?_)))⟩
        unfold cw_sv
        rw [if_pos z]
      · rw [nI_clamp (by omega)] at z
        refine ⟨pk_in (4 * c + i) 80 (by omega) (cw_4 c i), pk_in (4 * f + i) 24 (by omega) (cw_4 f i), nm_r (e' := upd s (4 * f + i) (a7' (4 * c + i))) (by rw [pk_cl (4 * f + i) (cw_4 f i), pk_cl (4 * c + i) (cw_4 c i)]) (nm_r (nI_1 i) (hw _ (st _ ?_)))⟩
        unfold cw_sv
        rw [if_neg z]
  · refine br_f (by rw [nI_clamp (by omega), g]; exact nI_pos (by omega)) ?_
    rw [nI_clamp (by omega), g, nI_clamp (by omega)]
    exact ⟨pk_in c 20 hc, pk_in f 6 (by omega), nm_e ⟨pk_in c 20 hc, H f h a5 a6 a7 a8 a9 _ a11 hf hh hB g (fun _ _ _ z => z)⟩⟩
end
section
variable {V : Nat → Nat → Int32} {c : Nat} {fc hd : Int32} {a1 a2 a3 a4 a5 a6 a7 a8 a9 a10 a11 : Nat → Int32}
/-- bringIn of a content that a page shows: nothing that can be read changes -/
theorem cw_bringN {post : Int32 → St2 → Prop} (hN : cw_N V fc hd a2 a3 a4 a5 a6 a7 a8 a9 a11) (hc : c < 20) (hu : ¬ a4 c = 0)
    (H : ∀ f n fc' hd' a5' a6' a7' a8' a9' a10' a11', f < n → n ≤ 6 → cw_N V fc' hd' a2 a3 a4 a5' a6' a7' a8' a9' a11' → (fc' = nI n ∧ ∃ h' : Nat, hd' = nI h' ∧ h' < n ∧ cw_B V n a5' a6' a7' a8' a9' a11') → a5' c = nI f → (∀ i, i < 4 → a9' (4 * f + i) = V c i) → post (nI f) (fc', hd', a1, a2, a3, a4, a5', a6', a7', a8', a9', a10', a11')) :
    wpX_bringIn post (fc, hd, a1, a2, a3, a4, a5, a6, a7, a8, a9, a10, a11) (nI c) := by
  obtain ⟨hA, hL, n, h, rfl, rfl, hh, hB⟩ := hN
  refine cw_bring hB hh hc (fun f h' a5' a6' a7' a8' a9' a10' a11' hf hh' hB' g5 gL => ?_)
  refine H f n _ _ _ _ _ _ _ _ _ hf (cw_B_n hB) ⟨hA, fun d hd z => ?_, n, h', rfl, rfl, hh', hB'⟩ ⟨rfl, h', rfl, hh', hB'⟩ g5 (fun i hi => hB'.2.2.2.2.1 c f hc hf g5 i hi)
  by_cases q : d = c
  · rw [q] at z
    exact absurd z hu
  · exact gL d hd q (hL d hd z)
/-- the same, with what a load needs alone -/
theorem cw_bringM {post : Int32 → St2 → Prop} (hM : cw_M V fc hd a1 a2 a3 a4 a5 a6 a7 a8 a9 a10 a11) (hc : c < 20) (hu : ¬ a4 c = 0)
    (H : ∀ f fc' hd' a5' a6' a7' a8' a9' a10' a11', f < 6 → cw_M V fc' hd' a1 a2 a3 a4 a5' a6' a7' a8' a9' a10' a11' → (∀ i, i < 4 → a9' (4 * f + i) = V c i) → post (nI f) (fc', hd', a1, a2, a3, a4, a5', a6', a7', a8', a9', a10', a11')) :
    wpX_bringIn post (fc, hd, a1, a2, a3, a4, a5, a6, a7, a8, a9, a10, a11) (nI c) := by
  obtain ⟨hD, hN⟩ := hM
  refine cw_bringN hN hc hu (fun f n fc' hd' a5' a6' a7' a8' a9' a10' a11' hf hn hN' _ _ g => ?_)
  exact H f _ _ _ _ _ _ _ _ _ (by omega) ⟨hD, hN'⟩ g
end
end
section
/-! check, isMapped, showing, read, and the law's sum -/
abbrev cw_Fr : Type := Int32 × Int32 × (Nat → Int32) × (Nat → Int32) × (Nat → Int32) × (Nat → Int32) × (Nat → Int32) × (Nat → Int32) × (Nat → Int32)
theorem cw_d20 {i : Nat} (h : i < 2 ^ 31) : nI i / 20 = nI (i / 20) := pk_div (d := 20) h (by omega) (by omega)
theorem cw_r20 {i : Nat} (h : i < 2 ^ 31) : nI i - nI i / 20 * 20 = nI (i % 20) := pk_rem (d := 20) h (by omega) (by omega)
theorem cw_d5 {i : Nat} (h : i < 2 ^ 31) : nI i / 5 = nI (i / 5) := pk_div (d := 5) h (by omega) (by omega)
theorem cw_r5 {i : Nat} (h : i < 2 ^ 31) : nI i - nI i / 5 * 5 = nI (i % 5) := pk_rem (d := 5) h (by omega) (by omega)
/-- the law's hash of the cells w, all but t -/
def cw_hs (w : Nat → Int32) (t : Nat) : Nat → Int32
  | 0 => 0
  | k + 1 => if k = t then cw_hs w t k else 31 * cw_hs w t k + w k
theorem cw_hs_eq {w w' : Nat → Int32} {t m : Nat} (h : ∀ k, k < m → k ≠ t → w k = w' k) : cw_hs w t m = cw_hs w' t m := by
  induction m with
  | zero => rfl
  | succ m ih =>
    show (if m = t then cw_hs w t m else 31 * cw_hs w t m + w m) = (if m = t then cw_hs w' t m else 31 * cw_hs w' t m + w' m)
    rw [ih (fun k hk q => h k (by omega) q)]
    by_cases e : m = t
    · rw [if_pos e, if_pos e]
    · rw [if_neg e, if_neg e, h m (by omega) e]
def cw_w (a2 : Nat → Int32) (V : Nat → Nat → Int32) (k : Nat) : Int32 := cw_v a2 V (5 * (k / 20) + k % 20 / 4) (k % 20 % 4)
section
variable {V : Nat → Nat → Int32} {p g k c e t : Nat} {fc hd : Int32} {a1 a2 a3 a4 a5 a6 a7 a8 a9 a10 a11 : Nat → Int32}
theorem cw_used (hA : cw_A a2 a3 a4) (he : e < 20) (hc : c < 20) (h : a2 e = nI c) : ¬ a4 c = 0 := by
  rw [hA.2.2.1 c hc]
  have := cw_cnt_le a2 c 20
  exact nI_ne0 (cw_cnt_pos he h) (by omega)
theorem cw_check {post : Int32 → Prop} (hp : p < 4) (hg : g < 5) (H0 : a1 p = 0 → post (-2)) (H1 : ¬ a1 p = 0 → post 0) : wpX_check post (fc, hd, a1, a2, a3, a4, a5, a6, a7, a8, a9, a10, a11) (nI p) (nI g) := by
  refine br_f (nI_pos (by omega)) (pk_lt 3 p (fun z => absurd z (by omega)) (fun _ => br_f (nI_pos (by omega)) (pk_le g 4 (fun _ => ⟨pk_in p 4 hp, ?_⟩) (fun z => absurd z (by omega)))))
  rw [nI_clamp (by omega)]
  exact br_c H0 H1
theorem cw_isMapped {post : Int32 → Prop} (hD : cw_D a1 a2) (hp : p < 4) (hg : g < 5) (H0 : a2 (5 * p + g) < 0 → post 0) (H1 : ¬ a2 (5 * p + g) < 0 → post 1) : wpX_isMapped post (fc, hd, a1, a2, a3, a4, a5, a6, a7, a8, a9, a10, a11) (nI p) (nI g) := by
  unfold wpX_isMapped
  refine cw_check hp hg (fun z => br_f (by decide) (H0 (by rw [hD p g hp hg z]; exact cw_neg))) (fun z => br_t rfl ⟨pk_in (5 * p + g) 20 (by omega) (cw_5 p g), ?_⟩)
  rw [pk_cl (5 * p + g) (cw_5 p g)]
  exact br_c H0 H1
theorem cw_showing {post : Int32 → Prop} (hD : cw_D a1 a2) (hp : p < 4) (hg : g < 5) (hc : c < 20) (h2 : a2 (5 * p + g) = nI c)
    (H : ∀ r, (a3 (5 * p + g) = 0 ∧ r = 1 ∨ ¬ a3 (5 * p + g) = 0 ∧ r = a4 c) → post r) : wpX_showing post (fc, hd, a1, a2, a3, a4, a5, a6, a7, a8, a9, a10, a11) (nI p) (nI g) := by
  unfold wpX_showing
  refine cw_check hp hg (fun z => absurd (hD p g hp hg z) (cw_n1' h2 (by omega))) (fun z => br_t rfl (nm_r (cw_5 p g) ⟨pk_in (5 * p + g) 20 (by omega), ?_⟩))
  rw [nI_clamp (by omega), h2, nI_clamp (by omega)]
  exact br_t (nI_pos' (by omega)) ⟨pk_in (5 * p + g) 20 (by omega), br_c (fun z => H 1 (Or.inl ⟨z, rfl⟩)) (fun z => ⟨pk_in (5 * p + g) 20 (by omega), pk_in c 20 hc, H _ (Or.inr ⟨z, rfl⟩)⟩)⟩
theorem cw_read {post : Int32 → St2 → Prop} (hM : cw_M V fc hd a1 a2 a3 a4 a5 a6 a7 a8 a9 a10 a11) (hp : p < 4) (hk : k < 20)
    (H : ∀ fc' hd' a5' a6' a7' a8' a9' a10' a11', cw_M V fc' hd' a1 a2 a3 a4 a5' a6' a7' a8' a9' a10' a11' → post (cw_v a2 V (5 * p + k / 4) (k % 4)) (fc', hd', a1, a2, a3, a4, a5', a6', a7', a8', a9', a10', a11')) : wpX_read post (fc, hd, a1, a2, a3, a4, a5, a6, a7, a8, a9, a10, a11) (nI p) (nI k) := by
  have h0 : a2 (5 * p + k / 4) = -1 → post 0 (fc, hd, a1, a2, a3, a4, a5, a6, a7, a8, a9, a10, a11) := fun g => by
    have h := H _ _ _ _ _ _ _ _ _ hM
    rw [cw_v_n g] at h
    exact h
  refine br_f (nI_pos (by omega)) (pk_lt 3 p (fun z => absurd z (by omega)) (fun _ => br_f (nI_pos (by omega)) (pk_lt 19 k (fun z => absurd z (by omega)) (fun _ => ⟨pk_in p 4 hp, br_c (fun z => ?_) (fun z => nm_r (e' := nI (5 * p + k / 4)) (by rw [cw_s2 (by omega), cw_5]) ⟨pk_in (5 * p + k / 4) 20 (by omega), ?_⟩)⟩))))
  · rw [nI_clamp (by omega)] at z
    exact h0 (hM.1 p (k / 4) hp (by omega) z)
  · rw [nI_clamp (by omega)]
    rcases hM.2.1.1 (5 * p + k / 4) (by omega) with g | ⟨c, hc, g⟩
    · exact br_f (by rw [g]; exact cw_n0) (h0 g)
    · refine br_t (by rw [g]; exact nI_pos' (by omega)) ⟨pk_in (5 * p + k / 4) 20 (by omega), ?_⟩
      rw [g]
      refine cw_bringM hM hc (cw_used hM.2.1 (show 5 * p + k / 4 < 20 by omega) hc g) (fun f fc' hd' a5' a6' a7' a8' a9' a10' a11' hf hM' hv => ?_)
      refine ⟨pk_in (4 * f + k % 4) 24 (by omega) (by rw [cw_m3 (by omega), cw_4]), ?_⟩
      rw [cw_m3 (by omega), pk_cl (4 * f + k % 4) (cw_4 f (k % 4)), hv (k % 4) (by omega), ← cw_v_s (V := V) g hc (k % 4)]
      exact H _ _ _ _ _ _ _ _ _ hM'
theorem cw_sum {post : Int32 → St2 → Prop} (hM : cw_M V fc hd a1 a2 a3 a4 a5 a6 a7 a8 a9 a10 a11) (ht : t < 2 ^ 31)
    (H : ∀ fc' hd' a5' a6' a7' a8' a9' a10' a11', cw_M V fc' hd' a1 a2 a3 a4 a5' a6' a7' a8' a9' a10' a11' → post (cw_hs (cw_w a2 V) t 80) (fc', hd', a1, a2, a3, a4, a5', a6', a7', a8', a9', a10', a11')) : wpL_sum post (fc, hd, a1, a2, a3, a4, a5, a6, a7, a8, a9, a10, a11) (nI t) := by
  refine pk_loop (σ := cw_Fr) (fun m i s => wL_sum_4 post (nI t) m (cw_hs (cw_w a2 V) t i) (nI i) s.1 s.2.1 a1 a2 a3 a4 s.2.2.1 s.2.2.2.1 s.2.2.2.2.1 s.2.2.2.2.2.1 s.2.2.2.2.2.2.1 s.2.2.2.2.2.2.2.1 s.2.2.2.2.2.2.2.2) (fun i s => cw_M V s.1 s.2.1 a1 a2 a3 a4 s.2.2.1 s.2.2.2.1 s.2.2.2.2.1 s.2.2.2.2.2.1 s.2.2.2.2.2.2.1 s.2.2.2.2.2.2.2.1 s.2.2.2.2.2.2.2.2) 80 0 (fc, hd, a5, a6, a7, a8, a9, a10, a11) (by omega) hM ?_ ?_
  · intro m s hs
    exact pk_le 80 80 (fun _ => H _ _ _ _ _ _ _ _ _ hs) (fun z => absurd z (by omega))
  · intro m i s hi hs hw
    refine pk_le 80 i (fun z => absurd z (by omega)) (fun _ => pk_eq i t (fun z => nm_r (nI_1 i) ?_) (fun z => ⟨by decide, by decide, ?_⟩))
    · have h : wL_sum_4 post (nI t) m (cw_hs (cw_w a2 V) t (i + 1)) (nI (i + 1)) s.1 s.2.1 a1 a2 a3 a4 s.2.2.1 s.2.2.2.1 s.2.2.2.2.1 s.2.2.2.2.2.1 s.2.2.2.2.2.2.1 s.2.2.2.2.2.2.2.1 s.2.2.2.2.2.2.2.2 := hw s hs
      rw [show cw_hs (cw_w a2 V) t (i + 1) = cw_hs (cw_w a2 V) t i from if_pos z] at h
      exact h
    · rw [cw_r20 (by omega), cw_d20 (by omega)]
      refine cw_read hs (by omega) (by omega) (fun fc' hd' a5' a6' a7' a8' a9' a10' a11' hM' => ?_)
      exact nm_r (e' := cw_hs (cw_w a2 V) t (i + 1)) (if_neg z).symm (nm_r (nI_1 i) (hw (fc', hd', a5', a6', a7', a8', a9', a10', a11') hM'))
end
end
section
/-! newContent (printed twice), part, write -/
theorem cw_41 (f : Nat) : (4 : Int32) * nI f + 1 = nI (4 * f + 1) := cw_4 f 1
theorem cw_42 (f : Nat) : (4 : Int32) * nI f + 2 = nI (4 * f + 2) := cw_4 f 2
theorem cw_43 (f : Nat) : (4 : Int32) * nI f + 3 = nI (4 * f + 3) := cw_4 f 3
def cw_set (V : Nat → Nat → Int32) (c i : Nat) (v : Int32) : Nat → Nat → Int32 := fun d j => if d = c ∧ j = i then v else V d j
/-- four stores into frame f -/
theorem cw_put4 (a u : Nat → Int32) (f : Nat) : (∀ i, i < 4 → upd (upd (upd (upd a (4 * f + 0) (u 0)) (4 * f + 1) (u 1)) (4 * f + 2) (u 2)) (4 * f + 3) (u 3) (4 * f + i) = u i) ∧
    (∀ k, k < 4 * f ∨ 4 * f + 4 ≤ k → upd (upd (upd (upd a (4 * f + 0) (u 0)) (4 * f + 1) (u 1)) (4 * f + 2) (u 2)) (4 * f + 3) (u 3) k = a k) := by
  refine ⟨fun i hi => ?_, fun k hk => ?_⟩
  · by_cases q3 : i = 3
    · rw [q3, pk_us]
    · rw [pk_un (show 4 * f + i ≠ 4 * f + 3 by omega)]
      by_cases q2 : i = 2
      · rw [q2, pk_us]
      · rw [pk_un (show 4 * f + i ≠ 4 * f + 2 by omega)]
        by_cases q1 : i = 1
        · rw [q1, pk_us]
        · rw [pk_un (show 4 * f + i ≠ 4 * f + 1 by omega), show i = 0 by omega, pk_us]
  · rw [pk_un (by omega), pk_un (by omega), pk_un (by omega), pk_un (by omega)]
theorem cw_D_upd {a1 a2 : Nat → Int32} {e c : Nat} {x : Int32} (hD : cw_D a1 a2) (hc : c < 20) (h : a2 e = nI c) : cw_D a1 (upd a2 e x) := by
  intro p g hp hg z
  have h1 := hD p g hp hg z
  by_cases q : 5 * p + g = e
  · rw [q] at h1
    exact absurd h1 (cw_n1' h (by omega))
  · rw [pk_un q]
    exact h1
/-- a store into a content that one page alone shows -/
theorem cw_own {V : Nat → Nat → Int32} {a2 : Nat → Int32} {e c i : Nat} {v : Int32} (h1 : ∀ e, e < 20 → a2 e = -1 ∨ ∃ c, c < 20 ∧ a2 e = nI c) (hc : c < 20) (h2 : a2 e = nI c) (hu : ∀ e', e' < 20 → e' ≠ e → ¬ a2 e' = nI c) :
    cw_v a2 (cw_set V c i v) e i = v ∧ ∀ e' j, e' < 20 → ¬ (e' = e ∧ j = i) → cw_v a2 (cw_set V c i v) e' j = cw_v a2 V e' j := by
  refine ⟨?_, fun e' j he' q => ?_⟩
  · rw [cw_v_s h2 hc]
    exact if_pos ⟨rfl, rfl⟩
  · rcases h1 e' he' with g | ⟨d, hd, g⟩
    · rw [cw_v_n g, cw_v_n g]
    · rw [cw_v_s g hd, cw_v_s g hd]
      refine if_neg (fun z => ?_)
      by_cases qe : e' = e
      · exact q ⟨qe, z.2⟩
      · exact hu e' he' qe (by rw [← z.1]; exact g)
section
variable {V : Nat → Nat → Int32} {p k c e : Nat} {v : Int32} {fc hd : Int32} {a1 a2 a3 a4 a5 a6 a7 a8 a9 a10 a11 : Nat → Int32}
theorem cw_nc {post : Int32 → St2 → Prop} (hx : ∃ c, c < 20 ∧ a4 c = 0)
    (H : ∀ c, c < 20 → a4 c = 0 → post (nI c) (fc, hd, a1, a2, a3, (upd a4 c 1), (upd a5 c (-1)), (upd a6 c 0), a7, a8, a9, a10, a11)) : wpX_newContent post (fc, hd, a1, a2, a3, a4, a5, a6, a7, a8, a9, a10, a11) := by
  have done : ∀ c, c < 20 → a4 c = 0 → wX_newContent_23 post (nI c) fc hd a1 a2 a3 a4 a5 a6 a7 a8 a9 a10 a11 := fun c hc z =>
    ⟨pk_in c 20 hc, nm_r (e' := upd a4 c 1) (by rw [nI_clamp (by omega)]) ⟨pk_in c 20 hc, nm_r (e' := upd a5 c (-1)) (by rw [nI_clamp (by omega)]) ⟨pk_in c 20 hc, nm_r (e' := upd a6 c 0) (by rw [nI_clamp (by omega)]) (H c hc z)⟩⟩⟩
  refine pk_loop (σ := Unit) (fun m i _ => wX_newContent_2 post fc hd a1 a2 a3 a4 a5 a6 a7 a8 a9 a10 a11 m (nI i)) (fun i _ => ∀ j, j < i → ¬ a4 j = 0) 19 0 () (by omega) (fun j hj => absurd hj (by omega)) ?_ ?_
  · intro m _ hA
    refine pk_le 19 19 (fun _ => done 19 (by omega) ?_) (fun z => absurd z (by omega))
    obtain ⟨c, hc, z⟩ := hx
    by_cases q : c = 19
    · rw [← q]
      exact z
    · exact absurd z (hA c (by omega))
  · intro m i _ hi hA hw
    refine pk_le 19 i (fun z => absurd z (by omega)) (fun _ => ⟨pk_in i 20 (by omega), ?_⟩)
    rw [nI_clamp (by omega)]
    refine br_c (fun z => done i (by omega) z) (fun z => nm_r (nI_1 i) (hw () (fun j hj => ?_)))
    by_cases q : j = i
    · rw [q]
      exact z
    · exact hA j (by omega)
theorem cw_nc2 {post : Int32 → St2 → Prop} (hx : ∃ c, c < 20 ∧ a4 c = 0)
    (H : ∀ c, c < 20 → a4 c = 0 → post (nI c) (fc, hd, a1, a2, a3, (upd a4 c 1), (upd a5 c (-1)), (upd a6 c 0), a7, a8, a9, a10, a11)) : wpX_newContent_2 post (fc, hd, a1, a2, a3, a4, a5, a6, a7, a8, a9, a10, a11) := by
  have done : ∀ c, c < 20 → a4 c = 0 → wX_newContent_2_23 post (nI c) fc hd a1 a2 a3 a4 a5 a6 a7 a8 a9 a10 a11 := fun c hc z =>
    ⟨pk_in c 20 hc, nm_r (e' := upd a4 c 1) (by rw [nI_clamp (by omega)]) ⟨pk_in c 20 hc, nm_r (e' := upd a5 c (-1)) (by rw [nI_clamp (by omega)]) ⟨pk_in c 20 hc, nm_r (e' := upd a6 c 0) (by rw [nI_clamp (by omega)]) (H c hc z)⟩⟩⟩
  refine pk_loop (σ := Unit) (fun m i _ => wX_newContent_2_2 post fc hd a1 a2 a3 a4 a5 a6 a7 a8 a9 a10 a11 m (nI i)) (fun i _ => ∀ j, j < i → ¬ a4 j = 0) 19 0 () (by omega) (fun j hj => absurd hj (by omega)) ?_ ?_
  · intro m _ hA
    refine pk_le 19 19 (fun _ => done 19 (by omega) ?_) (fun z => absurd z (by omega))
    obtain ⟨c, hc, z⟩ := hx
    by_cases q : c = 19
    · rw [← q]
      exact z
    · exact absurd z (hA c (by omega))
  · intro m i _ hi hA hw
    refine pk_le 19 i (fun z => absurd z (by omega)) (fun _ => ⟨pk_in i 20 (by omega), ?_⟩)
    rw [nI_clamp (by omega)]
    refine br_c (fun z => done i (by omega) z) (fun z => nm_r (nI_1 i) (hw () (fun j hj => ?_)))
    by_cases q : j = i
    · rw [q]
      exact z
    · exact hA j (by omega)
theorem cw_part {post : St2 → Prop} (hN : cw_N V fc hd a2 a3 a4 a5 a6 a7 a8 a9 a11) (he : e < 20) (hc : c < 20) (h2 : a2 e = nI c) (hu : 2 ≤ cw_cnt a2 c 20)
    (H : ∀ V' c0 a4' fc' hd' a5' a6' a7' a8' a9' a10' a11', c0 < 20 → (∀ e', e' < 20 → ¬ a2 e' = nI c0) → cw_N V' fc' hd' (upd a2 e (nI c0)) a3 a4' a5' a6' a7' a8' a9' a11' → (∀ i, i < 4 → V' c0 i = V c i) → (∀ d i, d < 20 → d ≠ c0 → i < 4 → V' d i = V d i) → post (fc', hd', a1, (upd a2 e (nI c0)), a3, a4', a5', a6', a7', a8', a9', a10', a11')) :
    wpX_part post (fc, hd, a1, a2, a3, a4, a5, a6, a7, a8, a9, a10, a11) (nI e) := by
  have hA := hN.1
  have hcn := cw_cnt_le a2 c 20
  have e4 : a4 c = nI (cw_cnt a2 c 20) := hA.2.2.1 c hc
  refine ⟨pk_in e 20 he, nm_r (e' := nI c) (by rw [nI_clamp (by omega)]; exact h2) ?_⟩
  refine cw_bringN hN hc (cw_used hA he hc h2) (fun f n fc' hd' a5' a6' a7' a8' a9' a10' a11' hf hn hN' hB' g5 gv => ?_)
  refine ⟨pk_in (4 * f + 0) 24 (by omega) (cw_40 f), nm_r (e' := V c 0) (by rw [pk_cl (4 * f + 0) (cw_40 f)]; exact gv 0 (by omega)) ?_⟩
  refine ⟨pk_in (4 * f + 1) 24 (by omega) (cw_41 f), nm_r (e' := V c 1) (by rw [pk_cl (4 * f + 1) (cw_41 f)]; exact gv 1 (by omega)) ?_⟩
  refine ⟨pk_in (4 * f + 2) 24 (by omega) (cw_42 f), nm_r (e' := V c 2) (by rw [pk_cl (4 * f + 2) (cw_42 f)]; exact gv 2 (by omega)) ?_⟩
  refine ⟨pk_in (4 * f + 3) 24 (by omega) (cw_43 f), nm_r (e' := V c 3) (by rw [pk_cl (4 * f + 3) (cw_43 f)]; exact gv 3 (by omega)) ?_⟩
  refine ⟨pk_in c 20 hc, pk_in c 20 hc, nm_r (e' := upd a4 c (nI (cw_cnt a2 c 20 - 1))) (by rw [nI_clamp (by omega), e4, cw_dn (by omega) (by omega)]) ?_⟩
  have hS := cw_A_sub hA he hc h2
  have nz : ¬ nI (cw_cnt a2 c 20 - 1) = 0 := nI_ne0 (by omega) (by omega)
  refine cw_nc ?_ (fun c0 hc0 z0 => ?_)
  · obtain ⟨d, hd, hz⟩ := cw_free2 hc hu
    refine ⟨d, hd, ?_⟩
    have q : d ≠ c := fun q => by rw [q] at hz; omega
    rw [pk_un q, hA.2.2.1 d hd, hz]
    rfl
  have qc : c0 ≠ c := fun q => by
    rw [q, pk_us] at z0
    exact nz z0
  have w0 : a4 c0 = 0 := by
    rw [pk_un qc] at z0
    exact z0
  have y0 : cw_cnt a2 c0 20 = 0 := by
    have h1 := hA.2.2.1 c0 hc0
    have h3 := cw_cnt_le a2 c0 20
    rw [w0] at h1
    exact cw_inj (h1.symm.trans nI_0.symm)
  have y1 : cw_cnt (upd a2 e (-1)) c0 20 = 0 := by
    have h1 := hS.2.2.1 c0 hc0
    have h3 := cw_cnt_le (upd a2 e (-1)) c0 20
    rw [z0] at h1
    exact cw_inj (h1.symm.trans nI_0.symm)
  have no : ∀ e', e' < 20 → ¬ a2 e' = nI c0 := fun e' he' => cw_cnt0 y0 he'
  obtain ⟨_, hL', n', h', efc, ehd, hh', hBn⟩ := hN'
  have hA2 := cw_A_add hS he hc0 pk_us (hA.2.1 e he) (fun e' he' g => absurd g (cw_cnt0 y1 he'))
  rw [cw_upd2, cw_updS, y1] at hA2
  have hA3 : cw_A (upd a2 e (nI c0)) a3 (upd (upd a4 c (nI (cw_cnt a2 c 20 - 1))) c0 1) := hA2
  have hL2 : cw_L (upd (upd a4 c (nI (cw_cnt a2 c 20 - 1))) c0 1) (upd a5' c0 (-1)) := fun d hd z => by
    by_cases q : d = c0
    · rw [q, pk_us]
    · rw [pk_un q] at z
      rw [pk_un q]
      by_cases q2 : d = c
      · rw [q2, pk_us] at z
        exact absurd z nz
      · rw [pk_un q2] at z
        exact hL' d hd z
  have hBV : cw_B (fun d i => if d = c0 then 0 else V d i) n' (upd a5' c0 (-1)) (upd a6' c0 0) a7' a8' a9' a11' :=
    cw_B_new hBn hc0 (hL' c0 hc0 w0) (fun i _ => if_pos rfl) (fun d i _ q _ => if_neg q)
  refine ⟨pk_in e 20 he, nm_r (e' := upd a2 e (nI c0)) (by rw [nI_clamp (by omega), cw_b8 c0 (by omega)]) ?_⟩
  refine cw_bringN (V := fun d i => if d = c0 then 0 else V d i) ⟨hA3, hL2, n', h', efc, ehd, hh', hBV⟩ hc0 (by rw [pk_us]; decide) (fun f2 n2 fc2 hd2 b5 b6 b7 b8 b9 b10 b11 hf2 hn2 hN2 hB2 g52 _ => ?_)
  refine ⟨pk_in (4 * f2 + 0) 24 (by omega) (cw_40 f2), nm_r (e' := upd b9 (4 * f2 + 0) (V c 0)) (by rw [pk_cl (4 * f2 + 0) (cw_40 f2)]) ?_⟩
  refine ⟨pk_in (4 * f2 + 1) 24 (by omega) (cw_41 f2), nm_r (e' := upd (upd b9 (4 * f2 + 0) (V c 0)) (4 * f2 + 1) (V c 1)) (by rw [pk_cl (4 * f2 + 1) (cw_41 f2)]) ?_⟩
  refine ⟨pk_in (4 * f2 + 2) 24 (by omega) (cw_42 f2), nm_r (e' := upd (upd (upd b9 (4 * f2 + 0) (V c 0)) (4 * f2 + 1) (V c 1)) (4 * f2 + 2) (V c 2)) (by rw [pk_cl (4 * f2 + 2) (cw_42 f2)]) ?_⟩
  refine ⟨pk_in (4 * f2 + 3) 24 (by omega) (cw_43 f2), nm_r (e' := upd (upd (upd (upd b9 (4 * f2 + 0) (V c 0)) (4 * f2 + 1) (V c 1)) (4 * f2 + 2) (V c 2)) (4 * f2 + 3) (V c 3)) (by rw [pk_cl (4 * f2 + 3) (cw_43 f2)]) ?_⟩
  refine ⟨pk_in f2 6 (by omega), nm_r (e' := upd b11 f2 1) (by rw [nI_clamp (by omega)]) ?_⟩
  obtain ⟨rfl, h2', rfl, hh2, hBB⟩ := hB2
  have p4 := cw_put4 b9 (V c) f2
  refine H (fun d i => if d = c0 then V c i else V d i) c0 _ _ _ _ _ _ _ _ _ _ hc0 no ⟨hA3, hN2.2.1, n2, h2', rfl, rfl, hh2, ?_⟩ (fun i _ => if_pos rfl) (fun d i _ q _ => if_neg q)
  exact cw_B_wr hBB hc0 hf2 g52 (fun i hi => by rw [p4.1 i hi]; exact (if_pos rfl).symm) p4.2 (fun d i _ q _ => by rw [if_neg q, if_neg q])
theorem cw_write87 {post : Int32 → St2 → Prop} (hN : cw_N V fc hd a2 a3 a4 a5 a6 a7 a8 a9 a11) (he : e < 20) (hk : k < 20) (hc : c < 20) (h2 : a2 e = nI c)
    (H : ∀ fc' hd' a5' a6' a7' a8' a9' a10' a11', cw_N (cw_set V c (k % 4) v) fc' hd' a2 a3 a4 a5' a6' a7' a8' a9' a11' → post (nI k) (fc', hd', a1, a2, a3, a4, a5', a6', a7', a8', a9', a10', a11')) : wX_write_87 post (nI k) v (nI e) fc hd a1 a2 a3 a4 a5 a6 a7 a8 a9 a10 a11 := by
  have hA := hN.1
  refine ⟨pk_in e 20 he, ?_⟩
  rw [nI_clamp (by omega), h2]
  refine cw_bringN hN hc (cw_used hA he hc h2) (fun f n fc' hd' a5' a6' a7' a8' a9' a10' a11' hf hn hN' hB' g5 gv => ?_)
  refine ⟨pk_in (4 * f + k % 4) 24 (by omega) (by rw [cw_m3 (by omega), cw_4]), nm_r (e' := upd a9' (4 * f + k % 4) v) (by rw [cw_m3 (by omega), pk_cl (4 * f + k % 4) (cw_4 f (k % 4))]) ?_⟩
  refine ⟨pk_in f 6 (by omega), nm_r (e' := upd a11' f 1) (by rw [nI_clamp (by omega)]) ?_⟩
  obtain ⟨rfl, h', rfl, hh, hB⟩ := hB'
  refine H _ _ _ _ _ _ _ _ _ ⟨hA, hN'.2.1, n, h', rfl, rfl, hh, ?_⟩
  refine cw_B_wr hB hc hf g5 (fun i hi => ?_) (fun j hj => pk_un (by omega)) (fun d i _ q _ => if_neg (fun z => q z.1))
  by_cases q : i = k % 4
  · rw [q, pk_us]
    exact (if_pos ⟨rfl, rfl⟩).symm
  · rw [pk_un (by omega), gv i hi]
    exact (if_neg (fun z => q z.2)).symm
theorem cw_write {post : Int32 → St2 → Prop} (hM : cw_M V fc hd a1 a2 a3 a4 a5 a6 a7 a8 a9 a10 a11) (hp : p < 4) (hk : k < 20) (hc : c < 20) (h2 : a2 (5 * p + k / 4) = nI c)
    (H1 : ¬ a3 (5 * p + k / 4) = 0 → ∀ fc' hd' a5' a6' a7' a8' a9' a10' a11', cw_M (cw_set V c (k % 4) v) fc' hd' a1 a2 a3 a4 a5' a6' a7' a8' a9' a10' a11' → post (nI k) (fc', hd', a1, a2, a3, a4, a5', a6', a7', a8', a9', a10', a11'))
    (H0 : a3 (5 * p + k / 4) = 0 → ∀ V' a2' a4' fc' hd' a5' a6' a7' a8' a9' a10' a11', cw_M V' fc' hd' a1 a2' a3 a4' a5' a6' a7' a8' a9' a10' a11' → (∀ e', e' < 20 → (a2' e' < 0 ↔ a2 e' < 0)) → cw_v a2' V' (5 * p + k / 4) (k % 4) = v →
      (∀ e' j, e' < 20 → j < 4 → ¬ (e' = 5 * p + k / 4 ∧ j = k % 4) → cw_v a2' V' e' j = cw_v a2 V e' j) → post (nI k) (fc', hd', a1, a2', a3, a4', a5', a6', a7', a8', a9', a10', a11')) :
    wpX_write post (fc, hd, a1, a2, a3, a4, a5, a6, a7, a8, a9, a10, a11) (nI p) (nI k) v := by
  obtain ⟨hD, hN⟩ := hM
  have hA := hN.1
  have he : 5 * p + k / 4 < 20 := by omega
  have hcn := cw_cnt_le a2 c 20
  refine br_f (nI_pos (by omega)) (pk_lt 3 p (fun z => absurd z (by omega)) (fun _ => br_f (nI_pos (by omega)) (pk_le k 19 (fun _ => ⟨pk_in p 4 hp, br_c (fun z => ?_) (fun z => nm_r (e' := nI (5 * p + k / 4)) (by rw [cw_s2 (by omega), cw_5]) ⟨pk_in (5 * p + k / 4) 20 he, ?_⟩)⟩) (fun z => absurd z (by omega)))))
  · rw [nI_clamp (by omega)] at z
    exact absurd (hD p (k / 4) hp (by omega) z) (cw_n1' h2 (by omega))
  · rw [nI_clamp (show 5 * p + k / 4 < 2 ^ 31 by omega), h2, nI_clamp (show c < 2 ^ 31 by omega)]
    refine br_t (nI_pos' (by omega)) ⟨pk_in (5 * p + k / 4) 20 he, br_c (fun z3 => ⟨pk_in (5 * p + k / 4) 20 he, pk_in c 20 hc, ?_⟩) (fun z3 => ?_)⟩
    · refine pk_le (cw_cnt a2 c 20) 1 (fun z => ?_) (fun z => ?_) (hA.2.2.1 c hc)
      · refine cw_write87 hN he hk hc h2 (fun fc' hd' a5' a6' a7' a8' a9' a10' a11' hN' => ?_)
        have o := cw_own (V := V) (i := k % 4) (v := v) hA.1 hc h2 (fun e' he' q g => q (cw_cnt_one z he he' h2 g))
        exact H0 z3 _ a2 a4 _ _ _ _ _ _ _ _ _ ⟨hD, hN'⟩ (fun _ _ => Iff.rfl) o.1 (fun e' j he' _ q => o.2 e' j he' q)
      · refine cw_part hN he hc h2 z (fun V' c0 a4' fc' hd' a5' a6' a7' a8' a9' a10' a11' hc0 no hN' v1 v2 => ?_)
        refine cw_write87 hN' he hk hc0 pk_us (fun fc'' hd'' a5'' a6'' a7'' a8'' a9'' a10'' a11'' hN'' => ?_)
        have o := cw_own (V := V') (i := k % 4) (v := v) hN'.1.1 hc0 pk_us (fun e' he' q g => no e' he' (by rw [pk_un q] at g; exact g))
        refine H0 z3 _ _ a4' _ _ _ _ _ _ _ _ _ ⟨cw_D_upd hD hc h2, hN''⟩ (fun e' _ => ?_) o.1 (fun e' j he' hj q => ?_)
        · by_cases q : e' = 5 * p + k / 4
          · rw [q, pk_us, h2]
            exact ⟨fun g => absurd g (nI_pos (by omega)), fun g => absurd g (nI_pos (by omega))⟩
          · rw [pk_un q]
        · rw [o.2 e' j he' q]
          by_cases qe : e' = 5 * p + k / 4
          · rw [qe, cw_v_s pk_us hc0, cw_v_s h2 hc]
            exact v1 j hj
          · rcases hA.1 e' he' with g | ⟨d, hd, g⟩
            · rw [cw_v_n g, cw_v_n (by rw [pk_un qe]; exact g)]
            · rw [cw_v_s g hd, cw_v_s (by rw [pk_un qe]; exact g) hd]
              exact v2 d j hd (fun z => no e' he' (by rw [← z]; exact g)) hj
    · exact cw_write87 hN he hk hc h2 (fun fc' hd' a5' a6' a7' a8' a9' a10' a11' hN' => H1 z3 _ _ _ _ _ _ _ _ _ ⟨hD, hN'⟩)
end
end
section
/-! the law's check of one store -/
section
variable {V : Nat → Nat → Int32} {p k c e : Nat} {v : Int32} {fc hd : Int32} {a1 a2 a3 a4 a5 a6 a7 a8 a9 a10 a11 : Nat → Int32}
theorem cw_w100 {post : Int32 → St2 → Prop} (hM : cw_M V fc hd a1 a2 a3 a4 a5 a6 a7 a8 a9 a10 a11) (hc : c < 20) (he : e < 20) (h2 : a2 e = nI c) (h3 : ¬ a3 e = 0) (hk : k < 20) (hv : V c (k % 4) = v)
    (H : ∀ fc' hd' a5' a6' a7' a8' a9' a10' a11', cw_M V fc' hd' a1 a2 a3 a4 a5' a6' a7' a8' a9' a10' a11' → post 1 (fc', hd', a1, a2, a3, a4, a5', a6', a7', a8', a9', a10', a11')) : ∃ fu, wL_written_100 post (nI k) v (nI (cw_cnt a2 c 20)) fu 0 0 fc hd a1 a2 a3 a4 a5 a6 a7 a8 a9 a10 a11 := by
  have hA := hM.2.1
  have hD := hM.1
  have hcn := cw_cnt_le a2 c 20
  refine pk_loop (σ := Nat × cw_Fr) (fun m i s => wL_written_100 post (nI k) v (nI (cw_cnt a2 c 20)) m (nI s.1) (nI i) s.2.1 s.2.2.1 a1 a2 a3 a4 s.2.2.2.1 s.2.2.2.2.1 s.2.2.2.2.2.1 s.2.2.2.2.2.2.1 s.2.2.2.2.2.2.2.1 s.2.2.2.2.2.2.2.2.1 s.2.2.2.2.2.2.2.2.2) (fun i s => cw_cnt a2 c i ≤ s.1 ∧ s.1 ≤ i ∧ cw_M V s.2.1 s.2.2.1 a1 a2 a3 a4 s.2.2.2.1 s.2.2.2.2.1 s.2.2.2.2.2.1 s.2.2.2.2.2.2.1 s.2.2.2.2.2.2.2.1 s.2.2.2.2.2.2.2.2.1 s.2.2.2.2.2.2.2.2.2) 20 0 (0, (fc, hd, a5, a6, a7, a8, a9, a10, a11)) (by omega) ⟨Nat.le_refl 0, Nat.le_refl 0, hM⟩ ?_ ?_
  · intro m s hs
    obtain ⟨s1, s2, s3⟩ := hs
    exact pk_le 20 20 (fun _ => pk_lt s.1 (cw_cnt a2 c 20) (fun z => absurd z (by omega)) (fun _ => H _ _ _ _ _ _ _ _ _ s3)) (fun z => absurd z (by omega))
  · intro m i s hi hs hw
    obtain ⟨s1, s2, s3⟩ := hs
    have ei : 5 * (i / 5) + i % 5 = i := by omega
    have cs : cw_cnt a2 c (i + 1) = cw_cnt a2 c i + (if a2 i = nI c then 1 else 0) := rfl
    have n0 : ¬ a2 i = nI c → cw_cnt a2 c (i + 1) ≤ s.1 := fun q => by
      rw [cs, if_neg q]
      exact s1
    have n1 : cw_cnt a2 c (i + 1) ≤ s.1 + 1 := by
      rw [cs]
      split <;> omega
    refine pk_le 20 i (fun z => absurd z (by omega)) (fun _ => ⟨by decide, by decide, ?_⟩)
    rw [cw_r5 (by omega), cw_d5 (by omega)]
    refine cw_isMapped hD (by omega) (by omega) (fun z => br_t rfl (nm_r (nI_1 i) (hw s ⟨n0 ?_, by omega, s3⟩))) (fun z => br_f (by decide) ⟨by decide, by decide, ?_⟩)
    · intro g
      rw [ei, g] at z
      exact nI_pos (by omega) z
    · obtain ⟨d, hd', g⟩ := cw_A_ge hA (show 5 * (i / 5) + i % 5 < 20 by omega) z
      refine cw_showing hD (by omega) (by omega) hd' g (fun r hr => br_c (fun z1 => ⟨by decide, by decide, ?_⟩) (fun z1 => nm_r (nI_1 i) (hw s ⟨n0 ?_, by omega, s3⟩)))
      · rw [cw_m3 (by omega), cw_4]
        refine cw_read s3 (by omega) (by omega) (fun fc' hd' a5' a6' a7' a8' a9' a10' a11' hM' => ?_)
        refine br_c (fun z2 => nm_r (nI_1 s.1) (nm_r (nI_1 i) (hw (s.1 + 1, (fc', hd', a5', a6', a7', a8', a9', a10', a11')) ⟨n1, (by omega), hM'⟩))) (fun z2 => nm_r (nI_1 i) (hw (s.1, (fc', hd', a5', a6', a7', a8', a9', a10', a11')) ⟨n0 (fun q => z2 ?_), (by omega), hM'⟩))
        rw [show 5 * (i / 5) + (4 * (i % 5) + k % 4) / 4 = i by omega, show (4 * (i % 5) + k % 4) % 4 = k % 4 by omega, cw_v_s q hc]
        exact hv
      · intro q
        rw [ei] at g hr
        have ed : d = c := cw_inj (g.symm.trans q)
        have e3 := hA.2.2.2 i e c (by omega) he hc q h2
        rcases hr with hr | hr
        · exact h3 (e3.symm.trans hr.1)
        · exact z1 (by rw [hr.2, ed]; exact hA.2.2.1 c hc)
theorem cw_written {post : Int32 → St2 → Prop} {x4 : Int32} (hM : cw_M V fc hd a1 a2 a3 a4 a5 a6 a7 a8 a9 a10 a11) (hp : p < 4) (hk : k < 20) (hc : c < 20) (h2 : a2 (5 * p + k / 4) = nI c)
    (ho : x4 = 0 ∧ ¬ a3 (5 * p + k / 4) = 0 ∨ x4 = 1 ∧ a3 (5 * p + k / 4) = 0)
    (H : ∀ V' a2' a4' fc' hd' a5' a6' a7' a8' a9' a10' a11', cw_M V' fc' hd' a1 a2' a3 a4' a5' a6' a7' a8' a9' a10' a11' → (∀ e', e' < 20 → (a2' e' < 0 ↔ a2 e' < 0)) → post 1 (fc', hd', a1, a2', a3, a4', a5', a6', a7', a8', a9', a10', a11')) :
    wpL_written post (fc, hd, a1, a2, a3, a4, a5, a6, a7, a8, a9, a10, a11) (nI p) (nI k) v x4 := by
  have hA := hM.2.1
  have he : 5 * p + k / 4 < 20 := by omega
  have hcn := cw_cnt_le a2 c 20
  have hcp : 0 < cw_cnt a2 c 20 := cw_cnt_pos he h2
  refine nm_r (cw_20 p k) (nm_r (cw_s2 (by omega)) ?_)
  refine cw_sum hM (by omega) (fun fc' hd' a5' a6' a7' a8' a9' a10' a11' hM' => ?_)
  refine cw_showing hM'.1 hp (by omega) hc h2 (fun r hr => ?_)
  rcases ho with ⟨rfl, h3⟩ | ⟨rfl, h3⟩
  · have er : r = nI (cw_cnt a2 c 20) := by
      rcases hr with hr | hr
      · exact absurd hr.1 h3
      · rw [hr.2]
        exact hA.2.2.1 c hc
    rw [er]
    refine pk_lt (cw_cnt a2 c 20) 1 (fun z => absurd z (by omega)) (fun _ => br_t rfl ?_)
    unfold wL_written_49
    refine cw_write hM' hp hk hc h2 (fun _ fc2 hd2 b5 b6 b7 b8 b9 b10 b11 hM2 => br_t rfl ?_) (fun z => absurd z h3)
    refine cw_read hM2 hp hk (fun fc3 hd3 c5 c6 c7 c8 c9 c10 c11 hM3 => br_t (by rw [cw_v_s h2 hc]; exact if_pos ⟨rfl, rfl⟩) (br_t rfl ?_))
    exact cw_w100 hM3 hc he h2 h3 hk (if_pos ⟨rfl, rfl⟩) (fun fc4 hd4 d5 d6 d7 d8 d9 d10 d11 hM4 => H _ _ _ _ _ _ _ _ _ _ _ _ hM4 (fun _ _ => Iff.rfl))
  · have er : r = 1 := by
      rcases hr with hr | hr
      · exact hr.2
      · exact absurd h3 hr.1
    rw [er]
    refine br_f (by decide) (br_f (by decide) (br_t rfl ?_))
    unfold wL_written_49
    refine cw_write hM' hp hk hc h2 (fun z => absurd h3 z) (fun _ V' a2' a4' fc2 hd2 b5 b6 b7 b8 b9 b10 b11 hM2 hm hv ho => br_t rfl ?_)
    refine cw_read hM2 hp hk (fun fc3 hd3 c5 c6 c7 c8 c9 c10 c11 hM3 => br_t hv (br_f (by decide) ?_))
    refine cw_sum hM3 (by omega) (fun fc4 hd4 d5 d6 d7 d8 d9 d10 d11 hM4 => br_t ?_ (H _ _ _ _ _ _ _ _ _ _ _ _ hM4 hm))
    exact cw_hs_eq (fun j hj q => ho _ _ (by omega) (by omega) (by omega))
end
end
section
/-! map, release, unmap, attach -/
theorem cw_D_live {a1 a2 : Nat → Int32} {p g : Nat} {x : Int32} (hD : cw_D a1 a2) (hg : g < 5) (h : ¬ a1 p = 0) : cw_D a1 (upd a2 (5 * p + g) x) := by
  intro p' g' hp' hg' z
  have q : 5 * p' + g' ≠ 5 * p + g := fun q => h (by rw [show p = p' by omega]; exact z)
  rw [pk_un q]
  exact hD p' g' hp' hg' z
theorem cw_D_neg {a1 a2 : Nat → Int32} {e : Nat} (hD : cw_D a1 a2) : cw_D a1 (upd a2 e (-1)) := by
  intro p' g' hp' hg' z
  by_cases q : 5 * p' + g' = e
  · rw [q, pk_us]
  · rw [pk_un q]
    exact hD p' g' hp' hg' z
theorem cw_L_up {a4 a5 : Nat → Int32} {c : Nat} {x : Int32} (h : cw_L a4 a5) (hx : ¬ x = 0) : cw_L (upd a4 c x) a5 := by
  intro d hd z
  by_cases q : d = c
  · rw [q, pk_us] at z
    exact absurd z hx
  · rw [pk_un q] at z
    exact h d hd z
theorem cw_L_neg {a4 a5 : Nat → Int32} {c : Nat} {x : Int32} (h : cw_L a4 a5) : cw_L (upd a4 c x) (upd a5 c (-1)) := by
  intro d hd z
  by_cases q : d = c
  · rw [q, pk_us]
  · rw [pk_un q] at z
    rw [pk_un q]
    exact h d hd z
section
variable {V : Nat → Nat → Int32} {p g q h c e : Nat} {x : Int32} {fc hd : Int32} {a1 a2 a3 a4 a5 a6 a7 a8 a9 a10 a11 : Nat → Int32}
theorem cw_map {post : Int32 → St2 → Prop} (hM : cw_M V fc hd a1 a2 a3 a4 a5 a6 a7 a8 a9 a10 a11) (hp : p < 4) (hg : g < 5) (hx : x = 0 ∨ x = 1) (H0 : ∀ r, r < 0 → post r (fc, hd, a1, a2, a3, a4, a5, a6, a7, a8, a9, a10, a11))
    (H1 : ∀ V' c a4' a5' a6', c < 20 → cw_M V' fc hd a1 (upd a2 (5 * p + g) (nI c)) (upd a3 (5 * p + g) x) a4' a5' a6' a7 a8 a9 a10 a11 → post (nI g) (fc, hd, a1, (upd a2 (5 * p + g) (nI c)), (upd a3 (5 * p + g) x), a4', a5', a6', a7, a8, a9, a10, a11)) :
    wpX_map post (fc, hd, a1, a2, a3, a4, a5, a6, a7, a8, a9, a10, a11) (nI p) (nI g) x := by
  obtain ⟨hD, hA, hL, n, hh, efc, ehd, hhn, hB⟩ := hM
  have he : 5 * p + g < 20 := by omega
  unfold wpX_map
  refine cw_check hp hg (fun z => br_f (by decide) (H0 _ (by decide))) (fun zl => br_t rfl (nm_r (cw_5 p g) ⟨pk_in (5 * p + g) 20 he, ?_⟩))
  rw [nI_clamp (by omega)]
  refine br_c (fun z => ?_) (fun z => H0 _ (by decide))
  have e2 := cw_A_lt hA he z
  refine cw_nc2 ?_ (fun c hc z4 => ?_)
  · obtain ⟨c, hc, hz⟩ := cw_free1 he e2
    refine ⟨c, hc, ?_⟩
    rw [hA.2.2.1 c hc, hz]
    rfl
  have y0 : cw_cnt a2 c 20 = 0 := by
    have h1 := hA.2.2.1 c hc
    have h3 := cw_cnt_le a2 c 20
    rw [z4] at h1
    exact cw_inj (h1.symm.trans nI_0.symm)
  refine ⟨pk_in (5 * p + g) 20 he, nm_r (e' := upd a2 (5 * p + g) (nI c)) (by rw [cw_b8 c (by omega)]) ⟨pk_in (5 * p + g) 20 he, nm_r (e' := upd a3 (5 * p + g) x) (by rw [cw_bool hx]) ?_⟩⟩
  have hA2 := cw_A_add hA he hc e2 hx (fun e' he' g => absurd g (cw_cnt0 y0 he'))
  rw [y0] at hA2
  exact H1 (fun d i => if d = c then 0 else V d i) c _ _ _ hc ⟨cw_D_live hD hg zl, hA2, cw_L_neg hL, n, hh, efc, ehd, hhn, cw_B_new hB hc (hL c hc z4) (fun i _ => if_pos rfl) (fun d i _ q _ => if_neg q)⟩
theorem cw_release {post : St2 → Prop} (hN : cw_N V fc hd a2 a3 a4 a5 a6 a7 a8 a9 a11) (he : e < 20) (hc : c < 20) (h2 : a2 e = nI c)
    (H : ∀ V' a4' a5' a8', cw_N V' fc hd (upd a2 e (-1)) a3 a4' a5' a6 a7 a8' a9 a11 → post (fc, hd, a1, (upd a2 e (-1)), a3, a4', a5', a6, a7, a8', a9, a10, a11)) : wpX_release post (fc, hd, a1, a2, a3, a4, a5, a6, a7, a8, a9, a10, a11) (nI e) := by
  obtain ⟨hA, hL, n, hh, efc, ehd, hhn, hB⟩ := hN
  have hcn := cw_cnt_le a2 c 20
  have hcp : 0 < cw_cnt a2 c 20 := cw_cnt_pos he h2
  have hn := cw_B_n hB
  have hS := cw_A_sub hA he hc h2
  refine ⟨pk_in e 20 he, nm_r (e' := nI c) (by rw [nI_clamp (by omega)]; exact h2) ⟨pk_in e 20 he, nm_r (e' := upd a2 e (-1)) (by rw [nI_clamp (by omega)]) ⟨pk_in c 20 hc, pk_in c 20 hc, nm_r (e' := upd a4 c (nI (cw_cnt a2 c 20 - 1))) (by rw [nI_clamp (by omega), hA.2.2.1 c hc, cw_dn (by omega) (by omega)]) ⟨pk_in c 20 hc, ?_⟩⟩⟩⟩
  rw [nI_clamp (by omega), pk_us]
  refine pk_lt 0 (cw_cnt a2 c 20 - 1) (fun z => ?_) (fun z => ⟨pk_in c 20 hc, ?_⟩)
  · exact H V _ _ _ ⟨hS, cw_L_up hL (nI_ne0 (by omega) (by omega)), n, hh, efc, ehd, hhn, hB⟩
  · rcases hB.2.1 c hc with z5 | ⟨f, hf, z5, _⟩
    · rw [z5]
      refine br_f cw_n0 (H V _ _ _ ⟨hS, ?_, n, hh, efc, ehd, hhn, hB⟩)
      have hL2 := cw_L_neg (c := c) (x := nI (cw_cnt a2 c 20 - 1)) hL
      rw [← z5, cw_updS] at hL2
      exact hL2
    · rw [z5, nI_clamp (by omega)]
      refine br_t (nI_pos' (by omega)) ⟨pk_in c 20 hc, pk_in f 6 (by omega), nm_e ⟨pk_in c 20 hc, nm_e ?_⟩⟩
      refine H (fun d i => if d = c then cw_sv a6 a7 c i else V d i) _ _ _ ⟨hS, cw_L_neg hL, n, hh, efc, ehd, hhn, ?_⟩
      exact cw_B_take hB hc hf z5 (fun i _ => if_pos rfl) (fun d i _ q _ => ⟨if_neg q, rfl⟩)
theorem cw_unmap {post : Int32 → St2 → Prop} (hM : cw_M V fc hd a1 a2 a3 a4 a5 a6 a7 a8 a9 a10 a11) (hp : p < 4) (hg : g < 5) (H0 : ∀ r, post r (fc, hd, a1, a2, a3, a4, a5, a6, a7, a8, a9, a10, a11))
    (H1 : ∀ r V' a4' a5' a8', cw_M V' fc hd a1 (upd a2 (5 * p + g) (-1)) a3 a4' a5' a6 a7 a8' a9 a10 a11 → post r (fc, hd, a1, (upd a2 (5 * p + g) (-1)), a3, a4', a5', a6, a7, a8', a9, a10, a11)) :
    wpX_unmap post (fc, hd, a1, a2, a3, a4, a5, a6, a7, a8, a9, a10, a11) (nI p) (nI g) := by
  obtain ⟨hD, hN⟩ := hM
  have he : 5 * p + g < 20 := by omega
  unfold wpX_unmap
  refine cw_check hp hg (fun z => br_f (by decide) (H0 _)) (fun zl => br_t rfl (nm_r (cw_5 p g) ⟨pk_in (5 * p + g) 20 he, ?_⟩))
  rw [nI_clamp (by omega)]
  rcases hN.1.1 _ he with z | ⟨c, hc, z⟩
  · exact br_f (by rw [z]; exact cw_n0) (H0 _)
  · refine br_t (by rw [z]; exact nI_pos' (by omega)) ?_
    exact cw_release hN he hc z (fun V' a4' a5' a8' hN' => H1 _ V' a4' a5' a8' ⟨cw_D_neg hD, hN'⟩)
theorem cw_attach {post : Int32 → St2 → Prop} (hM : cw_M V fc hd a1 a2 a3 a4 a5 a6 a7 a8 a9 a10 a11) (hp : p < 4) (hg : g < 5) (hq : q < 4) (hh : h < 5) (H0 : ∀ r, r < 0 → post r (fc, hd, a1, a2, a3, a4, a5, a6, a7, a8, a9, a10, a11))
    (H1 : ∀ c a4', c < 20 → cw_M V fc hd a1 (upd a2 (5 * p + g) (nI c)) (upd a3 (5 * p + g) 1) a4' a5 a6 a7 a8 a9 a10 a11 → post (nI g) (fc, hd, a1, (upd a2 (5 * p + g) (nI c)), (upd a3 (5 * p + g) 1), a4', a5, a6, a7, a8, a9, a10, a11)) :
    wpX_attach post (fc, hd, a1, a2, a3, a4, a5, a6, a7, a8, a9, a10, a11) (nI (8 * p + g)) (nI (8 * q + h)) := by
  obtain ⟨hD, hA, hL, hF⟩ := hM
  have he : 5 * p + g < 20 := by omega
  have hs : 5 * q + h < 20 := by omega
  have e7 : nI (8 * p + g) &&& 7 = nI g := by rw [cw_m7 (by omega), show (8 * p + g) % 8 = g by omega]
  have e8 : nI (8 * q + h) &&& 7 = nI h := by rw [cw_m7 (by omega), show (8 * q + h) % 8 = h by omega]
  refine br_f (nI_pos (by omega)) (br_t (nI_pos' (by omega)) (nm_r (e' := nI p) (by rw [cw_s3 (by omega), show (8 * p + g) / 8 = p by omega]) (nm_r (e' := nI q) (by rw [cw_s3 (by omega), show (8 * q + h) / 8 = q by omega]) ?_)))
  rw [e7, e8]
  refine pk_lt 3 p (fun z => absurd z (by omega)) (fun _ => pk_lt 3 q (fun z => absurd z (by omega)) (fun _ => pk_lt 4 g (fun z => absurd z (by omega)) (fun _ => pk_le h 4 (fun _ => ⟨pk_in p 4 hp, ?_⟩) (fun z => absurd z (by omega)))))
  refine br_c (fun z => H0 _ (by decide)) (fun zl => ⟨pk_in q 4 hq, br_c (fun z => H0 _ (by decide)) (fun _ => nm_r (cw_5 p g) (nm_r (cw_5 q h) ⟨pk_in (5 * p + g) 20 he, ?_⟩))⟩)
  rw [nI_clamp (by omega)] at zl
  rw [nI_clamp (show 5 * p + g < 2 ^ 31 by omega), nI_clamp (show 5 * q + h < 2 ^ 31 by omega)]
  refine br_c (fun z => ⟨pk_in (5 * q + h) 20 hs, br_c (fun z => H0 _ (by decide)) (fun z2 => ⟨pk_in (5 * q + h) 20 hs, br_c (fun z => H0 _ (by decide)) (fun z3 => ?_)⟩)⟩) (fun z => H0 _ (by decide))
  have e2 := cw_A_lt hA he z
  obtain ⟨c, hc, es⟩ := cw_A_ge hA hs z2
  have s3 : a3 (5 * q + h) = 1 := by
    rcases hA.2.1 _ hs with t | t
    · exact absurd t z3
    · exact t
  have hcn := cw_cnt_le a2 c 20
  have hcs : cw_cnt a2 c 20 < 20 := by
    rcases Nat.lt_or_ge (cw_cnt a2 c 20) 20 with t | t
    · exact t
    · have u := cw_cnt_upd a2 c (nI c) he
      rw [e2, if_neg (fun z : (-1 : Int32) = nI c => cw_n1 (show c < 2 ^ 31 by omega) z.symm), if_pos rfl] at u
      have := cw_cnt_le (upd a2 (5 * p + g) (nI c)) c 20
      omega
  refine ⟨pk_in (5 * q + h) 20 hs, pk_in (5 * p + g) 20 he, nm_r (e' := upd a2 (5 * p + g) (nI c)) (by rw [es, vp_nar_byte, cw_b8 c (by omega)]) ?_⟩
  rw [pk_us]
  refine ⟨pk_in (5 * p + g) 20 he, pk_in c 20 hc, pk_in c 20 hc, nm_r (e' := upd a4 c (nI (cw_cnt a2 c 20 + 1))) (by rw [nI_clamp (by omega), hA.2.2.1 c hc, cw_up (by omega)]) ⟨pk_in (5 * p + g) 20 he, nm_e ?_⟩⟩
  refine H1 c _ hc ⟨cw_D_live hD hg zl, cw_A_add hA he hc e2 (Or.inr rfl) (fun e' he' t => ?_), cw_L_up hL (nI_ne0 (by omega) (by omega)), hF⟩
  rw [hA.2.2.2 e' (5 * q + h) c he' hs hc t es]
  exact s3
end
end
section
/-! fork, exit, the constructor -/
section
variable {V : Nat → Nat → Int32} {p q : Nat} {fc hd : Int32} {a1 a2 a3 a4 a5 a6 a7 a8 a9 a10 a11 : Nat → Int32}
theorem cw_fork {post : Int32 → St2 → Prop} (hM : cw_M V fc hd a1 a2 a3 a4 a5 a6 a7 a8 a9 a10 a11) (hp : p < 4) (hq : q < 4) (H0 : ∀ r, r < 0 → post r (fc, hd, a1, a2, a3, a4, a5, a6, a7, a8, a9, a10, a11))
    (H1 : ∀ m a2' a3' a4', m < 6 → p ≠ q → cw_M V fc hd (upd a1 q 1) a2' a3' a4' a5 a6 a7 a8 a9 a10 a11 → (∀ g, g < 5 → a2' (5 * q + g) = a2 (5 * p + g) ∧ a3' (5 * q + g) = a3 (5 * p + g)) →
      (∀ e, e < 5 * q ∨ 5 * q + 5 ≤ e → a2' e = a2 e ∧ a3' e = a3 e) → post (nI m) (fc, hd, (upd a1 q 1), a2', a3', a4', a5, a6, a7, a8, a9, a10, a11)) :
    wpX_fork post (fc, hd, a1, a2, a3, a4, a5, a6, a7, a8, a9, a10, a11) (nI p) (nI q) := by
  obtain ⟨hD, hA, hL, hF⟩ := hM
  refine br_f (nI_pos (by omega)) (pk_lt 3 p (fun z => absurd z (by omega)) (fun _ => br_f (nI_pos (by omega)) (pk_le q 3 (fun _ => ⟨pk_in p 4 hp, br_c (fun z => H0 _ (by decide)) (fun zp => ⟨pk_in q 4 hq, br_c (fun zq => ⟨pk_in q 4 hq, nm_r (e' := upd a1 q 1) (by rw [nI_clamp (by omega)]) ?_⟩) (fun z => H0 _ (by decide))⟩)⟩) (fun z => absurd z (by omega)))))
  rw [nI_clamp (by omega)] at zp zq
  have pq : p ≠ q := fun t => zp (by rw [t]; exact zq)
  refine pk_loop (σ := Nat × (Nat → Int32) × (Nat → Int32) × (Nat → Int32)) (fun m i s => wX_fork_56 post (nI p) (nI q) fc hd m (nI s.1) (nI i) (upd a1 q 1) s.2.1 s.2.2.1 s.2.2.2 a5 a6 a7 a8 a9 a10 a11)
    (fun i s => s.1 ≤ i ∧ cw_A s.2.1 s.2.2.1 s.2.2.2 ∧ cw_L s.2.2.2 a5 ∧ (∀ g, g < i → s.2.1 (5 * q + g) = a2 (5 * p + g) ∧ s.2.2.1 (5 * q + g) = a3 (5 * p + g)) ∧ (∀ e, e < 5 * q ∨ 5 * q + i ≤ e → s.2.1 e = a2 e ∧ s.2.2.1 e = a3 e))
    5 0 (0, a2, a3, a4) (by omega) ⟨Nat.le_refl 0, hA, hL, fun g hg => absurd hg (by omega), fun e _ => ⟨rfl, rfl⟩⟩ ?_ ?_
  · intro m s hs
    obtain ⟨s1, s2, s3, s4, s5⟩ := hs
    refine pk_le 5 5 (fun _ => ?_) (fun z => absurd z (by omega))
    refine H1 s.1 _ _ _ (by omega) pq ⟨fun p' g hp' hg z => ?_, s2, s3, hF⟩ s4 s5
    have t : p' ≠ q := fun t => by
      rw [t, pk_us] at z
      exact absurd z (by decide)
    rw [pk_un t] at z
    rw [(s5 (5 * p' + g) (by omega)).1]
    exact hD p' g hp' hg z
  · intro m i s hi hs hw
    obtain ⟨s1, s2, s3, s4, s5⟩ := hs
    obtain ⟨b0, b2, b3, b4⟩ := s
    dsimp only at s1 s2 s3 s4 s5
    have ht : 5 * q + i < 20 := by omega
    have hs' : 5 * p + i < 20 := by omega
    have et : b2 (5 * q + i) = -1 := by
      rw [(s5 (5 * q + i) (by omega)).1]
      exact hD q i hq hi zq
    have es := s5 (5 * p + i) (by omega)
    have st : ∀ x y, x = a2 (5 * p + i) → y = a3 (5 * p + i) → (∀ g, g < i + 1 → upd b2 (5 * q + i) x (5 * q + g) = a2 (5 * p + g) ∧ upd b3 (5 * q + i) y (5 * q + g) = a3 (5 * p + g)) ∧
        (∀ e, e < 5 * q ∨ 5 * q + (i + 1) ≤ e → upd b2 (5 * q + i) x e = a2 e ∧ upd b3 (5 * q + i) y e = a3 e) := by
      intro x y hx hy
      refine ⟨fun g hg => ?_, fun e he => ?_⟩
      · by_cases t : g = i
        · rw [t, pk_us, pk_us]
          exact ⟨hx, hy⟩
        · rw [pk_un (by omega), pk_un (by omega)]
          exact s4 g (by omega)
      · rw [pk_un (by omega), pk_un (by omega)]
        exact s5 e (by omega)
    show wX_fork_56 post (nI p) (nI q) fc hd (m + 1) (nI b0) (nI i) (upd a1 q 1) b2 b3 b4 a5 a6 a7 a8 a9 a10 a11
    refine pk_le 5 i (fun z => absurd z (by omega)) (fun _ => nm_r (cw_5 p i) (nm_r (cw_5 q i) ⟨pk_in (5 * p + i) 20 hs', pk_in (5 * q + i) 20 ht, ?_⟩))
    rw [nI_clamp (show 5 * p + i < 2 ^ 31 by omega), nI_clamp (show 5 * q + i < 2 ^ 31 by omega)]
    rcases hA.1 _ hs' with z | ⟨c, hc, z⟩
    · refine nm_r (e' := upd b2 (5 * q + i) (-1)) (by rw [es.1, z]; rfl) ⟨pk_in (5 * p + i) 20 hs', pk_in (5 * q + i) 20 ht, nm_r (e' := upd b3 (5 * q + i) (a3 (5 * p + i))) (by rw [es.2, cw_bool (hA.2.1 _ hs')]) ⟨pk_in (5 * p + i) 20 hs', ?_⟩⟩
      have w := st (-1) _ z.symm rfl
      refine br_f (by rw [pk_un (by omega), es.1, z]; exact cw_n0) (nm_r (nI_1 i) (hw (b0, upd b2 (5 * q + i) (-1), upd b3 (5 * q + i) (a3 (5 * p + i)), b4) ⟨Nat.le_succ_of_le s1, ?_, s3, w.1, w.2⟩))
      show cw_A (upd b2 (5 * q + i) (-1)) (upd b3 (5 * q + i) (a3 (5 * p + i))) b4
      rw [← et, cw_updS]
      exact cw_A_kind s2 ht et (hA.2.1 _ hs')
    · have hcn := cw_cnt_le b2 c 20
      have hcs : cw_cnt b2 c 20 < 20 := by
        rcases Nat.lt_or_ge (cw_cnt b2 c 20) 20 with t | t
        · exact t
        · have u := cw_cnt_upd b2 c (nI c) ht
          rw [et, if_neg (fun z : (-1 : Int32) = nI c => cw_n1 (show c < 2 ^ 31 by omega) z.symm), if_pos rfl] at u
          have := cw_cnt_le (upd b2 (5 * q + i) (nI c)) c 20
          omega
      refine nm_r (e' := upd b2 (5 * q + i) (nI c)) (by rw [es.1, z, vp_nar_byte, cw_b8 c (by omega)]) ⟨pk_in (5 * p + i) 20 hs', pk_in (5 * q + i) 20 ht, nm_r (e' := upd b3 (5 * q + i) (a3 (5 * p + i))) (by rw [es.2, cw_bool (hA.2.1 _ hs')]) ⟨pk_in (5 * p + i) 20 hs', ?_⟩⟩
      have w := st (nI c) _ z.symm rfl
      rw [pk_un (show 5 * p + i ≠ 5 * q + i by omega), es.1, z]
      refine br_t (nI_pos' (by omega)) ⟨pk_in (5 * p + i) 20 hs', pk_in c 20 hc, pk_in c 20 hc, nm_r (e' := upd b4 c (nI (cw_cnt b2 c 20 + 1))) (by rw [nI_clamp (by omega), s2.2.2.1 c hc, cw_up (by omega)]) (nm_r (nI_1 b0) (nm_r (nI_1 i) (hw (b0 + 1, upd b2 (5 * q + i) (nI c), upd b3 (5 * q + i) (a3 (5 * p + i)), upd b4 c (nI (cw_cnt b2 c 20 + 1))) ⟨Nat.succ_le_succ s1, ?_, cw_L_up s3 (nI_ne0 (by omega) (by omega)), w.1, w.2⟩)))⟩
      refine cw_A_add s2 ht hc et (hA.2.1 _ hs') (fun e' he' t => ?_)
      rw [s2.2.2.2 e' (5 * p + i) c he' hs' hc t (es.1.trans z)]
      exact es.2
theorem cw_exit {post : Int32 → St2 → Prop} (hM : cw_M V fc hd a1 a2 a3 a4 a5 a6 a7 a8 a9 a10 a11) (hp : p < 4) (H0 : ∀ r, post r (fc, hd, a1, a2, a3, a4, a5, a6, a7, a8, a9, a10, a11))
    (H1 : ∀ r V' a2' a4' a5' a8', cw_M V' fc hd (upd a1 p 0) a2' a3 a4' a5' a6 a7 a8' a9 a10 a11 → (∀ e, a2' e = a2 e ∨ a2' e = -1) → post r (fc, hd, (upd a1 p 0), a2', a3, a4', a5', a6, a7, a8', a9, a10, a11)) :
    wpX_exit post (fc, hd, a1, a2, a3, a4, a5, a6, a7, a8, a9, a10, a11) (nI p) := by
  obtain ⟨hD, hN⟩ := hM
  refine br_f (nI_pos (by omega)) (pk_le p 3 (fun _ => ⟨pk_in p 4 hp, br_c (fun z => H0 _) (fun zp => ⟨pk_in p 4 hp, nm_r (e' := upd a1 p 0) (by rw [nI_clamp (by omega)]) (nm_r (e' := nI (5 * p + 0)) (cw_50 p) ?_)⟩)⟩) (fun z => absurd z (by omega)))
  refine pk_loop (σ := Int32 × (Nat → Int32) × (Nat → Int32) × (Nat → Int32) × (Nat → Int32)) (fun m i s => wX_exit_36 post (nI p) m s.1 (nI (5 * p + i)) fc hd (upd a1 p 0) s.2.1 a3 s.2.2.1 s.2.2.2.1 a6 a7 s.2.2.2.2 a9 a10 a11)
    (fun i s => (∃ V', cw_N V' fc hd s.2.1 a3 s.2.2.1 s.2.2.2.1 a6 a7 s.2.2.2.2 a9 a11) ∧ (∀ g, g < i → s.2.1 (5 * p + g) = -1) ∧ (∀ e, s.2.1 e = a2 e ∨ s.2.1 e = -1))
    5 0 (0, a2, a4, a5, a8) (by omega) ⟨⟨V, hN⟩, fun g hg => absurd hg (by omega), fun e => Or.inl rfl⟩ ?_ ?_
  · intro m s hs
    obtain ⟨⟨V', s1⟩, s2, s3⟩ := hs
    refine pk_le (5 * p + 5) (5 * p + 5) (fun _ => ?_) (fun z => absurd z (by omega)) (cw_5 p 5)
    refine H1 _ V' _ _ _ _ ⟨fun p' g hp' hg z => ?_, s1⟩ s3
    by_cases t : p' = p
    · rw [t]
      exact s2 g hg
    · rw [pk_un t] at z
      rcases s3 (5 * p' + g) with u | u
      · rw [u]
        exact hD p' g hp' hg z
      · exact u
  · intro m i s hi hs hw
    obtain ⟨⟨V', s1⟩, s2, s3⟩ := hs
    obtain ⟨b0, b2, b4, b5, b8⟩ := s
    dsimp only at s1 s2 s3
    have he : 5 * p + i < 20 := by omega
    show wX_exit_36 post (nI p) (m + 1) b0 (nI (5 * p + i)) fc hd (upd a1 p 0) b2 a3 b4 b5 a6 a7 b8 a9 a10 a11
    refine pk_le (5 * p + 5) (5 * p + i) (fun z => absurd z (by omega)) (fun _ => ⟨pk_in (5 * p + i) 20 he, ?_⟩) (cw_5 p 5)
    rw [nI_clamp (by omega)]
    rcases s1.1.1 _ he with z | ⟨c, hc, z⟩
    · refine br_f (by rw [z]; exact cw_n0) (nm_r (nI_1 (5 * p + i)) (hw (b0, b2, b4, b5, b8) ⟨⟨V', s1⟩, fun g hg => ?_, s3⟩))
      by_cases t : g = i
      · rw [t]
        exact z
      · exact s2 g (by omega)
    · refine br_t (by rw [z]; exact nI_pos' (by omega)) ?_
      refine cw_release s1 he hc z (fun V2 c4 c5 c8 hN' => nm_e (nm_r (nI_1 (5 * p + i)) (hw (b0 + 1, upd b2 (5 * p + i) (-1), c4, c5, c8) ⟨⟨V2, hN'⟩, fun g hg => ?_, fun e => ?_⟩)))
      · show upd b2 (5 * p + i) (-1) (5 * p + g) = -1
        by_cases t : g = i
        · rw [t, pk_us]
        · rw [pk_un (by omega)]
          exact s2 g (by omega)
      · show upd b2 (5 * p + i) (-1) e = a2 e ∨ upd b2 (5 * p + i) (-1) e = -1
        by_cases t : e = 5 * p + i
        · rw [t, pk_us]
          exact Or.inr rfl
        · rw [pk_un t]
          exact s3 e
end
theorem cw_cnt_none {a : Nat → Int32} {c k : Nat} (h : ∀ e, e < k → ¬ a e = nI c) : cw_cnt a c k = 0 := by
  induction k with
  | zero => rfl
  | succ k ih =>
    show cw_cnt a c k + (if a k = nI c then 1 else 0) = 0
    rw [ih (fun e he => h e (by omega)), if_neg (h k (by omega))]
theorem cw_init113 {post : St2 → Prop} {mc ms kc ks n : Nat} {y : Int32} (hn : 2 ≤ n) (hn' : n ≤ 6)
    (H : ∀ fc hd a1 a2 a3 a4 a5 a6 a7 a8 a9 a10 a11, cw_M (fun _ _ => 0) fc hd a1 a2 a3 a4 a5 a6 a7 a8 a9 a10 a11 → (∀ e, e < 20 → a2 e = -1) → post (fc, hd, a1, a2, a3, a4, a5, a6, a7, a8, a9, a10, a11)) :
    wX_init_113 post mc ms (nI n) kc ks y 0 (fun _ => 0) (fun _ => 0) (fun _ => 0) (fun _ => 0) (fun _ => 0) (fun _ => 0) (fun _ => 0) (fun _ => 0) (fun _ => 0) (fun _ => 0) (fun _ => 0) := by
  refine nm_e ?_
  refine pk_loop (σ := (Nat → Int32) × (Nat → Int32)) (fun m i s => wX_init_125 post mc ms kc ks (nI n) 0 m (nI i) (upd (fun _ => 0) 0 1) s.1 (fun _ => 0) (fun _ => 0) s.2 (fun _ => 0) (fun _ => 0) (fun _ => 0) (fun _ => 0) (fun _ => 0) (fun _ => 0))
    (fun i s => ∀ j, j < i → s.1 j = -1 ∧ s.2 j = -1) 20 0 (fun _ => 0, fun _ => 0) (by omega) (fun j hj => absurd hj (by omega)) ?_ ?_
  · intro m s hs
    refine pk_le 20 20 (fun _ => ?_) (fun z => absurd z (by omega))
    refine pk_loop (fun m i t => wX_init_153 post mc ms kc ks (nI n) 0 m (nI i) (upd (fun _ => 0) 0 1) s.1 (fun _ => 0) (fun _ => 0) s.2 (fun _ => 0) (fun _ => 0) t (fun _ => 0) (fun _ => 0) (fun _ => 0))
      (fun i t => ∀ j, j < i → t j = -1) 6 0 (fun _ => 0) (by omega) (fun j hj => absurd hj (by omega)) ?_ ?_
    · intro m t ht
      refine pk_le 6 6 (fun _ => ?_) (fun z => absurd z (by omega))
      refine H _ _ _ _ _ _ _ _ _ _ _ _ _ ⟨fun p g hp hg _ => (hs _ (by omega)).1, ⟨fun e he => Or.inl (hs e he).1, fun e he => Or.inl rfl, fun c hc => ?_, fun e e' c he _ hc z _ => rfl⟩, fun c hc _ => (hs c hc).2, n, 0, rfl, rfl, by omega, ⟨by omega, hn'⟩, fun c hc => Or.inl (hs c hc).2, fun f hf => Or.inl (ht f (by omega)), fun c hc _ i hi => rfl, fun c f hc hf z => ?_, fun c f hc hf z => ?_⟩ (fun e he => (hs e he).1)
      · rw [cw_cnt_none (fun e he z => ?_)]
        · rfl
        · rw [(hs e he).1] at z
          exact cw_n1 (show c < 2 ^ 31 by omega) z.symm
      · rw [(hs c hc).2] at z
        exact absurd z.symm (cw_n1 (by omega))
      · rw [(hs c hc).2] at z
        exact absurd z.symm (cw_n1 (by omega))
    · intro m i t hi ht hw
      refine pk_le 6 i (fun z => absurd z (by omega)) (fun _ => ⟨pk_in i 6 hi, nm_r (e' := upd t i (-1)) (by rw [nI_clamp (by omega)]) (nm_r (nI_1 i) (hw _ (fun j hj => ?_)))⟩)
      by_cases q : j = i
      · rw [q, pk_us]
      · rw [pk_un q]
        exact ht j (by omega)
  · intro m i s hi hs hw
    refine pk_le 20 i (fun z => absurd z (by omega)) (fun _ => ⟨pk_in i 20 hi, nm_r (e' := upd s.1 i (-1)) (by rw [nI_clamp (by omega)]) ⟨pk_in i 20 hi, nm_r (e' := upd s.2 i (-1)) (by rw [nI_clamp (by omega)]) (nm_r (nI_1 i) (hw (upd s.1 i (-1), upd s.2 i (-1)) (fun j hj => ?_)))⟩⟩)
    show upd s.1 i (-1) j = -1 ∧ upd s.2 i (-1) j = -1
    by_cases q : j = i
    · rw [q, pk_us, pk_us]
      exact ⟨rfl, rfl⟩
    · rw [pk_un q, pk_un q]
      exact hs j (by omega)
theorem cw_init {post : St2 → Prop} (x : Int32)
    (H : ∀ fc hd a1 a2 a3 a4 a5 a6 a7 a8 a9 a10 a11, cw_M (fun _ _ => 0) fc hd a1 a2 a3 a4 a5 a6 a7 a8 a9 a10 a11 → (∀ e, e < 20 → a2 e = -1) → post (fc, hd, a1, a2, a3, a4, a5, a6, a7, a8, a9, a10, a11)) : wpX_init post 11 226 (0, 0) x := by
  refine ⟨by omega, by omega, by omega, by omega, by omega, by omega, by omega, by omega, by omega, by omega, by omega, by omega, by omega, by omega, by omega, by omega, by omega, by omega, by omega, by omega, by omega, by omega, br_c (fun z => br_c (fun z6 => ?_) (fun z6 => ?_)) (fun z => ?_)⟩
  · have h0 : ¬ x < 0 := fun t => by
      rw [Int32.lt_iff_toInt_lt] at t
      rw [Int32.le_iff_toInt_le] at z
      have : (2 : Int32).toInt = 2 := by decide
      have : (0 : Int32).toInt = 0 := by decide
      omega
    obtain ⟨j, hj, rfl⟩ := nI_of2 (M := 6) (n := 6) (by decide) h0 z6
    have hz : nI 2 ≤ nI j := z
    exact cw_init113 ((nI_leI (by omega) (by omega)).mp hz) hj H
  · exact cw_init113 (n := 6) (by omega) (by omega) H
  · exact cw_init113 (n := 2) (by omega) (by omega) H
end
section
/-! the law's turns -/
def cw_O (x : Int32) (a2 a3 : Nat → Int32) : Prop := ∀ e, e < 20 → ¬ a2 e < 0 → (cb_t x e = true ↔ a3 e = 0)
def cw_I (x : Int32) (fc hd : Int32) (a1 a2 a3 a4 a5 a6 a7 a8 a9 a10 a11 : Nat → Int32) : Prop := (∃ V, cw_M V fc hd a1 a2 a3 a4 a5 a6 a7 a8 a9 a10 a11) ∧ cw_O x a2 a3
theorem cw_O_set {x : Int32} {a2 a3 : Nat → Int32} {e : Nat} {y : Int32} (he : e < 20) (h : cw_O x a2 a3) : cw_O (x ||| ((1 : Int32) <<< (nI e &&& 31))) (upd a2 e y) (upd a3 e 0) := by
  intro e' he' z
  rw [cb_set (by omega) (by omega)]
  by_cases q : e' = e
  · rw [q, pk_us, decide_eq_true rfl, Bool.or_true]
    exact ⟨fun _ => rfl, fun _ => rfl⟩
  · rw [pk_un q] at z
    rw [pk_un q, decide_eq_false q, Bool.or_false]
    exact h e' he' z
theorem cw_O_clr {x : Int32} {a2 a3 : Nat → Int32} {e : Nat} {y : Int32} (he : e < 20) (h : cw_O x a2 a3) : cw_O (x &&& (((1 : Int32) <<< (nI e &&& 31)) ^^^ (-1))) (upd a2 e y) (upd a3 e 1) := by
  intro e' he' z
  rw [cb_clr (by omega) (by omega)]
  by_cases q : e' = e
  · rw [q, pk_us, decide_eq_true rfl, Bool.not_true, Bool.and_false]
    exact ⟨fun t => absurd t (by decide), fun t => absurd t (by decide)⟩
  · rw [pk_un q] at z
    rw [pk_un q, decide_eq_false q, Bool.not_false, Bool.and_true]
    exact h e' he' z
theorem cw_O_sub {x : Int32} {a2 a2' a3 : Nat → Int32} (h : cw_O x a2 a3) (hs : ∀ e, e < 20 → a2' e = a2 e ∨ a2' e = -1) : cw_O x a2' a3 := by
  intro e he z
  rcases hs e he with t | t
  · rw [t] at z
    exact h e he z
  · rw [t] at z
    exact absurd cw_neg z
theorem cw_O_iff {x : Int32} {a2 a2' a3 : Nat → Int32} (h : cw_O x a2 a3) (hs : ∀ e, e < 20 → (a2' e < 0 ↔ a2 e < 0)) : cw_O x a2' a3 :=
  fun e he z => h e he (fun t => z ((hs e he).mpr t))
theorem cw_O_fork {x : Int32} {a2 a2' a3 a3' : Nat → Int32} {p q : Nat} (hp : p < 4) (hq : q < 4) (h : cw_O x a2 a3) (h1 : ∀ g, g < 5 → a2' (5 * q + g) = a2 (5 * p + g) ∧ a3' (5 * q + g) = a3 (5 * p + g))
    (h2 : ∀ e, e < 5 * q ∨ 5 * q + 5 ≤ e → a2' e = a2 e ∧ a3' e = a3 e) :
    cw_O ((x &&& (((31 : Int32) <<< (nI (5 * q) &&& 31)) ^^^ (-1))) ||| (((x >>> (nI (5 * p) &&& 31)) &&& 31) <<< (nI (5 * q) &&& 31))) a2' a3' := by
  intro e he z
  rw [cb_fork hp hq he]
  by_cases g : 5 * q ≤ e ∧ e < 5 * q + 5
  · rw [if_pos g]
    have t := h1 (e - 5 * q) (by omega)
    rw [show 5 * q + (e - 5 * q) = e by omega] at t
    rw [t.1] at z
    rw [t.2]
    exact h _ (by omega) z
  · rw [if_neg g]
    have t := h2 e (by omega)
    rw [t.1] at z
    rw [t.2]
    exact h e he z
theorem cw_lc {L i : Nat} (hL : L ≤ 260) (hi : i < 1000) : (Int32.ofNat L - 4 < nI i) ↔ L < i + 4 := by
  have h : (nI L - nI 4).toInt = (L : Int) - (4 : Nat) := pk_sub_toInt (by omega) (by omega)
  show nI L - nI 4 < nI i ↔ _
  rw [Int32.lt_iff_toInt_lt, h, nI_toInt (by omega)]
  omega
section
variable {p g k q i L kc ks : Nat} {x2 v : Int32} {xs : Nat → Int32} {fc hd : Int32} {a1 a2 a3 a4 a5 a6 a7 a8 a9 a10 a11 : Nat → Int32}
variable {post : Int32 → Prop} {J : Int32 → Int32 → Int32 → Int32 → (Nat → Int32) → (Nat → Int32) → (Nat → Int32) → (Nat → Int32) → (Nat → Int32) → (Nat → Int32) → (Nat → Int32) → (Nat → Int32) → (Nat → Int32) → (Nat → Int32) → (Nat → Int32) → Prop}
theorem cw_t140 {z0 : Int32} (hI : cw_I x2 fc hd a1 a2 a3 a4 a5 a6 a7 a8 a9 a10 a11) (hp : p < 4) (hg : g < 5) (hz : z0 = 0 ∨ z0 = 1) (hJ : ∀ x fc hd a1 a2 a3 a4 a5 a6 a7 a8 a9 a10 a11, cw_I x fc hd a1 a2 a3 a4 a5 a6 a7 a8 a9 a10 a11 → J x (nI (i + 4)) fc hd a1 a2 a3 a4 a5 a6 a7 a8 a9 a10 a11) :
    wL_law_140 post L xs J x2 (nI i) (nI p) (nI g) ((1 : Int32) <<< (nI (5 * p + g) &&& 31)) z0 kc ks fc hd a1 a2 a3 a4 a5 a6 a7 a8 a9 a10 a11 := by
  obtain ⟨⟨V, hM⟩, hO⟩ := hI
  unfold wL_law_140
  refine cw_map hM hp hg hz (fun r hr => br_t hr (nm_r (nI_add i 4) (hJ _ _ _ _ _ _ _ _ _ _ _ _ _ _ ⟨⟨V, hM⟩, hO⟩))) (fun V' c a4' a5' a6' hc hM' => br_f (nI_pos (by omega)) ?_)
  rcases hz with rfl | rfl
  · exact br_t rfl (nm_e (nm_r (nI_add i 4) (hJ _ _ _ _ _ _ _ _ _ _ _ _ _ _ ⟨⟨V', hM'⟩, cw_O_set (by omega) hO⟩)))
  · exact br_f (by decide) (nm_e (nm_r (nI_add i 4) (hJ _ _ _ _ _ _ _ _ _ _ _ _ _ _ ⟨⟨V', hM'⟩, cw_O_clr (by omega) hO⟩)))
theorem cw_t128 (hI : cw_I x2 fc hd a1 a2 a3 a4 a5 a6 a7 a8 a9 a10 a11) (hp : p < 4) (hg : g < 5) (hJ : ∀ x fc hd a1 a2 a3 a4 a5 a6 a7 a8 a9 a10 a11, cw_I x fc hd a1 a2 a3 a4 a5 a6 a7 a8 a9 a10 a11 → J x (nI (i + 4)) fc hd a1 a2 a3 a4 a5 a6 a7 a8 a9 a10 a11) :
    wL_law_128 post L xs J x2 (nI i) (nI p) (nI g) ((1 : Int32) <<< (nI (5 * p + g) &&& 31)) v kc ks fc hd a1 a2 a3 a4 a5 a6 a7 a8 a9 a10 a11 := by
  unfold wL_law_128
  exact br_c (fun _ => cw_t140 hI hp hg (Or.inr rfl) hJ) (fun _ => cw_t140 hI hp hg (Or.inl rfl) hJ)
theorem cw_t383 {z0 : Int32} {c : Nat} (hI : cw_I x2 fc hd a1 a2 a3 a4 a5 a6 a7 a8 a9 a10 a11) (hp : p < 4) (hk : k < 20) (hc : c < 20) (h2 : a2 (5 * p + k / 4) = nI c)
    (ho : z0 = 0 ∧ ¬ a3 (5 * p + k / 4) = 0 ∨ z0 = 1 ∧ a3 (5 * p + k / 4) = 0) (hJ : ∀ x fc hd a1 a2 a3 a4 a5 a6 a7 a8 a9 a10 a11, cw_I x fc hd a1 a2 a3 a4 a5 a6 a7 a8 a9 a10 a11 → J x (nI (i + 4)) fc hd a1 a2 a3 a4 a5 a6 a7 a8 a9 a10 a11) :
    wL_law_383 post L xs J x2 (nI i) z0 v (nI k) (nI p) kc ks fc hd a1 a2 a3 a4 a5 a6 a7 a8 a9 a10 a11 := by
  obtain ⟨⟨V, hM⟩, hO⟩ := hI
  unfold wL_law_383
  exact cw_written hM hp hk hc h2 ho (fun V' a2' a4' fc' hd' a5' a6' a7' a8' a9' a10' a11' hM' hm => br_f (by decide) (nm_r (nI_add i 4) (hJ _ _ _ _ _ _ _ _ _ _ _ _ _ _ ⟨⟨V', hM'⟩, cw_O_iff hO hm⟩)))
/-- the two printed copies of the last case -/
theorem cw_tw (hI : cw_I x2 fc hd a1 a2 a3 a4 a5 a6 a7 a8 a9 a10 a11) (hp : p < 4) (hk : k < 20) (hJ : ∀ x fc hd a1 a2 a3 a4 a5 a6 a7 a8 a9 a10 a11, cw_I x fc hd a1 a2 a3 a4 a5 a6 a7 a8 a9 a10 a11 → J x (nI (i + 4)) fc hd a1 a2 a3 a4 a5 a6 a7 a8 a9 a10 a11) :
    wpX_isMapped (fun r => ((r = 0 → (∀ y : Int32, y = nI i + 4 → J x2 y fc hd a1 a2 a3 a4 a5 a6 a7 a8 a9 a10 a11)) ∧ (¬ r = 0 → (((x2 &&& ((1 : Int32) <<< (nI (5 * p + k / 4) &&& 31))) = 0 → wL_law_383 post L xs J x2 (nI i) 0 v (nI k) (nI p) kc ks fc hd a1 a2 a3 a4 a5 a6 a7 a8 a9 a10 a11) ∧ (¬ (x2 &&& ((1 : Int32) <<< (nI (5 * p + k / 4) &&& 31))) = 0 → wL_law_383 post L xs J x2 (nI i) 1 v (nI k) (nI p) kc ks fc hd a1 a2 a3 a4 a5 a6 a7 a8 a9 a10 a11))))) (fc, hd, a1, a2, a3, a4, a5, a6, a7, a8, a9, a10, a11) (nI p) (nI (k / 4)) := by
  have hI' := hI
  obtain ⟨⟨V, hM⟩, hO⟩ := hI
  have he : 5 * p + k / 4 < 20 := by omega
  refine cw_isMapped hM.1 hp (by omega) (fun _ => br_t rfl (nm_r (nI_add i 4) (hJ _ _ _ _ _ _ _ _ _ _ _ _ _ _ hI'))) (fun z => br_f (by decide) ?_)
  obtain ⟨c, hc, h2⟩ := cw_A_ge hM.2.1 he z
  have o := hO _ he z
  refine br_c (fun t => ?_) (fun t => ?_)
  · rw [cb_test (by omega)] at t
    rw [t] at o
    exact cw_t383 hI' hp hk hc h2 (Or.inl ⟨rfl, fun u => absurd (o.mpr u) (by decide)⟩) hJ
  · rw [cb_test (by omega), Bool.not_eq_false] at t
    exact cw_t383 hI' hp hk hc h2 (Or.inr ⟨rfl, o.mp t⟩) hJ
theorem cw_t249 {V : Nat → Nat → Int32} {y : Int32} (hM : cw_M V fc hd a1 a2 a3 a4 a5 a6 a7 a8 a9 a10 a11) (hp : p < 4) (hq : q < 4) (hc : ∀ g, g < 5 → a2 (5 * q + g) = a2 (5 * p + g))
    (hJ : ∀ fc' hd' a5' a6' a7' a8' a9' a10' a11', cw_M V fc' hd' a1 a2 a3 a4 a5' a6' a7' a8' a9' a10' a11' → J ((y &&& (((31 : Int32) <<< (nI (5 * q) &&& 31)) ^^^ (-1))) ||| (((y >>> (nI (5 * p) &&& 31)) &&& 31) <<< (nI (5 * q) &&& 31))) (nI (i + 4)) fc' hd' a1 a2 a3 a4 a5' a6' a7' a8' a9' a10' a11') :
    ∃ fu, wL_law_249 post L xs J y (nI i) (nI p) (nI q) kc ks fu 0 fc hd a1 a2 a3 a4 a5 a6 a7 a8 a9 a10 a11 := by
  refine pk_loop (σ := cw_Fr) (fun m j s => wL_law_249 post L xs J y (nI i) (nI p) (nI q) kc ks m (nI j) s.1 s.2.1 a1 a2 a3 a4 s.2.2.1 s.2.2.2.1 s.2.2.2.2.1 s.2.2.2.2.2.1 s.2.2.2.2.2.2.1 s.2.2.2.2.2.2.2.1 s.2.2.2.2.2.2.2.2) (fun _ s => cw_M V s.1 s.2.1 a1 a2 a3 a4 s.2.2.1 s.2.2.2.1 s.2.2.2.2.1 s.2.2.2.2.2.1 s.2.2.2.2.2.2.1 s.2.2.2.2.2.2.2.1 s.2.2.2.2.2.2.2.2) 20 0 (fc, hd, a5, a6, a7, a8, a9, a10, a11) (by omega) hM ?_ ?_
  · intro m s hs
    refine pk_le 20 20 (fun _ => ?_) (fun z => absurd z (by omega))
    rw [cw_50, cw_50]
    exact nm_e (nm_r (nI_add i 4) (hJ _ _ _ _ _ _ _ _ _ hs))
  · intro m j s hj hs hw
    refine pk_le 20 j (fun z => absurd z (by omega)) (fun _ => ?_)
    refine cw_read hs hp hj (fun fc' hd' a5' a6' a7' a8' a9' a10' a11' hM' => ?_)
    refine cw_read hM' hq hj (fun fc2 hd2 b5 b6 b7 b8 b9 b10 b11 hM2 => ?_)
    have e := hc (j / 4) (by omega)
    refine br_t (by unfold cw_v; rw [e]) ?_
    rw [cw_s2 (by omega)]
    refine cw_isMapped hM2.1 hp (by omega) (fun z1 => ?_) (fun z1 => ?_)
    · refine cw_isMapped hM2.1 hq (by omega) (fun z2 => br_t rfl (nm_r (nI_1 j) (hw (fc2, hd2, b5, b6, b7, b8, b9, b10, b11) hM2))) (fun z2 => ?_)
      rw [e] at z2
      exact absurd z1 z2
    · refine cw_isMapped hM2.1 hq (by omega) (fun z2 => ?_) (fun z2 => br_t rfl (nm_r (nI_1 j) (hw (fc2, hd2, b5, b6, b7, b8, b9, b10, b11) hM2)))
      rw [e] at z2
      exact absurd z2 z1
end
end
section
theorem cw_turn {post : Int32 → Prop} {L kc ks i m : Nat} {xs : Nat → Int32} {x2 : Int32} {fc hd : Int32} {a1 a2 a3 a4 a5 a6 a7 a8 a9 a10 a11 : Nat → Int32} (hL : L ≤ 260) (hi : i + 4 ≤ L) (hI : cw_I x2 fc hd a1 a2 a3 a4 a5 a6 a7 a8 a9 a10 a11)
    (hJ : ∀ x fc hd a1 a2 a3 a4 a5 a6 a7 a8 a9 a10 a11, cw_I x fc hd a1 a2 a3 a4 a5 a6 a7 a8 a9 a10 a11 → wL_law_17 post L xs kc ks m x (nI (i + 4)) fc hd a1 a2 a3 a4 a5 a6 a7 a8 a9 a10 a11) :
    wL_law_17 post L xs kc ks (m + 1) x2 (nI i) fc hd a1 a2 a3 a4 a5 a6 a7 a8 a9 a10 a11 := by
  obtain ⟨p, hp, ep⟩ := pk_andE (xs (nI i + 1).toNatClampNeg) (m := 3) 2 (by decide)
  obtain ⟨q, hq, eq⟩ := pk_andE (xs (nI i + 1).toNatClampNeg >>> ((2 : Int32) &&& 31)) (m := 3) 2 (by decide)
  obtain ⟨b, hb, eb⟩ := pk_andE (xs (nI i + 2).toNatClampNeg) (m := 255) 8 (by decide)
  obtain ⟨t, ht, et⟩ := pk_andE (xs (nI i).toNatClampNeg) (m := 7) 3 (by decide)
  have hk : b % 20 < 20 := by omega
  have hI' := hI
  obtain ⟨⟨V, hM⟩, hO⟩ := hI
  refine br_f (fun z => by rw [cw_lc hL (by omega)] at z; omega) ?_
  refine ⟨pk_in (i + 1) L (by omega) (nI_add i 1), nm_r ep ⟨pk_in (i + 1) L (by omega) (nI_add i 1), nm_r eq ⟨pk_in (i + 2) L (by omega) (nI_add i 2), by decide, nm_r (e' := nI (b % 20)) (by rw [eb, cw_r20 (by omega)]) (nm_r (e' := nI (b % 20 / 4)) (cw_s2 (by omega)) (nm_r (e' := (1 : Int32) <<< (nI (5 * p + b % 20 / 4) &&& 31)) (by rw [cw_5]) ⟨pk_in (i + 3) L (by omega) (nI_add i 3), nm_e ⟨pk_in i L (by omega), nm_r et ?_⟩⟩))⟩⟩⟩
  refine br_f (nI_pos (by omega)) (pk_lt 5 t (fun _ => ?_) (fun _ => ?_))
  · exact cw_tw hI' hp hk hJ
  refine pk_eq t 0 (fun _ => cw_t128 hI' hp (by omega) hJ) (fun _ => ?_)
  refine pk_eq t 1 (fun _ => cw_t128 hI' hp (by omega) hJ) (fun _ => ?_)
  refine pk_eq t 2 (fun _ => ?_) (fun _ => ?_)
  · refine br_c (fun _ => ?_) (fun _ => nm_r (nI_add i 4) (hJ _ _ _ _ _ _ _ _ _ _ _ _ _ _ hI'))
    refine cw_unmap hM hp (by omega) (fun r => nm_r (nI_add i 4) (hJ _ _ _ _ _ _ _ _ _ _ _ _ _ _ hI')) (fun r V' a4' a5' a8' hM' => nm_r (nI_add i 4) (hJ _ _ _ _ _ _ _ _ _ _ _ _ _ _ ⟨⟨V', hM'⟩, cw_O_sub hO (fun e he => ?_)⟩))
    by_cases w : e = 5 * p + b % 20 / 4
    · rw [w, pk_us]
      exact Or.inr rfl
    · rw [pk_un w]
      exact Or.inl rfl
  refine pk_eq t 3 (fun _ => ⟨by decide, ?_⟩) (fun _ => ?_)
  · obtain ⟨j, hj, ej⟩ := pk_andE (xs (nI i + 3).toNatClampNeg) (m := 255) 8 (by decide)
    rw [ej, cw_r5 (by omega), cw_8, cw_8]
    exact cw_attach hM hp (by omega) hq (by omega) (fun r hr => br_t hr (nm_r (nI_add i 4) (hJ _ _ _ _ _ _ _ _ _ _ _ _ _ _ hI'))) (fun c a4' hc hM' => br_f (nI_pos (by omega)) (nm_e (nm_r (nI_add i 4) (hJ _ _ _ _ _ _ _ _ _ _ _ _ _ _ ⟨⟨V, hM'⟩, cw_O_clr (by omega) hO⟩))))
  refine pk_eq t 4 (fun _ => ?_) (fun _ => ?_)
  · refine cw_fork hM hp hq (fun r hr => br_t hr (nm_r (nI_add i 4) (hJ _ _ _ _ _ _ _ _ _ _ _ _ _ _ hI'))) (fun r a2' a3' a4' hr pq hM' h1 h2 => br_f (nI_pos (by omega)) ?_)
    refine cw_t249 hM' hp hq (fun g hg => ?_) (fun fc' hd' a5' a6' a7' a8' a9' a10' a11' hM2 => hJ _ _ _ _ _ _ _ _ _ _ _ _ _ _ ⟨⟨V, hM2⟩, cw_O_fork hp hq hO h1 h2⟩)
    rw [(h1 g hg).1, (h2 (5 * p + g) (by omega)).1]
  refine pk_eq t 5 (fun _ => ?_) (fun _ => trivial)
  refine br_c (fun _ => ?_) (fun _ => nm_r (nI_add i 4) (hJ _ _ _ _ _ _ _ _ _ _ _ _ _ _ hI'))
  exact cw_exit hM hp (fun r => nm_r (nI_add i 4) (hJ _ _ _ _ _ _ _ _ _ _ _ _ _ _ hI')) (fun r V' a2' a4' a5' a8' hM' hs => nm_r (nI_add i 4) (hJ _ _ _ _ _ _ _ _ _ _ _ _ _ _ ⟨⟨V', hM'⟩, cw_O_sub hO (fun e _ => hs e)⟩))
theorem cw_loop {L kc ks : Nat} {xs : Nat → Int32} {fc hd : Int32} {a1 a2 a3 a4 a5 a6 a7 a8 a9 a10 a11 : Nat → Int32} (hL : L ≤ 260) (hI : cw_I 0 fc hd a1 a2 a3 a4 a5 a6 a7 a8 a9 a10 a11) :
    ∃ fu, wL_law_17 (fun r => r = 1) L xs kc ks fu 0 1 fc hd a1 a2 a3 a4 a5 a6 a7 a8 a9 a10 a11 := by
  refine pk_loop (σ := Int32 × St2) (fun m t s => wL_law_17 (fun r => r = 1) L xs kc ks m s.1 (nI (1 + 4 * t)) s.2.1 s.2.2.1 s.2.2.2.1 s.2.2.2.2.1 s.2.2.2.2.2.1 s.2.2.2.2.2.2.1 s.2.2.2.2.2.2.2.1 s.2.2.2.2.2.2.2.2.1 s.2.2.2.2.2.2.2.2.2.1 s.2.2.2.2.2.2.2.2.2.2.1 s.2.2.2.2.2.2.2.2.2.2.2.1 s.2.2.2.2.2.2.2.2.2.2.2.2.1 s.2.2.2.2.2.2.2.2.2.2.2.2.2) (fun _ s => cw_I s.1 s.2.1 s.2.2.1 s.2.2.2.1 s.2.2.2.2.1 s.2.2.2.2.2.1 s.2.2.2.2.2.2.1 s.2.2.2.2.2.2.2.1 s.2.2.2.2.2.2.2.2.1 s.2.2.2.2.2.2.2.2.2.1 s.2.2.2.2.2.2.2.2.2.2.1 s.2.2.2.2.2.2.2.2.2.2.2.1 s.2.2.2.2.2.2.2.2.2.2.2.2.1 s.2.2.2.2.2.2.2.2.2.2.2.2.2) ((L - 1) / 4) 0 (0, (fc, hd, a1, a2, a3, a4, a5, a6, a7, a8, a9, a10, a11)) (by omega) hI ?_ ?_
  · intro m s hs
    exact br_t ((cw_lc hL (by omega)).mpr (by omega)) rfl
  · intro m t s ht hs hw
    refine cw_turn hL (by omega) hs (fun x fc hd a1 a2 a3 a4 a5 a6 a7 a8 a9 a10 a11 h => ?_)
    exact hw (x, (fc, hd, a1, a2, a3, a4, a5, a6, a7, a8, a9, a10, a11)) h
theorem i_vc (xs : Nat → Int32) (L : Nat) (hL : L ≤ 260) : wpL_law (fun r => r = 1) L xs := by
  have key : ∀ x : Int32, ∃ mc ms : Nat, 1 + mc ≤ 12 ∧ 13 + ms ≤ 239 ∧ (wpX_init (fun u => match u with | (fc, hd, a1, a2, a3, a4, a5, a6, a7, a8, a9, a10, a11) => (∃ fu17 : Nat, wL_law_17 (fun r => r = 1) L xs (1 + mc) (13 + ms) fu17 0 1 fc hd a1 a2 a3 a4 a5 a6 a7 a8 a9 a10 a11)) mc ms (0, 0) x) := fun x =>
    ⟨11, 226, by omega, by omega, cw_init x (fun fc hd a1 a2 a3 a4 a5 a6 a7 a8 a9 a10 a11 hM h2 => cw_loop hL ⟨⟨_, hM⟩, fun e he z => absurd (by rw [h2 e he]; exact cw_neg) z⟩)⟩
  exact pk_le L 0 (fun _ => key 0) (fun z => ⟨pk_in 0 L z, key _⟩)
end
