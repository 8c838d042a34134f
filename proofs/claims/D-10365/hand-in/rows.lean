section
/-! ===== an Int32 by its bits (the first rows began as rows of laws/BITS.to-paste) ===== -/
def sm_bt (x : Int32) (i : Nat) : Bool := x.toBitVec.getLsbD i
theorem sm_bext {x y : Int32} (h : ∀ i, i < 32 → sm_bt x i = sm_bt y i) : x = y := Int32.toBitVec_inj.mp (BitVec.eq_of_getLsbD_eq (fun i hi => h i hi))
theorem sm_bor (x y : Int32) (i : Nat) : sm_bt (x ||| y) i = (sm_bt x i || sm_bt y i) := by unfold sm_bt; rw [Int32.toBitVec_or, BitVec.getLsbD_or]
theorem sm_band (x y : Int32) (i : Nat) : sm_bt (x &&& y) i = (sm_bt x i && sm_bt y i) := by unfold sm_bt; rw [Int32.toBitVec_and, BitVec.getLsbD_and]
theorem sm_bxor (x y : Int32) (i : Nat) : sm_bt (x ^^^ y) i = (sm_bt x i ^^ sm_bt y i) := by unfold sm_bt; rw [Int32.toBitVec_xor, BitVec.getLsbD_xor]
theorem sm_bbig {x : Int32} {i : Nat} (h : 32 ≤ i) : sm_bt x i = false := BitVec.getLsbD_of_ge _ _ h
theorem sm_b0 (i : Nat) : sm_bt 0 i = false := BitVec.getLsbD_zero
theorem sm_b1 (i : Nat) : sm_bt 1 i = decide (i = 0) := by
  rcases Nat.lt_or_ge i 32 with h | h
  · exact (by decide +kernel : ∀ i, i < 32 → sm_bt 1 i = decide (i = 0)) i h
  · rw [sm_bbig h, decide_eq_false (by omega)]
theorem sm_b255 (i : Nat) : sm_bt 255 i = decide (i < 8) := by
  rcases Nat.lt_or_ge i 32 with h | h
  · exact (by decide +kernel : ∀ i, i < 32 → sm_bt 255 i = decide (i < 8)) i h
  · rw [sm_bbig h, decide_eq_false (by omega)]
theorem sm_sl : ∀ n, n < 32 → ((nI n &&& 31).toBitVec.smod 32).toNat = n := by decide +kernel
theorem sm_bshl (n : Nat) (hn : n < 32) (x : Int32) {i : Nat} (hi : i < 32) : sm_bt (x <<< (nI n &&& 31)) i = (decide (n ≤ i) && sm_bt x (i - n)) := by
  unfold sm_bt
  rw [Int32.toBitVec_shiftLeft]
  show (x.toBitVec <<< ((nI n &&& 31).toBitVec.smod 32).toNat).getLsbD i = _
  rw [sm_sl n hn, BitVec.getLsbD_shiftLeft]
  rcases Nat.lt_or_ge i n with h | h
  · simp [h, Nat.not_le.mpr h]
  · simp [hi, h, Nat.not_lt.mpr h]
theorem sm_bsshr (n : Nat) (hn : n < 32) (x : Int32) {i : Nat} (hi : i < 32) : sm_bt (x >>> (nI n &&& 31)) i = if n + i < 32 then sm_bt x (n + i) else sm_bt x 31 := by
  unfold sm_bt
  rw [Int32.toBitVec_shiftRight]
  show (x.toBitVec.sshiftRight ((nI n &&& 31).toBitVec.smod 32).toNat).getLsbD i = _
  rw [sm_sl n hn, BitVec.getLsbD_sshiftRight, BitVec.msb_eq_getLsbD_last]
  simp [hi]
theorem sm_nxx (a b : Nat) : nI a ^^^ nI b = nI (a ^^^ b) := by
  apply Int32.toBitVec_inj.1
  show BitVec.ofNat 32 a ^^^ BitVec.ofNat 32 b = BitVec.ofNat 32 (a ^^^ b)
  apply BitVec.eq_of_getLsbD_eq
  intro i hi
  simp [hi]
/-- one bit, taken out -/
theorem sm_pick (x : Int32) (i : Nat) (hi : i < 32) : (x >>> (nI i &&& 31)) &&& 1 = if sm_bt x i then 1 else 0 := by
  apply sm_bext
  intro j hj
  rw [sm_band, sm_bsshr i hi x hj, sm_b1]
  by_cases e : j = 0
  · subst e
    rw [if_pos (by omega), Nat.add_zero]
    cases sm_bt x i
    · decide
    · decide
  · rw [decide_eq_false e, Bool.and_false]
    cases sm_bt x i
    · show false = sm_bt 0 j
      rw [sm_b0]
    · show false = sm_bt 1 j
      rw [sm_b1, decide_eq_false e]
/-- a single one -/
theorem sm_bone (p : Nat) (hp : p < 32) {i : Nat} (hi : i < 32) : sm_bt ((1 : Int32) <<< (nI p &&& 31)) i = decide (i = p) := by
  rw [sm_bshl p hp 1 hi, sm_b1]
  by_cases e : i = p
  · subst e
    simp
  · rw [decide_eq_false e]
    by_cases h : p ≤ i
    · rw [decide_eq_false (show ¬ (i - p = 0) by omega), Bool.and_false]
    · rw [decide_eq_false h, Bool.false_and]
/-- setting a clear bit is flipping it -/
theorem sm_set {x : Int32} {p : Nat} (hp : p < 32) (h : sm_bt x p = false) : x ||| ((1 : Int32) <<< (nI p &&& 31)) = x ^^^ ((1 : Int32) <<< (nI p &&& 31)) := by
  apply sm_bext
  intro i hi
  rw [sm_bor, sm_bxor, sm_bone p hp hi]
  by_cases e : i = p
  · subst e
    rw [h, decide_eq_true rfl]
    rfl
  · rw [decide_eq_false e, Bool.or_false, Bool.xor_false]
/-- no ones from place n on -/
def sm_lo (n : Nat) (x : Int32) : Prop := ∀ i, n ≤ i → i < 32 → sm_bt x i = false
theorem sm_lo_or {n : Nat} {x y : Int32} (hx : sm_lo n x) (hy : sm_lo n y) : sm_lo n (x ||| y) := fun i h1 h2 => by rw [sm_bor, hx i h1 h2, hy i h1 h2]; rfl
theorem sm_lo_xor {n : Nat} {x y : Int32} (hx : sm_lo n x) (hy : sm_lo n y) : sm_lo n (x ^^^ y) := fun i h1 h2 => by rw [sm_bxor, hx i h1 h2, hy i h1 h2]; rfl
theorem sm_lo_and {n : Nat} {x y : Int32} (hx : sm_lo n x) : sm_lo n (x &&& y) := fun i h1 h2 => by rw [sm_band, hx i h1 h2]; rfl
theorem sm_lo_andr {n : Nat} {x y : Int32} (hy : sm_lo n y) : sm_lo n (x &&& y) := fun i h1 h2 => by rw [sm_band, hy i h1 h2, Bool.and_false]
theorem sm_lo_0 (n : Nat) : sm_lo n 0 := fun i _ _ => sm_b0 i
theorem sm_lo_1 : sm_lo 1 1 := fun i h _ => by rw [sm_b1, decide_eq_false (by omega)]
theorem sm_lo_255 : sm_lo 8 255 := fun i h _ => by rw [sm_b255, decide_eq_false (by omega)]
theorem sm_lo_mono {n m : Nat} {x : Int32} (h : n ≤ m) (hx : sm_lo n x) : sm_lo m x := fun i h1 h2 => hx i (by omega) h2
theorem sm_lo_shl {x : Int32} {k : Nat} (hk : k < 32) (hx : sm_lo 1 x) : sm_lo (k + 1) (x <<< (nI k &&& 31)) := fun i h1 h2 => by
  rw [sm_bshl k hk x h2, hx (i - k) (by omega) (by omega), Bool.and_false]
theorem sm_lo_shr1 {n : Nat} {x : Int32} (hn : n < 32) (hx : sm_lo n x) : sm_lo n (x >>> ((1 : Int32) &&& 31)) := fun i h1 h2 => by
  have e : sm_bt (x >>> ((1 : Int32) &&& 31)) i = if 1 + i < 32 then sm_bt x (1 + i) else sm_bt x 31 := sm_bsshr 1 (by omega) x h2
  rw [e]
  split
  · exact hx _ (by omega) (by omega)
  · exact hx _ (by omega) (by omega)
theorem sm_lo_nI {x : Int32} (h : sm_lo 8 x) : ∃ j : Nat, j < 256 ∧ x = nI j := by
  have e : x &&& 255 = x := by
    apply sm_bext
    intro i hi
    rw [sm_band, sm_b255]
    rcases Nat.lt_or_ge i 8 with g | g
    · rw [decide_eq_true g, Bool.and_true]
    · rw [h i g hi]; rfl
  obtain ⟨j, hj, ej⟩ := pk_andE x (m := 255) 8 (by decide)
  exact ⟨j, hj, by rw [← e]; exact ej⟩
/-- a byte: 0 to 255 -/
abbrev sm_by (x : Int32) : Prop := sm_lo 8 x
/-! ===== the two checks of a code word ===== -/
/-- the parity of the first k bits -/
def sm_pr (x : Int32) : Nat → Bool
  | 0 => false
  | k + 1 => (sm_pr x k ^^ sm_bt x k)
/-- the places of the ones among the first k, put together -/
def sm_ck (x : Int32) : Nat → Int32
  | 0 => 0
  | k + 1 => sm_ck x k ^^^ (if sm_bt x k then nI k else 0)
theorem sm_pr_xor (x y : Int32) (k : Nat) : sm_pr (x ^^^ y) k = (sm_pr x k ^^ sm_pr y k) := by
  induction k with
  | zero => rfl
  | succ k ih =>
    show (sm_pr (x ^^^ y) k ^^ sm_bt (x ^^^ y) k) = ((sm_pr x k ^^ sm_bt x k) ^^ (sm_pr y k ^^ sm_bt y k))
    rw [ih, sm_bxor]
    cases sm_pr x k <;> cases sm_pr y k <;> cases sm_bt x k <;> cases sm_bt y k <;> rfl
theorem sm_x4 (a b c d : Int32) : (a ^^^ b) ^^^ (c ^^^ d) = (a ^^^ c) ^^^ (b ^^^ d) := by ac_rfl
theorem sm_ck_xor (x y : Int32) (k : Nat) : sm_ck (x ^^^ y) k = sm_ck x k ^^^ sm_ck y k := by
  induction k with
  | zero => exact (by decide : (0 : Int32) = 0 ^^^ 0)
  | succ k ih =>
    show sm_ck (x ^^^ y) k ^^^ (if sm_bt (x ^^^ y) k then nI k else 0) = (sm_ck x k ^^^ (if sm_bt x k then nI k else 0)) ^^^ (sm_ck y k ^^^ (if sm_bt y k then nI k else 0))
    rw [ih, sm_bxor, sm_x4]
    have e : (if (sm_bt x k ^^ sm_bt y k) then nI k else 0) = (if sm_bt x k then nI k else 0) ^^^ (if sm_bt y k then nI k else 0) := by
      cases sm_bt x k <;> cases sm_bt y k <;> simp
    rw [e]
theorem sm_ck_r (x : Int32) (m : Nat) : ∀ k, k ≤ 2 ^ m → ∃ j : Nat, j < 2 ^ m ∧ sm_ck x k = nI j := by
  intro k
  induction k with
  | zero => exact fun _ => ⟨0, Nat.two_pow_pos m, rfl⟩
  | succ k ih =>
    intro h
    obtain ⟨j, hj, e⟩ := ih (by omega)
    show ∃ j : Nat, j < 2 ^ m ∧ sm_ck x k ^^^ (if sm_bt x k then nI k else 0) = nI j
    rw [e]
    cases sm_bt x k
    · exact ⟨j, hj, Int32.xor_zero⟩
    · exact ⟨j ^^^ k, Nat.xor_lt_two_pow hj (by omega), sm_nxx j k⟩
theorem sm_one13 : ∀ b, b < 13 → sm_pr ((1 : Int32) <<< (nI b &&& 31)) 13 = true ∧ sm_ck ((1 : Int32) <<< (nI b &&& 31)) 13 = nI b := by decide +kernel
theorem sm_one22 : ∀ b, b < 22 → sm_pr ((1 : Int32) <<< (nI b &&& 31)) 22 = true ∧ sm_ck ((1 : Int32) <<< (nI b &&& 31)) 22 = nI b := by decide +kernel
/-- the two lengths of a code word -/
def sm_P (P : Nat) : Prop := P = 13 ∨ P = 22
theorem sm_P_le {P : Nat} (h : sm_P P) : 3 ≤ P ∧ P ≤ 22 := by
  rcases h with rfl | rfl <;> omega
theorem sm_one {P : Nat} (hP : sm_P P) {b : Nat} (hb : b < P) : sm_pr ((1 : Int32) <<< (nI b &&& 31)) P = true ∧ sm_ck ((1 : Int32) <<< (nI b &&& 31)) P = nI b := by
  rcases hP with rfl | rfl
  · exact sm_one13 b hb
  · exact sm_one22 b hb
/-- a right code word -/
def sm_G (P : Nat) (c : Int32) : Prop := sm_pr c P = false ∧ sm_ck c P = 0
/-- what the second loop of encode does at place p -/
def sm_put (r x : Int32) (p : Nat) : Int32 := if r &&& nI p = 0 then x ||| 0 else x ||| ((1 : Int32) <<< (nI p &&& 31))
def sm_cc (r c : Int32) (p : Nat) : Int32 := if r &&& nI p = 0 then c else c ^^^ nI p
theorem sm_put_ck {P : Nat} (hP : sm_P P) {r x : Int32} {p : Nat} (hp : p < P) (h : sm_bt x p = false) : sm_ck (sm_put r x p) P = sm_cc r (sm_ck x P) p := by
  have := sm_P_le hP
  unfold sm_put sm_cc
  split
  · rw [Int32.or_zero]
  · rw [sm_set (by omega) h, sm_ck_xor, (sm_one hP hp).2]
theorem sm_put_bt {r x : Int32} {p i : Nat} (hp : p < 32) (hi : i < 32) (hn : i ≠ p) : sm_bt (sm_put r x p) i = sm_bt x i := by
  unfold sm_put
  split
  · rw [Int32.or_zero]
  · rw [sm_bor, sm_bone p hp hi, decide_eq_false hn, Bool.or_false]
theorem sm_fold16 : ∀ j, j < 16 → sm_cc (nI j) (sm_cc (nI j) (sm_cc (nI j) (sm_cc (nI j) (nI j) 1) 2) 4) 8 = 0 := by decide +kernel
theorem sm_fold32 : ∀ j, j < 32 → sm_cc (nI j) (sm_cc (nI j) (sm_cc (nI j) (sm_cc (nI j) (sm_cc (nI j) (nI j) 1) 2) 4) 8) 16 = 0 := by decide +kernel
/-- the bits that encode leaves to the checks -/
def sm_Z (x : Int32) : Prop := ∀ k, k ∈ [0, 1, 2, 4, 8, 16] → sm_bt x k = false
theorem sm_Z0 : sm_Z 0 := fun k _ => sm_b0 k
theorem sm_npw : ∀ i, i < 22 → 3 ≤ i → ¬ (nI i &&& (nI i - 1)) = 0 → i ∉ [0, 1, 2, 4, 8, 16] := by decide +kernel
theorem sm_Zor {x y : Int32} {i : Nat} (hi : i < 22) (hz : sm_Z x) (h : i ∉ [0, 1, 2, 4, 8, 16]) : sm_Z (x ||| ((y &&& 1) <<< (nI i &&& 31))) := by
  intro k hk
  have hk32 : k < 32 := (by decide : ∀ k, k ∈ [0, 1, 2, 4, 8, 16] → k < 32) k hk
  rw [sm_bor, hz k hk, sm_bshl i (by omega) _ hk32, sm_band, sm_b1, Bool.false_or]
  by_cases e : i ≤ k
  · have n : ¬ (k - i = 0) := fun z => h (by rw [show i = k by omega]; exact hk)
    rw [decide_eq_false n, Bool.and_false, Bool.and_false]
  · rw [decide_eq_false e, Bool.false_and]
/-- the code word behind the second loop -/
def sm_fin (P : Nat) (r x : Int32) : Int32 := if P = 13 then sm_put r (sm_put r (sm_put r (sm_put r x 1) 2) 4) 8 else sm_put r (sm_put r (sm_put r (sm_put r (sm_put r x 1) 2) 4) 8) 16
theorem sm_fin_ck {P : Nat} (hP : sm_P P) {x : Int32} (hz : sm_Z x) : sm_ck (sm_fin P (sm_ck x P) x) P = 0 ∧ sm_bt (sm_fin P (sm_ck x P) x) 0 = false := by
  have z0 := hz 0 (by decide)
  have z1 := hz 1 (by decide)
  have z2 := hz 2 (by decide)
  have z4 := hz 4 (by decide)
  have z8 := hz 8 (by decide)
  have z16 := hz 16 (by decide)
  rcases hP with rfl | rfl
  · obtain ⟨j, hj, e⟩ := sm_ck_r x 4 13 (by decide)
    unfold sm_fin
    rw [if_pos rfl]
    have hP : sm_P 13 := Or.inl rfl
    constructor
    · rw [sm_put_ck hP (by omega), sm_put_ck hP (by omega), sm_put_ck hP (by omega), sm_put_ck hP (by omega) z1, e]
      · exact sm_fold16 j hj
      · rw [sm_put_bt (by omega) (by omega) (by omega)]; exact z2
      · rw [sm_put_bt (by omega) (by omega) (by omega), sm_put_bt (by omega) (by omega) (by omega)]; exact z4
      · rw [sm_put_bt (by omega) (by omega) (by omega), sm_put_bt (by omega) (by omega) (by omega), sm_put_bt (by omega) (by omega) (by omega)]; exact z8
    · rw [sm_put_bt (by omega) (by omega) (by omega), sm_put_bt (by omega) (by omega) (by omega), sm_put_bt (by omega) (by omega) (by omega), sm_put_bt (by omega) (by omega) (by omega)]; exact z0
  · obtain ⟨j, hj, e⟩ := sm_ck_r x 5 22 (by decide)
    unfold sm_fin
    rw [if_neg (by decide)]
    have hP : sm_P 22 := Or.inr rfl
    constructor
    · rw [sm_put_ck hP (by omega), sm_put_ck hP (by omega), sm_put_ck hP (by omega), sm_put_ck hP (by omega), sm_put_ck hP (by omega) z1, e]
      · exact sm_fold32 j hj
      · rw [sm_put_bt (by omega) (by omega) (by omega)]; exact z2
      · rw [sm_put_bt (by omega) (by omega) (by omega), sm_put_bt (by omega) (by omega) (by omega)]; exact z4
      · rw [sm_put_bt (by omega) (by omega) (by omega), sm_put_bt (by omega) (by omega) (by omega), sm_put_bt (by omega) (by omega) (by omega)]; exact z8
      · rw [sm_put_bt (by omega) (by omega) (by omega), sm_put_bt (by omega) (by omega) (by omega), sm_put_bt (by omega) (by omega) (by omega), sm_put_bt (by omega) (by omega) (by omega)]; exact z16
    · rw [sm_put_bt (by omega) (by omega) (by omega), sm_put_bt (by omega) (by omega) (by omega), sm_put_bt (by omega) (by omega) (by omega), sm_put_bt (by omega) (by omega) (by omega), sm_put_bt (by omega) (by omega) (by omega)]; exact z0
/-- the last bit makes the number of ones even -/
theorem sm_last {P : Nat} (hP : sm_P P) {x : Int32} (h : sm_ck x P = 0) (h0 : sm_bt x 0 = false) : sm_G P (x ||| (if sm_pr x P then 1 else 0)) := by
  have := sm_P_le hP
  cases e : sm_pr x P
  · rw [if_neg (by decide), Int32.or_zero]
    exact ⟨e, h⟩
  · rw [if_pos rfl]
    have e1 : x ||| 1 = x ^^^ ((1 : Int32) <<< (nI 0 &&& 31)) := sm_set (p := 0) (by omega) h0
    rw [e1]
    obtain ⟨o1, o2⟩ := sm_one hP (b := 0) (by omega)
    exact ⟨by rw [sm_pr_xor, e, o1]; rfl, by rw [sm_ck_xor, h, o2]; rfl⟩
/-- one wrong bit: the checks name it -/
theorem sm_hit {P : Nat} (hP : sm_P P) {c : Int32} (h : sm_G P c) {b : Nat} (hb : b < P) : sm_pr (c ^^^ ((1 : Int32) <<< (nI b &&& 31))) P = true ∧ (c ^^^ ((1 : Int32) <<< (nI b &&& 31))) ^^^ ((1 : Int32) <<< (sm_ck (c ^^^ ((1 : Int32) <<< (nI b &&& 31))) P &&& 31)) = c := by
  obtain ⟨o1, o2⟩ := sm_one hP hb
  constructor
  · rw [sm_pr_xor, h.1, o1]; rfl
  · rw [sm_ck_xor, h.2, o2, Int32.zero_xor, Int32.xor_assoc, Int32.xor_self, Int32.xor_zero]
end
section
/-! ===== the walks over one code word ===== -/
theorem sm_odd (a : Int32) : (a + 1) &&& 1 = if a &&& 1 = 0 then 1 else 0 := by
  have e1 : (a + 1) &&& 1 = nI ((a + 1).toBitVec.toNat % 2 ^ 1) := pk_and (a + 1) 1 (by decide)
  have e2 : a &&& 1 = nI (a.toBitVec.toNat % 2 ^ 1) := pk_and a 1 (by decide)
  have e3 : (a + 1).toBitVec.toNat = (a.toBitVec.toNat + 1) % 2 ^ 32 := by
    rw [Int32.toBitVec_add, BitVec.toNat_add]
    rfl
  rw [e1, e2, e3]
  rcases Nat.mod_two_eq_zero_or_one a.toBitVec.toNat with h | h
  · rw [show (a.toBitVec.toNat + 1) % 2 ^ 32 % 2 ^ 1 = 1 by omega, show a.toBitVec.toNat % 2 ^ 1 = 0 by omega]
    decide
  · rw [show (a.toBitVec.toNat + 1) % 2 ^ 32 % 2 ^ 1 = 0 by omega, show a.toBitVec.toNat % 2 ^ 1 = 1 by omega]
    decide
theorem sm_ones4 (x : Int32) (P : Nat) (hP : P ≤ 31) : ∀ f acc i, i ≤ P → P - i < f → (acc &&& 1 = if sm_pr x i then 1 else 0) → ∃ r : Int32, (r &&& 1 = if sm_pr x P then 1 else 0) ∧ ∀ post : Int32 → Prop, post r → wX_onesOf_4 post x (nI P) f acc (nI i) := by
  intro f
  induction f with
  | zero => intro acc i h1 h2; omega
  | succ f ih =>
    intro acc i h1 h2 h3
    by_cases e : i = P
    · subst e
      exact ⟨acc, h3, fun post hp => br_t (nI_le (Nat.le_refl _) (by omega)) hp⟩
    · obtain ⟨r, hr, H⟩ := ih (acc + ((x >>> (nI i &&& 31)) &&& 1)) (i + 1) (by omega) (by omega) (by
        rw [sm_pick x i (by omega)]
        show _ = if (sm_pr x i ^^ sm_bt x i) then 1 else 0
        cases sm_bt x i
        · rw [if_neg (by decide), Int32.add_zero, h3, Bool.xor_false]
        · rw [if_pos rfl, sm_odd, h3]
          cases sm_pr x i <;> decide)
      exact ⟨r, hr, fun post hp => br_f (nI_ge (by omega) (by omega)) (nm_e (nm_r (nI_1 i) (H post hp)))⟩
theorem sm_ones (x : Int32) (P : Nat) (hP : P ≤ 31) : ∃ r : Int32, (r &&& 1 = if sm_pr x P then 1 else 0) ∧ ∀ post : Int32 → Prop, post r → wpX_onesOf post () x (nI P) := by
  obtain ⟨r, hr, H⟩ := sm_ones4 x P hP (P + 1) 0 0 (by omega) (by omega) (show (0 : Int32) &&& 1 = 0 by decide)
  exact ⟨r, hr, fun post hp => ⟨P + 1, H post hp⟩⟩
theorem sm_chk4 (x : Int32) (P : Nat) (hP : P ≤ 31) {post : Int32 → Prop} (hp : post (sm_ck x P)) : ∀ f i, i ≤ P → P - i < f → wX_checksOf_4 post x (nI P) f (sm_ck x i) (nI i) := by
  intro f
  induction f with
  | zero => intro i h1 h2; omega
  | succ f ih =>
    intro i h1 h2
    by_cases e : i = P
    · subst e
      exact br_t (nI_le (Nat.le_refl _) (by omega)) hp
    · have H := ih (i + 1) (by omega) (by omega)
      refine br_f (nI_ge (by omega) (by omega)) ?_
      have hk := sm_pick x i (by omega)
      have hs : sm_ck x (i + 1) = sm_ck x i ^^^ (if sm_bt x i then nI i else 0) := rfl
      cases hb : sm_bt x i
      · rw [hb, if_neg (by decide)] at hk
        rw [hb, if_neg (by decide)] at hs
        exact br_t hk (nm_r hs.symm (nm_r (nI_1 i) H))
      · rw [hb, if_pos rfl] at hk
        rw [hb, if_pos rfl] at hs
        exact br_f (by rw [hk]; decide) (nm_r hs.symm (nm_r (nI_1 i) H))
theorem sm_chk {x : Int32} {P : Nat} (h1 : 1 ≤ P) (hP : P ≤ 31) {post : Int32 → Prop} (hp : post (sm_ck x P)) : wpX_checksOf post () x (nI P) := by
  have H := sm_chk4 x P hP hp (P + 1) 1 h1 (by omega)
  have e : sm_ck x 1 = 0 := by
    show (0 : Int32) ^^^ (if sm_bt x 0 then nI 0 else 0) = 0
    cases sm_bt x 0 <;> decide
  rw [e] at H
  exact ⟨P + 1, H⟩
theorem sm_cor {x : Int32} {P : Nat} (hP : sm_P P) {post : Int32 → Prop} (h0 : sm_pr x P = false → post x) (h1 : sm_pr x P = true → post (x ^^^ ((1 : Int32) <<< (sm_ck x P &&& 31)))) : wpX_correct post () x (nI P) := by
  have := sm_P_le hP
  obtain ⟨r, hr, H⟩ := sm_ones x P (by omega)
  unfold wpX_correct
  refine H _ (sm_chk (by omega) (by omega) ?_)
  cases hb : sm_pr x P
  · rw [hb, if_neg (by decide)] at hr
    exact br_t hr (h0 hb)
  · rw [hb, if_pos rfl] at hr
    exact br_f (by rw [hr]; decide) (h1 hb)
theorem sm_cor0 {c : Int32} {P : Nat} (hP : sm_P P) (hG : sm_G P c) {post : Int32 → Prop} (hp : post c) : wpX_correct post () c (nI P) :=
  sm_cor hP (fun _ => hp) (fun h => by rw [hG.1] at h; exact absurd h (by decide))
theorem sm_cor1 {c : Int32} {P : Nat} (hP : sm_P P) (hG : sm_G P c) {b : Nat} (hb : b < P) {post : Int32 → Prop} (hp : post c) : wpX_correct post () (c ^^^ ((1 : Int32) <<< (nI b &&& 31))) (nI P) := by
  obtain ⟨e1, e2⟩ := sm_hit hP hG hb
  exact sm_cor hP (fun h => by rw [e1] at h; exact absurd h (by decide)) (fun _ => by rw [e2]; exact hp)
/-! encode -/
theorem sm_e51s {post : Int32 → Prop} {P : Nat} {r x : Int32} {n p p' : Nat} (hp : p < P) (hP : P ≤ 22) (hp' : nI p * 2 = nI p') (h : wX_encode_51 post (nI P) r n (sm_put r x p) (nI p')) : wX_encode_51 post (nI P) r (n + 1) x (nI p) :=
  br_f (nI_ge hp (by omega)) (br_c (fun c => nm_r (by unfold sm_put; rw [if_pos c]) (nm_r hp' h)) (fun c => nm_r (by unfold sm_put; rw [if_neg c]) (nm_r hp' h)))
theorem sm_e51x {post : Int32 → Prop} {P : Nat} {r x : Int32} {n p : Nat} (hP : sm_P P) (hp : P ≤ p) (hp2 : p ≤ 32) (h : post (x ||| (if sm_pr x P then 1 else 0))) : wX_encode_51 post (nI P) r (n + 1) x (nI p) := by
  have := sm_P_le hP
  refine br_t (nI_le hp (by omega)) ?_
  obtain ⟨t, ht, H⟩ := sm_ones x P (by omega)
  refine H _ ?_
  show post (x ||| (t &&& 1))
  rw [ht]
  exact h
theorem sm_e51 {post : Int32 → Prop} {P : Nat} (hP : sm_P P) {r x : Int32} (h : post (sm_fin P r x ||| (if sm_pr (sm_fin P r x) P then 1 else 0))) : ∃ fu, wX_encode_51 post (nI P) r fu x 1 := by
  rcases hP with rfl | rfl
  · refine ⟨5, ?_⟩
    unfold sm_fin at h
    rw [if_pos rfl] at h
    exact sm_e51s (p := 1) (p' := 2) (by omega) (by omega) (by decide) (sm_e51s (p := 2) (p' := 4) (by omega) (by omega) (by decide) (sm_e51s (p := 4) (p' := 8) (by omega) (by omega) (by decide) (sm_e51s (p := 8) (p' := 16) (by omega) (by omega) (by decide) (sm_e51x (Or.inl rfl) (by omega) (by omega) h))))
  · refine ⟨6, ?_⟩
    unfold sm_fin at h
    rw [if_neg (by decide)] at h
    exact sm_e51s (p := 1) (p' := 2) (by omega) (by omega) (by decide) (sm_e51s (p := 2) (p' := 4) (by omega) (by omega) (by decide) (sm_e51s (p := 4) (p' := 8) (by omega) (by omega) (by decide) (sm_e51s (p := 8) (p' := 16) (by omega) (by omega) (by decide) (sm_e51s (p := 16) (p' := 32) (by omega) (by omega) (by decide) (sm_e51x (Or.inr rfl) (by omega) (by omega) h)))))
theorem sm_e7 (v : Int32) (P : Nat) (hP : P ≤ 22) : ∀ f x2 x3 i, 3 ≤ i → i ≤ P → P - i < f → sm_Z x2 → ∃ c : Int32, sm_Z c ∧ ∀ post : Int32 → Prop, wpX_checksOf (fun r_2 => ∃ fu51 : Nat, wX_encode_51 post (nI P) r_2 fu51 c 1) () c (nI P) → wX_encode_7 post v (nI P) f x2 x3 (nI i) := by
  intro f
  induction f with
  | zero => intro x2 x3 i h0 h1 h2; omega
  | succ f ih =>
    intro x2 x3 i h0 h1 h2 hz
    by_cases e : i = P
    · subst e
      exact ⟨x2, hz, fun post hp => br_t (nI_le (Nat.le_refl _) (by omega)) hp⟩
    · by_cases pw : (nI i &&& (nI i - 1)) = 0
      · obtain ⟨c, hc, H⟩ := ih x2 x3 (i + 1) (by omega) (by omega) (by omega) hz
        exact ⟨c, hc, fun post hp => br_f (nI_ge (by omega) (by omega)) (br_t pw (br_f (by decide) (nm_r (nI_1 i) (H post hp))))⟩
      · obtain ⟨c, hc, H⟩ := ih (x2 ||| (((v >>> (x3 &&& 31)) &&& 1) <<< (nI i &&& 31))) (x3 + 1) (i + 1) (by omega) (by omega) (by omega) (sm_Zor (by omega) hz (sm_npw i (by omega) h0 pw))
        exact ⟨c, hc, fun post hp => br_f (nI_ge (by omega) (by omega)) (br_f pw (br_t rfl (nm_e (nm_e (nm_r (nI_1 i) (H post hp))))))⟩
theorem sm_enc (v : Int32) {P : Nat} (hP : sm_P P) : ∃ c : Int32, sm_G P c ∧ ∀ post : Int32 → Prop, post c → wpX_encode post () v (nI P) := by
  have := sm_P_le hP
  obtain ⟨c, hc, H⟩ := sm_e7 v P (by omega) (P + 1) 0 0 3 (by omega) (by omega) (by omega) sm_Z0
  obtain ⟨h1, h2⟩ := sm_fin_ck hP hc
  exact ⟨_, sm_last hP h1 h2, fun post hp => ⟨P + 1, H post (sm_chk (by omega) (by omega) (sm_e51 hP hp))⟩⟩
/-! decode -/
theorem sm_d22 (c : Int32) (P : Nat) (hP : P ≤ 22) : ∀ f x2 x3 i, i ≤ P → P - i < f → ∃ d : Int32, ∀ post : Int32 → Prop, post d → wX_decode_7 post c (nI P) f x2 x3 (nI i) := by
  intro f
  induction f with
  | zero => intro x2 x3 i h1 h2; omega
  | succ f ih =>
    intro x2 x3 i h1 h2
    by_cases e : i = P
    · subst e
      exact ⟨x2, fun post hp => br_t (nI_le (Nat.le_refl _) (by omega)) hp⟩
    · by_cases pw : (nI i &&& (nI i - 1)) = 0
      · obtain ⟨d, H⟩ := ih x2 x3 (i + 1) (by omega) (by omega)
        exact ⟨d, fun post hp => br_f (nI_ge (by omega) (by omega)) (br_t pw (br_f (by decide) (nm_r (nI_1 i) (H post hp))))⟩
      · obtain ⟨d, H⟩ := ih (x2 ||| (((c >>> (nI i &&& 31)) &&& 1) <<< (x3 &&& 31))) (x3 + 1) (i + 1) (by omega) (by omega)
        exact ⟨d, fun post hp => br_f (nI_ge (by omega) (by omega)) (br_f pw (br_t rfl (nm_e (nm_e (nm_r (nI_1 i) (H post hp))))))⟩
def sm_kk (i : Nat) : Nat := ((List.range i).filter (fun t => decide (3 ≤ t) && (!(t == 4) && !(t == 8)))).length
theorem sm_kk1 : ∀ i, i < 13 → 3 ≤ i → (nI i &&& (nI i - 1)) = 0 → sm_kk (i + 1) = sm_kk i := by decide +kernel
theorem sm_kk2 : ∀ i, i < 13 → 3 ≤ i → ¬ (nI i &&& (nI i - 1)) = 0 → sm_kk (i + 1) = sm_kk i + 1 ∧ sm_kk i < 8 := by decide +kernel
theorem sm_d13 (c : Int32) : ∀ f x2 i, 3 ≤ i → i ≤ 13 → 13 - i < f → sm_by x2 → ∃ d : Int32, sm_by d ∧ ∀ post : Int32 → Prop, post d → wX_decode_7 post c (nI 13) f x2 (nI (sm_kk i)) (nI i) := by
  intro f
  induction f with
  | zero => intro x2 i h0 h1 h2; omega
  | succ f ih =>
    intro x2 i h0 h1 h2 hb
    by_cases e : i = 13
    · subst e
      exact ⟨x2, hb, fun post hp => br_t (nI_le (Nat.le_refl _) (by omega)) hp⟩
    · by_cases pw : (nI i &&& (nI i - 1)) = 0
      · obtain ⟨d, hd, H⟩ := ih x2 (i + 1) (by omega) (by omega) (by omega) hb
        rw [sm_kk1 i (by omega) h0 pw] at H
        exact ⟨d, hd, fun post hp => br_f (nI_ge (by omega) (by omega)) (br_t pw (br_f (by decide) (nm_r (nI_1 i) (H post hp))))⟩
      · obtain ⟨k1, k2⟩ := sm_kk2 i (by omega) h0 pw
        obtain ⟨d, hd, H⟩ := ih (x2 ||| (((c >>> (nI i &&& 31)) &&& 1) <<< (nI (sm_kk i) &&& 31))) (i + 1) (by omega) (by omega) (by omega) (sm_lo_or hb (sm_lo_mono (by omega) (sm_lo_shl (by omega) (sm_lo_andr sm_lo_1))))
        rw [k1] at H
        exact ⟨d, hd, fun post hp => br_f (nI_ge (by omega) (by omega)) (br_f pw (br_t rfl (nm_e (nm_r (nI_1 _) (nm_r (nI_1 i) (H post hp))))))⟩
theorem sm_dec (c : Int32) {P : Nat} (hP : sm_P P) : ∃ d : Int32, (P = 13 → sm_by d) ∧ ∀ post : Int32 → Prop, post d → wpX_decode post () c (nI P) := by
  rcases hP with rfl | rfl
  · obtain ⟨d, hd, H⟩ := sm_d13 c 14 0 3 (by omega) (by omega) (by omega) (sm_lo_0 8)
    exact ⟨d, fun _ => hd, fun post hp => ⟨14, H post hp⟩⟩
  · obtain ⟨d, H⟩ := sm_d22 c 22 (by omega) 23 0 0 3 (by omega) (by omega)
    exact ⟨d, fun h => absurd h (by decide), fun post hp => ⟨23, H post hp⟩⟩
end
section
/-! ===== three copies and a vote ===== -/
/-- three copies x0 x1 x2 stand for v; h names the copy that was hit -/
def sm_T (v h x0 x1 x2 : Int32) : Prop := (h = 0 ∨ h = 1 ∨ h = 2 ∨ h = 4) ∧ (h ≠ 1 → x0 = v) ∧ (h ≠ 2 → x1 = v) ∧ (h ≠ 4 → x2 = v)
theorem sm_v0 (v x : Int32) : ((x &&& v) ||| (x &&& v)) ||| (v &&& v) = v := by
  apply sm_bext
  intro i _
  rw [sm_bor, sm_bor, sm_band, sm_band]
  cases sm_bt x i <;> cases sm_bt v i <;> rfl
theorem sm_v1 (v x : Int32) : ((v &&& x) ||| (v &&& v)) ||| (x &&& v) = v := by
  apply sm_bext
  intro i _
  rw [sm_bor, sm_bor, sm_band, sm_band, sm_band]
  cases sm_bt x i <;> cases sm_bt v i <;> rfl
theorem sm_v2 (v x : Int32) : ((v &&& v) ||| (v &&& x)) ||| (v &&& x) = v := by
  apply sm_bext
  intro i _
  rw [sm_bor, sm_bor, sm_band, sm_band]
  cases sm_bt x i <;> cases sm_bt v i <;> rfl
theorem sm_T_vote {v h x0 x1 x2 : Int32} (t : sm_T v h x0 x1 x2) : ((x0 &&& x1) ||| (x0 &&& x2)) ||| (x1 &&& x2) = v := by
  obtain ⟨hh, h0, h1, h2⟩ := t
  rcases hh with rfl | rfl | rfl | rfl
  · rw [h0 (by decide), h1 (by decide), h2 (by decide)]; exact sm_v0 v v
  · rw [h1 (by decide), h2 (by decide)]; exact sm_v0 v x0
  · rw [h0 (by decide), h2 (by decide)]; exact sm_v1 v x1
  · rw [h0 (by decide), h1 (by decide)]; exact sm_v2 v x2
theorem sm_T_all {v x0 x1 x2 : Int32} (t : sm_T v 0 x0 x1 x2) : x0 = v ∧ x1 = v ∧ x2 = v := ⟨t.2.1 (by decide), t.2.2.1 (by decide), t.2.2.2 (by decide)⟩
theorem sm_T_eq {v x0 x1 x2 : Int32} (h0 : x0 = v) (h1 : x1 = v) (h2 : x2 = v) : sm_T v 0 x0 x1 x2 := ⟨Or.inl rfl, fun _ => h0, fun _ => h1, fun _ => h2⟩
/-- a value goes through the three workings -/
theorem sm_T_work {v h m0 m1 m2 : Int32} (t : sm_T 0 h m0 m1 m2) : sm_T v h (v ^^^ m0) (v ^^^ m1) (v ^^^ m2) :=
  ⟨t.1, fun g => by rw [t.2.1 g, Int32.xor_zero], fun g => by rw [t.2.2.1 g, Int32.xor_zero], fun g => by rw [t.2.2.2 g, Int32.xor_zero]⟩
theorem sm_ho : (1 : Int32) <<< (nI 0 &&& 31) = 1 ∧ (1 : Int32) <<< (nI 1 &&& 31) = 2 ∧ (1 : Int32) <<< (nI 2 &&& 31) = 4 := by decide +kernel
/-- a hit that is let in strikes the copy that was hit before, or the first one -/
theorem sm_T_hit {v h z : Int32} {f : Nat → Int32} {k c : Nat} (hc : c < 3) (t : sm_T v h (f k) (f (k + 1)) (f (k + 2))) (hh : (h &&& (((1 : Int32) <<< (nI c &&& 31)) ^^^ (-1))) = 0) :
    sm_T v ((1 : Int32) <<< (nI c &&& 31)) (upd f (k + c) z k) (upd f (k + c) z (k + 1)) (upd f (k + c) z (k + 2)) := by
  obtain ⟨o0, o1, o2⟩ := sm_ho
  obtain ⟨h4, t0, t1, t2⟩ := t
  have hc' : c = 0 ∨ c = 1 ∨ c = 2 := by omega
  rcases hc' with rfl | rfl | rfl
  · rw [o0] at hh ⊢
    have g : h = 0 ∨ h = 1 := by
      rcases h4 with rfl | rfl | rfl | rfl
      · exact Or.inl rfl
      · exact Or.inr rfl
      · exact absurd hh (by decide)
      · exact absurd hh (by decide)
    have g2 : h ≠ 2 := by rcases g with rfl | rfl <;> decide
    have g4 : h ≠ 4 := by rcases g with rfl | rfl <;> decide
    exact ⟨Or.inr (Or.inl rfl), fun z => absurd rfl z, fun _ => by rw [pk_un (by omega)]; exact t1 g2, fun _ => by rw [pk_un (by omega)]; exact t2 g4⟩
  · rw [o1] at hh ⊢
    have g : h = 0 ∨ h = 2 := by
      rcases h4 with rfl | rfl | rfl | rfl
      · exact Or.inl rfl
      · exact absurd hh (by decide)
      · exact Or.inr rfl
      · exact absurd hh (by decide)
    have g2 : h ≠ 1 := by rcases g with rfl | rfl <;> decide
    have g4 : h ≠ 4 := by rcases g with rfl | rfl <;> decide
    exact ⟨Or.inr (Or.inr (Or.inl rfl)), fun _ => by rw [pk_un (by omega)]; exact t0 g2, fun z => absurd rfl z, fun _ => by rw [pk_un (by omega)]; exact t2 g4⟩
  · rw [o2] at hh ⊢
    have g : h = 0 ∨ h = 4 := by
      rcases h4 with rfl | rfl | rfl | rfl
      · exact Or.inl rfl
      · exact absurd hh (by decide)
      · exact absurd hh (by decide)
      · exact Or.inr rfl
    have g2 : h ≠ 1 := by rcases g with rfl | rfl <;> decide
    have g4 : h ≠ 2 := by rcases g with rfl | rfl <;> decide
    exact ⟨Or.inr (Or.inr (Or.inr rfl)), fun _ => by rw [pk_un (by omega)]; exact t0 g2, fun _ => by rw [pk_un (by omega)]; exact t1 g4, fun z => absurd rfl z⟩
/-! places of registers -/
theorem sm_i0 (r : Nat) : nI r * 3 = nI (r * 3) := pk_mul r 3
theorem sm_ic (r c : Nat) : nI r * 3 + nI c = nI (r * 3 + c) := by rw [sm_i0, nI_add]
/-- three places from k on are written -/
def sm_u3 (a : Nat → Int32) (k : Nat) (v : Int32) : Nat → Int32 := upd (upd (upd a k v) (k + 1) v) (k + 2) v
theorem sm_u3_in {a : Nat → Int32} {k j : Nat} {v : Int32} (h : k ≤ j) (h2 : j ≤ k + 2) : sm_u3 a k v j = v := by
  unfold sm_u3 upd
  split
  · rfl
  · split
    · rfl
    · split
      · rfl
      · omega
theorem sm_u3_out {a : Nat → Int32} {k j : Nat} {v : Int32} (h : j < k ∨ k + 2 < j) : sm_u3 a k v j = a j := by
  unfold sm_u3
  rw [pk_un (by omega), pk_un (by omega), pk_un (by omega)]
/-! ===== words ===== -/
def sm_pl (w : Nat) : Nat := if 32 ≤ w then 13 else 22
theorem sm_plP (w : Nat) : sm_P (sm_pl w) := by
  unfold sm_pl sm_P
  split
  · exact Or.inl rfl
  · exact Or.inr rfl
/-- word w is c; it is kept as x, with one bit wrong if y says so -/
def sm_W (w : Nat) (c x y : Int32) : Prop := sm_G (sm_pl w) c ∧ ((y = 0 ∧ x = c) ∨ (y = 1 ∧ ∃ b : Nat, b < sm_pl w ∧ x = c ^^^ ((1 : Int32) <<< (nI b &&& 31))))
theorem sm_corW {w : Nat} {c x y : Int32} (t : sm_W w c x y) {post : Int32 → Prop} (hp : post c) : wpX_correct post () x (nI (sm_pl w)) := by
  obtain ⟨g, ⟨_, e⟩ | ⟨_, b, hb, e⟩⟩ := t
  · rw [e]; exact sm_cor0 (sm_plP w) g hp
  · rw [e]; exact sm_cor1 (sm_plP w) g hb hp
theorem sm_po {w : Nat} (hw : w < 48) {post : Int32 → Prop} (hp : post (nI (sm_pl w))) : wpX_placesOf post () (nI w) :=
  pk_le 32 w (fun h => by rw [show sm_pl w = 13 from if_pos h] at hp; exact hp) (fun h => by rw [show sm_pl w = 22 from if_neg (by omega)] at hp; exact hp)
section
variable {ph wh sd st oc : Int32} {a1 a2 a3 a4 a5 a6 a7 a8 : Nat → Int32}
theorem sm_repair {post : St1 → Prop} {w : Nat} {c : Int32} (hw : w < 48) (t : sm_W w c (a5 w) (a6 w)) (hp : post (ph, wh, sd, st, oc, a1, a2, a3, a4, upd a5 w c, upd a6 w 0, a7, a8)) : wpX_repair post (ph, wh, sd, st, oc, a1, a2, a3, a4, a5, a6, a7, a8) (nI w) := by
  unfold wpX_repair
  dsimp only
  rw [nI_clamp (show w < 2 ^ 31 by omega)]
  exact sm_po hw ⟨vp_in_nI hw (by omega), sm_corW t ⟨vp_in_nI hw (by omega), nm_e ⟨vp_in_nI hw (by omega), nm_e hp⟩⟩⟩
theorem sm_readWord {w : Nat} (hw : w < 48) (c : Int32) : ∃ d : Int32, (32 ≤ w → sm_by d) ∧ ∀ (post : Int32 → Prop) (ph wh sd st oc : Int32) (a1 a2 a3 a4 a5 a6 a7 a8 : Nat → Int32), sm_W w c (a5 w) (a6 w) → post d → wpX_readWord post (ph, wh, sd, st, oc, a1, a2, a3, a4, a5, a6, a7, a8) (nI w) := by
  obtain ⟨d, hd, H⟩ := sm_dec c (sm_plP w)
  refine ⟨d, fun h => hd (if_pos h), fun post ph wh sd st oc a1 a2 a3 a4 a5 a6 a7 a8 t hp => ?_⟩
  unfold wpX_readWord
  dsimp only
  rw [nI_clamp (show w < 2 ^ 31 by omega)]
  exact sm_po hw ⟨vp_in_nI hw (by omega), sm_corW t (H _ hp)⟩
theorem sm_readRep {w : Nat} (hw : w < 48) (c : Int32) : ∃ d : Int32, (32 ≤ w → sm_by d) ∧ ∀ (post : Int32 → St1 → Prop) (ph wh sd st oc : Int32) (a1 a2 a3 a4 a5 a6 a7 a8 : Nat → Int32), sm_W w c (a5 w) (a6 w) → post d (ph, wh, sd, st, oc, a1, a2, a3, a4, upd a5 w c, upd a6 w 0, a7, a8) → wpX_readAndRepair post (ph, wh, sd, st, oc, a1, a2, a3, a4, a5, a6, a7, a8) (nI w) := by
  obtain ⟨d, hd, H⟩ := sm_readWord hw c
  refine ⟨d, hd, fun post ph wh sd st oc a1 a2 a3 a4 a5 a6 a7 a8 t hp => ?_⟩
  unfold wpX_readAndRepair
  dsimp only
  refine sm_repair hw t ?_
  dsimp only
  exact H _ _ _ _ _ _ _ _ _ _ _ _ _ _ (by rw [pk_us, pk_us]; exact ⟨t.1, Or.inl ⟨rfl, rfl⟩⟩) hp
theorem sm_writeWord {w : Nat} (hw : w < 48) (v : Int32) : ∃ c : Int32, sm_G (sm_pl w) c ∧ ∀ (post : St1 → Prop) (ph wh sd st oc : Int32) (a1 a2 a3 a4 a5 a6 a7 a8 : Nat → Int32), post (ph, wh, sd, st, oc, a1, a2, a3, a4, upd a5 w c, upd a6 w 0, a7, a8) → wpX_writeWord post (ph, wh, sd, st, oc, a1, a2, a3, a4, a5, a6, a7, a8) (nI w) v := by
  obtain ⟨c, hc, H⟩ := sm_enc v (sm_plP w)
  refine ⟨c, hc, fun post ph wh sd st oc a1 a2 a3 a4 a5 a6 a7 a8 hp => ?_⟩
  unfold wpX_writeWord
  dsimp only
  rw [nI_clamp (show w < 2 ^ 31 by omega)]
  exact sm_po hw (H _ ⟨vp_in_nI hw (by omega), nm_e ⟨vp_in_nI hw (by omega), nm_e hp⟩⟩)
/-! ===== votes and copies ===== -/
theorem sm_votePlace {post : Int32 → Prop} {v h : Int32} (t : sm_T v h (a2 0) (a2 1) (a2 2)) (hp : post v) : wpX_votePlace post (ph, wh, sd, st, oc, a1, a2, a3, a4, a5, a6, a7, a8) := by
  show post _
  rw [sm_T_vote t]
  exact hp
theorem sm_voteReg {post : Int32 → Prop} {v h : Int32} {r : Nat} (hr : r < 4) (t : sm_T v h (a1 (r * 3)) (a1 (r * 3 + 1)) (a1 (r * 3 + 2))) (hp : post v) : wpX_voteRegister post (ph, wh, sd, st, oc, a1, a2, a3, a4, a5, a6, a7, a8) (nI r) := by
  have e0 := sm_i0 r
  have e1 : nI r * 3 + 1 = nI (r * 3 + 1) := sm_ic r 1
  have e2 : nI r * 3 + 2 = nI (r * 3 + 2) := sm_ic r 2
  unfold wpX_voteRegister
  dsimp only
  rw [e0] at e1 e2
  rw [e0, e1, e2, nI_clamp (show r * 3 < 2 ^ 31 by omega), nI_clamp (show r * 3 + 1 < 2 ^ 31 by omega), nI_clamp (show r * 3 + 2 < 2 ^ 31 by omega)]
  refine ⟨vp_in_nI (by omega) (by omega), vp_in_nI (by omega) (by omega), vp_in_nI (by omega) (by omega), ?_⟩
  show post _
  rw [sm_T_vote t]
  exact hp
theorem sm_writePlace {post : St1 → Prop} {v : Int32} (hp : post (ph, wh, sd, st, oc, a1, sm_u3 a2 0 v, a3, a4, a5, a6, a7, a8)) : wpX_writePlace post (ph, wh, sd, st, oc, a1, a2, a3, a4, a5, a6, a7, a8) v :=
  ⟨4, pk_le 3 0 (fun z => absurd z (by omega)) (fun _ => ⟨pk_in 0 3 (by omega), nm_r (e' := upd a2 0 v) (by rw [sb_cl0]) (nm_r (show (0 : Int32) + 1 = nI 1 by decide)
    (pk_le 3 1 (fun z => absurd z (by omega)) (fun _ => ⟨pk_in 1 3 (by omega), nm_r (e' := upd (upd a2 0 v) 1 v) (by rw [nI_clamp (show 1 < 2 ^ 31 by omega)]) (nm_r (show nI 1 + 1 = nI 2 by decide)
    (pk_le 3 2 (fun z => absurd z (by omega)) (fun _ => ⟨pk_in 2 3 (by omega), nm_r (e' := sm_u3 a2 0 v) (by rw [nI_clamp (show 2 < 2 ^ 31 by omega)]; rfl) (nm_r (show nI 2 + 1 = nI 3 by decide)
    (pk_le 3 3 (fun _ => hp) (fun z => absurd z (by omega))))⟩)))⟩)))⟩)⟩
theorem sm_writeReg {post : St1 → Prop} {v : Int32} {r : Nat} (hr : r < 4) (hp : post (ph, wh, sd, st, oc, sm_u3 a1 (r * 3) v, a2, a3, a4, a5, a6, a7, a8)) : wpX_writeRegister post (ph, wh, sd, st, oc, a1, a2, a3, a4, a5, a6, a7, a8) (nI r) v :=
  ⟨4, pk_le 3 0 (fun z => absurd z (by omega)) (fun _ => ⟨pk_in (r * 3) 12 (by omega) (sm_ic r 0), nm_r (e' := upd a1 (r * 3) v) (by rw [pk_cl (x := nI r * 3 + 0) (r * 3) (sm_ic r 0)]) (nm_r (show (0 : Int32) + 1 = nI 1 by decide)
    (pk_le 3 1 (fun z => absurd z (by omega)) (fun _ => ⟨pk_in (r * 3 + 1) 12 (by omega) (sm_ic r 1), nm_r (e' := upd (upd a1 (r * 3) v) (r * 3 + 1) v) (by rw [pk_cl (r * 3 + 1) (sm_ic r 1)]) (nm_r (show nI 1 + 1 = nI 2 by decide)
    (pk_le 3 2 (fun z => absurd z (by omega)) (fun _ => ⟨pk_in (r * 3 + 2) 12 (by omega) (sm_ic r 2), nm_r (e' := sm_u3 a1 (r * 3) v) (by rw [pk_cl (r * 3 + 2) (sm_ic r 2)]; rfl) (nm_r (show nI 2 + 1 = nI 3 by decide)
    (pk_le 3 3 (fun _ => hp) (fun z => absurd z (by omega))))⟩)))⟩)))⟩)⟩
/-! ===== work ===== -/
/-- the three results -/
def sm_r3 (a : Nat → Int32) (x0 x1 x2 : Int32) : Nat → Int32 := upd (upd (upd a 0 x0) 1 x1) 2 x2
theorem sm_r3_0 {a : Nat → Int32} {x0 x1 x2 : Int32} : sm_r3 a x0 x1 x2 0 = x0 := rfl
theorem sm_r3_1 {a : Nat → Int32} {x0 x1 x2 : Int32} : sm_r3 a x0 x1 x2 1 = x1 := rfl
theorem sm_r3_2 {a : Nat → Int32} {x0 x1 x2 : Int32} : sm_r3 a x0 x1 x2 2 = x2 := rfl
theorem sm_pass {post : Int32 → St1 → Prop} {v h : Int32} (t : sm_T 0 h (a4 0) (a4 1) (a4 2)) (hp : ∀ b8, post v (ph, wh, sd, st, oc, a1, a2, a3, a4, a5, a6, a7, b8)) : wpX_passThrice post (ph, wh, sd, st, oc, a1, a2, a3, a4, a5, a6, a7, a8) v := by
  have tv := sm_T_vote (sm_T_work (v := v) t)
  have hq : wpX_vote (fun r_2 => post r_2 (ph, wh, sd, st, oc, a1, a2, a3, a4, a5, a6, a7, sm_r3 a8 (v ^^^ a4 0) (v ^^^ a4 1) (v ^^^ a4 2))) () (sm_r3 a8 (v ^^^ a4 0) (v ^^^ a4 1) (v ^^^ a4 2) 0) (sm_r3 a8 (v ^^^ a4 0) (v ^^^ a4 1) (v ^^^ a4 2) 1) (sm_r3 a8 (v ^^^ a4 0) (v ^^^ a4 1) (v ^^^ a4 2) 2) := by
    rw [sm_r3_0, sm_r3_1, sm_r3_2]
    show post _ _
    rw [tv]
    exact hp _
  exact ⟨4, pk_le 3 0 (fun z => absurd z (by omega)) (fun _ => ⟨pk_in 0 3 (by omega), pk_in 0 3 (by omega), nm_r (e' := upd a8 0 (v ^^^ a4 0)) (by rw [sb_cl0]) (nm_r (show (0 : Int32) + 1 = nI 1 by decide)
    (pk_le 3 1 (fun z => absurd z (by omega)) (fun _ => ⟨pk_in 1 3 (by omega), pk_in 1 3 (by omega), nm_r (e' := upd (upd a8 0 (v ^^^ a4 0)) 1 (v ^^^ a4 1)) (by rw [nI_clamp (show 1 < 2 ^ 31 by omega)]) (nm_r (show nI 1 + 1 = nI 2 by decide)
    (pk_le 3 2 (fun z => absurd z (by omega)) (fun _ => ⟨pk_in 2 3 (by omega), pk_in 2 3 (by omega), nm_r (e' := sm_r3 a8 (v ^^^ a4 0) (v ^^^ a4 1) (v ^^^ a4 2)) (by rw [nI_clamp (show 2 < 2 ^ 31 by omega)]; rfl) (nm_r (show nI 2 + 1 = nI 3 by decide)
    (pk_le 3 3 (fun _ => hq) (fun z => absurd z (by omega))))⟩)))⟩)))⟩)⟩
theorem sm_pass2 {post : Int32 → St1 → Prop} {v h : Int32} (t : sm_T 0 h (a4 0) (a4 1) (a4 2)) (hp : ∀ b8, post v (ph, wh, sd, st, oc, a1, a2, a3, a4, a5, a6, a7, b8)) : wpX_passThrice_2 post (ph, wh, sd, st, oc, a1, a2, a3, a4, a5, a6, a7, a8) v := by
  have tv := sm_T_vote (sm_T_work (v := v) t)
  have hq : wpX_vote (fun r_2 => post r_2 (ph, wh, sd, st, oc, a1, a2, a3, a4, a5, a6, a7, sm_r3 a8 (v ^^^ a4 0) (v ^^^ a4 1) (v ^^^ a4 2))) () (sm_r3 a8 (v ^^^ a4 0) (v ^^^ a4 1) (v ^^^ a4 2) 0) (sm_r3 a8 (v ^^^ a4 0) (v ^^^ a4 1) (v ^^^ a4 2) 1) (sm_r3 a8 (v ^^^ a4 0) (v ^^^ a4 1) (v ^^^ a4 2) 2) := by
    rw [sm_r3_0, sm_r3_1, sm_r3_2]
    show post _ _
    rw [tv]
    exact hp _
  exact ⟨4, pk_le 3 0 (fun z => absurd z (by omega)) (fun _ => ⟨pk_in 0 3 (by omega), pk_in 0 3 (by omega), nm_r (e' := upd a8 0 (v ^^^ a4 0)) (by rw [sb_cl0]) (nm_r (show (0 : Int32) + 1 = nI 1 by decide)
    (pk_le 3 1 (fun z => absurd z (by omega)) (fun _ => ⟨pk_in 1 3 (by omega), pk_in 1 3 (by omega), nm_r (e' := upd (upd a8 0 (v ^^^ a4 0)) 1 (v ^^^ a4 1)) (by rw [nI_clamp (show 1 < 2 ^ 31 by omega)]) (nm_r (show nI 1 + 1 = nI 2 by decide)
    (pk_le 3 2 (fun z => absurd z (by omega)) (fun _ => ⟨pk_in 2 3 (by omega), pk_in 2 3 (by omega), nm_r (e' := sm_r3 a8 (v ^^^ a4 0) (v ^^^ a4 1) (v ^^^ a4 2)) (by rw [nI_clamp (show 2 < 2 ^ 31 by omega)]; rfl) (nm_r (show nI 2 + 1 = nI 3 by decide)
    (pk_le 3 3 (fun _ => hq) (fun z => absurd z (by omega))))⟩)))⟩)))⟩)⟩
end
theorem sm_ab8 (a b : Int32) : ∀ f x3 x4 i, i ≤ 8 → 8 - i < f → sm_by x3 → sm_lo 1 x4 → ∃ d : Int32, sm_by d ∧ ∀ post : Int32 → Prop, post d → wX_addBits_8 post a b f x3 x4 (nI i) := by
  intro f
  induction f with
  | zero => intro x3 x4 i h1 h2; omega
  | succ f ih =>
    intro x3 x4 i h1 h2 h3 h4
    by_cases e : i = 8
    · subst e
      exact ⟨x3, h3, fun post hp => br_t (nI_le (Nat.le_refl _) (by omega)) hp⟩
    · have la : sm_lo 1 ((a >>> (nI i &&& 31)) &&& 1) := sm_lo_andr sm_lo_1
      have lb : sm_lo 1 ((b >>> (nI i &&& 31)) &&& 1) := sm_lo_andr sm_lo_1
      obtain ⟨d, hd, H⟩ := ih (x3 ||| (((((a >>> (nI i &&& 31)) &&& 1) ^^^ ((b >>> (nI i &&& 31)) &&& 1)) ^^^ x4) <<< (nI i &&& 31))) (((((a >>> (nI i &&& 31)) &&& 1) &&& ((b >>> (nI i &&& 31)) &&& 1)) ||| (((a >>> (nI i &&& 31)) &&& 1) &&& x4)) ||| (((b >>> (nI i &&& 31)) &&& 1) &&& x4)) (i + 1) (by omega) (by omega)
        (sm_lo_or h3 (sm_lo_mono (by omega) (sm_lo_shl (by omega) (sm_lo_xor (sm_lo_xor la lb) h4)))) (sm_lo_or (sm_lo_or (sm_lo_and la) (sm_lo_and la)) (sm_lo_and lb))
      exact ⟨d, hd, fun post hp => br_f (nI_ge (b := 8) (by omega) (by omega)) (nm_e (nm_e (nm_e (nm_r (nI_1 i) (H post hp)))))⟩
theorem sm_addBits (a b c : Int32) (hc : sm_lo 1 c) : ∃ d : Int32, sm_by d ∧ ∀ post : Int32 → Prop, post d → wpX_addBits post () a b c := by
  obtain ⟨d, hd, H⟩ := sm_ab8 a b 9 0 c 0 (by omega) (by omega) (sm_lo_0 8) hc
  exact ⟨d, hd, fun post hp => ⟨9, H post hp⟩⟩
theorem sm_workOut (o a b n : Int32) (ha : sm_by a) (hb : sm_by b) (hn : sm_by n) : ∃ d : Int32, sm_by d ∧ ∀ post : Int32 → Prop, post d → wpX_workOut post () o a b n := by
  by_cases c0 : o < 1
  · exact ⟨b, hb, fun post hp => br_t c0 hp⟩
  by_cases c9 : 9 < o
  · exact ⟨b, hb, fun post hp => br_f c0 (br_t c9 hp)⟩
  by_cases c1 : o = 1
  · exact ⟨n, hn, fun post hp => br_f c0 (br_f c9 (br_t c1 hp))⟩
  by_cases c2 : o = 2
  · exact ⟨b, hb, fun post hp => br_f c0 (br_f c9 (br_f c1 (br_t c2 hp)))⟩
  by_cases c3 : o = 3
  · exact ⟨b, hb, fun post hp => br_f c0 (br_f c9 (br_f c1 (br_f c2 (br_t c3 hp))))⟩
  by_cases c4 : o = 4
  · obtain ⟨d, hd, H⟩ := sm_addBits a b 0 (sm_lo_0 1)
    exact ⟨d, hd, fun post hp => br_f c0 (br_f c9 (br_f c1 (br_f c2 (br_f c3 (br_t c4 (H _ hp))))))⟩
  by_cases c5 : o = 5
  · obtain ⟨d, hd, H⟩ := sm_addBits a (b ^^^ 255) 1 sm_lo_1
    exact ⟨d, hd, fun post hp => br_f c0 (br_f c9 (br_f c1 (br_f c2 (br_f c3 (br_f c4 (br_t c5 (H _ hp)))))))⟩
  by_cases c6 : o = 6
  · exact ⟨a &&& b, sm_lo_and ha, fun post hp => br_f c0 (br_f c9 (br_f c1 (br_f c2 (br_f c3 (br_f c4 (br_f c5 (br_t c6 hp)))))))⟩
  by_cases c7 : o = 7
  · exact ⟨a ^^^ b, sm_lo_xor ha hb, fun post hp => br_f c0 (br_f c9 (br_f c1 (br_f c2 (br_f c3 (br_f c4 (br_f c5 (br_f c6 (br_t c7 hp))))))))⟩
  by_cases c8 : o = 8
  · exact ⟨a >>> ((1 : Int32) &&& 31), sm_lo_shr1 (by omega) ha, fun post hp => br_f c0 (br_f c9 (br_f c1 (br_f c2 (br_f c3 (br_f c4 (br_f c5 (br_f c6 (br_f c7 (br_t c8 hp)))))))))⟩
  · exact ⟨n &&& 31, sm_lo_and hn, fun post hp => br_f c0 (br_f c9 (br_f c1 (br_f c2 (br_f c3 (br_f c4 (br_f c5 (br_f c6 (br_f c7 (br_f c8 (br_c (fun _ => hp) (fun _ => trivial)))))))))))⟩
theorem sm_workThrice (o va vb n : Int32) (ha : sm_by va) (hb : sm_by vb) (hn : sm_by n) {r s : Nat} (hr : r < 4) (hs : s < 4) : ∃ d : Int32, sm_by d ∧ ∀ (post : Int32 → St1 → Prop) (ph wh sd st oc : Int32) (a1 a2 a3 a4 a5 a6 a7 a8 : Nat → Int32) (h : Int32), (a1 (r * 3) = va ∧ a1 (r * 3 + 1) = va ∧ a1 (r * 3 + 2) = va) → (a1 (s * 3) = vb ∧ a1 (s * 3 + 1) = vb ∧ a1 (s * 3 + 2) = vb) → sm_T 0 h (a4 0) (a4 1) (a4 2) → (∀ b8, post d (ph, wh, sd, st, oc, a1, a2, a3, a4, a5, a6, a7, b8)) → wpX_workThrice post (ph, wh, sd, st, oc, a1, a2, a3, a4, a5, a6, a7, a8) o (nI r) (nI s) n := by
  obtain ⟨v, hv, H⟩ := sm_workOut o va vb n ha hb hn
  refine ⟨v, hv, fun post ph wh sd st oc a1 a2 a3 a4 a5 a6 a7 a8 h ea eb t hp => ?_⟩
  have tv := sm_T_vote (sm_T_work (v := v) t)
  have hq : wpX_vote (fun r_2 => post r_2 (ph, wh, sd, st, oc, a1, a2, a3, a4, a5, a6, a7, sm_r3 a8 (v ^^^ a4 0) (v ^^^ a4 1) (v ^^^ a4 2))) () (sm_r3 a8 (v ^^^ a4 0) (v ^^^ a4 1) (v ^^^ a4 2) 0) (sm_r3 a8 (v ^^^ a4 0) (v ^^^ a4 1) (v ^^^ a4 2) 1) (sm_r3 a8 (v ^^^ a4 0) (v ^^^ a4 1) (v ^^^ a4 2) 2) := by
    rw [sm_r3_0, sm_r3_1, sm_r3_2]
    show post _ _
    rw [tv]
    exact hp _
  obtain ⟨ea0, ea1, ea2⟩ := ea
  obtain ⟨eb0, eb1, eb2⟩ := eb
  have k0 : ∀ Q : Int32 → Prop, Q v → wpX_workOut Q () o (a1 (nI r * 3 + 0).toNatClampNeg) (a1 (nI s * 3 + 0).toNatClampNeg) n := fun Q hQ => by
    rw [pk_cl (x := nI r * 3 + 0) (r * 3) (sm_ic r 0), pk_cl (x := nI s * 3 + 0) (s * 3) (sm_ic s 0), ea0, eb0]; exact H Q hQ
  have k1 : ∀ Q : Int32 → Prop, Q v → wpX_workOut Q () o (a1 (nI r * 3 + nI 1).toNatClampNeg) (a1 (nI s * 3 + nI 1).toNatClampNeg) n := fun Q hQ => by
    rw [pk_cl (r * 3 + 1) (sm_ic r 1), pk_cl (s * 3 + 1) (sm_ic s 1), ea1, eb1]; exact H Q hQ
  have k2 : ∀ Q : Int32 → Prop, Q v → wpX_workOut Q () o (a1 (nI r * 3 + nI 2).toNatClampNeg) (a1 (nI s * 3 + nI 2).toNatClampNeg) n := fun Q hQ => by
    rw [pk_cl (r * 3 + 2) (sm_ic r 2), pk_cl (s * 3 + 2) (sm_ic s 2), ea2, eb2]; exact H Q hQ
  exact ⟨4, pk_le 3 0 (fun z => absurd z (by omega)) (fun _ => ⟨pk_in (r * 3) 12 (by omega) (sm_ic r 0), pk_in (s * 3) 12 (by omega) (sm_ic s 0), k0 _ ⟨pk_in 0 3 (by omega), pk_in 0 3 (by omega), nm_r (e' := upd a8 0 (v ^^^ a4 0)) (by rw [sb_cl0]) (nm_r (show (0 : Int32) + 1 = nI 1 by decide)
    (pk_le 3 1 (fun z => absurd z (by omega)) (fun _ => ⟨pk_in (r * 3 + 1) 12 (by omega) (sm_ic r 1), pk_in (s * 3 + 1) 12 (by omega) (sm_ic s 1), k1 _ ⟨pk_in 1 3 (by omega), pk_in 1 3 (by omega), nm_r (e' := upd (upd a8 0 (v ^^^ a4 0)) 1 (v ^^^ a4 1)) (by rw [nI_clamp (show 1 < 2 ^ 31 by omega)]) (nm_r (show nI 1 + 1 = nI 2 by decide)
    (pk_le 3 2 (fun z => absurd z (by omega)) (fun _ => ⟨pk_in (r * 3 + 2) 12 (by omega) (sm_ic r 2), pk_in (s * 3 + 2) 12 (by omega) (sm_ic s 2), k2 _ ⟨pk_in 2 3 (by omega), pk_in 2 3 (by omega), nm_r (e' := sm_r3 a8 (v ^^^ a4 0) (v ^^^ a4 1) (v ^^^ a4 2)) (by rw [nI_clamp (show 2 < 2 ^ 31 by omega)]; rfl) (nm_r (show nI 2 + 1 = nI 3 by decide)
    (pk_le 3 3 (fun _ => hq) (fun z => absurd z (by omega))))⟩⟩)))⟩⟩)))⟩⟩)⟩
end
section
/-! ===== the picture of a machine: registers, place, words, steps done, stopped, outs, the outs' list ===== -/
abbrev sm_A : Type := (Nat → Int32) × Nat × (Nat → Int32) × Nat × Int32 × Nat × (Nat → Int32)
def sm_K (A : sm_A) : Prop := match A with
  | (rg, pl, wd, sd, st, oc, ol) => (∀ r, r < 4 → sm_by (rg r)) ∧ pl < 32 ∧ sd < 48 ∧ (st = 0 ∨ st = 1) ∧ oc ≤ 16
/-- the words; the q words that were repaired last are clean -/
def sm_C (wd a5 a6 : Nat → Int32) (sd q : Nat) : Prop := ∀ w, w < 48 → sm_W w (wd w) (a5 w) (a6 w) ∧ ((sd + 47 - w) % 48 < q → a6 w = 0)
/-- a state stands for a picture -/
def sm_R (A : sm_A) (q : Nat) (s : St1) : Prop := match A with
  | (rg, pl, wd, sd, st, oc, ol) => match s with
    | (ph, wh, sd', st', oc', a1, a2, a3, a4, a5, a6, a7, a8) => (∀ r, r < 4 → sm_T (rg r) (a3 r) (a1 (r * 3)) (a1 (r * 3 + 1)) (a1 (r * 3 + 2))) ∧ sm_T (nI pl) ph (a2 0) (a2 1) (a2 2) ∧ sm_T 0 wh (a4 0) (a4 1) (a4 2) ∧ sm_C wd a5 a6 sd q ∧ sd' = nI sd ∧ st' = st ∧ oc' = nI oc ∧ a7 = ol
/-- no copy is hit -/
def sm_Q (s : St1) : Prop := match s with
  | (ph, wh, sd', st', oc', a1, a2, a3, a4, a5, a6, a7, a8) => ph = 0 ∧ ∀ r, r < 4 → a3 r = 0
def sm_S (A : sm_A) (q : Nat) (s : St1) : Prop := sm_R A q s ∧ sm_Q s
section
variable {ph wh sd' st' oc' : Int32} {a1 a2 a3 a4 a5 a6 a7 a8 : Nat → Int32} {rg : Nat → Int32} {pl : Nat} {wd : Nat → Int32} {sd : Nat} {st : Int32} {oc : Nat} {ol : Nat → Int32}
theorem sm_R_mk {q : Nat} (h1 : ∀ r, r < 4 → sm_T (rg r) (a3 r) (a1 (r * 3)) (a1 (r * 3 + 1)) (a1 (r * 3 + 2))) (h2 : sm_T (nI pl) ph (a2 0) (a2 1) (a2 2)) (h3 : sm_T 0 wh (a4 0) (a4 1) (a4 2)) (h4 : sm_C wd a5 a6 sd q) (h5 : sd' = nI sd) (h6 : st' = st) (h7 : oc' = nI oc) (h8 : a7 = ol) : sm_R (rg, pl, wd, sd, st, oc, ol) q (ph, wh, sd', st', oc', a1, a2, a3, a4, a5, a6, a7, a8) :=
  And.intro h1 (And.intro h2 (And.intro h3 (And.intro h4 (And.intro h5 (And.intro h6 (And.intro h7 h8))))))
theorem sm_Q_mk (h1 : ph = 0) (h2 : ∀ r, r < 4 → a3 r = 0) : sm_Q (ph, wh, sd', st', oc', a1, a2, a3, a4, a5, a6, a7, a8) := And.intro h1 h2
theorem sm_K_mk (h1 : ∀ r, r < 4 → sm_by (rg r)) (h2 : pl < 32) (h3 : sd < 48) (h4 : st = 0 ∨ st = 1) (h5 : oc ≤ 16) : sm_K (rg, pl, wd, sd, st, oc, ol) := And.intro h1 (And.intro h2 (And.intro h3 (And.intro h4 h5)))
/-! words that change -/
theorem sm_C_put {q w : Nat} {c : Int32} (h : sm_C wd a5 a6 sd q) (hG : sm_G (sm_pl w) c) : sm_C (upd wd w c) (upd a5 w c) (upd a6 w 0) sd q := by
  intro w' hw'
  by_cases e : w' = w
  · subst e
    rw [pk_us, pk_us, pk_us]
    exact ⟨⟨hG, Or.inl ⟨rfl, rfl⟩⟩, fun _ => rfl⟩
  · rw [pk_un e, pk_un e, pk_un e]
    exact h w' hw'
theorem sm_C_fix {q w : Nat} (hw : w < 48) (h : sm_C wd a5 a6 sd q) : sm_C wd (upd a5 w (wd w)) (upd a6 w 0) sd q := by
  intro w' hw'
  by_cases e : w' = w
  · subst e
    rw [pk_us, pk_us]
    exact ⟨⟨(h w' hw').1.1, Or.inl ⟨rfl, rfl⟩⟩, fun _ => rfl⟩
  · rw [pk_un e, pk_un e]
    exact h w' hw'
theorem sm_dist {sd w q : Nat} (hs : sd < 48) (hw : w < 48) (n : w ≠ sd) (h : ((sd + 1) % 48 + 47 - w) % 48 < q + 1) : (sd + 47 - w) % 48 < q := by
  rcases Nat.lt_or_ge w sd with g | g
  · by_cases e : sd = 47
    · subst e
      rw [show (47 + 1) % 48 + 47 - w = 47 - w by omega, Nat.mod_eq_of_lt (by omega)] at h
      rw [show 47 + 47 - w = (46 - w) + 48 by omega, Nat.add_mod_right, Nat.mod_eq_of_lt (by omega)]
      omega
    · rw [Nat.mod_eq_of_lt (show sd + 1 < 48 by omega), show sd + 1 + 47 - w = (sd - w) + 48 by omega, Nat.add_mod_right, Nat.mod_eq_of_lt (by omega)] at h
      rw [show sd + 47 - w = (sd - w - 1) + 48 by omega, Nat.add_mod_right, Nat.mod_eq_of_lt (by omega)]
      omega
  · rw [Nat.mod_eq_of_lt (show sd + 1 < 48 by omega), Nat.mod_eq_of_lt (by omega)] at h
    rw [Nat.mod_eq_of_lt (by omega)]
    omega
theorem sm_C_next {q : Nat} (hs : sd < 48) (h : sm_C wd a5 a6 sd q) : sm_C wd (upd a5 sd (wd sd)) (upd a6 sd 0) ((sd + 1) % 48) (q + 1) := by
  intro w' hw'
  by_cases e : w' = sd
  · subst e
    rw [pk_us, pk_us]
    exact ⟨⟨(h w' hw').1.1, Or.inl ⟨rfl, rfl⟩⟩, fun _ => rfl⟩
  · rw [pk_un e, pk_un e]
    exact ⟨(h w' hw').1, fun g => (h w' hw').2 (sm_dist hs hw' e g)⟩
/-! registers that change -/
theorem sm_T_u3 {v d : Int32} {r : Nat} (hr : r < 4) (h : ∀ r, r < 4 → sm_T (rg r) (a3 r) (a1 (r * 3)) (a1 (r * 3 + 1)) (a1 (r * 3 + 2))) (h0 : a3 r = 0) : ∀ r', r' < 4 → sm_T (upd rg r d r') (a3 r') (sm_u3 a1 (r * 3) d (r' * 3)) (sm_u3 a1 (r * 3) d (r' * 3 + 1)) (sm_u3 a1 (r * 3) d (r' * 3 + 2)) := by
  intro r' hr'
  by_cases e : r' = r
  · subst e
    rw [pk_us, h0, sm_u3_in (by omega) (by omega), sm_u3_in (by omega) (by omega), sm_u3_in (by omega) (by omega)]
    exact sm_T_eq rfl rfl rfl
  · rw [pk_un e, sm_u3_out (by omega), sm_u3_out (by omega), sm_u3_out (by omega)]
    exact h r' hr'
theorem sm_S_reg {q r : Nat} {d : Int32} (hr : r < 4) (h : sm_S (rg, pl, wd, sd, st, oc, ol) q (ph, wh, sd', st', oc', a1, a2, a3, a4, a5, a6, a7, a8)) : sm_S (upd rg r d, pl, wd, sd, st, oc, ol) q (ph, wh, sd', st', oc', sm_u3 a1 (r * 3) d, a2, a3, a4, a5, a6, a7, a8) := by
  obtain ⟨⟨h1, h2, h3, h4, h5, h6, h7, h8⟩, g1, g2⟩ := h
  exact ⟨sm_R_mk (sm_T_u3 (v := d) hr h1 (g2 r hr)) h2 h3 h4 h5 h6 h7 h8, sm_Q_mk g1 g2⟩
theorem sm_S_put {q w : Nat} {c : Int32} (hG : sm_G (sm_pl w) c) (h : sm_S (rg, pl, wd, sd, st, oc, ol) q (ph, wh, sd', st', oc', a1, a2, a3, a4, a5, a6, a7, a8)) : sm_S (rg, pl, upd wd w c, sd, st, oc, ol) q (ph, wh, sd', st', oc', a1, a2, a3, a4, upd a5 w c, upd a6 w 0, a7, a8) := by
  obtain ⟨⟨h1, h2, h3, h4, h5, h6, h7, h8⟩, g1, g2⟩ := h
  exact ⟨sm_R_mk h1 h2 h3 (sm_C_put h4 hG) h5 h6 h7 h8, sm_Q_mk g1 g2⟩
theorem sm_S_fix {q w : Nat} (hw : w < 48) (h : sm_S (rg, pl, wd, sd, st, oc, ol) q (ph, wh, sd', st', oc', a1, a2, a3, a4, a5, a6, a7, a8)) : sm_S (rg, pl, wd, sd, st, oc, ol) q (ph, wh, sd', st', oc', a1, a2, a3, a4, upd a5 w (wd w), upd a6 w 0, a7, a8) := by
  obtain ⟨⟨h1, h2, h3, h4, h5, h6, h7, h8⟩, g1, g2⟩ := h
  exact ⟨sm_R_mk h1 h2 h3 (sm_C_fix hw h4) h5 h6 h7 h8, sm_Q_mk g1 g2⟩
theorem sm_S_8 {q : Nat} {b8 : Nat → Int32} (h : sm_S (rg, pl, wd, sd, st, oc, ol) q (ph, wh, sd', st', oc', a1, a2, a3, a4, a5, a6, a7, a8)) : sm_S (rg, pl, wd, sd, st, oc, ol) q (ph, wh, sd', st', oc', a1, a2, a3, a4, a5, a6, a7, b8) := by
  obtain ⟨⟨h1, h2, h3, h4, h5, h6, h7, h8⟩, g1, g2⟩ := h
  exact ⟨sm_R_mk h1 h2 h3 h4 h5 h6 h7 h8, sm_Q_mk g1 g2⟩
theorem sm_S_st {q : Nat} {t : Int32} (h : sm_S (rg, pl, wd, sd, st, oc, ol) q (ph, wh, sd', st', oc', a1, a2, a3, a4, a5, a6, a7, a8)) : sm_S (rg, pl, wd, sd, t, oc, ol) q (ph, wh, sd', t, oc', a1, a2, a3, a4, a5, a6, a7, a8) := by
  obtain ⟨⟨h1, h2, h3, h4, h5, h6, h7, h8⟩, g1, g2⟩ := h
  exact ⟨sm_R_mk h1 h2 h3 h4 h5 rfl h7 h8, sm_Q_mk g1 g2⟩
theorem sm_S_all {q r : Nat} (hr : r < 4) (h : sm_S (rg, pl, wd, sd, st, oc, ol) q (ph, wh, sd', st', oc', a1, a2, a3, a4, a5, a6, a7, a8)) : a1 (r * 3) = rg r ∧ a1 (r * 3 + 1) = rg r ∧ a1 (r * 3 + 2) = rg r := by
  obtain ⟨⟨h1, h2, h3, h4, h5, h6, h7, h8⟩, g1, g2⟩ := h
  have t := h1 r hr
  rw [g2 r hr] at t
  exact sm_T_all t
theorem sm_S_T {q : Nat} (h : sm_S (rg, pl, wd, sd, st, oc, ol) q (ph, wh, sd', st', oc', a1, a2, a3, a4, a5, a6, a7, a8)) : sm_T 0 wh (a4 0) (a4 1) (a4 2) := by
  obtain ⟨⟨h1, h2, h3, h4, h5, h6, h7, h8⟩, g1, g2⟩ := h
  exact h3
theorem sm_R_W {q w : Nat} (hw : w < 48) (h : sm_R (rg, pl, wd, sd, st, oc, ol) q (ph, wh, sd', st', oc', a1, a2, a3, a4, a5, a6, a7, a8)) : sm_W w (wd w) (a5 w) (a6 w) := by
  obtain ⟨h1, h2, h3, h4, h5, h6, h7, h8⟩ := h
  exact (h4 w hw).1
theorem sm_R_r {q r : Nat} (hr : r < 4) (h : sm_R (rg, pl, wd, sd, st, oc, ol) q (ph, wh, sd', st', oc', a1, a2, a3, a4, a5, a6, a7, a8)) : sm_T (rg r) (a3 r) (a1 (r * 3)) (a1 (r * 3 + 1)) (a1 (r * 3 + 2)) := by
  obtain ⟨h1, h2, h3, h4, h5, h6, h7, h8⟩ := h
  exact h1 r hr
theorem sm_R_p {q : Nat} (h : sm_R (rg, pl, wd, sd, st, oc, ol) q (ph, wh, sd', st', oc', a1, a2, a3, a4, a5, a6, a7, a8)) : sm_T (nI pl) ph (a2 0) (a2 1) (a2 2) := by
  obtain ⟨h1, h2, h3, h4, h5, h6, h7, h8⟩ := h
  exact h2
end
/-! ===== voteAll ===== -/
theorem sm_voteAll {A : sm_A} {q : Nat} {s : St1} {post : St1 → Prop} (hR : sm_R A q s) (hp : ∀ s', sm_S A q s' → post s') : wpX_voteAll post s := by
  obtain ⟨rg, pl, wd, sd, st, oc, ol⟩ := A
  obtain ⟨ph, wh, sd', st', oc', a1, a2, a3, a4, a5, a6, a7, a8⟩ := s
  obtain ⟨h1, h2, h3, h4, h5, h6, h7, h8⟩ := hR
  refine pk_loop (σ := (Nat → Int32) × (Nat → Int32)) (fun n i s => wX_voteAll_2 post n (nI i) ph wh sd' st' oc' s.1 a2 s.2 a4 a5 a6 a7 a8)
    (fun i s => ∀ r, r < 4 → sm_T (rg r) (s.2 r) (s.1 (r * 3)) (s.1 (r * 3 + 1)) (s.1 (r * 3 + 2)) ∧ (r < i → s.2 r = 0)) 4 0 (a1, a3) (by omega) (fun r hr => ⟨h1 r hr, fun z => absurd z (by omega)⟩) ?_ ?_
  · intro n s hs
    refine pk_le 4 4 (fun _ => ?_) (fun z => absurd z (by omega))
    refine sm_votePlace h2 (sm_writePlace ?_)
    exact hp _ ⟨sm_R_mk (fun r hr => (hs r hr).1) (sm_T_eq (sm_u3_in (by omega) (by omega)) (sm_u3_in (by omega) (by omega)) (sm_u3_in (by omega) (by omega))) h3 h4 h5 h6 h7 h8, sm_Q_mk rfl (fun r hr => (hs r hr).2 hr)⟩
  · intro n i s hi hs hw
    refine pk_le 4 i (fun z => absurd z (by omega)) (fun _ => ?_)
    refine sm_voteReg hi (hs i hi).1 (sm_writeReg hi ?_)
    refine And.intro (pk_in i 4 hi) (nm_r (by rw [nI_clamp (by omega)]) (nm_r (nI_1 i) (hw (sm_u3 s.1 (i * 3) (rg i), upd s.2 i 0) ?_)))
    intro r hr
    dsimp only
    by_cases e : r = i
    · subst e
      rw [pk_us, sm_u3_in (by omega) (by omega), sm_u3_in (by omega) (by omega), sm_u3_in (by omega) (by omega)]
      exact ⟨sm_T_eq rfl rfl rfl, fun _ => rfl⟩
    · rw [pk_un e, sm_u3_out (by omega), sm_u3_out (by omega), sm_u3_out (by omega)]
      exact ⟨(hs r hr).1, fun z => (hs r hr).2 (by omega)⟩
/-! ===== what cells and outs do ===== -/
theorem sm_by_upd {rg : Nat → Int32} {r : Nat} {d : Int32} (h : ∀ r, r < 4 → sm_by (rg r)) (hd : sm_by d) : ∀ r', r' < 4 → sm_by (upd rg r d r') := by
  intro r' hr'
  by_cases e : r' = r
  · subst e
    rw [pk_us]
    exact hd
  · rw [pk_un e]
    exact h r' hr'
theorem sm_swc84 (rg : Nat → Int32) (pl : Nat) (wd : Nat → Int32) (sd : Nat) (st : Int32) (oc : Nat) (ol : Nat → Int32) (hK : sm_K (rg, pl, wd, sd, st, oc, ol)) {r k : Nat} (hr : r < 4) (hk : k < 16) (on : Nat) : ∃ rg' : Nat → Int32, sm_K (rg', pl, wd, sd, st, oc, ol) ∧ ∀ (q : Nat) (post : Int32 → St1 → Prop) (ph wh sd' st' oc' : Int32) (a1 a2 a3 a4 a5 a6 a7 a8 : Nat → Int32), sm_S (rg, pl, wd, sd, st, oc, ol) q (ph, wh, sd', st', oc', a1, a2, a3, a4, a5, a6, a7, a8) → (∀ s', sm_S (rg', pl, wd, sd, st, oc, ol) q s' → post (nI on) s') → wX_stepWithCells_84 post (nI r) (nI on) (nI k) ph wh sd' st' oc' a1 a2 a3 a4 a5 a6 a7 a8 := by
  obtain ⟨k1, k2, k3, k4, k5⟩ := hK
  obtain ⟨d, hd, H⟩ := sm_readRep (w := 32 + k) (by omega) (wd (32 + k))
  refine ⟨upd rg r d, sm_K_mk (sm_by_upd k1 (hd (by omega))) k2 k3 k4 k5, ?_⟩
  intro q post ph wh sd' st' oc' a1 a2 a3 a4 a5 a6 a7 a8 hS hp
  unfold wX_stepWithCells_84
  rw [show (32 : Int32) + nI k = nI (32 + k) from nI_add 32 k]
  refine H _ _ _ _ _ _ _ _ _ _ _ _ _ _ (sm_R_W (by omega) hS.1) ?_
  refine sm_pass (sm_S_T hS) (fun b8 => ?_)
  refine sm_writeReg hr ?_
  exact hp _ (sm_S_reg hr (sm_S_8 (sm_S_fix (by omega) hS)))
theorem sm_swc45 (rg : Nat → Int32) (pl : Nat) (wd : Nat → Int32) (sd : Nat) (st : Int32) (oc : Nat) (ol : Nat → Int32) (hK : sm_K (rg, pl, wd, sd, st, oc, ol)) (o n : Int32) (hn : sm_by n) {r t k : Nat} (hr : r < 4) (ht : t < 4) (hk : k < 16) (on : Nat) : ∃ rg' wd' : Nat → Int32, sm_K (rg', pl, wd', sd, st, oc, ol) ∧ ∀ (q : Nat) (post : Int32 → St1 → Prop) (ph wh sd' st' oc' : Int32) (a1 a2 a3 a4 a5 a6 a7 a8 : Nat → Int32), sm_S (rg, pl, wd, sd, st, oc, ol) q (ph, wh, sd', st', oc', a1, a2, a3, a4, a5, a6, a7, a8) → (∀ s', sm_S (rg', pl, wd', sd, st, oc, ol) q s' → post (nI on) s') → wX_stepWithCells_45 post o (nI r) n (nI on) (nI t) (nI k) ph wh sd' st' oc' a1 a2 a3 a4 a5 a6 a7 a8 := by
  obtain ⟨k1, k2, k3, k4, k5⟩ := id hK
  by_cases c1 : o = 1
  · obtain ⟨d, hd, H⟩ := sm_workThrice 1 (rg r) (rg t) n (k1 r hr) (k1 t ht) hn hr ht
    refine ⟨upd rg r d, wd, sm_K_mk (sm_by_upd k1 hd) k2 k3 k4 k5, ?_⟩
    intro q post ph wh sd' st' oc' a1 a2 a3 a4 a5 a6 a7 a8 hS hp
    refine br_t c1 (H _ _ _ _ _ _ _ _ _ _ _ _ _ _ _ (sm_S_all hr hS) (sm_S_all ht hS) (sm_S_T hS) (fun b8 => ?_))
    refine sm_writeReg hr ?_
    exact hp _ (sm_S_reg hr (sm_S_8 hS))
  by_cases c2 : o = 2
  · obtain ⟨rg', hK', H⟩ := sm_swc84 rg pl wd sd st oc ol hK hr hk on
    refine ⟨rg', wd, hK', ?_⟩
    intro q post ph wh sd' st' oc' a1 a2 a3 a4 a5 a6 a7 a8 hS hp
    exact br_f c1 (br_t c2 (H q post ph wh sd' st' oc' a1 a2 a3 a4 a5 a6 a7 a8 hS hp))
  by_cases c12 : o = 12
  · obtain ⟨rg', hK', H⟩ := sm_swc84 rg pl wd sd st oc ol hK hr hk on
    refine ⟨rg', wd, hK', ?_⟩
    intro q post ph wh sd' st' oc' a1 a2 a3 a4 a5 a6 a7 a8 hS hp
    exact br_f c1 (br_f c2 (br_t c12 (H q post ph wh sd' st' oc' a1 a2 a3 a4 a5 a6 a7 a8 hS hp)))
  · obtain ⟨c, hc, H⟩ := sm_writeWord (w := 32 + k) (by omega) (rg r)
    refine ⟨rg, upd wd (32 + k) c, sm_K_mk k1 k2 k3 k4 k5, ?_⟩
    intro q post ph wh sd' st' oc' a1 a2 a3 a4 a5 a6 a7 a8 hS hp
    refine br_f c1 (br_f c2 (br_f c12 ?_))
    refine sm_voteReg hr (sm_R_r hr hS.1) (sm_pass (sm_S_T hS) (fun b8 => ?_))
    show wpX_writeWord _ _ ((32 : Int32) + nI k) (rg r)
    rw [show (32 : Int32) + nI k = nI (32 + k) from nI_add 32 k]
    refine H _ _ _ _ _ _ _ _ _ _ _ _ _ _ ?_
    exact hp _ (sm_S_put hc (sm_S_8 hS))
theorem sm_swc (rg : Nat → Int32) (pl : Nat) (wd : Nat → Int32) (sd : Nat) (st : Int32) (oc : Nat) (ol : Nat → Int32) (hK : sm_K (rg, pl, wd, sd, st, oc, ol)) (o n : Int32) (hn : sm_by n) {r on : Nat} (hr : r < 4) (hon : on < 32) : ∃ (rg' wd' : Nat → Int32) (st2 : Int32) (y : Nat), y < 32 ∧ sm_K (rg', pl, wd', sd, st2, oc, ol) ∧ ∀ (q : Nat) (post : Int32 → St1 → Prop) (ph wh sd' st' oc' : Int32) (a1 a2 a3 a4 a5 a6 a7 a8 : Nat → Int32), sm_S (rg, pl, wd, sd, st, oc, ol) q (ph, wh, sd', st', oc', a1, a2, a3, a4, a5, a6, a7, a8) → (∀ s', sm_S (rg', pl, wd', sd, st2, oc, ol) q s' → post (nI y) s') → wpX_stepWithCells post (ph, wh, sd', st', oc', a1, a2, a3, a4, a5, a6, a7, a8) o (nI r) n (nI pl) (nI on) := by
  obtain ⟨k1, k2, k3, k4, k5⟩ := id hK
  by_cases c0 : o = 0
  · refine ⟨rg, wd, 1, pl, k2, sm_K_mk k1 k2 k3 (Or.inr rfl) k5, ?_⟩
    intro q post ph wh sd' st' oc' a1 a2 a3 a4 a5 a6 a7 a8 hS hp
    exact br_t c0 (hp _ (sm_S_st hS))
  obtain ⟨t, ht, et⟩ := pk_andE n (m := 3) 2 (by decide)
  by_cases c12 : o = 12
  · obtain ⟨k, hk, ek⟩ := pk_andE (rg t) (m := 15) 4 (by decide)
    obtain ⟨rg', wd', hK', H⟩ := sm_swc45 rg pl wd sd st oc ol hK o n hn hr ht hk on
    refine ⟨rg', wd', st, on, hon, hK', ?_⟩
    intro q post ph wh sd' st' oc' a1 a2 a3 a4 a5 a6 a7 a8 hS hp
    refine br_f c0 (nm_r et (br_t c12 ?_))
    refine sm_voteReg ht (sm_R_r ht hS.1) ?_
    show wX_stepWithCells_45 post o (nI r) n (nI on) (nI t) (rg t &&& 15) ph wh sd' st' oc' a1 a2 a3 a4 a5 a6 a7 a8
    rw [ek]
    exact H q post ph wh sd' st' oc' a1 a2 a3 a4 a5 a6 a7 a8 hS hp
  by_cases c13 : o = 13
  · obtain ⟨k, hk, ek⟩ := pk_andE (rg t) (m := 15) 4 (by decide)
    obtain ⟨rg', wd', hK', H⟩ := sm_swc45 rg pl wd sd st oc ol hK o n hn hr ht hk on
    refine ⟨rg', wd', st, on, hon, hK', ?_⟩
    intro q post ph wh sd' st' oc' a1 a2 a3 a4 a5 a6 a7 a8 hS hp
    refine br_f c0 (nm_r et (br_f c12 (br_t c13 ?_)))
    refine sm_voteReg ht (sm_R_r ht hS.1) ?_
    show wX_stepWithCells_45 post o (nI r) n (nI on) (nI t) (rg t &&& 15) ph wh sd' st' oc' a1 a2 a3 a4 a5 a6 a7 a8
    rw [ek]
    exact H q post ph wh sd' st' oc' a1 a2 a3 a4 a5 a6 a7 a8 hS hp
  · obtain ⟨k, hk, ek⟩ := pk_andE n (m := 15) 4 (by decide)
    obtain ⟨rg', wd', hK', H⟩ := sm_swc45 rg pl wd sd st oc ol hK o n hn hr ht hk on
    refine ⟨rg', wd', st, on, hon, hK', ?_⟩
    intro q post ph wh sd' st' oc' a1 a2 a3 a4 a5 a6 a7 a8 hS hp
    refine br_f c0 (nm_r et (br_f c12 (br_f c13 ?_)))
    rw [ek]
    exact H q post ph wh sd' st' oc' a1 a2 a3 a4 a5 a6 a7 a8 hS hp
theorem sm_stepOn (rg : Nat → Int32) (pl : Nat) (wd : Nat → Int32) (sd : Nat) (st : Int32) (oc : Nat) (ol : Nat → Int32) (hK : sm_K (rg, pl, wd, sd, st, oc, ol)) (o n : Int32) (hn : sm_by n) {r on : Nat} (hr : r < 4) (hon : on < 32) : ∃ (st2 : Int32) (oc2 : Nat) (ol2 : Nat → Int32) (y : Nat), y < 32 ∧ oc ≤ oc2 ∧ sm_K (rg, pl, wd, sd, st2, oc2, ol2) ∧ ∀ (q : Nat) (post : Int32 → St1 → Prop) (ph wh sd' st' oc' : Int32) (a1 a2 a3 a4 a5 a6 a7 a8 : Nat → Int32), sm_S (rg, pl, wd, sd, st, oc, ol) q (ph, wh, sd', st', oc', a1, a2, a3, a4, a5, a6, a7, a8) → (∀ s', sm_S (rg, pl, wd, sd, st2, oc2, ol2) q s' → post (nI y) s') → wpX_stepOn post (ph, wh, sd', st', oc', a1, a2, a3, a4, a5, a6, a7, a8) o (nI r) n (nI pl) (nI on) := by
  obtain ⟨k1, k2, k3, k4, k5⟩ := id hK
  by_cases c9 : o = 9
  · obtain ⟨d, hd, H⟩ := sm_workThrice 9 (rg r) (rg r) n (k1 r hr) (k1 r hr) hn hr hr
    obtain ⟨y, hy, ey⟩ := pk_andE d (m := 31) 5 (by decide)
    refine ⟨st, oc, ol, y, hy, Nat.le_refl _, hK, ?_⟩
    intro q post ph wh sd' st' oc' a1 a2 a3 a4 a5 a6 a7 a8 hS hp
    refine br_t c9 (H _ _ _ _ _ _ _ _ _ _ _ _ _ _ _ (sm_S_all hr hS) (sm_S_all hr hS) (sm_S_T hS) (fun b8 => ?_))
    show post (d &&& 31) _
    rw [ey]
    exact hp _ (sm_S_8 hS)
  by_cases c10 : o = 10
  · by_cases cz : rg r = 0
    · obtain ⟨y, hy, ey⟩ := pk_andE (n &&& 31) (m := 31) 5 (by decide)
      refine ⟨st, oc, ol, y, hy, Nat.le_refl _, hK, ?_⟩
      intro q post ph wh sd' st' oc' a1 a2 a3 a4 a5 a6 a7 a8 hS hp
      refine br_f c9 (sm_voteReg hr (sm_R_r hr hS.1) (br_t c10 (br_t cz (sm_pass (sm_S_T hS) (fun b8 => ?_)))))
      show post ((n &&& 31) &&& 31) _
      rw [ey]
      exact hp _ (sm_S_8 hS)
    · refine ⟨st, oc, ol, on, hon, Nat.le_refl _, hK, ?_⟩
      intro q post ph wh sd' st' oc' a1 a2 a3 a4 a5 a6 a7 a8 hS hp
      exact br_f c9 (sm_voteReg hr (sm_R_r hr hS.1) (br_t c10 (br_f cz (hp _ hS))))
  by_cases co : oc < 16
  · refine ⟨st, oc + 1, upd ol oc (rg r).toInt8.toInt32, on, hon, by omega, sm_K_mk k1 k2 k3 k4 (by omega), ?_⟩
    intro q post ph wh sd' st' oc' a1 a2 a3 a4 a5 a6 a7 a8 hS hp
    obtain ⟨⟨h1, h2, h3, h4, h5, h6, h7, h8⟩, g1, g2⟩ := id hS
    refine br_f c9 (sm_voteReg hr (sm_R_r hr hS.1) (br_f c10 (br_t (by rw [h7]; exact nI_lt (b := 16) co (by omega)) (sm_pass2 (sm_S_T hS) (fun b8 => ?_)))))
    refine And.intro (pk_in oc 16 co h7) (nm_r (by rw [pk_cl oc h7, h8]) (nm_r (by rw [h7, nI_1]) (hp _ ?_)))
    exact ⟨sm_R_mk h1 h2 h3 h4 h5 h6 rfl rfl, sm_Q_mk g1 g2⟩
  · refine ⟨1, oc, ol, pl, k2, Nat.le_refl _, sm_K_mk k1 k2 k3 (Or.inr rfl) k5, ?_⟩
    intro q post ph wh sd' st' oc' a1 a2 a3 a4 a5 a6 a7 a8 hS hp
    obtain ⟨⟨h1, h2, h3, h4, h5, h6, h7, h8⟩, g1, g2⟩ := id hS
    exact br_f c9 (sm_voteReg hr (sm_R_r hr hS.1) (br_f c10 (br_f (by rw [h7]; exact nI_nlt (a := oc) (b := 16) (by omega) (by omega)) (hp _ (sm_S_st hS)))))
/-! ===== the end of a step ===== -/
theorem sm_s119 {rg : Nat → Int32} {pl : Nat} {wd : Nat → Int32} {sd : Nat} {st : Int32} {oc : Nat} {ol : Nat → Int32} {ph wh sd' st' oc' : Int32} {a1 a2 a3 a4 a5 a6 a7 a8 : Nat → Int32} {q y : Nat} {post : St1 → Prop} (hs : sd < 48) (hS : sm_S (rg, pl, wd, sd, st, oc, ol) q (ph, wh, sd', st', oc', a1, a2, a3, a4, a5, a6, a7, a8)) (hp : ∀ s', sm_R (rg, y, wd, (sd + 1) % 48, st, oc, ol) (q + 1) s' → post s') : wX_step_119 post (nI y) ph wh sd' st' oc' a1 a2 a3 a4 a5 a6 a7 a8 := by
  obtain ⟨⟨h1, h2, h3, h4, h5, h6, h7, h8⟩, g1, g2⟩ := hS
  unfold wX_step_119
  refine sm_writePlace ?_
  have e1 : sd' - sd' / 48 * 48 = nI sd := by
    rw [h5]
    exact (pk_rem (a := sd) (d := 48) (by omega) (by omega) (by omega)).trans (by rw [Nat.mod_eq_of_lt hs])
  have e2 : (sd' + 1) - (sd' + 1) / 48 * 48 = nI ((sd + 1) % 48) := by
    rw [h5, nI_1]
    exact pk_rem (a := sd + 1) (d := 48) (by omega) (by omega) (by omega)
  have ex : ¬ (48 : Int32) = 0 ∧ wpX_repair (fun u => match u with | (f0_placeHits_130, f0_workHits_131, f0_stepsDone_132, f0_isStopped_133, f0_outCount_134, am1611_137, am1612_140, am1613_143, am1614_146, am1615_149, am1616_152, am1617_155, am1618_158) => (¬ (48 : Int32) = 0 ∧ (∀ f_160 : Int32, f_160 = (f0_stepsDone_132 + 1) - (f0_stepsDone_132 + 1) / 48 * 48 → (post (f0_placeHits_130, f0_workHits_131, f_160, f0_isStopped_133, f0_outCount_134, am1611_137, am1612_140, am1613_143, am1614_146, am1615_149, am1616_152, am1617_155, am1618_158))))) (ph, 0, sd', st', oc', a1, sm_u3 a2 0 (nI y), a3, sm_u3 a4 0 0, a5, a6, a7, a8) (sd' - sd' / 48 * 48) := by
    refine ⟨by decide, ?_⟩
    rw [e1]
    refine sm_repair hs (h4 sd hs).1 ?_
    refine And.intro (by decide) (nm_r e2 (hp _ ?_))
    exact sm_R_mk h1 (by rw [g1]; exact sm_T_eq (sm_u3_in (by omega) (by omega)) (sm_u3_in (by omega) (by omega)) (sm_u3_in (by omega) (by omega))) (sm_T_eq (sm_u3_in (by omega) (by omega)) (sm_u3_in (by omega) (by omega)) (sm_u3_in (by omega) (by omega))) (sm_C_next hs h4) rfl h6 h7 h8
  exact ⟨4, pk_le 3 0 (fun z => absurd z (by omega)) (fun _ => ⟨pk_in 0 3 (by omega), nm_r (e' := upd a4 0 0) (by rw [sb_cl0]) (nm_r (show (0 : Int32) + 1 = nI 1 by decide)
      (pk_le 3 1 (fun z => absurd z (by omega)) (fun _ => ⟨pk_in 1 3 (by omega), nm_r (e' := upd (upd a4 0 0) 1 0) (by rw [nI_clamp (show 1 < 2 ^ 31 by omega)]) (nm_r (show nI 1 + 1 = nI 2 by decide)
      (pk_le 3 2 (fun z => absurd z (by omega)) (fun _ => ⟨pk_in 2 3 (by omega), nm_r (e' := sm_u3 a4 0 0) (by rw [nI_clamp (show 2 < 2 ^ 31 by omega)]; rfl) (nm_r (show nI 2 + 1 = nI 3 by decide)
      (pk_le 3 3 (fun _ => ex) (fun z => absurd z (by omega))))⟩)))⟩)))⟩)⟩
end
section
/-! ===== one step ===== -/
def sm_st (A : sm_A) : Int32 := match A with
  | (rg, pl, wd, sd, st, oc, ol) => st
def sm_oc (A : sm_A) : Nat := match A with
  | (rg, pl, wd, sd, st, oc, ol) => oc
/-- a step leads from picture A to picture B -/
def sm_Step (A B : sm_A) : Prop := ∀ (q : Nat) (s : St1) (post : St1 → Prop), sm_R A q s → (∀ s', sm_R B (q + 1) s' → post s') → wpX_step post s
theorem sm_step (A : sm_A) (hK : sm_K A) : ∃ B : sm_A, sm_K B ∧ sm_oc A ≤ sm_oc B ∧ sm_Step A B := by
  obtain ⟨rg, pl, wd, sd, st, oc, ol⟩ := A
  obtain ⟨k1, k2, k3, k4, k5⟩ := id hK
  obtain ⟨d, _, Hd⟩ := sm_readRep (w := pl) (by omega) (wd pl)
  obtain ⟨r, hr, er⟩ := pk_andE (d >>> ((4 : Int32) &&& 31)) (m := 3) 2 (by decide)
  obtain ⟨on, hon, eon⟩ := pk_andE (nI pl + 1) (m := 31) 5 (by decide)
  have hn : sm_by ((d >>> ((6 : Int32) &&& 31)) &&& 255) := sm_lo_andr sm_lo_255
  have hm : (sd + 1) % 48 < 48 := Nat.mod_lt _ (by omega)
  by_cases c3 : d &&& 15 ≤ 3
  · obtain ⟨rg', wd', st2, y, hy, hK', H⟩ := sm_swc rg pl wd sd st oc ol hK (d &&& 15) ((d >>> ((6 : Int32) &&& 31)) &&& 255) hn hr hon
    obtain ⟨j1, j2, j3, j4, j5⟩ := hK'
    refine ⟨(rg', y, wd', (sd + 1) % 48, st2, oc, ol), sm_K_mk j1 hy hm j4 j5, Nat.le_refl _, ?_⟩
    intro q s post hR hp
    obtain ⟨ph, wh, sd', st', oc', a1, a2, a3, a4, a5, a6, a7, a8⟩ := s
    unfold wpX_step
    dsimp only
    refine sm_voteAll hR (fun s1 hS => ?_)
    obtain ⟨ph, wh, sd', st', oc', a1, a2, a3, a4, a5, a6, a7, a8⟩ := s1
    refine sm_votePlace (sm_R_p hS.1) (Hd _ _ _ _ _ _ _ _ _ _ _ _ _ _ (sm_R_W (by omega) hS.1) ?_)
    refine nm_e (nm_r er (nm_e (nm_r eon (br_t c3 ?_))))
    unfold wX_step_56
    refine H q _ _ _ _ _ _ _ _ _ _ _ _ _ _ (sm_S_fix (by omega) hS) (fun s2 hS2 => ?_)
    obtain ⟨ph, wh, sd', st', oc', a1, a2, a3, a4, a5, a6, a7, a8⟩ := s2
    exact sm_s119 k3 hS2 hp
  by_cases c12 : d &&& 15 < 12
  · by_cases c8 : 8 < d &&& 15
    · obtain ⟨st2, oc2, ol2, y, hy, ho, hK', H⟩ := sm_stepOn rg pl wd sd st oc ol hK (d &&& 15) ((d >>> ((6 : Int32) &&& 31)) &&& 255) hn hr hon
      obtain ⟨j1, j2, j3, j4, j5⟩ := hK'
      refine ⟨(rg, y, wd, (sd + 1) % 48, st2, oc2, ol2), sm_K_mk j1 hy hm j4 j5, ho, ?_⟩
      intro q s post hR hp
      obtain ⟨ph, wh, sd', st', oc', a1, a2, a3, a4, a5, a6, a7, a8⟩ := s
      unfold wpX_step
      dsimp only
      refine sm_voteAll hR (fun s1 hS => ?_)
      obtain ⟨ph, wh, sd', st', oc', a1, a2, a3, a4, a5, a6, a7, a8⟩ := s1
      refine sm_votePlace (sm_R_p hS.1) (Hd _ _ _ _ _ _ _ _ _ _ _ _ _ _ (sm_R_W (by omega) hS.1) ?_)
      refine nm_e (nm_r er (nm_e (nm_r eon (br_f c3 (br_t c12 (br_t c8 ?_))))))
      refine H q _ _ _ _ _ _ _ _ _ _ _ _ _ _ (sm_S_fix (by omega) hS) (fun s2 hS2 => ?_)
      obtain ⟨ph, wh, sd', st', oc', a1, a2, a3, a4, a5, a6, a7, a8⟩ := s2
      exact sm_s119 k3 hS2 hp
    · obtain ⟨t, ht, et⟩ := pk_andE ((d >>> ((6 : Int32) &&& 31)) &&& 255) (m := 3) 2 (by decide)
      obtain ⟨v, hv, H⟩ := sm_workThrice (d &&& 15) (rg r) (rg t) ((d >>> ((6 : Int32) &&& 31)) &&& 255) (k1 r hr) (k1 t ht) hn hr ht
      refine ⟨(upd rg r v, on, wd, (sd + 1) % 48, st, oc, ol), sm_K_mk (sm_by_upd k1 hv) hon hm k4 k5, Nat.le_refl _, ?_⟩
      intro q s post hR hp
      obtain ⟨ph, wh, sd', st', oc', a1, a2, a3, a4, a5, a6, a7, a8⟩ := s
      unfold wpX_step
      dsimp only
      refine sm_voteAll hR (fun s1 hS => ?_)
      obtain ⟨ph, wh, sd', st', oc', a1, a2, a3, a4, a5, a6, a7, a8⟩ := s1
      refine sm_votePlace (sm_R_p hS.1) (Hd _ _ _ _ _ _ _ _ _ _ _ _ _ _ (sm_R_W (by omega) hS.1) ?_)
      refine nm_e (nm_r er (nm_e (nm_r eon (br_f c3 (br_t c12 (br_f c8 ?_))))))
      rw [et]
      have hS3 := sm_S_fix (w := pl) (by omega) hS
      refine H _ _ _ _ _ _ _ _ _ _ _ _ _ _ _ (sm_S_all hr hS3) (sm_S_all ht hS3) (sm_S_T hS3) (fun b8 => ?_)
      refine sm_writeReg hr ?_
      exact sm_s119 k3 (sm_S_reg hr (sm_S_8 hS3)) hp
  · obtain ⟨rg', wd', st2, y, hy, hK', H⟩ := sm_swc rg pl wd sd st oc ol hK (d &&& 15) ((d >>> ((6 : Int32) &&& 31)) &&& 255) hn hr hon
    obtain ⟨j1, j2, j3, j4, j5⟩ := hK'
    refine ⟨(rg', y, wd', (sd + 1) % 48, st2, oc, ol), sm_K_mk j1 hy hm j4 j5, Nat.le_refl _, ?_⟩
    intro q s post hR hp
    obtain ⟨ph, wh, sd', st', oc', a1, a2, a3, a4, a5, a6, a7, a8⟩ := s
    unfold wpX_step
    dsimp only
    refine sm_voteAll hR (fun s1 hS => ?_)
    obtain ⟨ph, wh, sd', st', oc', a1, a2, a3, a4, a5, a6, a7, a8⟩ := s1
    refine sm_votePlace (sm_R_p hS.1) (Hd _ _ _ _ _ _ _ _ _ _ _ _ _ _ (sm_R_W (by omega) hS.1) ?_)
    refine nm_e (nm_r er (nm_e (nm_r eon (br_f c3 (br_f c12 ?_)))))
    unfold wX_step_56
    refine H q _ _ _ _ _ _ _ _ _ _ _ _ _ _ (sm_S_fix (by omega) hS) (fun s2 hS2 => ?_)
    obtain ⟨ph, wh, sd', st', oc', a1, a2, a3, a4, a5, a6, a7, a8⟩ := s2
    exact sm_s119 k3 hS2 hp
/-! ===== runs ===== -/
/-- a run of n steps leads from picture A to picture B and does c steps -/
def sm_Run (n : Nat) (A B : sm_A) (c : Nat) : Prop := ∀ (q N k j : Nat) (post : Int32 → St1 → Prop) (ph wh sd' st' oc' : Int32) (a1 a2 a3 a4 a5 a6 a7 a8 : Nat → Int32), j + n = N → N ≤ 100 → sm_R A q (ph, wh, sd', st', oc', a1, a2, a3, a4, a5, a6, a7, a8) → (∀ s', sm_R B (q + c) s' → post (nI (k + c)) s') → wX_run_16 post (nI N) (n + 1) (nI k) (nI j) ph wh sd' st' oc' a1 a2 a3 a4 a5 a6 a7 a8
theorem sm_R_st {A : sm_A} {q : Nat} {ph wh sd' st' oc' : Int32} {a1 a2 a3 a4 a5 a6 a7 a8 : Nat → Int32} (h : sm_R A q (ph, wh, sd', st', oc', a1, a2, a3, a4, a5, a6, a7, a8)) : st' = sm_st A := by
  obtain ⟨rg, pl, wd, sd, st, oc, ol⟩ := A
  obtain ⟨h1, h2, h3, h4, h5, h6, h7, h8⟩ := h
  exact h6
theorem sm_R_oc {A : sm_A} {q : Nat} {ph wh sd' st' oc' : Int32} {a1 a2 a3 a4 a5 a6 a7 a8 : Nat → Int32} (h : sm_R A q (ph, wh, sd', st', oc', a1, a2, a3, a4, a5, a6, a7, a8)) : oc' = nI (sm_oc A) := by
  obtain ⟨rg, pl, wd, sd, st, oc, ol⟩ := A
  obtain ⟨h1, h2, h3, h4, h5, h6, h7, h8⟩ := h
  exact h7
theorem sm_Run_0 (A : sm_A) : sm_Run 0 A A 0 := by
  intro q N k j post ph wh sd' st' oc' a1 a2 a3 a4 a5 a6 a7 a8 e hN hR hp
  exact br_t (nI_le (by omega) (by omega)) (hp _ hR)
theorem sm_Run_stop (n : Nat) {A : sm_A} (h : ¬ sm_st A = 0) : sm_Run n A A 0 := by
  intro q N k j post ph wh sd' st' oc' a1 a2 a3 a4 a5 a6 a7 a8 e hN hR hp
  exact br_c (fun _ => hp _ hR) (fun _ => br_f (by rw [sm_R_st hR]; exact h) (hp _ hR))
theorem sm_Run_s {n c : Nat} {A B D : sm_A} (h : sm_st A = 0) (hs : sm_Step A B) (hr : sm_Run n B D c) : sm_Run (n + 1) A D (c + 1) := by
  intro q N k j post ph wh sd' st' oc' a1 a2 a3 a4 a5 a6 a7 a8 e hN hR hp
  refine br_f (nI_ge (by omega) (by omega)) (br_t (by rw [sm_R_st hR]; exact h) ?_)
  refine hs q _ _ hR (fun s1 h1 => ?_)
  obtain ⟨ph, wh, sd', st', oc', a1, a2, a3, a4, a5, a6, a7, a8⟩ := s1
  refine nm_r (nI_1 k) (nm_r (nI_1 j) (hr (q + 1) N (k + 1) (j + 1) post _ _ _ _ _ _ _ _ _ _ _ _ _ (by omega) hN h1 (fun s2 h2 => ?_)))
  rw [show k + 1 + c = k + (c + 1) by omega]
  rw [show q + 1 + c = q + (c + 1) by omega] at h2
  exact hp s2 h2
theorem sm_run1 : ∀ (n : Nat) (A : sm_A), sm_K A → ∃ (B : sm_A) (c : Nat), sm_K B ∧ sm_oc A ≤ sm_oc B ∧ c ≤ n ∧ (c = n ∨ ¬ sm_st B = 0) ∧ sm_Run n A B c := by
  intro n
  induction n with
  | zero => exact fun A hK => ⟨A, 0, hK, Nat.le_refl _, Nat.le_refl _, Or.inl rfl, sm_Run_0 A⟩
  | succ n ih =>
    intro A hK
    by_cases h : sm_st A = 0
    · obtain ⟨B, hB, ho, hs⟩ := sm_step A hK
      obtain ⟨D, c, hD, ho2, hc, hx, hr⟩ := ih B hB
      exact ⟨D, c + 1, hD, Nat.le_trans ho ho2, by omega, hx.imp (fun z => by omega) id, sm_Run_s h hs hr⟩
    · exact ⟨A, 0, hK, Nat.le_refl _, by omega, Or.inr h, sm_Run_stop _ h⟩
theorem sm_run2 : ∀ (m n : Nat) (A : sm_A), sm_K A → ∃ (B D : sm_A) (c e : Nat), sm_K D ∧ sm_oc A ≤ sm_oc D ∧ c ≤ m ∧ e ≤ n ∧ (c + e = m + n ∨ ¬ sm_st D = 0) ∧ sm_Run m A B c ∧ sm_Run n B D e ∧ sm_Run (m + n) A D (c + e) := by
  intro m n
  induction m with
  | zero =>
    intro A hK
    obtain ⟨D, e, hD, ho, he, hx, hr⟩ := sm_run1 n A hK
    refine ⟨A, D, 0, e, hD, ho, Nat.le_refl _, he, hx.imp (fun z => by omega) id, sm_Run_0 A, hr, ?_⟩
    rw [Nat.zero_add, Nat.zero_add]
    exact hr
  | succ m ih =>
    intro A hK
    by_cases h : sm_st A = 0
    · obtain ⟨A1, hA1, ho, hs⟩ := sm_step A hK
      obtain ⟨B, D, c, e, hD, ho2, hc, he, hx, r1, r2, r3⟩ := ih A1 hA1
      refine ⟨B, D, c + 1, e, hD, Nat.le_trans ho ho2, by omega, he, hx.imp (fun z => by omega) id, sm_Run_s h hs r1, r2, ?_⟩
      have r4 := sm_Run_s h hs r3
      rw [show m + n + 1 = m + 1 + n by omega, show c + e + 1 = c + 1 + e by omega] at r4
      exact r4
    · exact ⟨A, A, 0, 0, hK, Nat.le_refl _, by omega, by omega, Or.inr h, sm_Run_stop _ h, sm_Run_stop _ h, sm_Run_stop _ h⟩
theorem sm_run {n c q : Nat} {A B : sm_A} (hn : n ≤ 100) (hr : sm_Run n A B c) {s : St1} {post : Int32 → St1 → Prop} (hR : sm_R A q s) (hp : ∀ s', sm_R B (q + c) s' → post (nI c) s') : wpX_run post s (nI n) := by
  obtain ⟨ph, wh, sd', st', oc', a1, a2, a3, a4, a5, a6, a7, a8⟩ := s
  unfold wpX_run
  dsimp only
  refine br_f (nI_pos (by omega)) (br_t (nI_le (b := 100) hn (by omega)) ⟨n + 1, ?_⟩)
  refine hr q n 0 0 post _ _ _ _ _ _ _ _ _ _ _ _ _ (by omega) hn hR (fun s' h => ?_)
  rw [Nat.zero_add]
  exact hp s' h
theorem sm_R_mono {A : sm_A} {q q' : Nat} {s : St1} (h : q' ≤ q) (hR : sm_R A q s) : sm_R A q' s := by
  obtain ⟨rg, pl, wd, sd, st, oc, ol⟩ := A
  obtain ⟨ph, wh, sd', st', oc', a1, a2, a3, a4, a5, a6, a7, a8⟩ := s
  obtain ⟨h1, h2, h3, h4, h5, h6, h7, h8⟩ := hR
  exact sm_R_mk h1 h2 h3 (fun w hw => ⟨(h4 w hw).1, fun g => (h4 w hw).2 (by omega)⟩) h5 h6 h7 h8
/-! ===== changes from outside ===== -/
theorem sm_R_put {rg : Nat → Int32} {pl : Nat} {wd : Nat → Int32} {sd : Nat} {st : Int32} {oc : Nat} {ol : Nat → Int32} {ph wh sd' st' oc' : Int32} {a1 a2 a3 a4 a5 a6 a7 a8 : Nat → Int32} {q w : Nat} {c : Int32} (hG : sm_G (sm_pl w) c) (h : sm_R (rg, pl, wd, sd, st, oc, ol) q (ph, wh, sd', st', oc', a1, a2, a3, a4, a5, a6, a7, a8)) : sm_R (rg, pl, upd wd w c, sd, st, oc, ol) q (ph, wh, sd', st', oc', a1, a2, a3, a4, upd a5 w c, upd a6 w 0, a7, a8) := by
  obtain ⟨h1, h2, h3, h4, h5, h6, h7, h8⟩ := h
  exact sm_R_mk h1 h2 h3 (sm_C_put h4 hG) h5 h6 h7 h8
theorem sm_reset {rg : Nat → Int32} {pl : Nat} {wd : Nat → Int32} {sd : Nat} {st : Int32} {oc : Nat} {ol : Nat → Int32} {q : Nat} {s : St1} {post : St1 → Prop} (hR : sm_R (rg, pl, wd, sd, st, oc, ol) q s) (hp : ∀ s', sm_R (fun _ => 0, 0, wd, sd, 0, 0, ol) q s' → post s') : wpX_reset post s := by
  obtain ⟨ph, wh, sd', st', oc', a1, a2, a3, a4, a5, a6, a7, a8⟩ := s
  obtain ⟨h1, h2, h3, h4, h5, h6, h7, h8⟩ := hR
  refine pk_loop (σ := (Nat → Int32) × (Nat → Int32)) (fun n i s => wX_reset_2 post n (nI i) ph wh sd' st' oc' s.1 a2 s.2 a4 a5 a6 a7 a8)
    (fun i s => ∀ r, r < i → sm_T 0 (s.2 r) (s.1 (r * 3)) (s.1 (r * 3 + 1)) (s.1 (r * 3 + 2))) 4 0 (a1, a3) (by omega) (fun r hr => absurd hr (by omega)) ?_ ?_
  · intro n s hs
    refine pk_le 4 4 (fun _ => ?_) (fun z => absurd z (by omega))
    refine sm_writePlace ?_
    have ex : post (0, 0, sd', 0, 0, s.1, sm_u3 a2 0 0, s.2, sm_u3 a4 0 0, a5, a6, a7, a8) :=
      hp _ (sm_R_mk hs (sm_T_eq (sm_u3_in (by omega) (by omega)) (sm_u3_in (by omega) (by omega)) (sm_u3_in (by omega) (by omega))) (sm_T_eq (sm_u3_in (by omega) (by omega)) (sm_u3_in (by omega) (by omega)) (sm_u3_in (by omega) (by omega))) h4 h5 rfl rfl h8)
    exact ⟨4, pk_le 3 0 (fun z => absurd z (by omega)) (fun _ => ⟨pk_in 0 3 (by omega), nm_r (e' := upd a4 0 0) (by rw [sb_cl0]) (nm_r (show (0 : Int32) + 1 = nI 1 by decide)
      (pk_le 3 1 (fun z => absurd z (by omega)) (fun _ => ⟨pk_in 1 3 (by omega), nm_r (e' := upd (upd a4 0 0) 1 0) (by rw [nI_clamp (show 1 < 2 ^ 31 by omega)]) (nm_r (show nI 1 + 1 = nI 2 by decide)
      (pk_le 3 2 (fun z => absurd z (by omega)) (fun _ => ⟨pk_in 2 3 (by omega), nm_r (e' := sm_u3 a4 0 0) (by rw [nI_clamp (show 2 < 2 ^ 31 by omega)]; rfl) (nm_r (show nI 2 + 1 = nI 3 by decide)
      (pk_le 3 3 (fun _ => ex) (fun z => absurd z (by omega))))⟩)))⟩)))⟩)⟩
  · intro n i s hi hs hw
    refine pk_le 4 i (fun z => absurd z (by omega)) (fun _ => ?_)
    refine sm_writeReg hi ?_
    refine And.intro (pk_in i 4 hi) (nm_r (by rw [nI_clamp (by omega)]) (nm_r (nI_1 i) (hw (sm_u3 s.1 (i * 3) 0, upd s.2 i 0) ?_)))
    intro r hr
    dsimp only
    by_cases e : r = i
    · subst e
      rw [pk_us, sm_u3_in (by omega) (by omega), sm_u3_in (by omega) (by omega), sm_u3_in (by omega) (by omega)]
      exact sm_T_eq rfl rfl rfl
    · rw [pk_un e, sm_u3_out (by omega), sm_u3_out (by omega), sm_u3_out (by omega)]
      exact hs r (by omega)
/-- a change leads from picture A to picture B -/
theorem sm_change (A : sm_A) (hK : sm_K A) {w : Nat} (hw : w < 7) (x : Int32) : ∃ B : sm_A, sm_K B ∧ (sm_oc A ≤ sm_oc B ∨ w = 6) ∧ ∀ (q : Nat) (s : St1) (post : St1 → Prop), sm_R A q s → (∀ s', sm_R B q s' → post s') → wpL_change post s (nI w) x := by
  obtain ⟨rg, pl, wd, sd, st, oc, ol⟩ := A
  obtain ⟨k1, k2, k3, k4, k5⟩ := id hK
  by_cases c5 : 5 ≤ w
  · by_cases c6 : 6 ≤ w
    · refine ⟨(fun _ => 0, 0, wd, sd, 0, 0, ol), sm_K_mk (fun _ _ => sm_lo_0 8) (by omega) k3 (Or.inl rfl) (by omega), Or.inr (by omega), ?_⟩
      intro q s post hR hp
      obtain ⟨ph, wh, sd', st', oc', a1, a2, a3, a4, a5, a6, a7, a8⟩ := s
      unfold wpL_change
      dsimp only
      refine br_t (nI_le (a := 5) c5 (by omega)) (br_t (nI_le (a := 6) c6 (by omega)) (sm_reset hR (fun s' h => ?_)))
      obtain ⟨ph, wh, sd', st', oc', a1, a2, a3, a4, a5, a6, a7, a8⟩ := s'
      exact hp _ h
    · obtain ⟨k, hk, ek⟩ := pk_andE x (m := 15) 4 (by decide)
      obtain ⟨v, hv, ev⟩ := pk_andE (x >>> ((4 : Int32) &&& 31)) (m := 255) 8 (by decide)
      obtain ⟨c, hc, H⟩ := sm_writeWord (w := 32 + k) (by omega) (nI v)
      refine ⟨(rg, pl, upd wd (32 + k) c, sd, st, oc, ol), sm_K_mk k1 k2 k3 k4 k5, Or.inl (Nat.le_refl _), ?_⟩
      intro q s post hR hp
      obtain ⟨ph, wh, sd', st', oc', a1, a2, a3, a4, a5, a6, a7, a8⟩ := s
      unfold wpL_change
      dsimp only
      rw [ek, ev]
      refine br_t (nI_le (a := 5) c5 (by omega)) (br_f (nI_ge (b := 6) (by omega) (by omega)) ?_)
      unfold wpX_setData
      dsimp only
      rw [show (32 : Int32) + nI k = nI (32 + k) from nI_add 32 k]
      refine br_f (nI_pos (by omega)) (br_f (nI_ge (b := 16) hk (by omega)) (br_f (nI_pos (by omega)) (br_t (nI_le (b := 255) (by omega) (by omega)) ?_)))
      exact H _ _ _ _ _ _ _ _ _ _ _ _ _ _ (hp _ (sm_R_put hc hR))
  · obtain ⟨p, hp', ep⟩ := pk_andE x (m := 31) 5 (by decide)
    obtain ⟨o, ho, eo⟩ := pk_andE (x >>> ((5 : Int32) &&& 31)) (m := 15) 4 (by decide)
    obtain ⟨r, hr, er⟩ := pk_andE (x >>> ((9 : Int32) &&& 31)) (m := 3) 2 (by decide)
    obtain ⟨v, hv, ev⟩ := pk_andE (x >>> ((11 : Int32) &&& 31)) (m := 255) 8 (by decide)
    have eo2 : nI o - nI o / 13 * 13 = nI (o % 13) := pk_rem (a := o) (d := 13) (by omega) (by omega) (by omega)
    have eo3 : (1 : Int32) + nI (o % 13) = nI (1 + o % 13) := nI_add 1 (o % 13)
    have ho2 : o % 13 < 13 := Nat.mod_lt _ (by omega)
    obtain ⟨c, hc, H⟩ := sm_writeWord (w := p) (by omega) ((nI (1 + o % 13) ||| (nI r <<< ((4 : Int32) &&& 31))) ||| (nI v <<< ((6 : Int32) &&& 31)))
    refine ⟨(rg, pl, upd wd p c, sd, st, oc, ol), sm_K_mk k1 k2 k3 k4 k5, Or.inl (Nat.le_refl _), ?_⟩
    intro q s post hR hp
    obtain ⟨ph, wh, sd', st', oc', a1, a2, a3, a4, a5, a6, a7, a8⟩ := s
    unfold wpL_change
    dsimp only
    rw [ep, eo, er, ev, eo2, eo3]
    refine br_f (nI_ge (b := 5) (by omega) (by omega)) (And.intro (by decide) ?_)
    unfold wpX_set
    dsimp only
    refine br_f (nI_pos (by omega)) (br_f (nI_ge (b := 32) hp' (by omega)) (br_f (nI_pos (by omega)) (br_f (nI_nlt (a := 13) (b := 1 + o % 13) (by omega) (by omega)) ?_)))
    refine br_f (nI_pos (by omega)) (br_f (nI_ge (b := 4) hr (by omega)) ?_)
    refine br_f (by decide) (br_f (nI_pos (by omega)) (br_t (nI_le (b := 255) (by omega) (by omega)) ?_))
    exact H _ _ _ _ _ _ _ _ _ _ _ _ _ _ (hp _ (sm_R_put hc hR))
/-! ===== a new machine ===== -/
theorem sm_init : ∃ A : sm_A, sm_K A ∧ ∀ (post : St1 → Prop) (mc ms : Nat), 8 ≤ mc → 137 ≤ ms → (∀ s', sm_R A 48 s' → post s') → wpX_init post mc ms (0, 0, 0, 0, 0) := by
  obtain ⟨c13, g13, H13⟩ := sm_enc 0 (P := 13) (Or.inl rfl)
  obtain ⟨c22, g22, H22⟩ := sm_enc 0 (P := 22) (Or.inr rfl)
  have hw : ∀ w, sm_G (sm_pl w) (if 32 ≤ w then c13 else c22) ∧ ∀ post : Int32 → Prop, post (if 32 ≤ w then c13 else c22) → wpX_encode post () 0 (nI (sm_pl w)) := by
    intro w
    unfold sm_pl
    split
    · exact ⟨g13, H13⟩
    · exact ⟨g22, H22⟩
  refine ⟨(fun _ => 0, 0, fun w => if 32 ≤ w then c13 else c22, 0, 0, 0, fun _ => 0), sm_K_mk (fun _ _ => sm_lo_0 8) (by omega) (by omega) (Or.inl rfl) (by omega), ?_⟩
  intro post mc ms hmc hms hp
  unfold wpX_init
  dsimp only
  refine ⟨by omega, by omega, by omega, by omega, by omega, by omega, by omega, by omega, by omega, by omega, by omega, by omega, by omega, by omega, by omega, by omega, ?_⟩
  refine pk_loop (σ := (Nat → Int32) × (Nat → Int32)) (fun n i s => wX_init_66 post mc ms 8 137 n (nI i) 0 0 0 0 0 (fun _ => 0) (fun _ => 0) (fun _ => 0) (fun _ => 0) s.1 s.2 (fun _ => 0) (fun _ => 0))
    (fun i s => (∀ w, w < i → s.1 w = if 32 ≤ w then c13 else c22) ∧ ∀ w, s.2 w = 0) 48 0 (fun _ => 0, fun _ => 0) (by omega) ⟨fun w hw => absurd hw (by omega), fun _ => rfl⟩ ?_ ?_
  · intro n s hs
    refine pk_le 48 48 (fun _ => ?_) (fun z => absurd z (by omega))
    refine hp _ (sm_R_mk (fun r hr => sm_T_eq rfl rfl rfl) (sm_T_eq rfl rfl rfl) (sm_T_eq rfl rfl rfl) ?_ rfl rfl rfl rfl)
    intro w hw'
    exact ⟨⟨(hw w).1, Or.inl ⟨hs.2 w, hs.1 w hw'⟩⟩, fun _ => hs.2 w⟩
  · intro n i s hi hs hW
    refine pk_le 48 i (fun z => absurd z (by omega)) (fun _ => ?_)
    unfold wpX_writeWord
    dsimp only
    rw [nI_clamp (show i < 2 ^ 31 by omega)]
    refine sm_po hi ((hw i).2 _ ⟨vp_in_nI hi (by omega), nm_e ⟨vp_in_nI hi (by omega), nm_e (nm_r (nI_1 i) (hW (upd s.1 i (if 32 ≤ i then c13 else c22), upd s.2 i 0) ⟨?_, ?_⟩))⟩⟩)
    · intro w hw'
      dsimp only
      by_cases e : w = i
      · subst e
        rw [pk_us]
      · rw [pk_un e]
        exact hs.1 w (by omega)
    · intro w
      dsimp only
      by_cases e : w = i
      · subst e
        rw [pk_us]
      · rw [pk_un e]
        exact hs.2 w
end
section
/-! ===== what is seen from outside ===== -/
theorem sm_data (rg : Nat → Int32) (pl : Nat) (wd : Nat → Int32) (sd : Nat) (st : Int32) (oc : Nat) (ol : Nat → Int32) {k : Nat} (hk : k < 16) : ∃ d : Int32, sm_by d ∧ ∀ (q : Nat) (post : Int32 → Prop) (ph wh sd' st' oc' : Int32) (a1 a2 a3 a4 a5 a6 a7 a8 : Nat → Int32), sm_R (rg, pl, wd, sd, st, oc, ol) q (ph, wh, sd', st', oc', a1, a2, a3, a4, a5, a6, a7, a8) → post d → wpX_data post (ph, wh, sd', st', oc', a1, a2, a3, a4, a5, a6, a7, a8) (nI k) := by
  obtain ⟨d, hd, H⟩ := sm_readWord (w := 32 + k) (by omega) (wd (32 + k))
  refine ⟨d, hd (by omega), ?_⟩
  intro q post ph wh sd' st' oc' a1 a2 a3 a4 a5 a6 a7 a8 hR hp
  unfold wpX_data
  dsimp only
  rw [show (32 : Int32) + nI k = nI (32 + k) from nI_add 32 k]
  exact br_f (nI_pos (by omega)) (br_f (nI_ge (b := 16) hk (by omega)) (H _ _ _ _ _ _ _ _ _ _ _ _ _ _ (sm_R_W (by omega) hR) hp))
theorem sm_out (rg : Nat → Int32) (pl : Nat) (wd : Nat → Int32) (sd : Nat) (st : Int32) (oc : Nat) (ol : Nat → Int32) {i : Nat} (hi : i < 16) (ho : oc ≤ 16) : ∃ v : Int32, ∀ (q : Nat) (post : Int32 → Prop) (ph wh sd' st' oc' : Int32) (a1 a2 a3 a4 a5 a6 a7 a8 : Nat → Int32), sm_R (rg, pl, wd, sd, st, oc, ol) q (ph, wh, sd', st', oc', a1, a2, a3, a4, a5, a6, a7, a8) → post v → wpX_out post (ph, wh, sd', st', oc', a1, a2, a3, a4, a5, a6, a7, a8) (nI i) := by
  by_cases c : oc ≤ i
  · refine ⟨-1, ?_⟩
    intro q post ph wh sd' st' oc' a1 a2 a3 a4 a5 a6 a7 a8 hR hp
    obtain ⟨h1, h2, h3, h4, h5, h6, h7, h8⟩ := hR
    exact br_f (nI_pos (by omega)) (br_t (by rw [h7]; exact nI_le c (by omega)) hp)
  · refine ⟨ol i &&& 255, ?_⟩
    intro q post ph wh sd' st' oc' a1 a2 a3 a4 a5 a6 a7 a8 hR hp
    obtain ⟨h1, h2, h3, h4, h5, h6, h7, h8⟩ := hR
    refine br_f (nI_pos (by omega)) (br_f (by rw [h7]; exact nI_ge (by omega) (by omega)) (And.intro (pk_in i 16 hi) ?_))
    rw [nI_clamp (show i < 2 ^ 31 by omega), h8]
    exact hp
section
variable {ph wh sd' st' oc' : Int32} {a1 a2 a3 a4 a5 a6 a7 a8 : Nat → Int32} {rg : Nat → Int32} {pl : Nat} {wd : Nat → Int32} {sd : Nat} {st : Int32} {oc : Nat} {ol : Nat → Int32}
theorem sm_register {q r : Nat} {post : Int32 → Prop} (hr : r < 4) (hR : sm_R (rg, pl, wd, sd, st, oc, ol) q (ph, wh, sd', st', oc', a1, a2, a3, a4, a5, a6, a7, a8)) (hp : post (rg r)) : wpX_register post (ph, wh, sd', st', oc', a1, a2, a3, a4, a5, a6, a7, a8) (nI r) := by
  unfold wpX_register
  dsimp only
  exact br_f (nI_pos (by omega)) (br_f (nI_ge (b := 4) hr (by omega)) (br_f (by decide) (sm_voteReg hr (sm_R_r hr hR) hp)))
theorem sm_place {q : Nat} {post : Int32 → Prop} (hR : sm_R (rg, pl, wd, sd, st, oc, ol) q (ph, wh, sd', st', oc', a1, a2, a3, a4, a5, a6, a7, a8)) (hp : post (nI pl)) : wpX_place post (ph, wh, sd', st', oc', a1, a2, a3, a4, a5, a6, a7, a8) := by
  unfold wpX_place
  dsimp only
  exact sm_votePlace (sm_R_p hR) hp
theorem sm_outs {q : Nat} {post : Int32 → Prop} (hR : sm_R (rg, pl, wd, sd, st, oc, ol) q (ph, wh, sd', st', oc', a1, a2, a3, a4, a5, a6, a7, a8)) (hp : post (nI oc)) : wpX_outs post (ph, wh, sd', st', oc', a1, a2, a3, a4, a5, a6, a7, a8) := by
  obtain ⟨h1, h2, h3, h4, h5, h6, h7, h8⟩ := hR
  show post oc'
  rw [h7]
  exact hp
theorem sm_nb {x : Int32} (h : x = 0 ∨ x = 1) : narrow .boolean (.int x) = .int x := by
  rcases h with rfl | rfl
  · rfl
  · rfl
theorem sm_stopped {q : Nat} {post : Int32 → Prop} (hs : st = 0 ∨ st = 1) (hR : sm_R (rg, pl, wd, sd, st, oc, ol) q (ph, wh, sd', st', oc', a1, a2, a3, a4, a5, a6, a7, a8)) (hp : post st) : wpX_stopped post (ph, wh, sd', st', oc', a1, a2, a3, a4, a5, a6, a7, a8) := by
  obtain ⟨h1, h2, h3, h4, h5, h6, h7, h8⟩ := hR
  unfold wpX_stopped
  dsimp only
  rw [h6]
  exact ⟨sm_nb hs, hp⟩
end
theorem sm_view33 (rg : Nat → Int32) (pl : Nat) (wd : Nat → Int32) (sd : Nat) (st : Int32) (oc : Nat) (ol : Nat → Int32) (hK : sm_K (rg, pl, wd, sd, st, oc, ol)) : ∀ (f : Nat) (x1 : Int64) (i : Nat), i ≤ 16 → 16 - i < f → ∃ v : Int64, ∀ (q : Nat) (post : Int64 → Prop) (ph wh sd' st' oc' : Int32) (a1 a2 a3 a4 a5 a6 a7 a8 : Nat → Int32), sm_R (rg, pl, wd, sd, st, oc, ol) q (ph, wh, sd', st', oc', a1, a2, a3, a4, a5, a6, a7, a8) → post v → wL_view_33 post ph wh sd' st' oc' a1 a2 a3 a4 a5 a6 a7 a8 f x1 (nI i) := by
  obtain ⟨k1, k2, k3, k4, k5⟩ := id hK
  intro f
  induction f with
  | zero => intro x1 i h1 h2; omega
  | succ f ih =>
    intro x1 i h1 h2
    by_cases e : i = 16
    · subst e
      refine ⟨x1, ?_⟩
      intro q post ph wh sd' st' oc' a1 a2 a3 a4 a5 a6 a7 a8 hR hp
      exact br_t (nI_le (Nat.le_refl 16) (by omega)) hp
    · obtain ⟨d, _, Hd⟩ := sm_data rg pl wd sd st oc ol (k := i) (by omega)
      obtain ⟨o, Ho⟩ := sm_out rg pl wd sd st oc ol (i := i) (by omega) k5
      obtain ⟨t, ht, et⟩ := pk_andE (nI i) (m := 3) 2 (by decide)
      obtain ⟨v, H⟩ := ih (((((x1 * 257) + d.toInt64) * 257) + o.toInt64) + ((7 * rg t).toInt64)) (i + 1) (by omega) (by omega)
      refine ⟨v, ?_⟩
      intro q post ph wh sd' st' oc' a1 a2 a3 a4 a5 a6 a7 a8 hR hp
      refine br_f (nI_ge (b := 16) (by omega) (by omega)) (Hd q _ _ _ _ _ _ _ _ _ _ _ _ _ _ hR (Ho q _ _ _ _ _ _ _ _ _ _ _ _ _ _ hR ?_))
      show wpX_register _ _ (nI i &&& 3)
      rw [et]
      exact sm_register ht hR (nm_e (nm_r (nI_1 i) (H q post _ _ _ _ _ _ _ _ _ _ _ _ _ hR hp)))
theorem sm_view (A : sm_A) (hK : sm_K A) : ∃ v : Int64, ∀ (q : Nat) (post : Int64 → Prop) (s : St1), sm_R A q s → post v → wpL_view post s := by
  obtain ⟨rg, pl, wd, sd, st, oc, ol⟩ := A
  obtain ⟨k1, k2, k3, k4, k5⟩ := id hK
  by_cases c : st = 0
  · obtain ⟨v, H⟩ := sm_view33 rg pl wd sd st oc ol hK 17 (((nI pl).toInt64 + (32 * (nI oc).toInt64)) + 0) 0 (by omega) (by omega)
    refine ⟨v, ?_⟩
    intro q post s hR hp
    obtain ⟨ph, wh, sd', st', oc', a1, a2, a3, a4, a5, a6, a7, a8⟩ := s
    unfold wpL_view
    dsimp only
    refine sm_place hR (sm_outs hR (sm_stopped k4 hR (br_t c (nm_e ⟨17, ?_⟩))))
    exact H q post _ _ _ _ _ _ _ _ _ _ _ _ _ hR hp
  · obtain ⟨v, H⟩ := sm_view33 rg pl wd sd st oc ol hK 17 (((nI pl).toInt64 + (32 * (nI oc).toInt64)) + 1024) 0 (by omega) (by omega)
    refine ⟨v, ?_⟩
    intro q post s hR hp
    obtain ⟨ph, wh, sd', st', oc', a1, a2, a3, a4, a5, a6, a7, a8⟩ := s
    unfold wpL_view
    dsimp only
    refine sm_place hR (sm_outs hR (sm_stopped k4 hR (br_f c (nm_e ⟨17, ?_⟩))))
    exact H q post _ _ _ _ _ _ _ _ _ _ _ _ _ hR hp
/-! ===== spoiled words, counted ===== -/
def sm_cnt (a : Nat → Int32) : Nat → Nat
  | 0 => 0
  | k + 1 => sm_cnt a k + (if a k = 0 then 0 else 1)
theorem sm_cnt_le (a : Nat → Int32) : ∀ k, sm_cnt a k ≤ k := by
  intro k
  induction k with
  | zero => exact Nat.le_refl _
  | succ k ih =>
    show sm_cnt a k + (if a k = 0 then 0 else 1) ≤ k + 1
    split <;> omega
theorem sm_cnt_0 {a : Nat → Int32} : ∀ k, (∀ w, w < k → a w = 0) → sm_cnt a k = 0 := by
  intro k
  induction k with
  | zero => exact fun _ => rfl
  | succ k ih =>
    intro h
    show sm_cnt a k + (if a k = 0 then 0 else 1) = 0
    rw [ih (fun w hw => h w (by omega)), if_pos (h k (by omega))]
theorem sm_cnt_out {a : Nat → Int32} {w : Nat} {x : Int32} : ∀ k, k ≤ w → sm_cnt (upd a w x) k = sm_cnt a k := by
  intro k
  induction k with
  | zero => exact fun _ => rfl
  | succ k ih =>
    intro h
    show sm_cnt (upd a w x) k + (if upd a w x k = 0 then 0 else 1) = sm_cnt a k + (if a k = 0 then 0 else 1)
    rw [ih (by omega), pk_un (by omega)]
theorem sm_cnt_hit {a : Nat → Int32} {w : Nat} (h : a w = 0) : ∀ k, w < k → sm_cnt (upd a w 1) k = sm_cnt a k + 1 := by
  intro k
  induction k with
  | zero => intro h; omega
  | succ k ih =>
    intro hk
    show sm_cnt (upd a w 1) k + (if upd a w 1 k = 0 then 0 else 1) = sm_cnt a k + (if a k = 0 then 0 else 1) + 1
    by_cases e : k = w
    · subst e
      rw [sm_cnt_out k (Nat.le_refl _), pk_us, if_neg (by decide), if_pos h]
    · rw [ih (by omega), pk_un e]
      omega
theorem sm_sp4 {ph wh sd' st' oc' : Int32} {a1 a2 a3 a4 a5 a6 a7 a8 : Nat → Int32} {post : Int32 → Prop} (hp : post (nI (sm_cnt a6 48))) : ∀ f i, i ≤ 48 → 48 - i < f → wX_spoiled_4 post ph wh sd' st' oc' a1 a2 a3 a4 a5 a6 a7 a8 f (nI (sm_cnt a6 i)) (nI i) := by
  intro f
  induction f with
  | zero => intro i h1 h2; omega
  | succ f ih =>
    intro i h1 h2
    by_cases e : i = 48
    · subst e
      exact br_t (nI_le (Nat.le_refl 48) (by omega)) hp
    · have H := ih (i + 1) (by omega) (by omega)
      have hs : sm_cnt a6 (i + 1) = sm_cnt a6 i + (if a6 i = 0 then 0 else 1) := rfl
      refine br_f (nI_ge (b := 48) (by omega) (by omega)) (And.intro (pk_in i 48 (by omega)) ?_)
      rw [nI_clamp (show i < 2 ^ 31 by omega)]
      by_cases c : a6 i = 0
      · rw [if_pos c] at hs
        exact br_t c (nm_r (by rw [hs]; exact nI_add _ 0) (nm_r (nI_1 i) H))
      · rw [if_neg c] at hs
        exact br_f c (nm_r (by rw [hs]; exact nI_1 _) (nm_r (nI_1 i) H))
theorem sm_spoiled {ph wh sd' st' oc' : Int32} {a1 a2 a3 a4 a5 a6 a7 a8 : Nat → Int32} {post : Int32 → Prop} (hp : post (nI (sm_cnt a6 48))) : wpX_spoiled post (ph, wh, sd', st', oc', a1, a2, a3, a4, a5, a6, a7, a8) := by
  unfold wpX_spoiled
  dsimp only
  exact ⟨49, sm_sp4 hp 49 0 (by omega) (by omega)⟩
theorem sm_clean {rg : Nat → Int32} {pl : Nat} {wd : Nat → Int32} {sd : Nat} {st : Int32} {oc : Nat} {ol : Nat → Int32} {ph wh sd' st' oc' : Int32} {a1 a2 a3 a4 a5 a6 a7 a8 : Nat → Int32} {q : Nat} (hq : 48 ≤ q) (hR : sm_R (rg, pl, wd, sd, st, oc, ol) q (ph, wh, sd', st', oc', a1, a2, a3, a4, a5, a6, a7, a8)) : sm_cnt a6 48 = 0 := by
  obtain ⟨h1, h2, h3, h4, h5, h6, h7, h8⟩ := hR
  exact sm_cnt_0 48 (fun w hw => (h4 w hw).2 (Nat.lt_of_lt_of_le (Nat.mod_lt _ (by omega)) hq))
/-! ===== limits ===== -/
theorem sm_lim56 {rg : Nat → Int32} {pl : Nat} {wd : Nat → Int32} {sd : Nat} {st : Int32} {oc : Nat} {ol : Nat → Int32} {ph wh sd' st' oc' : Int32} {a1 a2 a3 a4 a5 a6 a7 a8 : Nat → Int32} {q : Nat} (hK : sm_K (rg, pl, wd, sd, st, oc, ol)) (hR : sm_R (rg, pl, wd, sd, st, oc, ol) q (ph, wh, sd', st', oc', a1, a2, a3, a4, a5, a6, a7, a8)) {post : Int32 → Prop} (hp : post 1) : ∀ f i, i ≤ 16 → 16 - i < f → wL_limits_56 post ph wh sd' st' oc' a1 a2 a3 a4 a5 a6 a7 a8 f 1 (nI i) := by
  obtain ⟨k1, k2, k3, k4, k5⟩ := id hK
  intro f
  induction f with
  | zero => intro i h1 h2; omega
  | succ f ih =>
    intro i h1 h2
    by_cases e : i = 16
    · subst e
      exact br_t (nI_le (Nat.le_refl 16) (by omega)) ⟨rfl, hp⟩
    · have H := ih (i + 1) (by omega) (by omega)
      obtain ⟨d, hd, Hd⟩ := sm_data rg pl wd sd st oc ol (k := i) (by omega)
      obtain ⟨t, ht, et⟩ := pk_andE (nI i) (m := 3) 2 (by decide)
      obtain ⟨j, hj, ej⟩ := sm_lo_nI hd
      obtain ⟨m, hm, em⟩ := sm_lo_nI (k1 t ht)
      refine br_f (nI_ge (b := 16) (by omega) (by omega)) (br_f (by decide) ?_)
      rw [et]
      refine Hd q _ _ _ _ _ _ _ _ _ _ _ _ _ _ hR (br_f (by rw [ej]; exact nI_pos (by omega)) (Hd q _ _ _ _ _ _ _ _ _ _ _ _ _ _ hR (br_f (by rw [ej]; exact nI_nlt (a := 255) (by omega) (by omega)) ?_)))
      refine sm_register ht hR (br_f (by rw [em]; exact nI_pos (by omega)) (sm_register ht hR (br_f (by rw [em]; exact nI_nlt (a := 255) (by omega) (by omega)) (nm_r (nI_1 i) H))))
theorem sm_limits {A : sm_A} (hK : sm_K A) {q : Nat} {s : St1} (hR : sm_R A q s) {post : Int32 → Prop} (hp : post 1) : wpL_limits post s := by
  obtain ⟨rg, pl, wd, sd, st, oc, ol⟩ := A
  obtain ⟨ph, wh, sd', st', oc', a1, a2, a3, a4, a5, a6, a7, a8⟩ := s
  obtain ⟨k1, k2, k3, k4, k5⟩ := id hK
  have hc := sm_cnt_le a6 48
  unfold wpL_limits
  dsimp only
  refine sm_place hR (br_f (nI_pos (by omega)) (sm_place hR (br_f (nI_nlt (a := 31) (by omega) (by omega)) ?_)))
  refine sm_outs hR (br_f (nI_pos (by omega)) (sm_outs hR (br_f (nI_nlt (a := 16) (by omega) (by omega)) ?_)))
  refine sm_spoiled (br_f (nI_pos (by omega)) (sm_spoiled (br_f (nI_nlt (a := 48) (by omega) (by omega)) ⟨17, ?_⟩)))
  exact sm_lim56 hK hR hp 17 0 (by omega) (by omega)
/-! ===== hits ===== -/
def sm_a6 (s : St1) : Nat → Int32 := match s with
  | (ph, wh, sd', st', oc', a1, a2, a3, a4, a5, a6, a7, a8) => a6
theorem sm_h8 : ∀ c, c < 3 → ((1 : Int32) <<< (nI c &&& 31)).toInt8.toInt32 = (1 : Int32) <<< (nI c &&& 31) := by decide +kernel
theorem sm_rm (y : Int32) {M D : Int32} (k d : Nat) (hM : M.toBitVec.toNat = 2 ^ k - 1) (hD : D = nI d) (hk : k ≤ 30) (hd : 0 < d) (hd2 : d < 2 ^ 31) : ∃ j : Nat, j < d ∧ (y &&& M) - (y &&& M) / D * D = nI j := by
  obtain ⟨j, hj, e⟩ := pk_andE y k hM
  have := Nat.pow_le_pow_right (show 0 < 2 by omega) hk
  refine ⟨j % d, Nat.mod_lt _ hd, ?_⟩
  rw [e, hD]
  exact pk_rem (by omega) hd hd2
theorem sm_hitReg {A : sm_A} {q r c : Nat} {s : St1} {post : Int32 → St1 → Prop} {p0 p1 p2 : Int32} (hr : r < 4) (hc : c < 3) (e0 : p0 = nI r) (e1 : p1 = nI c) (hR : sm_R A q s) (hp : ∀ x s', sm_R A q s' → sm_a6 s' = sm_a6 s → post x s') : wpX_hitRegister post s p0 p1 p2 := by
  subst e0 e1
  obtain ⟨rg, pl, wd, sd, st, oc, ol⟩ := A
  obtain ⟨ph, wh, sd', st', oc', a1, a2, a3, a4, a5, a6, a7, a8⟩ := s
  obtain ⟨h1, h2, h3, h4, h5, h6, h7, h8⟩ := id hR
  unfold wpX_hitRegister
  dsimp only
  refine br_f (nI_pos (by omega)) (br_f (nI_ge (b := 4) hr (by omega)) (br_f (by decide) ?_))
  refine br_f (nI_pos (by omega)) (br_f (nI_ge (b := 3) hc (by omega)) (br_f (by decide) ?_))
  refine br_c (fun _ => hp _ _ hR rfl) (fun _ => br_c (fun _ => hp _ _ hR rfl) (fun _ => And.intro (pk_in r 4 hr) ?_))
  rw [nI_clamp (show r < 2 ^ 31 by omega), pk_cl (r * 3 + c) (sm_ic r c)]
  refine br_c (fun g => ?_) (fun _ => hp _ _ hR rfl)
  refine And.intro (pk_in (r * 3 + c) 12 (by omega) (sm_ic r c)) (And.intro (pk_in (r * 3 + c) 12 (by omega) (sm_ic r c)) (nm_e (And.intro (pk_in r 4 hr) (nm_e (hp _ _ ?_ rfl)))))
  refine sm_R_mk ?_ h2 h3 h4 h5 h6 h7 h8
  intro r' hr'
  by_cases e : r' = r
  · subst e
    rw [pk_us, sm_h8 c hc]
    exact sm_T_hit hc (h1 r' hr') g
  · rw [pk_un e, pk_un (by omega), pk_un (by omega), pk_un (by omega)]
    exact h1 r' hr'
theorem sm_hitPlace {A : sm_A} {q c : Nat} {s : St1} {post : Int32 → St1 → Prop} {p0 p1 : Int32} (hc : c < 3) (e0 : p0 = nI c) (hR : sm_R A q s) (hp : ∀ x s', sm_R A q s' → sm_a6 s' = sm_a6 s → post x s') : wpX_hitPlace post s p0 p1 := by
  subst e0
  obtain ⟨rg, pl, wd, sd, st, oc, ol⟩ := A
  obtain ⟨ph, wh, sd', st', oc', a1, a2, a3, a4, a5, a6, a7, a8⟩ := s
  obtain ⟨h1, h2, h3, h4, h5, h6, h7, h8⟩ := id hR
  unfold wpX_hitPlace
  dsimp only
  refine br_f (nI_pos (by omega)) (br_f (nI_ge (b := 3) hc (by omega)) (br_f (by decide) ?_))
  refine br_c (fun _ => hp _ _ hR rfl) (fun _ => br_c (fun _ => hp _ _ hR rfl) (fun _ => br_c (fun g => ?_) (fun _ => hp _ _ hR rfl)))
  rw [nI_clamp (show c < 2 ^ 31 by omega)]
  refine And.intro (pk_in c 3 hc) (And.intro (pk_in c 3 hc) (nm_e (nm_e (hp _ _ ?_ rfl))))
  have t := sm_T_hit (z := a2 c ^^^ p1) (k := 0) hc h2 g
  simp only [Nat.zero_add] at t
  exact sm_R_mk h1 t h3 h4 h5 h6 h7 h8
theorem sm_hitWork {A : sm_A} {q c : Nat} {s : St1} {post : Int32 → St1 → Prop} {p0 p1 : Int32} (hc : c < 3) (e0 : p0 = nI c) (hR : sm_R A q s) (hp : ∀ x s', sm_R A q s' → sm_a6 s' = sm_a6 s → post x s') : wpX_hitWork post s p0 p1 := by
  subst e0
  obtain ⟨rg, pl, wd, sd, st, oc, ol⟩ := A
  obtain ⟨ph, wh, sd', st', oc', a1, a2, a3, a4, a5, a6, a7, a8⟩ := s
  obtain ⟨h1, h2, h3, h4, h5, h6, h7, h8⟩ := id hR
  unfold wpX_hitWork
  dsimp only
  refine br_f (nI_pos (by omega)) (br_f (nI_ge (b := 3) hc (by omega)) (br_f (by decide) ?_))
  refine br_c (fun _ => hp _ _ hR rfl) (fun _ => br_c (fun _ => hp _ _ hR rfl) (fun _ => br_c (fun g => ?_) (fun _ => hp _ _ hR rfl)))
  rw [nI_clamp (show c < 2 ^ 31 by omega)]
  refine And.intro (pk_in c 3 hc) (And.intro (pk_in c 3 hc) (nm_e (nm_e (hp _ _ ?_ rfl))))
  have t := sm_T_hit (z := a4 c ^^^ p1) (k := 0) hc h3 g
  simp only [Nat.zero_add] at t
  exact sm_R_mk h1 h2 t h4 h5 h6 h7 h8
theorem sm_hitWord {A : sm_A} {q w b : Nat} {s : St1} {post : Int32 → St1 → Prop} (hw : w < 48) (hb : b < sm_pl w) (hR : sm_R A q s) (hp : ∀ k s', k ≤ 1 → sm_R A 0 s' → sm_cnt (sm_a6 s') 48 = sm_cnt (sm_a6 s) 48 + k → post (nI k) s') : wpX_hitWord post s (nI w) (nI b) := by
  obtain ⟨rg, pl, wd, sd, st, oc, ol⟩ := A
  obtain ⟨ph, wh, sd', st', oc', a1, a2, a3, a4, a5, a6, a7, a8⟩ := s
  obtain ⟨h1, h2, h3, h4, h5, h6, h7, h8⟩ := id hR
  unfold wpX_hitWord
  dsimp only
  rw [nI_clamp (show w < 2 ^ 31 by omega)]
  refine And.intro (pk_in w 48 hw) (br_c (fun g => ?_) (fun _ => hp 0 _ (by omega) (sm_R_mono (Nat.zero_le _) hR) rfl))
  refine And.intro (pk_in w 48 hw) (And.intro (pk_in w 48 hw) (nm_e (And.intro (pk_in w 48 hw) (nm_e (hp 1 _ (by omega) ?_ (sm_cnt_hit g 48 hw))))))
  refine sm_R_mk h1 h2 h3 ?_ h5 h6 h7 h8
  intro w' hw'
  refine ⟨?_, fun z => absurd z (by omega)⟩
  by_cases e : w' = w
  · subst e
    rw [pk_us, pk_us]
    obtain ⟨t1, t2⟩ := (h4 w' hw').1
    have t3 : a5 w' = wd w' := by
      rcases t2 with t2 | t2
      · exact t2.2
      · rw [g] at t2
        exact absurd t2.1 (by decide)
    exact ⟨t1, Or.inr ⟨rfl, b, hb, by rw [t3]⟩⟩
  · rw [pk_un e, pk_un e]
    exact (h4 w' hw').1
theorem sm_k01 {k : Nat} (h : k ≤ 1) : nI k = 0 ∨ nI k = 1 := by
  rcases (show k = 0 ∨ k = 1 by omega) with rfl | rfl
  · exact Or.inl rfl
  · exact Or.inr rfl
theorem sm_hitData {A : sm_A} {q c b : Nat} {s : St1} {post : Int32 → St1 → Prop} {p0 p1 : Int32} (hc : c < 16) (hb : b < 13) (e0 : p0 = nI c) (e1 : p1 = nI b) (hR : sm_R A q s) (hp : ∀ k s', k ≤ 1 → sm_R A 0 s' → sm_cnt (sm_a6 s') 48 = sm_cnt (sm_a6 s) 48 + k → post (nI k) s') : wpX_hitData post s p0 p1 := by
  subst e0 e1
  obtain ⟨ph, wh, sd', st', oc', a1, a2, a3, a4, a5, a6, a7, a8⟩ := s
  unfold wpX_hitData
  dsimp only
  rw [show (32 : Int32) + nI c = nI (32 + c) from nI_add 32 c]
  refine br_f (nI_pos (by omega)) (br_f (nI_ge (b := 16) hc (by omega)) (br_f (nI_pos (by omega)) (br_t (nI_lt (b := 13) hb (by omega)) ?_)))
  refine sm_hitWord (by omega) (by unfold sm_pl; rw [if_pos (by omega)]; exact hb) hR (fun k s' hk h1 h2 => ?_)
  obtain ⟨ph, wh, sd', st', oc', a1, a2, a3, a4, a5, a6, a7, a8⟩ := s'
  exact And.intro (sm_nb (sm_k01 hk)) (hp k _ hk h1 h2)
theorem sm_hitProg {A : sm_A} {q c b : Nat} {s : St1} {post : Int32 → St1 → Prop} {p0 p1 : Int32} (hc : c < 32) (hb : b < 22) (e0 : p0 = nI c) (e1 : p1 = nI b) (hR : sm_R A q s) (hp : ∀ k s', k ≤ 1 → sm_R A 0 s' → sm_cnt (sm_a6 s') 48 = sm_cnt (sm_a6 s) 48 + k → post (nI k) s') : wpX_hitProgram post s p0 p1 := by
  subst e0 e1
  obtain ⟨ph, wh, sd', st', oc', a1, a2, a3, a4, a5, a6, a7, a8⟩ := s
  unfold wpX_hitProgram
  dsimp only
  refine br_f (nI_pos (by omega)) (br_f (nI_ge (b := 32) hc (by omega)) (br_f (nI_pos (by omega)) (br_t (nI_lt (b := 22) hb (by omega)) ?_)))
  refine sm_hitWord (by omega) (by unfold sm_pl; rw [if_neg (by omega)]; exact hb) hR (fun k s' hk h1 h2 => ?_)
  obtain ⟨ph, wh, sd', st', oc', a1, a2, a3, a4, a5, a6, a7, a8⟩ := s'
  exact And.intro (sm_nb (sm_k01 hk)) (hp k _ hk h1 h2)
theorem sm_h200 {ph wh sd' st' oc' : Int32} {a1 a2 a3 a4 a5 a6 a7 a8 : Nat → Int32} {A : sm_A} {v : Int64} {x4 z0 z1 : Int32} {post : Int32 → St1 → Prop} (Hv : ∀ (q : Nat) (post : Int64 → Prop) (s : St1), sm_R A q s → post v → wpL_view post s) (hR : sm_R A 0 (ph, wh, sd', st', oc', a1, a2, a3, a4, a5, a6, a7, a8)) (hz : nI (sm_cnt a6 48) = x4 + (z1 + z0)) (hp : post 1 (ph, wh, sd', st', oc', a1, a2, a3, a4, a5, a6, a7, a8)) : wL_hits_200 post v x4 z0 z1 ph wh sd' st' oc' a1 a2 a3 a4 a5 a6 a7 a8 :=
  nm_e (Hv 0 _ _ hR (br_t rfl (sm_spoiled (br_t hz hp))))
theorem sm_h179 {ph wh sd' st' oc' : Int32} {a1 a2 a3 a4 a5 a6 a7 a8 : Nat → Int32} {A : sm_A} {v : Int64} {c0 k1 k2 k3 : Nat} {post : Int32 → St1 → Prop} (Hv : ∀ (q : Nat) (post : Int64 → Prop) (s : St1), sm_R A q s → post v → wpL_view post s) (hR : sm_R A 0 (ph, wh, sd', st', oc', a1, a2, a3, a4, a5, a6, a7, a8)) (h2 : k2 ≤ 1) (h3 : k3 ≤ 1) (hz : sm_cnt a6 48 = c0 + (k1 + k2 + k3)) (hp : post 1 (ph, wh, sd', st', oc', a1, a2, a3, a4, a5, a6, a7, a8)) : wL_hits_179 post v (nI c0) (nI k2) (nI k3) (nI k1) ph wh sd' st' oc' a1 a2 a3 a4 a5 a6 a7 a8 := by
  have e : nI (sm_cnt a6 48) = nI c0 + ((nI k1 + nI k2) + nI k3) := by rw [hz, nI_add, nI_add, nI_add]
  rcases (show k2 = 0 ∨ k2 = 1 by omega) with rfl | rfl <;> rcases (show k3 = 0 ∨ k3 = 1 by omega) with rfl | rfl
  · exact br_t rfl (br_t rfl (sm_h200 Hv hR e hp))
  · exact br_t rfl (br_f (by decide) (sm_h200 Hv hR e hp))
  · exact br_f (by decide) (br_t rfl (sm_h200 Hv hR e hp))
  · exact br_f (by decide) (br_f (by decide) (sm_h200 Hv hR e hp))
theorem sm_hits {A : sm_A} (hK : sm_K A) {q : Nat} {s : St1} {post : Int32 → St1 → Prop} (x : Int32) (hR : sm_R A q s) (hp : ∀ s', sm_R A 0 s' → post 1 s') : wpL_hits post s x := by
  obtain ⟨v, Hv⟩ := sm_view A hK
  obtain ⟨r1, hr1, er1⟩ := pk_andE x (m := 3) 2 (by decide)
  obtain ⟨j2, hj2, ej2⟩ := sm_rm (x >>> ((2 : Int32) &&& 31)) (M := 3) (D := 3) 2 3 (by decide) rfl (by omega) (by omega) (by omega)
  obtain ⟨r2, hr2, er2⟩ := pk_andE (x >>> ((1 : Int32) &&& 31)) (m := 3) 2 (by decide)
  obtain ⟨j3, hj3, ej3⟩ := sm_rm (x >>> ((3 : Int32) &&& 31)) (M := 3) (D := 3) 2 3 (by decide) rfl (by omega) (by omega) (by omega)
  obtain ⟨j6, hj6, ej6⟩ := sm_rm (x >>> ((6 : Int32) &&& 31)) (M := 3) (D := 3) 2 3 (by decide) rfl (by omega) (by omega) (by omega)
  obtain ⟨j9, hj9, ej9⟩ := sm_rm (x >>> ((9 : Int32) &&& 31)) (M := 3) (D := 3) 2 3 (by decide) rfl (by omega) (by omega) (by omega)
  obtain ⟨c12, hc12, ec12⟩ := pk_andE (x >>> ((12 : Int32) &&& 31)) (m := 15) 4 (by decide)
  obtain ⟨b16, hb16, eb16⟩ := sm_rm (x >>> ((16 : Int32) &&& 31)) (M := 15) (D := 13) 4 13 (by decide) rfl (by omega) (by omega) (by omega)
  obtain ⟨c13, hc13, ec13⟩ := pk_andE (x >>> ((13 : Int32) &&& 31)) (m := 31) 5 (by decide)
  obtain ⟨b18, hb18, eb18⟩ := sm_rm (x >>> ((18 : Int32) &&& 31)) (M := 31) (D := 22) 5 22 (by decide) rfl (by omega) (by omega) (by omega)
  obtain ⟨b14, hb14, eb14⟩ := sm_rm (x >>> ((14 : Int32) &&& 31)) (M := 31) (D := 22) 5 22 (by decide) rfl (by omega) (by omega) (by omega)
  obtain ⟨ph, wh, sd', st', oc', a1, a2, a3, a4, a5, a6, a7, a8⟩ := s
  unfold wpL_hits
  dsimp only
  refine Hv q _ _ hR (And.intro (by decide) ?_)
  refine sm_hitReg hr1 hj2 er1 ej2 hR (fun _ s1 g1 _ => ?_)
  obtain ⟨ph, wh, sd', st', oc', a1, a2, a3, a4, a5, a6, a7, a8⟩ := s1
  refine And.intro (by decide) (sm_hitReg hr2 hj3 er2 ej3 g1 (fun _ s2 g2 _ => ?_))
  obtain ⟨ph, wh, sd', st', oc', a1, a2, a3, a4, a5, a6, a7, a8⟩ := s2
  refine And.intro (by decide) (sm_hitPlace hj6 ej6 g2 (fun _ s3 g3 _ => ?_))
  obtain ⟨ph, wh, sd', st', oc', a1, a2, a3, a4, a5, a6, a7, a8⟩ := s3
  refine And.intro (by decide) (sm_hitWork hj9 ej9 g3 (fun _ s4 g4 _ => ?_))
  obtain ⟨ph, wh, sd', st', oc', a1, a2, a3, a4, a5, b6, a7, a8⟩ := s4
  refine sm_spoiled (And.intro (by decide) (sm_hitData hc12 hb16 ec12 eb16 g4 (fun k1 s5 hk1 g5 n5 => ?_)))
  obtain ⟨ph, wh, sd', st', oc', a1, a2, a3, a4, a5, c6, a7, a8⟩ := s5
  refine And.intro (by decide) (sm_hitProg hc13 hb18 ec13 eb18 g5 (fun k2 s6 hk2 g6 n6 => ?_))
  obtain ⟨ph, wh, sd', st', oc', a1, a2, a3, a4, a5, d6, a7, a8⟩ := s6
  obtain ⟨rg, pl, wd, sd, st, oc, ol⟩ := A
  obtain ⟨m1, m2, m3, m4, m5⟩ := id hK
  refine sm_place g6 (And.intro (by decide) (sm_hitProg m2 hb14 rfl eb14 g6 (fun k3 s7 hk3 g7 n7 => ?_)))
  obtain ⟨ph, wh, sd', st', oc', a1, a2, a3, a4, a5, e6, a7, a8⟩ := s7
  have n5' : sm_cnt c6 48 = sm_cnt b6 48 + k1 := n5
  have n6' : sm_cnt d6 48 = sm_cnt c6 48 + k2 := n6
  have n7' : sm_cnt e6 48 = sm_cnt d6 48 + k3 := n7
  have n : sm_cnt e6 48 = sm_cnt b6 48 + (k1 + k2 + k3) := by omega
  rcases (show k1 = 0 ∨ k1 = 1 by omega) with rfl | rfl
  · exact br_t rfl (sm_h179 Hv g7 hk2 hk3 n (hp _ g7))
  · exact br_f (by decide) (sm_h179 Hv g7 hk2 hk3 n (hp _ g7))
end
section
/-! ===== the law ===== -/
theorem sm_K_oc {A : sm_A} (hK : sm_K A) : sm_oc A ≤ 16 := by
  obtain ⟨rg, pl, wd, sd, st, oc, ol⟩ := A
  obtain ⟨k1, k2, k3, k4, k5⟩ := hK
  exact k5
theorem sm_clean2 {A : sm_A} {ph wh sd' st' oc' : Int32} {a1 a2 a3 a4 a5 a6 a7 a8 : Nat → Int32} {q : Nat} (hq : 48 ≤ q) (hR : sm_R A q (ph, wh, sd', st', oc', a1, a2, a3, a4, a5, a6, a7, a8)) : sm_cnt a6 48 = 0 := by
  obtain ⟨rg, pl, wd, sd, st, oc, ol⟩ := A
  exact sm_clean hq hR
theorem sm_stopped2 {A : sm_A} {ph wh sd' st' oc' : Int32} {a1 a2 a3 a4 a5 a6 a7 a8 : Nat → Int32} {q : Nat} {post : Int32 → Prop} (hK : sm_K A) (hR : sm_R A q (ph, wh, sd', st', oc', a1, a2, a3, a4, a5, a6, a7, a8)) (hp : post (sm_st A)) : wpX_stopped post (ph, wh, sd', st', oc', a1, a2, a3, a4, a5, a6, a7, a8) := by
  obtain ⟨rg, pl, wd, sd, st, oc, ol⟩ := A
  obtain ⟨k1, k2, k3, k4, k5⟩ := hK
  exact sm_stopped k4 hR hp
theorem sm_187 {ph wh sd' st' oc' : Int32} {a1 a2 a3 a4 a5 a6 a7 a8 : Nat → Int32} {qh vh td tt tc : Int32} {b1 b2 b3 b4 b5 b6 b7 b8 : Nat → Int32} {A : sm_A} (hK : sm_K A) {qt i w u L kc ks : Nat} {xs : Nat → Int32} {post : Int32 → Prop} {J21 : Int32 → Int32 → Int32 → Int32 → Int32 → Int32 → Int32 → (Nat → Int32) → (Nat → Int32) → (Nat → Int32) → (Nat → Int32) → (Nat → Int32) → (Nat → Int32) → (Nat → Int32) → (Nat → Int32) → Int32 → Int32 → Int32 → Int32 → Int32 → (Nat → Int32) → (Nat → Int32) → (Nat → Int32) → (Nat → Int32) → (Nat → Int32) → (Nat → Int32) → (Nat → Int32) → (Nat → Int32) → Prop}
    (hR : sm_R A qt (ph, wh, sd', st', oc', a1, a2, a3, a4, a5, a6, a7, a8)) (hT : sm_R A 48 (qh, vh, td, tt, tc, b1, b2, b3, b4, b5, b6, b7, b8)) (hq : qt < 2 ^ 31) (ho : u ≤ sm_oc A ∨ w = 6) (hJ : J21 (nI qt) (nI (i + 1)) ph wh sd' st' oc' a1 a2 a3 a4 a5 a6 a7 a8 qh vh td tt tc b1 b2 b3 b4 b5 b6 b7 b8) : wL_law_187 post L xs J21 (nI qt) (nI i) (nI w) (nI u) 1 kc ks ph wh sd' st' oc' a1 a2 a3 a4 a5 a6 a7 a8 qh vh td tt tc b1 b2 b3 b4 b5 b6 b7 b8 := by
  obtain ⟨v, Hv⟩ := sm_view A hK
  have h16 := sm_K_oc hK
  have e := sm_R_oc hR
  have h231 : wL_law_231 post L xs J21 (nI qt) (nI i) (nI w) (nI u) kc ks ph wh sd' st' oc' a1 a2 a3 a4 a5 a6 a7 a8 qh vh td tt tc b1 b2 b3 b4 b5 b6 b7 b8 := by
    subst e
    unfold wL_law_231
    refine br_c (fun _ => nm_r (nI_1 i) hJ) (fun g => br_t ?_ (nm_r (nI_1 i) hJ))
    rcases ho with z | z
    · exact absurd (nI_le z (by omega)) g
    · rw [z]; rfl
  unfold wL_law_187
  refine br_f (by decide) (sm_limits hK hR (br_f (by decide) (Hv qt _ _ hR (Hv 48 _ _ hT (br_t rfl (sm_spoiled (br_t (by rw [sm_clean2 (Nat.le_refl 48) hT]; rfl) ?_)))))))
  refine br_c (fun _ => h231) (fun g => sm_spoiled (br_t ?_ h231))
  have hq2 : 48 ≤ qt := by
    rcases Nat.lt_or_ge qt 48 with z | z
    · exact absurd (nI_lt (b := 48) z (by omega)) g
    · exact z
  rw [sm_clean2 hq2 hR]
  rfl
theorem sm_law21 {post : Int32 → Prop} {L kc ks : Nat} {xs : Nat → Int32} (hL : L ≤ 260) (hp : post 1) : ∀ (f i : Nat), i ≤ L → L - i < f → ∀ (A : sm_A) (qt : Nat) (ph wh sd' st' oc' : Int32) (a1 a2 a3 a4 a5 a6 a7 a8 : Nat → Int32) (qh vh td tt tc : Int32) (b1 b2 b3 b4 b5 b6 b7 b8 : Nat → Int32), sm_K A → qt ≤ 78 * i → sm_R A qt (ph, wh, sd', st', oc', a1, a2, a3, a4, a5, a6, a7, a8) → sm_R A 48 (qh, vh, td, tt, tc, b1, b2, b3, b4, b5, b6, b7, b8) → wL_law_21 post L xs kc ks f (nI qt) (nI i) ph wh sd' st' oc' a1 a2 a3 a4 a5 a6 a7 a8 qh vh td tt tc b1 b2 b3 b4 b5 b6 b7 b8 := by
  intro f
  induction f with
  | zero => intro i h1 h2; omega
  | succ f ih =>
    intro i h1 h2 A qt ph wh sd' st' oc' a1 a2 a3 a4 a5 a6 a7 a8 qh vh td tt tc b1 b2 b3 b4 b5 b6 b7 b8 hK hq hR hT
    by_cases ei : i = L
    · subst ei
      exact br_t (nI_le (Nat.le_refl i) (by omega)) hp
    · have e := sm_R_oc hR
      subst e
      have h16 := sm_K_oc hK
      obtain ⟨w, hw, ew⟩ := pk_andE (xs i) (m := 15) 4 (by decide)
      refine br_f (nI_ge (b := L) (by omega) (by omega)) (And.intro (pk_in i L (by omega)) (nm_r (show xs (nI i).toNatClampNeg &&& 15 = nI w by rw [nI_clamp (by omega)]; exact ew) (And.intro (pk_in i L (by omega)) (nm_r (show xs (nI i).toNatClampNeg >>> ((4 : Int32) &&& 31) = xs i >>> ((4 : Int32) &&& 31) by rw [nI_clamp (by omega)]) ?_))))
      by_cases c7 : 7 ≤ w
      · by_cases c11 : 11 ≤ w
        · obtain ⟨m, hm, em⟩ := pk_andE (xs i >>> ((4 : Int32) &&& 31)) (m := 15) 4 (by decide)
          obtain ⟨n, hn, en⟩ := pk_andE ((xs i >>> ((4 : Int32) &&& 31)) >>> ((4 : Int32) &&& 31)) (m := 63) 6 (by decide)
          obtain ⟨B, D, c, e, hD, ho, hc, he, hx, r1, r2, r3⟩ := sm_run2 m n A hK
          refine br_t (nI_le (a := 7) c7 (by omega)) (br_t (nI_le (a := 11) c11 (by omega)) (nm_r em (nm_r en ?_)))
          rw [nI_add m n]
          refine sm_run (by omega) r3 hR (fun s1 h1' => ?_)
          obtain ⟨ph, wh, sd', st', oc', a1, a2, a3, a4, a5, a6, a7, a8⟩ := s1
          refine sm_run (by omega) r1 hT (fun s2 h2' => ?_)
          obtain ⟨qh, vh, td, tt, tc, b1, b2, b3, b4, b5, b6, b7, b8⟩ := s2
          refine sm_run (by omega) r2 h2' (fun s3 h3' => ?_)
          obtain ⟨qh, vh, td, tt, tc, b1, b2, b3, b4, b5, b6, b7, b8⟩ := s3
          have fin : wL_law_175 post L xs (wL_law_21 post L xs kc ks f) (nI qt) (nI i) (nI w) (nI (sm_oc A)) (nI (c + e)) kc ks ph wh sd' st' oc' a1 a2 a3 a4 a5 a6 a7 a8 qh vh td tt tc b1 b2 b3 b4 b5 b6 b7 b8 := by
            unfold wL_law_175 wL_law_180
            refine nm_r (nI_add qt (c + e)) ?_
            exact sm_187 hD h1' (sm_R_mono (by omega) h3') (by omega) (Or.inl ho) (ih (i + 1) (by omega) (by omega) D (qt + (c + e)) _ _ _ _ _ _ _ _ _ _ _ _ _ _ _ _ _ _ _ _ _ _ _ _ _ _ hD (by omega) h1' (sm_R_mono (by omega) h3'))
          refine br_t (nI_add c e).symm (br_f (nI_pos (by omega)) (br_c (fun _ => fin) (fun g => sm_stopped2 hD h1' (br_f ?_ fin))))
          rcases hx with z | z
          · exact absurd (by rw [z]) g
          · exact z
        · refine br_t (nI_le (a := 7) c7 (by omega)) (br_f (nI_ge (b := 11) (by omega) (by omega)) (sm_hits hK _ hR (fun s1 h1' => ?_)))
          obtain ⟨ph, wh, sd', st', oc', a1, a2, a3, a4, a5, a6, a7, a8⟩ := s1
          exact sm_187 (qt := 0) hK h1' hT (by omega) (Or.inl (Nat.le_refl _)) (ih (i + 1) (by omega) (by omega) A 0 _ _ _ _ _ _ _ _ _ _ _ _ _ _ _ _ _ _ _ _ _ _ _ _ _ _ hK (by omega) h1' hT)
      · obtain ⟨B, hB, ho, H⟩ := sm_change A hK (w := w) (by omega) (xs i >>> ((4 : Int32) &&& 31))
        refine br_f (nI_ge (b := 7) (by omega) (by omega)) (H qt _ _ hR (fun s1 h1' => ?_))
        obtain ⟨ph, wh, sd', st', oc', a1, a2, a3, a4, a5, a6, a7, a8⟩ := s1
        refine H 48 _ _ hT (fun s2 h2' => ?_)
        obtain ⟨qh, vh, td, tt, tc, b1, b2, b3, b4, b5, b6, b7, b8⟩ := s2
        exact sm_187 hB h1' h2' (by omega) ho (ih (i + 1) (by omega) (by omega) B qt _ _ _ _ _ _ _ _ _ _ _ _ _ _ _ _ _ _ _ _ _ _ _ _ _ _ hB (by omega) h1' h2')
end
section
theorem i_vc (xs : Nat → Int32) (L : Nat) (hL : L ≤ 260) : wpL_law (fun r => r = 1) L xs := by
  obtain ⟨A, hK, H⟩ := sm_init
  refine ⟨8, 137, by omega, by omega, H _ 8 137 (by omega) (by omega) (fun s1 h1 => ?_)⟩
  obtain ⟨ph, wh, sd', st', oc', a1, a2, a3, a4, a5, a6, a7, a8⟩ := s1
  refine And.intro (by omega) (And.intro (by omega) ⟨8, 137, by omega, by omega, H _ 8 137 (by omega) (by omega) (fun s2 h2 => ?_)⟩)
  obtain ⟨qh, vh, td, tt, tc, b1, b2, b3, b4, b5, b6, b7, b8⟩ := s2
  exact ⟨L + 1, sm_law21 (post := fun r => r = 1) hL rfl (L + 1) 0 (by omega) (by omega) A 0 _ _ _ _ _ _ _ _ _ _ _ _ _ _ _ _ _ _ _ _ _ _ _ _ _ _ hK (by omega) (sm_R_mono (by omega) h1) h2⟩
end
