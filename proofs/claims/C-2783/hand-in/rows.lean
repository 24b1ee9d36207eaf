section
theorem pk_us {f : Nat → Int32} {k : Nat} {x : Int32} : upd f k x k = x := if_pos rfl
theorem pk_un {f : Nat → Int32} {k j : Nat} {x : Int32} (h : j ≠ k) : upd f k x j = f j := if_neg h
theorem pk_sub {a b : Nat} (h : b ≤ a) : nI a - nI b = nI (a - b) := by
  obtain ⟨c, rfl⟩ : ∃ c, a = c + b := ⟨a - b, by omega⟩
  rw [← nI_add, Int32.add_sub_cancel, Nat.add_sub_cancel]
theorem pk_m1 (n : Nat) : nI (n + 1) + (-1) = nI n := by
  rw [← nI_1, Int32.add_assoc, show (1 : Int32) + (-1) = 0 from rfl, Int32.add_zero]
theorem pk_ix (x : Int32) {n : Nat} (hn : n < 2 ^ 31) : x < 0 ∨ nI n ≤ x ∨ ∃ j : Nat, j < n ∧ x = nI j := by
  by_cases h : x < 0
  · exact Or.inl h
  · obtain ⟨j, hj, rfl⟩ := nI_of h
    by_cases h2 : j < n
    · exact Or.inr (Or.inr ⟨j, h2, rfl⟩)
    · exact Or.inr (Or.inl (nI_le (by omega) hj))
theorem pk_le {x y : Int32} {A B : Prop} (a b : Nat) (f : a ≤ b → A) (g : b < a → B) (hx : x = nI a := by rfl) (hy : y = nI b := by rfl) (ha : a < 2 ^ 31 := by omega) (hb : b < 2 ^ 31 := by omega) : (x ≤ y → A) ∧ (¬ x ≤ y → B) := by
  subst hx hy
  rw [nI_leI ha hb]
  exact ⟨f, fun z => g (by omega)⟩
theorem pk_lt {x y : Int32} {A B : Prop} (a b : Nat) (f : a < b → A) (g : b ≤ a → B) (hx : x = nI a := by rfl) (hy : y = nI b := by rfl) (ha : a < 2 ^ 31 := by omega) (hb : b < 2 ^ 31 := by omega) : (x < y → A) ∧ (¬ x < y → B) := by
  subst hx hy
  rw [nI_ltI ha hb]
  exact ⟨f, fun z => g (by omega)⟩
theorem pk_eq {x y : Int32} {A B : Prop} (a b : Nat) (f : a = b → A) (g : a ≠ b → B) (hx : x = nI a := by rfl) (hy : y = nI b := by rfl) (ha : a < 2 ^ 31 := by omega) (hb : b < 2 ^ 31 := by omega) : (x = y → A) ∧ (¬ x = y → B) := by
  subst hx hy
  rw [nI_eq ha hb]
  exact ⟨f, g⟩
theorem pk_in {x : Int32} (n N : Nat) (h : n < N) (hx : x = nI n := by rfl) (hN : N < 2 ^ 31 := by omega) : vp_in x N := by
  subst hx
  exact vp_in_nI h hN
theorem pk_cl {x : Int32} (n : Nat) (hx : x = nI n := by rfl) (h : n < 2 ^ 31 := by omega) : x.toNatClampNeg = n := by
  subst hx
  exact nI_clamp h
theorem pk_vb (z : Int32) : vp_nar .byte z.toInt8.toInt32 = z.toInt8.toInt32 := by rw [vp_nar_byte]; simp
def bt (x : Int32) (i : Nat) : Bool := x.toBitVec.getLsbD i
theorem b_ext {x y : Int32} (h : ∀ i, i < 32 → bt x i = bt y i) : x = y := Int32.toBitVec_inj.mp (BitVec.eq_of_getLsbD_eq (fun i hi => h i hi))
theorem b_or (x y : Int32) (i : Nat) : bt (x ||| y) i = (bt x i || bt y i) := by unfold bt; rw [Int32.toBitVec_or, BitVec.getLsbD_or]
theorem b_and (x y : Int32) (i : Nat) : bt (x &&& y) i = (bt x i && bt y i) := by unfold bt; rw [Int32.toBitVec_and, BitVec.getLsbD_and]
theorem b_xor (x y : Int32) (i : Nat) : bt (x ^^^ y) i = (bt x i ^^ bt y i) := by unfold bt; rw [Int32.toBitVec_xor, BitVec.getLsbD_xor]
theorem b_big {x : Int32} {i : Nat} (h : 32 ≤ i) : bt x i = false := BitVec.getLsbD_of_ge _ _ h
theorem b_m1 : ∀ i, i < 32 → bt (-1) i = true := by decide +kernel
theorem b_0 (i : Nat) : bt 0 i = false := BitVec.getLsbD_zero
theorem s_l : ∀ n, n < 32 → ((nI n &&& 31).toBitVec.smod 32).toNat = n := by decide +kernel
theorem s_u : ∀ n, n < 32 → (((nI n).toUInt32 &&& Int32.toUInt32 31).toBitVec % 32).toNat = n := by decide +kernel
theorem b_shl (n : Nat) (hn : n < 32) (x : Int32) {i : Nat} (hi : i < 32) : bt (x <<< (nI n &&& 31)) i = (decide (n ≤ i) && bt x (i - n)) := by
  unfold bt
  rw [Int32.toBitVec_shiftLeft]
  show (x.toBitVec <<< ((nI n &&& 31).toBitVec.smod 32).toNat).getLsbD i = _
  rw [s_l n hn, BitVec.getLsbD_shiftLeft]
  rcases Nat.lt_or_ge i n with h | h
  · simp [h, Nat.not_le.mpr h]
  · simp [hi, h, Nat.not_lt.mpr h]
theorem b_ushr (n : Nat) (hn : n < 32) (x : Int32) (i : Nat) : bt ((x.toUInt32 >>> ((nI n).toUInt32 &&& Int32.toUInt32 31)).toInt32) i = bt x (n + i) := by
  show (x.toUInt32 >>> ((nI n).toUInt32 &&& Int32.toUInt32 31)).toBitVec.getLsbD i = x.toUInt32.toBitVec.getLsbD (n + i)
  rw [UInt32.toBitVec_shiftRight]
  show (x.toUInt32.toBitVec >>> (((nI n).toUInt32 &&& Int32.toUInt32 31).toBitVec % 32).toNat).getLsbD i = _
  rw [s_u n hn, BitVec.getLsbD_ushiftRight]
theorem b_sshr (n : Nat) (hn : n < 32) (x : Int32) {i : Nat} (hi : i < 32) : bt (x >>> (nI n &&& 31)) i = if n + i < 32 then bt x (n + i) else bt x 31 := by
  unfold bt
  rw [Int32.toBitVec_shiftRight]
  show (x.toBitVec.sshiftRight ((nI n &&& 31).toBitVec.smod 32).toNat).getLsbD i = _
  rw [s_l n hn, BitVec.getLsbD_sshiftRight, BitVec.msb_eq_getLsbD_last]
  simp [hi]
end
section
/-! the circuit as booleans: gates, values of the lines, vectors that show a fault -/
def tp_b : Bool → Int32
  | true => 1
  | false => 0
theorem tp_b_inj {a b : Bool} (h : tp_b a = tp_b b) : a = b := by
  cases a <;> cases b <;> first | rfl | exact absurd h (by decide)
theorem tp_b_and (a b : Bool) : tp_b a &&& tp_b b = tp_b (a && b) := by cases a <;> cases b <;> decide
theorem tp_b_or (a b : Bool) : tp_b a ||| tp_b b = tp_b (a || b) := by cases a <;> cases b <;> decide
theorem tp_b_xor (a b : Bool) : tp_b a ^^^ tp_b b = tp_b (a ^^ b) := by cases a <;> cases b <;> decide
theorem tp_b_not (a : Bool) : 1 - tp_b a = tp_b (!a) := by cases a <;> decide
theorem tp_b_0 (a : Bool) : tp_b a = 0 ↔ a = false := by cases a <;> decide
theorem tp_b_1 (a : Bool) : tp_b a = 1 ↔ a = true := by cases a <;> decide
theorem tp_bit (x : Int32) : (∃ b, x = tp_b b) ∨ (¬ x = 0 ∧ ¬ x = 1) := by
  by_cases h0 : x = 0
  · exact Or.inl ⟨false, h0⟩
  · by_cases h1 : x = 1
    · exact Or.inl ⟨true, h1⟩
    · exact Or.inr ⟨h0, h1⟩
theorem tp_bt_b (a : Bool) (i : Nat) (hi : i < 32) : bt (tp_b a) i = (decide (i = 0) && a) := by
  cases a
  · show bt 0 i = _
    rw [b_0]; simp
  · have : ∀ i, i < 32 → bt (tp_b true) i = (decide (i = 0) && true) := by decide +kernel
    exact this i hi
/-- one bit of a word, by >> and by >>> -/
theorem tp_bit_s (x : Int32) {l : Nat} (hl : l < 32) : (x >>> (nI l &&& 31)) &&& 1 = tp_b (bt x l) := by
  apply b_ext
  intro i hi
  rw [b_and, b_sshr l hl x hi, tp_bt_b _ i hi]
  have h1 : bt 1 i = (decide (i = 0) && true) := tp_bt_b true i hi
  rw [h1]
  by_cases h : i = 0
  · subst h; simp [hl]
  · simp [h]
theorem tp_bit_u (x : Int32) {l : Nat} (hl : l < 32) : (x.toUInt32 >>> ((nI l).toUInt32 &&& Int32.toUInt32 31)).toInt32 &&& 1 = tp_b (bt x l) := by
  apply b_ext
  intro i hi
  rw [b_and, b_ushr l hl x i, tp_bt_b _ i hi]
  have h1 : bt 1 i = (decide (i = 0) && true) := tp_bt_b true i hi
  rw [h1]
  by_cases h : i = 0
  · subst h; simp
  · simp [h]
theorem tp_shb (b : Bool) {j : Nat} (hj : j < 32) {k : Nat} (hk : k < 32) : bt (tp_b b <<< (nI j &&& 31)) k = (decide (k = j) && b) := by
  rw [b_shl j hj _ hk, tp_bt_b _ _ (by omega)]
  by_cases h : k = j
  · subst h; simp
  · by_cases h2 : j ≤ k
    · have : ¬ k - j = 0 := by omega
      simp [h, this]
    · simp [h, h2]
theorem tp_nIb (j : Nat) {i : Nat} (hi : i < 32) : bt (nI j) i = j.testBit i := by
  show (BitVec.ofNat 32 j).getLsbD i = _
  rw [BitVec.getLsbD_ofNat]; simp [hi]
/-- a gate -/
def tp_g (k : Int32) (a b : Bool) : Bool := if k = 0 then a && b else if k = 1 then a || b else if k = 2 then a ^^ b else if k = 3 then !(a && b) else if k = 4 then !(a || b) else !a
theorem tp_g5 {k : Int32} (h : k = 5) (a b b' : Bool) : tp_g k a b = tp_g k a b' := by subst h; rfl
def tp_a (k x y : Int32) : Int32 := if k = 0 then x &&& y else if k = 1 then x ||| y else if k = 2 then x ^^^ y else if k = 3 then (x &&& y) ^^^ (-1) else if k = 4 then (x ||| y) ^^^ (-1) else x ^^^ (-1)
theorem tp_a_bt (k x y : Int32) {i : Nat} (hi : i < 32) : bt (tp_a k x y) i = tp_g k (bt x i) (bt y i) := by
  have m := b_m1 i hi
  unfold tp_a tp_g
  repeat' split
  all_goals simp only [b_and, b_or, b_xor, m, Bool.xor_true]
theorem tp_apply {post : Int32 → Prop} (k x y : Int32) (h : post (tp_a k x y)) : wpX_apply post k x y := by
  unfold wpX_apply
  unfold tp_a at h
  refine br_c (fun e => by rw [if_pos e] at h; exact h) (fun e => ?_)
  rw [if_neg e] at h
  refine br_c (fun e => by rw [if_pos e] at h; exact h) (fun e => ?_)
  rw [if_neg e] at h
  refine br_c (fun e => by rw [if_pos e] at h; exact h) (fun e => ?_)
  rw [if_neg e] at h
  refine br_c (fun e => by rw [if_pos e] at h; exact h) (fun e => ?_)
  rw [if_neg e] at h
  refine br_c (fun e => by rw [if_pos e] at h; exact h) (fun e => ?_)
  rw [if_neg e] at h
  exact h
/-- the values of the lines for vector k, line ln stuck at v (none for -1) -/
def tp_V (K F S : Nat → Int32) (ln : Int32) (v : Bool) (k : Nat) : Nat → Nat → Bool
  | 0 => fun _ => false
  | i + 1 => fun j => if j = i then (if nI i = ln then v else if i < 5 then k.testBit i else tp_g (K i) (tp_V K F S ln v k i (F i).toNatClampNeg) (tp_V K F S ln v k i (S i).toNatClampNeg)) else tp_V K F S ln v k i j
def tp_v (K F S : Nat → Int32) (ln : Int32) (v : Bool) (k j : Nat) : Bool := tp_V K F S ln v k (j + 1) j
theorem tp_V_st (K F S : Nat → Int32) (ln : Int32) (v : Bool) (k : Nat) : ∀ i j, j < i → tp_V K F S ln v k i j = tp_v K F S ln v k j := by
  intro i
  induction i with
  | zero => intro j h; omega
  | succ i ih =>
    intro j h
    by_cases e : j = i
    · subst e; rfl
    · rw [← ih j (by omega)]
      show (if j = i then _ else _) = _
      rw [if_neg e]
theorem tp_v_s {K F S : Nat → Int32} {ln : Int32} {v : Bool} {k j : Nat} (h : nI j = ln) : tp_v K F S ln v k j = v := by
  show (if j = j then _ else _) = _
  rw [if_pos rfl, if_pos h]
theorem tp_v_i {K F S : Nat → Int32} {ln : Int32} {v : Bool} {k j : Nat} (h : ¬ nI j = ln) (h5 : j < 5) : tp_v K F S ln v k j = k.testBit j := by
  show (if j = j then _ else _) = _
  rw [if_pos rfl, if_neg h, if_pos h5]
theorem tp_v_g {K F S : Nat → Int32} {ln : Int32} {v : Bool} {k j : Nat} (h : ¬ nI j = ln) (h5 : ¬ j < 5) (hF : (F j).toNatClampNeg < j) (hS : (S j).toNatClampNeg < j) : tp_v K F S ln v k j = tp_g (K j) (tp_v K F S ln v k (F j).toNatClampNeg) (tp_v K F S ln v k (S j).toNatClampNeg) := by
  show (if j = j then _ else _) = _
  rw [if_pos rfl, if_neg h, if_neg h5, tp_V_st K F S ln v k j _ hF, tp_V_st K F S ln v k j _ hS]
theorem tp_nm1 {j : Nat} (h : j < 2 ^ 31) : ¬ nI j = -1 := by
  intro e
  have := nI_toInt h
  rw [e] at this
  have h1 : (-1 : Int32).toInt = -1 := by decide
  omega
/-- some watched line below l differs -/
def tp_D (K F S : Nat → Int32) (w ln : Int32) (v : Bool) (k : Nat) : Nat → Bool
  | 0 => false
  | l + 1 => tp_D K F S w ln v k l || (bt w l && (tp_v K F S (-1) false k l ^^ tp_v K F S ln v k l))
theorem tp_D_f (K F S : Nat → Int32) (w ln : Int32) (v : Bool) (k : Nat) : ∀ l, tp_D K F S w ln v k l = false ↔ ∀ j, j < l → (bt w j && tp_v K F S (-1) false k j) = (bt w j && tp_v K F S ln v k j) := by
  intro l
  induction l with
  | zero => exact ⟨fun _ j h => absurd h (by omega), fun _ => rfl⟩
  | succ l ih =>
    constructor
    · intro h j hj
      have h' : (tp_D K F S w ln v k l || (bt w l && (tp_v K F S (-1) false k l ^^ tp_v K F S ln v k l))) = false := h
      rw [Bool.or_eq_false_iff] at h'
      by_cases e : j = l
      · subst e
        have := h'.2
        revert this
        cases bt w j <;> cases tp_v K F S (-1) false k j <;> cases tp_v K F S ln v k j <;> simp
      · exact ih.mp h'.1 j (by omega)
    · intro h
      show (tp_D K F S w ln v k l || (bt w l && (tp_v K F S (-1) false k l ^^ tp_v K F S ln v k l))) = false
      rw [Bool.or_eq_false_iff]
      refine ⟨ih.mpr (fun j hj => h j (by omega)), ?_⟩
      have := h l (by omega)
      revert this
      cases bt w l <;> cases tp_v K F S (-1) false k l <;> cases tp_v K F S ln v k l <;> simp
/-- what holds of the circuit: G is the reference's second table -/
def tp_OK (c : Nat) (K F S G : Nat → Int32) : Prop := 5 ≤ c ∧ c ≤ 16 ∧ ∀ i, i < 16 → (∃ k, k ≤ 5 ∧ K i = nI k) ∧ (∃ f, f ≤ i - 1 ∧ F i = nI f) ∧ (∃ s, s ≤ i - 1 ∧ S i = nI s) ∧ (∃ g, g ≤ i - 1 ∧ G i = nI g) ∧ (K i = 5 ∨ G i = S i)
theorem tp_ix {A : Nat → Int32} {i : Nat} (hi : i < 16) (h : ∃ f, f ≤ i - 1 ∧ A i = nI f) : vp_in (A i) 16 ∧ (5 ≤ i → (A i).toNatClampNeg < i) := by
  obtain ⟨f, hf, e⟩ := h
  rw [e]
  refine ⟨vp_in_nI (by omega) (by omega), fun h5 => ?_⟩
  rw [nI_clamp (by omega)]; omega
theorem tp_OF {c : Nat} {K F S G : Nat → Int32} (H : tp_OK c K F S G) {i : Nat} (hi : i < 16) : vp_in (F i) 16 ∧ (5 ≤ i → (F i).toNatClampNeg < i) := tp_ix hi (H.2.2 i hi).2.1
theorem tp_OS {c : Nat} {K F S G : Nat → Int32} (H : tp_OK c K F S G) {i : Nat} (hi : i < 16) : vp_in (S i) 16 ∧ (5 ≤ i → (S i).toNatClampNeg < i) := tp_ix hi (H.2.2 i hi).2.2.1
theorem tp_OG {c : Nat} {K F S G : Nat → Int32} (H : tp_OK c K F S G) {i : Nat} (hi : i < 16) : vp_in (G i) 16 ∧ (5 ≤ i → (G i).toNatClampNeg < i) := tp_ix hi (H.2.2 i hi).2.2.2.1
end
section
/-! the component's simulation of all vectors at once -/
theorem tp_upd {Q : Nat → Int32 → Prop} {i : Nat} {a : Nat → Int32} {x : Int32} (h : ∀ j, j < i → Q j (a j)) (hx : Q i x) : ∀ j, j < i + 1 → Q j (upd a i x j) := by
  intro j hj
  by_cases e : j = i
  · subst e; rw [pk_us]; exact hx
  · rw [pk_un e]; exact h j (by omega)
theorem tp_pat4 {post : Int32 → Prop} {i : Nat} (hi : i < 5) (P : ∀ r, (∀ k, k < 32 → bt r k = k.testBit i) → post r) : ∀ n j x, 32 < n + j → j ≤ 32 → (∀ k, k < 32 → bt x k = (decide (k < j) && k.testBit i)) → wX_pattern_4 post (nI i) n x (nI j) := by
  intro n
  induction n with
  | zero => intro j x h1 h2 _; omega
  | succ n ih =>
    intro j x h1 h2 hx
    refine pk_le 32 j (fun h => P x (fun k hk => ?_)) (fun h => ?_)
    · rw [hx k hk, decide_eq_true (show k < j by omega), Bool.true_and]
    · refine nm_e (nm_r (nI_1 j) (ih (j + 1) _ (by omega) (by omega) (fun k hk => ?_)))
      rw [b_or, hx k hk, tp_bit_s _ (by omega), tp_nIb j (by omega), tp_shb _ (by omega) hk]
      by_cases e : k = j
      · subst e; simp
      · rw [show decide (k < j + 1) = decide (k < j) from decide_eq_decide.mpr (by omega)]; simp [e]
theorem tp_pattern {post : Int32 → Prop} {i : Nat} (hi : i < 5) (P : ∀ r, (∀ k, k < 32 → bt r k = k.testBit i) → post r) : wpX_pattern post (nI i) := by
  unfold wpX_pattern
  exact ⟨33, tp_pat4 hi P 33 0 0 (by omega) (by omega) (fun k hk => by rw [b_0]; simp)⟩
section
variable {c : Nat} {w ln : Int32} {v : Bool} {K F S G so fa de go ba ma : Nat → Int32}
theorem tp_ss2 (H : tp_OK c K F S G) {post : SX → Prop} (P : ∀ so', (∀ j, j < c → ∀ k, k < 32 → bt (so' j) k = tp_v K F S (-1) false k j) → post (nI c, w, K, F, S, so', fa, de, go, ba, ma)) : ∀ n i so, c < n + i → i ≤ c → (∀ j, j < i → ∀ k, k < 32 → bt (so j) k = tp_v K F S (-1) false k j) → wX_simulateSound_2 post (nI c) w n (nI i) K F S so fa de go ba ma := by
  have hc := H.2.1
  intro n
  induction n with
  | zero => intro i so h1 h2 _; omega
  | succ n ih =>
    intro i so h1 h2 hs
    refine pk_le c i (fun h => P so (fun j hj => hs j (by omega))) (fun h => ?_)
    have hi : vp_in (nI i) 16 := vp_in_nI (by omega) (by omega)
    have ec : (nI i).toNatClampNeg = i := nI_clamp (by omega)
    have i16 : i < 16 := by omega
    have hn : ¬ nI i = -1 := tp_nm1 (by omega)
    rw [ec]
    refine pk_le 5 i (fun h5 => ?_) (fun h5 => ?_)
    · refine ⟨hi, hi, (tp_OF H i16).1, hi, (tp_OS H i16).1, tp_apply _ _ _ ⟨hi, nm_e (nm_r (nI_1 i) (ih (i + 1) _ (by omega) (by omega) (tp_upd (Q := fun j x => ∀ k, k < 32 → bt x k = tp_v K F S (-1) false k j) hs (fun k hk => ?_))))⟩⟩
      have hF := (tp_OF H i16).2 h5
      have hS := (tp_OS H i16).2 h5
      rw [tp_a_bt _ _ _ hk, hs _ hF k hk, hs _ hS k hk, tp_v_g hn (by omega) hF hS]
    · refine tp_pattern h5 (fun r hr => ⟨hi, nm_e (nm_r (nI_1 i) (ih (i + 1) _ (by omega) (by omega) (tp_upd (Q := fun j x => ∀ k, k < 32 → bt x k = tp_v K F S (-1) false k j) hs (fun k hk => ?_))))⟩)
      rw [hr k hk, tp_v_i hn h5]
theorem tp_simS (H : tp_OK c K F S G) {post : SX → Prop} (P : ∀ so', (∀ j, j < c → ∀ k, k < 32 → bt (so' j) k = tp_v K F S (-1) false k j) → post (nI c, w, K, F, S, so', fa, de, go, ba, ma)) : wpX_simulateSound post (nI c, w, K, F, S, so, fa, de, go, ba, ma) := by
  unfold wpX_simulateSound
  exact ⟨c + 1, tp_ss2 H P (c + 1) 0 so (by omega) (by omega) (fun j hj => absurd hj (by omega))⟩
abbrev tp_J : Type := Int32 → Int32 → (Nat → Int32) → (Nat → Int32) → (Nat → Int32) → (Nat → Int32) → (Nat → Int32) → (Nat → Int32) → (Nat → Int32) → (Nat → Int32) → (Nat → Int32) → Prop
theorem tp_98 {post : Int32 → SX → Prop} {J : tp_J} {x1 x2 : Int32} {l : Nat} (hl : l < 16) {x3 : Int32} (hs : ∀ k, k < 32 → bt (so l) k = tp_v K F S (-1) false k l) (hf : ∀ k, k < 32 → bt (fa l) k = tp_v K F S ln v k l) (hx : ∀ k, k < 32 → bt x3 k = tp_D K F S w ln v k l) (P : ∀ y, (∀ k, k < 32 → bt y k = tp_D K F S w ln v k (l + 1)) → J y (nI (l + 1)) K F S so fa de go ba ma) : wX_shownSet_98 post J x1 x2 x3 (nI l) (nI c) w K F S so fa de go ba ma := by
  have hi : vp_in (nI l) 16 := vp_in_nI hl (by omega)
  unfold wX_shownSet_98
  rw [tp_bit_s w (by omega), tp_b_0, nI_clamp (by omega)]
  refine br_c (fun e => nm_e (nm_r (nI_1 l) (P _ (fun k hk => ?_)))) (fun e => ⟨hi, hi, nm_e (nm_r (nI_1 l) (P _ (fun k hk => ?_)))⟩)
  · rw [b_or, b_0, hx k hk]
    show _ = (tp_D K F S w ln v k l || (bt w l && (tp_v K F S (-1) false k l ^^ tp_v K F S ln v k l)))
    rw [e]; simp
  · rw [b_or, b_xor, hs k hk, hf k hk, hx k hk]
    show _ = (tp_D K F S w ln v k l || (bt w l && (tp_v K F S (-1) false k l ^^ tp_v K F S ln v k l)))
    rw [eq_true_of_ne_false e]; simp
theorem tp_74 {post : Int32 → SX → Prop} {J : tp_J} {l : Nat} (hl : l < 16) {x3 z : Int32} (hs : ∀ k, k < 32 → bt (so l) k = tp_v K F S (-1) false k l) (hz : ¬ nI l = ln → ∀ k, k < 32 → bt z k = tp_v K F S ln v k l) (hx : ∀ k, k < 32 → bt x3 k = tp_D K F S w ln v k l) (P : ∀ y fa', (∀ j, j < l → fa' j = fa j) → (∀ k, k < 32 → bt (fa' l) k = tp_v K F S ln v k l) → (∀ k, k < 32 → bt y k = tp_D K F S w ln v k (l + 1)) → J y (nI (l + 1)) K F S so fa' de go ba ma) : wX_shownSet_74 post J ln (tp_b v) x3 (nI l) z (nI l) (nI c) w K F S so fa de go ba ma := by
  have hi : vp_in (nI l) 16 := vp_in_nI hl (by omega)
  have ec : (nI l).toNatClampNeg = l := nI_clamp (by omega)
  have hst : ∀ z', nI l = ln → (∀ k, k < 32 → bt z' k = v) → wX_shownSet_97 post J ln (tp_b v) x3 (nI l) z' (nI l) (nI c) w K F S so (upd fa l z) de go ba ma := by
    intro z' e hz'
    unfold wX_shownSet_97
    rw [ec]
    have hb : ∀ k, k < 32 → bt (upd (upd fa l z) l z' l) k = tp_v K F S ln v k l := by
      intro k hk
      rw [pk_us, hz' k hk, tp_v_s e]
    refine ⟨hi, nm_e (tp_98 hl hs hb hx (fun y hy => P y _ (fun j hj => ?_) hb hy))⟩
    rw [pk_un (by omega), pk_un (by omega)]
  unfold wX_shownSet_74
  rw [ec]
  refine ⟨hi, nm_e (br_c (fun e => ?_) (fun e => ?_))⟩
  · rw [tp_b_1]
    refine br_c (fun ev => hst _ e (fun k hk => ?_)) (fun ev => hst _ e (fun k hk => ?_))
    · rw [b_m1 k hk, ev]
    · rw [b_0, eq_false_of_ne_true ev]
  · have hb : ∀ k, k < 32 → bt (upd fa l z l) k = tp_v K F S ln v k l := by
      intro k hk
      rw [pk_us, hz e k hk]
    exact tp_98 hl hs hb hx (fun y hy => P y _ (fun j hj => pk_un (by omega)) hb hy)
theorem tp_sh9 (H : tp_OK c K F S G) {post : Int32 → SX → Prop} (hs : ∀ j, j < c → ∀ k, k < 32 → bt (so j) k = tp_v K F S (-1) false k j) (P : ∀ r fa', (∀ k, k < 32 → bt r k = tp_D K F S w ln v k c) → post r (nI c, w, K, F, S, so, fa', de, go, ba, ma)) : ∀ n i x3 fa, c < n + i → i ≤ c → (∀ j, j < i → ∀ k, k < 32 → bt (fa j) k = tp_v K F S ln v k j) → (∀ k, k < 32 → bt x3 k = tp_D K F S w ln v k i) → wX_shownSet_9 post ln (tp_b v) (nI c) w n x3 (nI i) K F S so fa de go ba ma := by
  have hc := H.2.1
  intro n
  induction n with
  | zero => intro i x3 fa h1 h2 _ _; omega
  | succ n ih =>
    intro i x3 fa h1 h2 hf hx
    refine pk_le c i (fun h => P x3 fa (fun k hk => ?_)) (fun h => ?_)
    · rw [hx k hk, show i = c by omega]
    have hi : vp_in (nI i) 16 := vp_in_nI (by omega) (by omega)
    have ec : (nI i).toNatClampNeg = i := nI_clamp (by omega)
    have i16 : i < 16 := by omega
    have hn : ¬ nI i = -1 := tp_nm1 (by omega)
    have nx : ∀ y fa', (∀ j, j < i → fa' j = fa j) → (∀ k, k < 32 → bt (fa' i) k = tp_v K F S ln v k i) → (∀ k, k < 32 → bt y k = tp_D K F S w ln v k (i + 1)) → wX_shownSet_9 post ln (tp_b v) (nI c) w n y (nI (i + 1)) K F S so fa' de go ba ma := by
      intro y fa' h3 h4 h5
      refine ih (i + 1) y fa' (by omega) (by omega) (fun j hj => ?_) h5
      by_cases e : j = i
      · subst e; exact h4
      · rw [h3 j (by omega)]; exact hf j (by omega)
    rw [ec]
    refine pk_le 5 i (fun h5 => ?_) (fun h5 => ?_)
    · have hF := (tp_OF H i16).2 h5
      have hS := (tp_OS H i16).2 h5
      refine ⟨hi, hi, (tp_OF H i16).1, hi, (tp_OS H i16).1, tp_apply _ _ _ (tp_74 i16 (hs i (by omega)) (fun hl k hk => ?_) hx nx)⟩
      rw [tp_a_bt _ _ _ hk, hf _ hF k hk, hf _ hS k hk, tp_v_g hl (by omega) hF hS]
    · refine ⟨hi, tp_74 i16 (hs i (by omega)) (fun hl k hk => ?_) hx nx⟩
      rw [hs i (by omega) k hk, tp_v_i hl h5, tp_v_i hn h5]
theorem tp_shS (H : tp_OK c K F S G) {post : Int32 → SX → Prop} (P : ∀ r so' fa', (∀ k, k < 32 → bt r k = tp_D K F S w ln v k c) → post r (nI c, w, K, F, S, so', fa', de, go, ba, ma)) : wpX_shownSet post (nI c, w, K, F, S, so, fa, de, go, ba, ma) ln (tp_b v) := by
  unfold wpX_shownSet
  dsimp only
  refine tp_simS H (fun so' hs => ?_)
  exact ⟨c + 1, tp_sh9 H hs (fun r fa' h => P r so' fa' h) (c + 1) 0 0 fa (by omega) (by omega) (fun j hj => absurd hj (by omega)) (fun k hk => b_0 k)⟩
end
end
section
/-! open values: the component's implication in the sound and the faulty circuit -/
def tp_t (x : Int32) : Int32 := if x = 2 then 2 else 1 - x
theorem tp_turn {post : Int32 → Prop} (t : Int32) (h : post (tp_t t)) : wpX_turned post t := by
  unfold wpX_turned
  unfold tp_t at h
  exact br_c (fun e => by rw [if_pos e] at h; exact h) (fun e => by rw [if_neg e] at h; exact h)
def tp_m (z p : Bool) : Int32 := if z = true then 0 else if p = true then 2 else 1
def tp_n (o p : Bool) : Int32 := if o = true then 1 else if p = true then 2 else 0
def tp_o (k x y : Int32) (z o p : Bool) : Int32 := if k = 0 then tp_m z p else if k = 3 then tp_t (tp_m z p) else if k = 1 then tp_n o p else if k = 4 then tp_t (tp_n o p) else if k = 2 then (if p = true then 2 else x ^^^ y) else tp_t x
theorem tp_75 {post : Int32 → Prop} (k m : Int32) (h0 : k = 0 → post m) (h3 : ¬ k = 0 → post (tp_t m)) : wX_openApply_75 post k m := by
  unfold wX_openApply_75
  exact br_c h0 (fun e => tp_turn m (h3 e))
theorem tp_57 {post : Int32 → Prop} (k : Int32) (z p : Bool) (h0 : k = 0 → post (tp_m z p)) (h3 : ¬ k = 0 → post (tp_t (tp_m z p))) : wX_openApply_57 post k (tp_b z) (tp_b p) := by
  unfold wX_openApply_57
  cases z
  · refine br_t rfl ?_
    cases p
    · exact br_t rfl (tp_75 k _ h0 h3)
    · exact br_f (by decide) (tp_75 k _ h0 h3)
  · exact br_f (by decide) (tp_75 k _ h0 h3)
theorem tp_121 {post : Int32 → Prop} (k m : Int32) (h0 : k = 1 → post m) (h3 : ¬ k = 1 → post (tp_t m)) : wX_openApply_121 post k m := by
  unfold wX_openApply_121
  exact br_c h0 (fun e => tp_turn m (h3 e))
theorem tp_102 {post : Int32 → Prop} (k : Int32) (o p : Bool) (h0 : k = 1 → post (tp_n o p)) (h3 : ¬ k = 1 → post (tp_t (tp_n o p))) : wX_openApply_102 post k (tp_b o) (tp_b p) := by
  unfold wX_openApply_102
  cases o
  · refine br_t rfl ?_
    cases p
    · exact br_t rfl (tp_121 k _ h0 h3)
    · exact br_f (by decide) (tp_121 k _ h0 h3)
  · exact br_f (by decide) (tp_121 k _ h0 h3)
theorem tp_46 {post : Int32 → Prop} (k x y : Int32) (z o p : Bool) (h : post (tp_o k x y z o p)) : wX_openApply_46 post k x y (tp_b z) (tp_b o) (tp_b p) := by
  unfold wX_openApply_46
  unfold tp_o at h
  refine br_c (fun e => ?_) (fun e => ?_)
  · rw [if_pos e] at h
    exact tp_57 k z p (fun _ => h) (fun e' => absurd e e')
  rw [if_neg e] at h
  refine br_c (fun e3 => ?_) (fun e3 => ?_)
  · rw [if_pos e3] at h
    exact tp_57 k z p (fun e' => absurd e' e) (fun _ => h)
  rw [if_neg e3] at h
  refine br_c (fun e1 => ?_) (fun e1 => ?_)
  · rw [if_pos e1] at h
    exact tp_102 k o p (fun _ => h) (fun e' => absurd e1 e')
  rw [if_neg e1] at h
  refine br_c (fun e4 => ?_) (fun e4 => ?_)
  · rw [if_pos e4] at h
    exact tp_102 k o p (fun e' => absurd e' e1) (fun _ => h)
  rw [if_neg e4] at h
  refine br_c (fun e2 => ?_) (fun e2 => ?_)
  · rw [if_pos e2] at h
    cases p
    · exact br_t rfl h
    · exact br_f (by decide) h
  · rw [if_neg e2] at h
    exact tp_turn x h
theorem tp_29 {post : Int32 → Prop} (k x y : Int32) (z o : Bool) (h : post (tp_o k x y z o (decide (x = 2) || decide (y = 2)))) : wX_openApply_29 post k x y (tp_b z) (tp_b o) := by
  unfold wX_openApply_29 wX_openApply_41
  refine br_c (fun e => ?_) (fun e => br_c (fun e' => ?_) (fun e' => ?_))
  · rw [decide_eq_true e] at h; exact tp_46 k x y z o true h
  · rw [decide_eq_true e', Bool.or_true] at h; exact tp_46 k x y z o true h
  · rw [decide_eq_false e, decide_eq_false e'] at h; exact tp_46 k x y z o false h
theorem tp_13 {post : Int32 → Prop} (k x y : Int32) (z : Bool) (h : post (tp_o k x y z (decide (x = 1) || decide (y = 1)) (decide (x = 2) || decide (y = 2)))) : wX_openApply_13 post k x y (tp_b z) := by
  unfold wX_openApply_13 wX_openApply_24
  refine br_c (fun e => ?_) (fun e => br_c (fun e' => ?_) (fun e' => ?_))
  · rw [decide_eq_true e] at h; exact tp_29 k x y z true h
  · rw [decide_eq_true e', Bool.or_true] at h; exact tp_29 k x y z true h
  · rw [decide_eq_false e, decide_eq_false e'] at h; exact tp_29 k x y z false h
theorem tp_openw {post : Int32 → Prop} (k x y : Int32) (h : post (tp_o k x y (decide (x = 0) || decide (y = 0)) (decide (x = 1) || decide (y = 1)) (decide (x = 2) || decide (y = 2)))) : wpX_openApply post k x y := by
  unfold wpX_openApply wX_openApply_8
  refine br_c (fun e => ?_) (fun e => br_c (fun e' => ?_) (fun e' => ?_))
  · rw [decide_eq_true e] at h; exact tp_13 k x y true h
  · rw [decide_eq_true e', Bool.or_true] at h; exact tp_13 k x y true h
  · rw [decide_eq_false e, decide_eq_false e'] at h; exact tp_13 k x y false h
/-- open values: 0, 1, 2; an open value covers a bit -/
abbrev tp_tri (x : Int32) : Prop := x = 0 ∨ x = 1 ∨ x = 2
abbrev tp_C (t : Int32) (b : Bool) : Prop := t = 2 ∨ t = tp_b b
theorem tp_C_b {t : Int32} {b : Bool} (h : tp_C t b) (n : ¬ t = 2) : t = tp_b b := h.resolve_left n
theorem tp_nar {t : Int32} (h : tp_tri t) : vp_nar .byte t.toInt8.toInt32 = t ∧ vp_nar .byte t = t := by
  rw [pk_vb, vp_nar_byte]
  rcases h with rfl | rfl | rfl <;> decide
theorem tp_b_tri (b : Bool) : tp_tri (tp_b b) := by cases b <;> decide
theorem tp_b_n2 (b : Bool) : ¬ tp_b b = 2 := by cases b <;> decide
abbrev tp_oo (k x y : Int32) : Int32 := tp_o k x y (decide (x = 0) || decide (y = 0)) (decide (x = 1) || decide (y = 1)) (decide (x = 2) || decide (y = 2))
theorem tp_oo_k : ∀ k, k ≤ 5 → ∀ x, tp_tri x → ∀ y, tp_tri y → tp_tri (tp_oo (nI k) x y) ∧ (∀ a b, tp_C x a → tp_C y b → tp_C (tp_oo (nI k) x y) (tp_g (nI k) a b)) ∧ (¬ x = 2 → ¬ y = 2 → ¬ tp_oo (nI k) x y = 2) := by
  intro k hk x hx y hy
  have hk' : k = 0 ∨ k = 1 ∨ k = 2 ∨ k = 3 ∨ k = 4 ∨ k = 5 := by omega
  rcases hx with rfl | rfl | rfl <;> rcases hy with rfl | rfl | rfl <;> rcases hk' with rfl | rfl | rfl | rfl | rfl | rfl <;> decide
theorem tp_open {post : Int32 → Prop} {k x y : Int32} (hk : ∃ j, j ≤ 5 ∧ k = nI j) (hx : tp_tri x) (hy : tp_tri y) (P : ∀ t, tp_tri t → (∀ a b, tp_C x a → tp_C y b → tp_C t (tp_g k a b)) → (¬ x = 2 → ¬ y = 2 → ¬ t = 2) → post t) : wpX_openApply post k x y := by
  obtain ⟨j, hj, rfl⟩ := hk
  have h := tp_oo_k j hj x hx y hy
  exact tp_openw _ x y (P _ h.1 h.2.1 h.2.2)
section
variable {c : Nat} {w ln : Int32} {v : Bool} {K F S G so fa de go ba ma : Nat → Int32} {C : Nat → Prop} {A : Prop}
/-- the answer so far: 1 shown for sure, 0 not shown, 2 only if not all is decided -/
def tp_An (K F S : Nat → Int32) (w ln : Int32) (v : Bool) (C : Nat → Prop) (A : Prop) (x : Int32) (l : Nat) : Prop := tp_tri x ∧ (x = 1 → ∀ k, C k → tp_D K F S w ln v k l = true) ∧ (x = 0 → ∀ k, C k → tp_D K F S w ln v k l = false) ∧ (x = 2 → ¬ A)
/-- what is known of a line -/
def tp_L (K F S : Nat → Int32) (ln : Int32) (v : Bool) (C : Nat → Prop) (A : Prop) (g b m : Int32) (l : Nat) : Prop := tp_tri g ∧ tp_tri b ∧ (∀ k, C k → tp_C g (tp_v K F S (-1) false k l) ∧ tp_C b (tp_v K F S ln v k l)) ∧ (m = 0 → ∀ k, C k → tp_v K F S (-1) false k l = tp_v K F S ln v k l) ∧ (A → ¬ g = 2 ∧ ¬ b = 2)
theorem tp_An_same {x : Int32} {l : Nat} (h : ∀ k, C k → (bt w l && (tp_v K F S (-1) false k l ^^ tp_v K F S ln v k l)) = false) (hA : tp_An K F S w ln v C A x l) : tp_An K F S w ln v C A x (l + 1) := by
  have e : ∀ k, C k → tp_D K F S w ln v k (l + 1) = tp_D K F S w ln v k l := by
    intro k hk
    show (tp_D K F S w ln v k l || (bt w l && (tp_v K F S (-1) false k l ^^ tp_v K F S ln v k l))) = _
    rw [h k hk, Bool.or_false]
  refine ⟨hA.1, fun hx k hk => ?_, fun hx k hk => ?_, hA.2.2.2⟩
  · rw [e k hk]; exact hA.2.1 hx k hk
  · rw [e k hk]; exact hA.2.2.1 hx k hk
theorem tp_An_one {x : Int32} {l : Nat} (hx : x = 1) (hA : tp_An K F S w ln v C A x l) : tp_An K F S w ln v C A x (l + 1) := by
  subst hx
  refine ⟨by decide, fun hx k hk => ?_, fun hx => absurd hx (by decide), fun hx => absurd hx (by decide)⟩
  show (tp_D K F S w ln v k l || (bt w l && (tp_v K F S (-1) false k l ^^ tp_v K F S ln v k l))) = true
  rw [hA.2.1 rfl k hk, Bool.true_or]
theorem tp_An_n1 {l : Nat} (hw : bt w l = true) (h : ∀ k, C k → ¬ tp_v K F S (-1) false k l = tp_v K F S ln v k l) : tp_An K F S w ln v C A 1 (l + 1) := by
  refine ⟨by decide, fun hx k hk => ?_, fun hx => absurd hx (by decide), fun hx => absurd hx (by decide)⟩
  show (tp_D K F S w ln v k l || (bt w l && (tp_v K F S (-1) false k l ^^ tp_v K F S ln v k l))) = true
  have hne := h k hk
  rw [hw]
  revert hne
  cases tp_v K F S (-1) false k l <;> cases tp_v K F S ln v k l <;> simp
theorem tp_An_n2 {l : Nat} (h : ¬ A) : tp_An K F S w ln v C A 2 (l + 1) :=
  ⟨by decide, fun hx => absurd hx (by decide), fun hx => absurd hx (by decide), fun _ => h⟩
theorem tp_260 {post : Int32 → SX → Prop} {J : tp_J} {x1 x2 : Int32} {l : Nat} (hl : l < 16) {x3 x6 z : Int32} (hA : tp_An K F S w ln v C A x3 l) (h6 : x6 = 0 → ¬ A) (hz : z = 0 ∨ z = 1) (hz0 : z = 0 → ∀ k, C k → tp_v K F S (-1) false k l = tp_v K F S ln v k l) (hz1 : ¬ z = 0 → ¬ x6 = 0 → ∀ k, C k → ¬ tp_v K F S (-1) false k l = tp_v K F S ln v k l) (P : ∀ y, tp_An K F S w ln v C A y (l + 1) → J y (nI (l + 1)) K F S so fa de go ba (upd ma l z)) : wX_imply_260 post J x1 x2 x3 (nI l) x6 z (nI l) (nI c) w K F S so fa de go ba ma := by
  have hi : vp_in (nI l) 16 := vp_in_nI hl (by omega)
  have ec : (nI l).toNatClampNeg = l := nI_clamp (by omega)
  have en : vp_nar .boolean z = z := by rcases hz with rfl | rfl <;> rfl
  unfold wX_imply_260
  rw [ec, en, tp_bit_s w (by omega), tp_b_0]
  refine ⟨hi, nm_e ?_⟩
  rw [pk_us]
  refine br_c (fun e => nm_r (nI_1 l) (P _ (tp_An_same (fun k hk => ?_) hA))) (fun e => ⟨hi, br_c (fun e2 => nm_r (nI_1 l) (P _ (tp_An_same (fun k hk => ?_) hA))) (fun e2 => br_c (fun e3 => nm_r (nI_1 l) (P _ (tp_An_one e3 hA))) (fun e3 => br_c (fun e6 => nm_r (nI_1 l) (P _ (tp_An_n2 (h6 e6)))) (fun e6 => nm_r (nI_1 l) (P _ (tp_An_n1 (eq_true_of_ne_false e) (hz1 e2 e6))))))⟩)
  · rw [e, Bool.false_and]
  · rw [hz0 e2 k hk]; simp
theorem tp_220 {post : Int32 → SX → Prop} {J : tp_J} {x1 x2 : Int32} {l : Nat} (hl : l < 16) {x3 x5 s : Int32} (hA : tp_An K F S w ln v C A x3 l) (hs0 : s = 0 → ¬ A) (hs1 : ¬ s = 0 → ¬ go l = 2 ∧ ¬ ba l = 2) (hC : ∀ k, C k → tp_C (go l) (tp_v K F S (-1) false k l) ∧ tp_C (ba l) (tp_v K F S ln v k l)) (h5 : x5 = 0 → ∀ k, C k → tp_v K F S (-1) false k l = tp_v K F S ln v k l) (P : ∀ y z, (z = 0 → ∀ k, C k → tp_v K F S (-1) false k l = tp_v K F S ln v k l) → tp_An K F S w ln v C A y (l + 1) → J y (nI (l + 1)) K F S so fa de go ba (upd ma l z)) : wX_imply_220 post J x1 x2 x3 (nI l) x5 s (nI c) w K F S so fa de go ba ma := by
  have hi : vp_in (nI l) 16 := vp_in_nI hl (by omega)
  have ec : (nI l).toNatClampNeg = l := nI_clamp (by omega)
  unfold wX_imply_220 wX_imply_259 wX_imply_255
  rw [ec]
  refine br_c (fun e5 => ?_) (fun e5 => br_c (fun es => ?_) (fun es => ⟨hi, hi, br_c (fun eg => ?_) (fun eg => ?_)⟩))
  · exact tp_260 hl hA hs0 (Or.inl rfl) (fun _ => h5 e5) (fun n => absurd rfl n) (fun y hy => P y 0 (fun _ => h5 e5) hy)
  · exact tp_260 hl hA hs0 (Or.inr rfl) (fun n => absurd n (by decide)) (fun _ n => absurd es n) (fun y hy => P y 1 (fun n => absurd n (by decide)) hy)
  · have he : ∀ k, C k → tp_v K F S (-1) false k l = tp_v K F S ln v k l := by
      intro k hk
      apply tp_b_inj
      rw [← tp_C_b (hC k hk).1 (hs1 es).1, ← tp_C_b (hC k hk).2 (hs1 es).2]
      exact eg
    exact tp_260 hl hA hs0 (Or.inl rfl) (fun _ => he) (fun n => absurd rfl n) (fun y hy => P y 0 (fun _ => he) hy)
  · have he : ∀ k, C k → ¬ tp_v K F S (-1) false k l = tp_v K F S ln v k l := by
      intro k hk e
      apply eg
      rw [tp_C_b (hC k hk).1 (hs1 es).1, tp_C_b (hC k hk).2 (hs1 es).2, e]
    exact tp_260 hl hA hs0 (Or.inr rfl) (fun n => absurd n (by decide)) (fun _ _ => he) (fun y hy => P y 1 (fun n => absurd n (by decide)) hy)
theorem tp_193 {post : Int32 → SX → Prop} {J : tp_J} {x1 x2 : Int32} {l : Nat} (hl : l < 16) {x3 x5 : Int32} (hA : tp_An K F S w ln v C A x3 l) (hAd : A → ¬ go l = 2 ∧ ¬ ba l = 2) (hC : ∀ k, C k → tp_C (go l) (tp_v K F S (-1) false k l) ∧ tp_C (ba l) (tp_v K F S ln v k l)) (h5 : x5 = 0 → ∀ k, C k → tp_v K F S (-1) false k l = tp_v K F S ln v k l) (P : ∀ y z, (z = 0 → ∀ k, C k → tp_v K F S (-1) false k l = tp_v K F S ln v k l) → tp_An K F S w ln v C A y (l + 1) → J y (nI (l + 1)) K F S so fa de go ba (upd ma l z)) : wX_imply_193 post J x1 x2 x3 (nI l) x5 (nI c) w K F S so fa de go ba ma := by
  have hi : vp_in (nI l) 16 := vp_in_nI hl (by omega)
  have ec : (nI l).toNatClampNeg = l := nI_clamp (by omega)
  unfold wX_imply_193 wX_imply_219
  rw [ec]
  refine ⟨hi, br_c (fun eg => ?_) (fun eg => ⟨hi, br_c (fun eb => ?_) (fun eb => ?_)⟩)⟩
  · exact tp_220 hl hA (fun _ a => (hAd a).1 eg) (fun n => absurd rfl n) hC h5 P
  · exact tp_220 hl hA (fun _ a => (hAd a).2 eb) (fun n => absurd rfl n) hC h5 P
  · exact tp_220 hl hA (fun n => absurd n (by decide)) (fun _ => ⟨eg, eb⟩) hC h5 P
theorem tp_175 {post : Int32 → SX → Prop} {J : tp_J} {l : Nat} (hl : l < 16) {x3 x5 : Int32} (hA : tp_An K F S w ln v C A x3 l) (hg : tp_tri (go l)) (hgC : ∀ k, C k → tp_C (go l) (tp_v K F S (-1) false k l)) (hgA : A → ¬ go l = 2) (hb : ¬ nI l = ln → tp_tri (ba l) ∧ (∀ k, C k → tp_C (ba l) (tp_v K F S ln v k l)) ∧ (A → ¬ ba l = 2) ∧ (x5 = 0 → ∀ k, C k → tp_v K F S (-1) false k l = tp_v K F S ln v k l)) (P : ∀ y ba' ma', (∀ j, j < l → ba' j = ba j) → (∀ j, j < l → ma' j = ma j) → tp_L K F S ln v C A (go l) (ba' l) (ma' l) l → tp_An K F S w ln v C A y (l + 1) → J y (nI (l + 1)) K F S so fa de go ba' ma') : wX_imply_175 post J ln (tp_b v) x3 (nI l) x5 (nI c) w K F S so fa de go ba ma := by
  have hi : vp_in (nI l) 16 := vp_in_nI hl (by omega)
  have ec : (nI l).toNatClampNeg = l := nI_clamp (by omega)
  unfold wX_imply_175
  rw [ec, (tp_nar (tp_b_tri v)).1]
  refine br_c (fun e => ⟨hi, nm_e ?_⟩) (fun e => ?_)
  · have hbl : upd ba l (tp_b v) l = tp_b v := pk_us
    have hC : ∀ k, C k → tp_C (go l) (tp_v K F S (-1) false k l) ∧ tp_C (upd ba l (tp_b v) l) (tp_v K F S ln v k l) := by
      intro k hk
      refine ⟨hgC k hk, Or.inr ?_⟩
      rw [hbl, tp_v_s e]
    have hAd : A → ¬ go l = 2 ∧ ¬ upd ba l (tp_b v) l = 2 := by
      intro a
      refine ⟨hgA a, ?_⟩
      rw [hbl]; exact tp_b_n2 v
    refine tp_193 hl hA hAd hC (fun n => absurd n (by decide)) (fun y z hz hy => P y _ _ (fun j hj => pk_un (by omega)) (fun j hj => pk_un (by omega)) ⟨hg, ?_, hC, ?_, hAd⟩ hy)
    · rw [hbl]; exact tp_b_tri v
    · rw [pk_us]; exact hz
  · obtain ⟨h1, h2, h3, h4⟩ := hb e
    have hC : ∀ k, C k → tp_C (go l) (tp_v K F S (-1) false k l) ∧ tp_C (ba l) (tp_v K F S ln v k l) := fun k hk => ⟨hgC k hk, h2 k hk⟩
    have hAd : A → ¬ go l = 2 ∧ ¬ ba l = 2 := fun a => ⟨hgA a, h3 a⟩
    refine tp_193 hl hA hAd hC h4 (fun y z hz hy => P y _ _ (fun j hj => rfl) (fun j hj => pk_un (by omega)) ⟨hg, h1, hC, ?_, hAd⟩ hy)
    rw [pk_us]; exact hz
theorem tp_im5 (H : tp_OK c K F S G) {post : Int32 → SX → Prop} (hde : ∀ i, i < 5 → tp_tri (de i) ∧ (∀ k, C k → tp_C (de i) (k.testBit i)) ∧ (A → ¬ de i = 2)) (P : ∀ r go' ba' ma', tp_An K F S w ln v C A r c → post r (nI c, w, K, F, S, so, fa, de, go', ba', ma')) : ∀ n i x3 go ba ma, c < n + i → i ≤ c → (∀ j, j < i → tp_L K F S ln v C A (go j) (ba j) (ma j) j) → tp_An K F S w ln v C A x3 i → wX_imply_5 post ln (tp_b v) (nI c) w n x3 (nI i) K F S so fa de go ba ma := by
  have hc := H.2.1
  intro n
  induction n with
  | zero => intro i x3 go ba ma h1 h2 _ _; omega
  | succ n ih =>
    intro i x3 go ba ma h1 h2 hL hA
    refine pk_le c i (fun h => P x3 go ba ma ?_) (fun h => ?_)
    · rw [show c = i by omega]; exact hA
    have hi : vp_in (nI i) 16 := vp_in_nI (by omega) (by omega)
    have ec : (nI i).toNatClampNeg = i := nI_clamp (by omega)
    have i16 : i < 16 := by omega
    have hn : ¬ nI i = -1 := tp_nm1 (by omega)
    have nx : ∀ go1 ba1 : Nat → Int32, (∀ j, j < i → go1 j = go j) → (∀ j, j < i → ba1 j = ba j) → ∀ (y : Int32) (ba' ma' : Nat → Int32), (∀ j, j < i → ba' j = ba1 j) → (∀ j, j < i → ma' j = ma j) → tp_L K F S ln v C A (go1 i) (ba' i) (ma' i) i → tp_An K F S w ln v C A y (i + 1) → wX_imply_5 post ln (tp_b v) (nI c) w n y (nI (i + 1)) K F S so fa de go1 ba' ma' := by
      intro go1 ba1 hg1 hb1 y ba' ma' hb' hm' hl' hy
      refine ih (i + 1) y go1 ba' ma' (by omega) (by omega) (fun j hj => ?_) hy
      by_cases e : j = i
      · subst e; exact hl'
      · rw [hg1 j (by omega), hb' j (by omega), hb1 j (by omega), hm' j (by omega)]
        exact hL j (by omega)
    rw [ec]
    refine pk_le 5 i (fun h5 => ?_) (fun h5 => ?_)
    · have hF := (tp_OF H i16).2 h5
      have hS := (tp_OS H i16).2 h5
      have iF := (tp_OF H i16).1
      have iS := (tp_OS H i16).1
      have hK := (H.2.2 i i16).1
      have lF := hL _ hF
      have lS := hL _ hS
      refine ⟨hi, hi, iF, hi, iS, tp_open hK lF.1 lS.1 (fun t t1 t2 t3 => ⟨hi, nm_r (congrArg (upd go i) (tp_nar t1).1) ⟨hi, hi, iF, hi, iS, tp_open hK lF.2.1 lS.2.1 (fun q q1 q2 q3 => ⟨hi, nm_r (congrArg (upd ba i) (tp_nar q1).1) ?_⟩)⟩⟩)⟩
      have key : ∀ x5, (x5 = 0 → ma (F i).toNatClampNeg = 0 ∧ ma (S i).toNatClampNeg = 0) → wX_imply_175 post (wX_imply_5 post ln (tp_b v) (nI c) w n) ln (tp_b v) x3 (nI i) x5 (nI c) w K F S so fa de (upd go i t) (upd ba i q) ma := by
        intro x5 h0
        have eg : upd go i t i = t := pk_us
        have eb : upd ba i q i = q := pk_us
        refine tp_175 i16 hA ?_ ?_ ?_ (fun hl => ?_) (nx _ _ (fun j hj => pk_un (by omega)) (fun j hj => pk_un (by omega)))
        · rw [eg]; exact t1
        · intro k hk
          rw [eg, tp_v_g hn (by omega) hF hS]
          exact t2 _ _ (lF.2.2.1 k hk).1 (lS.2.2.1 k hk).1
        · intro a
          rw [eg]
          exact t3 (lF.2.2.2.2 a).1 (lS.2.2.2.2 a).1
        · rw [eb]
          refine ⟨q1, fun k hk => ?_, fun a => q3 (lF.2.2.2.2 a).2 (lS.2.2.2.2 a).2, fun hx k hk => ?_⟩
          · rw [tp_v_g hl (by omega) hF hS]
            exact q2 _ _ (lF.2.2.1 k hk).2 (lS.2.2.1 k hk).2
          · rw [tp_v_g hl (by omega) hF hS, tp_v_g hn (by omega) hF hS, lF.2.2.2.1 (h0 hx).1 k hk, lS.2.2.2.1 (h0 hx).2 k hk]
      refine ⟨hi, iF, br_c (fun m1 => ⟨hi, iS, br_c (fun m2 => ?_) (fun m2 => ?_)⟩) (fun m1 => ?_)⟩
      · unfold wX_imply_173
        exact key 0 (fun _ => ⟨m1, m2⟩)
      · unfold wX_imply_168 wX_imply_173
        exact key 1 (fun e => absurd e (by decide))
      · unfold wX_imply_168 wX_imply_173
        exact key 1 (fun e => absurd e (by decide))
    · have hd := hde i h5
      have hi5 : vp_in (nI i) 5 := vp_in_nI h5 (by omega)
      have eg : upd go i (de i) i = de i := pk_us
      have eb : upd ba i (de i) i = de i := pk_us
      refine ⟨hi5, hi, nm_r (congrArg (upd go i) (tp_nar hd.1).2) ⟨hi5, hi, nm_r (congrArg (upd ba i) (tp_nar hd.1).2) ?_⟩⟩
      refine tp_175 i16 hA ?_ ?_ ?_ (fun hl => ?_) (nx _ _ (fun j hj => pk_un (by omega)) (fun j hj => pk_un (by omega)))
      · rw [eg]; exact hd.1
      · intro k hk
        rw [eg, tp_v_i hn h5]
        exact hd.2.1 k hk
      · intro a
        rw [eg]
        exact hd.2.2 a
      · rw [eb]
        refine ⟨hd.1, fun k hk => ?_, hd.2.2, fun hx k hk => ?_⟩
        · rw [tp_v_i hl h5]; exact hd.2.1 k hk
        · rw [tp_v_i hl h5, tp_v_i hn h5]
theorem tp_imply (H : tp_OK c K F S G) {post : Int32 → SX → Prop} (hde : ∀ i, i < 5 → tp_tri (de i) ∧ (∀ k, C k → tp_C (de i) (k.testBit i)) ∧ (A → ¬ de i = 2)) (P : ∀ r go' ba' ma', tp_An K F S w ln v C A r c → post r (nI c, w, K, F, S, so, fa, de, go', ba', ma')) : wpX_imply post (nI c, w, K, F, S, so, fa, de, go, ba, ma) ln (tp_b v) := by
  unfold wpX_imply
  exact ⟨c + 1, tp_im5 H hde P (c + 1) 0 0 go ba ma (by omega) (by omega) (fun j hj => absurd hj (by omega)) ⟨by decide, fun e => absurd e (by decide), fun _ k _ => rfl, fun e => absurd e (by decide)⟩⟩
end
end
section
/-! the component's search: inputs decided from the greatest on -/
/-- the least vector from fr on that shows, or -1 -/
def tp_Is (sh : Nat → Bool) (fr : Nat) (r : Int32) : Prop := (r = -1 ∧ ∀ k, k < 32 → fr ≤ k → sh k = false) ∨ ∃ k, k < 32 ∧ r = nI k ∧ fr ≤ k ∧ sh k = true ∧ ∀ j, j < k → fr ≤ j → sh j = false
theorem tp_Is_u {sh : Nat → Bool} {fr : Nat} {r r' : Int32} (h : tp_Is sh fr r) (h' : tp_Is sh fr r') : r' = r := by
  rcases h with ⟨e, h⟩ | ⟨k, hk, e, hf, ht, hl⟩ <;> rcases h' with ⟨e', h'⟩ | ⟨k', hk', e', hf', ht', hl'⟩
  · rw [e, e']
  · have := h k' hk' hf'
    rw [ht'] at this
    exact absurd this (by decide)
  · have := h' k hk hf
    rw [ht] at this
    exact absurd this (by decide)
  · rcases Nat.lt_trichotomy k k' with z | z | z
    · have := hl' k z hf
      rw [ht] at this
      exact absurd this (by decide)
    · rw [e, e', z]
    · have := hl k' z hf'
      rw [ht'] at this
      exact absurd this (by decide)
theorem tp_Is_neg {sh : Nat → Bool} {fr : Nat} {r : Int32} (h : tp_Is sh fr r) : ¬ 0 ≤ r ↔ ∀ k, k < 32 → fr ≤ k → sh k = false := by
  rcases h with ⟨e, h⟩ | ⟨k, hk, e, hf, ht, hl⟩
  · exact ⟨fun _ => h, fun _ => by rw [e]; decide⟩
  · constructor
    · intro n
      rw [e] at n
      exact absurd (nI_pos' (by omega)) n
    · intro z
      rw [z k hk hf] at ht
      exact absurd ht (by decide)
/-- the state of the search: p inputs open, vec the decided ones -/
def tp_Dec (de : Nat → Int32) (p vec : Nat) : Prop := p ≤ 5 ∧ vec < 32 ∧ vec % 2 ^ p = 0 ∧ ∀ j, j < 5 → de j = if j < p then 2 else tp_b (vec.testBit j)
theorem tp_gr : ∀ p, p < 6 → ∀ vec, vec < 32 → vec % 2 ^ p = 0 → nI vec ||| (((1 : Int32) <<< (nI p &&& 31)) - 1) = nI (vec + 2 ^ p - 1) ∧ vec + 2 ^ p ≤ 32 := by decide +kernel
theorem tp_clr : ∀ i, i < 5 → ∀ vec, vec < 32 → vec % 2 ^ i = 0 → vec.testBit i = true → nI vec &&& (((1 : Int32) <<< (nI i &&& 31)) ^^^ (-1)) = nI (vec - 2 ^ i) ∧ 2 ^ i ≤ vec ∧ (vec - 2 ^ i) % 2 ^ (i + 1) = 0 := by decide +kernel
theorem tp_clr4 : ∀ i, i < 5 → ∀ vec, vec < 32 → ∀ j, j < 5 → (vec % 2 ^ i = 0 ∧ vec.testBit i = true ∧ ¬ j < i + 1) → (vec - 2 ^ i).testBit j = vec.testBit j := by decide +kernel
theorem tp_set : ∀ i, i < 5 → ∀ vec, vec < 32 → vec % 2 ^ i = 0 → vec.testBit i = false → nI vec ||| ((1 : Int32) <<< (nI i &&& 31)) = nI (vec + 2 ^ i) ∧ vec + 2 ^ i < 32 := by decide +kernel
theorem tp_set3 : ∀ i, i < 5 → ∀ vec, vec < 32 → vec % 2 ^ i = 0 → vec.testBit i = false → (vec + 2 ^ i) % 2 ^ i = 0 ∧ (vec + 2 ^ i).testBit i = true := by decide +kernel
theorem tp_set5 : ∀ i, i < 5 → ∀ vec, vec < 32 → ∀ j, j < 5 → (vec % 2 ^ i = 0 ∧ vec.testBit i = false ∧ i < j) → (vec + 2 ^ i).testBit j = vec.testBit j := by decide +kernel
theorem tp_cmp (p vec k i : Nat) (hm : vec % 2 ^ p = 0) (h1 : vec ≤ k) (h2 : k < vec + 2 ^ p) (hi : ¬ i < p) : k.testBit i = vec.testBit i := by
  have e0 : vec / 2 ^ p * 2 ^ p = vec := by
    have := Nat.div_add_mod' vec (2 ^ p)
    rw [hm] at this
    exact this
  have e : k / 2 ^ p = vec / 2 ^ p := Nat.div_eq_of_lt_le (by rw [e0]; exact h1) (by rw [Nat.add_mul, e0, Nat.one_mul]; exact h2)
  have a := Nat.testBit_div_two_pow (n := p) k (i - p)
  have b := Nat.testBit_div_two_pow (n := p) vec (i - p)
  rw [show i - p + p = i by omega] at a b
  rw [← a, ← b, e]
theorem tp_dn : ∀ q, q < 5 → ∀ vec, vec < 32 → vec % 2 ^ (q + 1) = 0 → vec % 2 ^ q = 0 ∧ vec.testBit q = false := by decide +kernel
theorem tp_nar0 : vp_nar .byte 0 = 0 ∧ vp_nar .byte 1 = 1 ∧ vp_nar .byte 2 = 2 := by
  rw [vp_nar_byte, vp_nar_byte, vp_nar_byte]; decide
theorem tp_p1 (p : Nat) : nI p - 1 + 1 = nI p := Int32.sub_add_cancel _ _
section
variable {c : Nat} {w ln x2 : Int32} {v : Bool} {K F S G so fa de go ba ma : Nat → Int32}
abbrev tp_J5 : Type := Int32 → Int32 → Int32 → Int32 → Int32 → (Nat → Int32) → (Nat → Int32) → (Nat → Int32) → (Nat → Int32) → (Nat → Int32) → (Nat → Int32) → (Nat → Int32) → (Nat → Int32) → (Nat → Int32) → Prop
theorem tp_121s {post : Int32 → SX → Prop} {J : tp_J5} {x3 : Int32} {rd T : Nat} (P : T = 32 → ∀ de', post (-1) (nI c, w, K, F, S, so, fa, de', go, ba, ma)) (N : ∀ i de', T < 32 → tp_Dec de' i T → J (nI i - 1) (nI T) (nI (rd + 1)) (nI c) w K F S so fa de' go ba ma) : ∀ m i vec de, 5 < m + i → tp_Dec de i vec → vec + 2 ^ i = T → wX_search_121 post J ln x2 x3 (nI rd) (nI c) w m (nI vec) (nI i) K F S so fa de go ba ma := by
  intro m
  induction m with
  | zero => intro i vec de h1 h2 _; exact absurd h2.1 (by omega)
  | succ m ih =>
    intro i vec de h1 hD hT
    obtain ⟨hp, hv, hm, hd⟩ := hD
    refine pk_le 5 i (fun h => ?_) (fun h => ?_)
    · have e5 : i = 5 := by omega
      subst e5
      unfold wX_search_163
      exact br_t rfl (P (by omega) de)
    · have hi : vp_in (nI i) 5 := vp_in_nI h (by omega)
      have ec : (nI i).toNatClampNeg = i := nI_clamp (by omega)
      have hdi : de i = tp_b (vec.testBit i) := by rw [hd i h, if_neg (by omega)]
      rw [ec, hdi, tp_b_1, tp_nar0.2.2]
      refine ⟨hi, br_c (fun e => ?_) (fun e => ?_)⟩
      · obtain ⟨c1, c2, c3⟩ := tp_clr i h vec hv hm e
        refine ⟨hi, nm_e (nm_r c1 (nm_r (nI_1 i) (ih (i + 1) (vec - 2 ^ i) _ (by omega) ⟨by omega, by omega, c3, fun j hj => ?_⟩ ?_)))⟩
        · by_cases e1 : j = i
          · subst e1; rw [pk_us, if_pos (by omega)]
          · rw [pk_un e1, hd j hj]
            by_cases e2 : j < i
            · rw [if_pos e2, if_pos (by omega)]
            · rw [if_neg e2, if_neg (by omega), tp_clr4 i h vec hv j hj ⟨hm, e, by omega⟩]
        · rw [Nat.pow_succ]; omega
      · obtain ⟨c1, c2⟩ := tp_set i h vec hv hm (eq_false_of_ne_true e)
        obtain ⟨c3, c4⟩ := tp_set3 i h vec hv hm (eq_false_of_ne_true e)
        have c5 : ∀ j, j < 5 → ¬ j < i → ¬ j = i → T.testBit j = vec.testBit j := by
          intro j hj e2 e1
          rw [← hT]
          exact tp_set5 i h vec hv j hj ⟨hm, eq_false_of_ne_true e, by omega⟩
        rw [hT] at c1 c2 c3 c4
        unfold wX_search_163
        rw [ec, tp_nar0.2.1]
        refine pk_eq i 5 (fun z => absurd z (by omega)) (fun _ => ⟨hi, nm_e (nm_r c1 (nm_e (nm_r (nI_1 rd) (N i _ c2 ⟨hp, c2, c3, fun j hj => ?_⟩))))⟩)
        by_cases e1 : j = i
        · subst e1; rw [pk_us, if_neg (by omega), c4]; rfl
        · rw [pk_un e1, hd j hj]
          by_cases e2 : j < i
          · rw [if_pos e2, if_pos e2]
          · rw [if_neg e2, if_neg e2, c5 j hj e2 e1]
/-- behind an answer z of the implication -/
theorem tp_69 {post : Int32 → SX → Prop} {J : tp_J5} {rd fr p vec : Nat} {z : Int32} (hfr : fr ≤ 31) (hD : tp_Dec de p vec) (hz : tp_tri z) (h2 : z = 2 → ¬ p = 0) (hg : ¬ z = 0 → fr ≤ vec + 2 ^ p - 1) (P1 : z = 1 → fr ≤ vec → post (nI vec) (nI c, w, K, F, S, so, fa, de, go, ba, ma)) (P : z = 0 → vec + 2 ^ p = 32 → ∀ de', post (-1) (nI c, w, K, F, S, so, fa, de', go, ba, ma)) (N : z = 0 → ∀ i de', vec + 2 ^ p < 32 → tp_Dec de' i (vec + 2 ^ p) → J (nI i - 1) (nI (vec + 2 ^ p)) (nI (rd + 1)) (nI c) w K F S so fa de' go ba ma) (Q : ∀ q de', p = q + 1 → tp_Dec de' q vec → J (nI q - 1) (nI vec) (nI (rd + 1)) (nI c) w K F S so fa de' go ba ma) : wX_search_69 post J ln x2 (nI fr) (nI p - 1) (nI vec) (nI rd) z (nI c) w K F S so fa de go ba ma := by
  have down : ∀ z : Int32, ¬ z = 0 → ¬ p = 0 → wX_search_83 post J ln x2 (nI fr) (nI p - 1) (nI vec) (nI rd) z (nI c) w K F S so fa de go ba ma := by
    intro z z0 p0
    obtain ⟨q, rfl⟩ : ∃ q, p = q + 1 := ⟨p - 1, by omega⟩
    obtain ⟨hp, hv, hm, hd⟩ := hD
    obtain ⟨d1, d2⟩ := tp_dn q (by omega) vec hv hm
    rw [nI_pred]
    unfold wX_search_83 wX_search_96
    rw [nI_clamp (by omega), tp_nar0.1]
    refine br_f z0 (br_t (nI_pos' (by omega)) (br_f z0 ⟨vp_in_nI (by omega) (by omega), nm_e (nm_r (Int32.sub_eq_add_neg (nI q) 1).symm (nm_r (nI_1 rd) ?_))⟩))
    show J (nI q - 1) (nI vec) (nI (rd + 1)) (nI c) w K F S so fa (upd de q 0) go ba ma
    refine Q q (upd de q 0) rfl ⟨by omega, hv, d1, fun j hj => ?_⟩
    by_cases e1 : j = q
    · subst e1; rw [pk_us, if_neg (by omega), d2]; rfl
    · rw [pk_un e1, hd j hj]
      by_cases e2 : j < q
      · rw [if_pos e2, if_pos (by omega)]
      · rw [if_neg e2, if_neg (by omega)]
  unfold wX_search_69
  have hv32 := hD.2.1
  rcases hz with rfl | rfl | rfl
  · refine br_f (by decide) ?_
    unfold wX_search_83 wX_search_96
    refine br_t rfl (br_t rfl (nm_r (tp_p1 p) ⟨6, ?_⟩))
    exact tp_121s (T := vec + 2 ^ p) (P rfl) (N rfl) 6 p vec de (by omega) hD rfl
  · refine br_t rfl (pk_le fr vec (fun h => P1 rfl h) (fun h => down 1 (by decide) (fun e => ?_)))
    have := hg (by decide)
    subst e
    omega
  · exact br_f (by decide) (down 2 (by decide) (h2 rfl))
theorem tp_s32 (H : tp_OK c K F S G) {post : Int32 → SX → Prop} {fr : Nat} (hfr : fr ≤ 31) (P : ∀ r de' go' ba' ma', tp_Is (fun k => tp_D K F S w ln v k c) fr r → post r (nI c, w, K, F, S, so, fa, de', go', ba', ma')) : ∀ n p vec rd de go ba ma, 6 * (32 - vec) + p < n → rd + 6 * (32 - vec) + p ≤ 197 → tp_Dec de p vec → (∀ k, k < vec → fr ≤ k → tp_D K F S w ln v k c = false) → wX_search_32 post ln (tp_b v) (nI fr) n (nI p - 1) (nI vec) (nI rd) (nI c) w K F S so fa de go ba ma := by
  intro n
  induction n with
  | zero => intro p vec rd de go ba ma h1; omega
  | succ n ih =>
    intro p vec rd de go ba ma h1 h2 hD hlo
    obtain ⟨g1, g2⟩ := tp_gr p (by have := hD.1; omega) vec hD.2.1 hD.2.2.1
    have hv := hD.2.1
    have hp := hD.1
    have p2 : 0 < 2 ^ p := Nat.two_pow_pos p
    refine pk_le 256 rd (fun h => absurd h (by omega)) (fun h => ?_)
    rw [tp_p1]
    -- what follows an answer
    have go_on : ∀ (z : Int32) (go ba ma : Nat → Int32), tp_tri z → (z = 1 → ∀ k, vec ≤ k → k < vec + 2 ^ p → tp_D K F S w ln v k c = true) → (z = 0 → ∀ k, vec ≤ k → k < vec + 2 ^ p → fr ≤ k → tp_D K F S w ln v k c = false) → (z = 2 → ¬ p = 0) → (¬ z = 0 → fr ≤ vec + 2 ^ p - 1) → wX_search_69 post (wX_search_32 post ln (tp_b v) (nI fr) n) ln (tp_b v) (nI fr) (nI p - 1) (nI vec) (nI rd) z (nI c) w K F S so fa de go ba ma := by
      intro z go ba ma hz z1 z0 z2 zg
      have lo' : z = 0 → ∀ k, k < vec + 2 ^ p → fr ≤ k → tp_D K F S w ln v k c = false := by
        intro e k hk hf
        by_cases hkv : k < vec
        · exact hlo k hkv hf
        · exact z0 e k (by omega) hk hf
      refine tp_69 hfr hD hz z2 zg (fun e hf => P _ _ _ _ _ (Or.inr ⟨vec, hv, rfl, hf, z1 e vec (by omega) (by omega), hlo⟩)) (fun e h32 de' => P _ _ _ _ _ (Or.inl ⟨rfl, fun k hk hf => lo' e k (by omega) hf⟩)) (fun e i de' hT hD' => ih i (vec + 2 ^ p) (rd + 1) de' go ba ma ?_ ?_ hD' (lo' e)) (fun q de' hq hD' => ih q vec (rd + 1) de' go ba ma ?_ ?_ hD' hlo)
      · have := hD'.1; omega
      · have := hD'.1; omega
      · omega
      · omega
    refine nm_r g1 (pk_le fr (vec + 2 ^ p - 1) (fun hg => ?_) (fun hg => ?_))
    · refine tp_imply (C := fun k => vec ≤ k ∧ k < vec + 2 ^ p) (A := p = 0) H (fun i h5 => ?_) (fun r go' ba' ma' hA => ?_)
      · have hdi := hD.2.2.2 i h5
        by_cases hip : i < p
        · rw [if_pos hip] at hdi
          rw [hdi]
          exact ⟨by decide, fun k hk => Or.inl rfl, fun a => absurd hip (by omega)⟩
        · rw [if_neg hip] at hdi
          rw [hdi]
          refine ⟨tp_b_tri _, fun k hk => Or.inr ?_, fun _ => tp_b_n2 _⟩
          rw [tp_cmp p vec k i hD.2.2.1 hk.1 hk.2 hip]
      · exact go_on r go' ba' ma' hA.1 (fun e k h1 h2 => hA.2.1 e k ⟨h1, h2⟩) (fun e k h1 h2 _ => hA.2.2.1 e k ⟨h1, h2⟩) hA.2.2.2 (fun _ => hg)
    · exact go_on 0 go ba ma (by decide) (fun e => absurd e (by decide)) (fun _ k h1 h2 h3 => absurd h3 (by omega)) (fun e => absurd e (by decide)) (fun e => absurd rfl e)
theorem tp_s3 (H : tp_OK c K F S G) {post : Int32 → SX → Prop} {fr : Nat} (hfr : fr ≤ 31) (P : ∀ r de' go' ba' ma', tp_Is (fun k => tp_D K F S w ln v k c) fr r → post r (nI c, w, K, F, S, so, fa, de', go', ba', ma')) : ∀ n i de, 5 < n + i → i ≤ 5 → (∀ j, j < i → de j = 2) → wX_search_3 post ln (tp_b v) (nI fr) (nI c) w n (nI i) K F S so fa de go ba ma := by
  intro n
  induction n with
  | zero => intro i de h1 h2; omega
  | succ n ih =>
    intro i de h1 h2 hd
    refine pk_le 5 i (fun h => ⟨198, ?_⟩) (fun h => ?_)
    · exact tp_s32 H hfr P 198 5 0 0 de go ba ma (by omega) (by omega) ⟨by omega, by omega, by omega, fun j hj => by rw [hd j (by omega), if_pos hj]⟩ (fun k hk => absurd hk (by omega))
    · rw [nI_clamp (by omega), tp_nar0.2.2]
      exact ⟨vp_in_nI h (by omega), nm_e (nm_r (nI_1 i) (ih (i + 1) _ (by omega) (by omega) (tp_upd (Q := fun _ x => x = 2) hd rfl)))⟩
theorem tp_search (H : tp_OK c K F S G) {post : Int32 → SX → Prop} {fr : Nat} (hfr : fr ≤ 31) (P : ∀ r de' go' ba' ma', tp_Is (fun k => tp_D K F S w ln v k c) fr r → post r (nI c, w, K, F, S, so, fa, de', go', ba', ma')) : wpX_search post (nI c, w, K, F, S, so, fa, de, go, ba, ma) ln (tp_b v) (nI fr) := by
  unfold wpX_search
  exact ⟨6, tp_s3 H hfr P 6 0 de (by omega) (by omega) (fun j hj => absurd hj (by omega))⟩
end
end
section
/-! the reference: gate by gate for one vector -/
theorem tp_isl_t {c l : Nat} {w : Int32} {K F S so fa de go ba ma : Nat → Int32} {post : Int32 → Prop} (hl : l < c) (hc : c ≤ 16) (h : post 1) : wpX_isLine post (nI c, w, K, F, S, so, fa, de, go, ba, ma) (nI l) := by
  unfold wpX_isLine
  exact br_f (nI_pos (by omega)) (br_f (nI_ge hl (by omega)) h)
theorem tp_isl_f {c : Nat} {w x : Int32} {K F S so fa de go ba ma : Nat → Int32} {post : Int32 → Prop} (hx : x < 0 ∨ nI c ≤ x) (h : post 0) : wpX_isLine post (nI c, w, K, F, S, so, fa, de, go, ba, ma) x := by
  unfold wpX_isLine
  exact br_c (fun _ => h) (fun n => br_t (hx.resolve_left n) h)
theorem tp_isv_t {k : Nat} {post : Int32 → Prop} (hk : k < 32) (h : post 1) : wpX_isVector post (nI k) := by
  unfold wpX_isVector
  exact br_f (nI_pos (by omega)) (br_f (nI_ge (b := 32) hk (by decide)) h)
theorem tp_isv_f {x : Int32} {post : Int32 → Prop} (hx : x < 0 ∨ nI 32 ≤ x) (h : post 0) : wpX_isVector post x := by
  unfold wpX_isVector
  exact br_c (fun _ => h) (fun n => br_t (hx.resolve_left n) h)
theorem tp_isb_t {v : Bool} {post : Int32 → Prop} (h : post 1) : wpX_isBit post (tp_b v) := by
  unfold wpX_isBit
  cases v
  · exact br_t rfl h
  · exact br_f (by decide) (br_t rfl h)
theorem tp_isb_f {x : Int32} {post : Int32 → Prop} (hx : ¬ x = 0 ∧ ¬ x = 1) (h : post 0) : wpX_isBit post x := by
  unfold wpX_isBit
  exact br_f hx.1 (br_f hx.2 h)
theorem tp_yis_t {c l : Nat} {w : Int32} {K F G va : Nat → Int32} {post : Int32 → Prop} (hl : l < c) (hc : c ≤ 16) (h : post 1) : wpY_is post (nI c, w, K, F, G, va) (nI l) := by
  unfold wpY_is
  exact br_f (nI_pos (by omega)) (br_f (nI_ge hl (by omega)) h)
theorem tp_yis_f {c : Nat} {w x : Int32} {K F G va : Nat → Int32} {post : Int32 → Prop} (hx : x < 0 ∨ nI c ≤ x) (h : post 0) : wpY_is post (nI c, w, K, F, G, va) x := by
  unfold wpY_is
  exact br_c (fun _ => h) (fun n => br_t (hx.resolve_left n) h)
theorem tp_yv_t {c k : Nat} {w : Int32} {K F G va : Nat → Int32} {post : Int32 → Prop} (hk : k < 32) (h : post 1) : wpY_vector post (nI c, w, K, F, G, va) (nI k) := by
  unfold wpY_vector
  exact br_f (nI_pos (by omega)) (br_f (nI_nlt (a := 31) (by omega) (by decide)) h)
theorem tp_yv_f {c : Nat} {w x : Int32} {K F G va : Nat → Int32} {post : Int32 → Prop} (hx : x < 0 ∨ nI 32 ≤ x) (h : post 0) : wpY_vector post (nI c, w, K, F, G, va) x := by
  unfold wpY_vector
  refine br_c (fun _ => h) (fun n => br_t ?_ h)
  have h32 := hx.resolve_left n
  rw [Int32.le_iff_toInt_le, nI_toInt (by decide)] at h32
  rw [Int32.lt_iff_toInt_lt, show (31 : Int32).toInt = 31 from by decide]
  omega
section
variable {c : Nat} {w ln x1 : Int32} {v : Bool} {K F S G va : Nat → Int32}
abbrev tp_JY : Type := Int32 → Int32 → (Nat → Int32) → (Nat → Int32) → (Nat → Int32) → (Nat → Int32) → Prop
theorem tp_164 {post : Int32 → SY → Prop} {J : tp_JY} {x2 x3 : Int32} {k l : Nat} (hl : l < 16) {x4 z : Int32} (hz : z = tp_b (tp_v K F S ln v k l)) (hx : ∀ j, j < 32 → bt x4 j = (decide (j < l) && (bt w j && tp_v K F S ln v k j))) (P : ∀ y va', (∀ j, j < l → va' j = va j) → va' l = tp_b (tp_v K F S ln v k l) → (∀ j, j < 32 → bt y j = (decide (j < l + 1) && (bt w j && tp_v K F S ln v k j))) → J y (nI (l + 1)) K F G va') : wY_work_164 post J x1 x2 x3 x4 (nI l) z (nI l) (nI c) w K F G va := by
  have hi : vp_in (nI l) 16 := vp_in_nI hl (by omega)
  have ec : (nI l).toNatClampNeg = l := nI_clamp (by omega)
  unfold wY_work_164
  rw [ec, tp_bit_s w (by omega)]
  refine ⟨hi, nm_e ⟨hi, ?_⟩⟩
  rw [pk_us, hz, tp_b_and]
  refine nm_e (nm_r (nI_1 l) (P _ _ (fun j hj => pk_un (by omega)) pk_us (fun j hj => ?_)))
  rw [b_or, hx j hj, tp_shb _ (by omega) hj]
  by_cases e : j = l
  · subst e; simp
  · rw [show decide (j < l + 1) = decide (j < l) from decide_eq_decide.mpr (by omega)]; simp [e]
theorem tp_144 {post : Int32 → SY → Prop} {J : tp_JY} {k l : Nat} (hl : l < 16) {x4 z : Int32} (hz : ¬ nI l = ln → z = tp_b (tp_v K F S ln v k l)) (hx : ∀ j, j < 32 → bt x4 j = (decide (j < l) && (bt w j && tp_v K F S ln v k j))) (P : ∀ y va', (∀ j, j < l → va' j = va j) → va' l = tp_b (tp_v K F S ln v k l) → (∀ j, j < 32 → bt y j = (decide (j < l + 1) && (bt w j && tp_v K F S ln v k j))) → J y (nI (l + 1)) K F G va') : wY_work_144 post J x1 ln (tp_b v) x4 (nI l) z (nI c) w K F G va := by
  unfold wY_work_144
  refine br_c (fun e => tp_164 hl ?_ hx P) (fun e => tp_164 hl (hz e) hx P)
  rw [tp_v_s e]
theorem tp_g_0 {k : Int32} (h : k = 0) (a b : Bool) : tp_g k a b = (a && b) := by subst h; rfl
theorem tp_g_1 {k : Int32} (h : k = 1) (a b : Bool) : tp_g k a b = (a || b) := by subst h; rfl
theorem tp_g_2 {k : Int32} (h : k = 2) (a b : Bool) : tp_g k a b = (a ^^ b) := by subst h; rfl
theorem tp_g_3 {k : Int32} (h : k = 3) (a b : Bool) : tp_g k a b = !(a && b) := by subst h; rfl
theorem tp_g_4 {k : Int32} (h : k = 4) (a b : Bool) : tp_g k a b = !(a || b) := by subst h; rfl
theorem tp_g_n {k : Int32} (h0 : ¬ k = 0) (h1 : ¬ k = 1) (h2 : ¬ k = 2) (h3 : ¬ k = 3) (h4 : ¬ k = 4) (a b : Bool) : tp_g k a b = !a := by
  unfold tp_g
  rw [if_neg h0, if_neg h1, if_neg h2, if_neg h3, if_neg h4]
theorem tp_w6 (H : tp_OK c K F S G) {post : Int32 → SY → Prop} {k : Nat} (P : ∀ r va', (∀ j, j < c → va' j = tp_b (tp_v K F S ln v k j)) → (∀ j, j < 32 → bt r j = (decide (j < c) && (bt w j && tp_v K F S ln v k j))) → post r (nI c, w, K, F, G, va')) : ∀ n i x4 va, c < n + i → i ≤ c → (∀ j, j < i → va j = tp_b (tp_v K F S ln v k j)) → (∀ j, j < 32 → bt x4 j = (decide (j < i) && (bt w j && tp_v K F S ln v k j))) → wY_work_6 post (nI k) ln (tp_b v) (nI c) w n x4 (nI i) K F G va := by
  have hc := H.2.1
  intro n
  induction n with
  | zero => intro i x4 va h1 h2 _ _; omega
  | succ n ih =>
    intro i x4 va h1 h2 hv hx
    refine pk_le c i (fun h => P x4 va (fun j hj => hv j (by omega)) ?_) (fun h => ?_)
    · rw [show c = i by omega]; exact hx
    have hi : vp_in (nI i) 16 := vp_in_nI (by omega) (by omega)
    have ec : (nI i).toNatClampNeg = i := nI_clamp (by omega)
    have i16 : i < 16 := by omega
    have nx : ∀ y va', (∀ j, j < i → va' j = va j) → va' i = tp_b (tp_v K F S ln v k i) → (∀ j, j < 32 → bt y j = (decide (j < i + 1) && (bt w j && tp_v K F S ln v k j))) → wY_work_6 post (nI k) ln (tp_b v) (nI c) w n y (nI (i + 1)) K F G va' := by
      intro y va' h3 h4 h5
      refine ih (i + 1) y va' (by omega) (by omega) (fun j hj => ?_) h5
      by_cases e : j = i
      · subst e; exact h4
      · rw [h3 j (by omega)]; exact hv j (by omega)
    rw [ec]
    refine ⟨hi, (tp_OF H i16).1, nm_e ⟨hi, (tp_OG H i16).1, nm_e ⟨hi, nm_e ?_⟩⟩⟩
    refine pk_le 5 i (fun h5 => ?_) (fun h5 => ?_)
    · have hF := (tp_OF H i16).2 h5
      have hS := (tp_OS H i16).2 h5
      have eF := hv _ hF
      have eG : ¬ K i = 5 → va (G i).toNatClampNeg = tp_b (tp_v K F S ln v k (S i).toNatClampNeg) := by
        intro n5
        rw [(H.2.2 i i16).2.2.2.2.resolve_left n5]
        exact hv _ hS
      have n5 : ∀ q : Int32, ¬ q = 5 → K i = q → ¬ K i = 5 := by
        intro q hq e; rw [e]; exact hq
      rw [eF]
      refine br_c (fun e0 => ?_) (fun e0 => br_c (fun e1 => ?_) (fun e1 => br_c (fun e2 => ?_) (fun e2 => br_c (fun e3 => ?_) (fun e3 => br_c (fun e4 => ?_) (fun e4 => ?_)))))
      · refine tp_144 i16 (fun hl => ?_) hx nx
        rw [tp_v_g hl (by omega) hF hS, tp_g_0 e0, eG (n5 0 (by decide) e0), tp_b_and]
      · refine tp_144 i16 (fun hl => ?_) hx nx
        rw [tp_v_g hl (by omega) hF hS, tp_g_1 e1, eG (n5 1 (by decide) e1), tp_b_or]
      · refine tp_144 i16 (fun hl => ?_) hx nx
        rw [tp_v_g hl (by omega) hF hS, tp_g_2 e2, eG (n5 2 (by decide) e2), tp_b_xor]
      · refine tp_144 i16 (fun hl => ?_) hx nx
        rw [tp_v_g hl (by omega) hF hS, tp_g_3 e3, eG (n5 3 (by decide) e3), tp_b_and, tp_b_not]
      · refine tp_144 i16 (fun hl => ?_) hx nx
        rw [tp_v_g hl (by omega) hF hS, tp_g_4 e4, eG (n5 4 (by decide) e4), tp_b_or, tp_b_not]
      · refine tp_144 i16 (fun hl => ?_) hx nx
        rw [tp_v_g hl (by omega) hF hS, tp_g_n e0 e1 e2 e3 e4, tp_b_not]
    · refine tp_144 i16 (fun hl => ?_) hx nx
      rw [tp_v_i hl h5, tp_bit_s _ (by omega), tp_nIb k (by omega)]
theorem tp_work (H : tp_OK c K F S G) {post : Int32 → SY → Prop} {k : Nat} (P : ∀ r va', (∀ j, j < c → va' j = tp_b (tp_v K F S ln v k j)) → (∀ j, j < 32 → bt r j = (decide (j < c) && (bt w j && tp_v K F S ln v k j))) → post r (nI c, w, K, F, G, va')) : wpY_work post (nI c, w, K, F, G, va) (nI k) ln (tp_b v) := by
  unfold wpY_work
  exact ⟨c + 1, tp_w6 H P (c + 1) 0 0 va (by omega) (by omega) (fun j hj => absurd hj (by omega)) (fun j hj => by rw [b_0]; simp)⟩
theorem tp_yvalue (H : tp_OK c K F S G) {post : Int32 → SY → Prop} {k l : Nat} (hl : l < c) (hk : k < 32) (P : ∀ va', post (tp_b (tp_v K F S (-1) false k l)) (nI c, w, K, F, G, va')) : wpY_value post (nI c, w, K, F, G, va) (nI l) (nI k) := by
  have hc := H.2.1
  unfold wpY_value
  refine tp_yis_t hl hc (br_f (by decide) (tp_yv_t hk (br_f (by decide) (tp_work (v := false) H (fun r va' h1 h2 => ⟨vp_in_nI (by omega) (by omega), ?_⟩)))))
  rw [nI_clamp (by omega), h1 l hl]
  exact P va'
theorem tp_shY (H : tp_OK c K F S G) {post : Int32 → SY → Prop} {k l : Nat} (hl : l < c) (hk : k < 32) (P : ∀ va', post (tp_b (tp_D K F S w (nI l) v k c)) (nI c, w, K, F, G, va')) : wpY_shows post (nI c, w, K, F, G, va) (nI k) (nI l) (tp_b v) := by
  have hc := H.2.1
  have h17 : wY_shows_17 post (nI k) (nI l) (tp_b v) (nI c) w K F G va := by
    unfold wY_shows_17
    refine tp_yv_t hk (br_f (by decide) (tp_work (v := false) H (fun r va1 h1 h2 => tp_work H (fun q va2 h3 h4 => ?_))))
    have e : q = r ↔ tp_D K F S w (nI l) v k c = false := by
      rw [tp_D_f]
      constructor
      · intro e j hj
        have a := h2 j (by omega)
        have b := h4 j (by omega)
        rw [e, a, decide_eq_true hj, Bool.true_and, Bool.true_and] at b
        exact b
      · intro h
        apply b_ext
        intro j hj
        rw [h2 j hj, h4 j hj]
        by_cases hjc : j < c
        · rw [h j hjc]
        · rw [decide_eq_false hjc, Bool.false_and, Bool.false_and]
    refine br_c (fun z => ?_) (fun z => ?_)
    · have := P va2
      rw [e.mp z] at this
      exact this
    · have := P va2
      rw [eq_true_of_ne_false (fun n => z (e.mpr n))] at this
      exact this
  unfold wpY_shows
  refine tp_yis_t hl hc (br_f (by decide) ?_)
  cases v
  · exact br_t rfl h17
  · exact br_f (by decide) (br_t rfl h17)
theorem tp_shY_b {post : Int32 → SY → Prop} {x x2 x3 : Int32} (hB : (x2 < 0 ∨ nI c ≤ x2) ∨ (¬ x3 = 0 ∧ ¬ x3 = 1)) (P : post 0 (nI c, w, K, F, G, va)) : wpY_shows post (nI c, w, K, F, G, va) x x2 x3 := by
  unfold wpY_shows wpY_is
  have h0 : ∀ B : Prop, ((0 : Int32) = 0 → post 0 (nI c, w, K, F, G, va)) ∧ (¬ (0 : Int32) = 0 → B) := fun B => br_t rfl P
  rcases hB with hB | hB
  · exact br_c (fun _ => h0 _) (fun n => br_t (hB.resolve_left n) (h0 _))
  · exact br_c (fun _ => h0 _) (fun n => br_c (fun _ => h0 _) (fun _ => br_f (by decide) (br_f hB.1 (br_f hB.2 P))))
theorem tp_shY_v {post : Int32 → SY → Prop} {x : Int32} {l : Nat} (hl : l < c) (hc : c ≤ 16) (hx : x < 0 ∨ nI 32 ≤ x) (P : post 0 (nI c, w, K, F, G, va)) : wpY_shows post (nI c, w, K, F, G, va) x (nI l) (tp_b v) := by
  have h17 : wY_shows_17 post x (nI l) (tp_b v) (nI c) w K F G va := by
    unfold wY_shows_17
    exact tp_yv_f hx (br_t rfl P)
  unfold wpY_shows
  refine tp_yis_t hl hc (br_f (by decide) ?_)
  cases v
  · exact br_t rfl h17
  · exact br_f (by decide) (br_t rfl h17)
theorem tp_tf3 (H : tp_OK c K F S G) {post : Int32 → SY → Prop} {l fr : Nat} {x3 : Int32} (hl : l < c) (hfr : ∀ k, k < 32 → (nI k < x3 ↔ k < fr)) (P : ∀ r va', tp_Is (fun k => tp_D K F S w (nI l) v k c) fr r → post r (nI c, w, K, F, G, va')) : ∀ n i va, 32 < n + i → i ≤ 32 → (∀ k, k < i → fr ≤ k → tp_D K F S w (nI l) v k c = false) → wY_testFrom_3 post (nI l) (tp_b v) x3 n (nI i) (nI c) w K F G va := by
  intro n
  induction n with
  | zero => intro i va h1 h2 _; omega
  | succ n ih =>
    intro i va h1 h2 hs
    refine pk_le 32 i (fun h => P _ va (Or.inl ⟨rfl, fun k hk hf => hs k (by omega) hf⟩)) (fun h => ?_)
    rw [hfr i h]
    refine br_c (fun e => nm_r (nI_1 i) (ih (i + 1) va (by omega) (by omega) (fun k hk hf => hs k (by omega) hf))) (fun e => tp_shY H hl h (fun va' => ?_))
    rw [tp_b_0]
    refine br_c (fun z => nm_r (nI_1 i) (ih (i + 1) va' (by omega) (by omega) (fun k hk hf => ?_))) (fun z => P _ va' (Or.inr ⟨i, h, rfl, by omega, eq_true_of_ne_false z, hs⟩))
    by_cases ek : k = i
    · rw [ek]; exact z
    · exact hs k (by omega) hf
theorem tp_ytf (H : tp_OK c K F S G) {post : Int32 → SY → Prop} {l fr : Nat} {x3 : Int32} (hl : l < c) (hfr : ∀ k, k < 32 → (nI k < x3 ↔ k < fr)) (P : ∀ r va', tp_Is (fun k => tp_D K F S w (nI l) v k c) fr r → post r (nI c, w, K, F, G, va')) : wpY_testFrom post (nI c, w, K, F, G, va) (nI l) (tp_b v) x3 := by
  unfold wpY_testFrom
  exact ⟨33, tp_tf3 H hl hfr P 33 0 va (by omega) (by omega) (fun k hk => absurd hk (by omega))⟩
theorem tp_tf3b {post : Int32 → SY → Prop} {x2 x3 x4 : Int32} (hB : (x2 < 0 ∨ nI c ≤ x2) ∨ (¬ x3 = 0 ∧ ¬ x3 = 1)) (P : post (-1) (nI c, w, K, F, G, va)) : ∀ n i, 32 < n + i → i ≤ 32 → wY_testFrom_3 post x2 x3 x4 n (nI i) (nI c) w K F G va := by
  intro n
  induction n with
  | zero => intro i h1 h2; omega
  | succ n ih =>
    intro i h1 h2
    refine pk_le 32 i (fun h => P) (fun h => br_c (fun e => nm_r (nI_1 i) (ih (i + 1) (by omega) (by omega))) (fun e => tp_shY_b hB (br_t rfl (nm_r (nI_1 i) (ih (i + 1) (by omega) (by omega))))))
theorem tp_ytfb {post : Int32 → SY → Prop} {x2 x3 x4 : Int32} (hB : (x2 < 0 ∨ nI c ≤ x2) ∨ (¬ x3 = 0 ∧ ¬ x3 = 1)) (P : post (-1) (nI c, w, K, F, G, va)) : wpY_testFrom post (nI c, w, K, F, G, va) x2 x3 x4 := by
  unfold wpY_testFrom
  exact ⟨33, tp_tf3b hB P 33 0 (by omega) (by omega)⟩
end
end
section
/-! the public methods, each side against a pure answer -/
theorem tp_m1n : ¬ (0 : Int32) ≤ -1 := by decide
section
variable {c : Nat} {w ln : Int32} {v : Bool} {K F S G so fa de go ba ma va : Nat → Int32}
/-- the lines whose fault stays hidden, as bits -/
def tp_hid (K F S : Nat → Int32) (w : Int32) (v : Bool) (c : Nat) : Nat → Int32
  | 0 => 0
  | l + 1 => if ∀ k, k < 32 → tp_D K F S w (nI l) v k c = false then tp_hid K F S w v c l ||| ((1 : Int32) <<< (nI l &&& 31)) else tp_hid K F S w v c l
theorem tp_Is0 {sh : Nat → Bool} {r : Int32} (h : tp_Is sh 0 r) : ¬ 0 ≤ r ↔ ∀ k, k < 32 → sh k = false :=
  (tp_Is_neg h).trans ⟨fun z k hk => z k hk (by omega), fun z k hk _ => z k hk⟩
theorem tp_or0 (x : Int32) : x ||| 0 = x := by
  apply b_ext
  intro i _
  rw [b_or, b_0, Bool.or_false]
theorem tp_xhid (H : tp_OK c K F S G) {post : Int32 → SX → Prop} (P : ∀ de' go' ba' ma', post (tp_hid K F S w v c c) (nI c, w, K, F, S, so, fa, de', go', ba', ma')) : ∀ n i de go ba ma, c < n + i → i ≤ c → wX_hidden_4 post (tp_b v) n (tp_hid K F S w v c i) (nI i) (nI c) w K F S so fa de go ba ma := by
  have hc := H.2.1
  intro n
  induction n with
  | zero => intro i de go ba ma h1 h2; omega
  | succ n ih =>
    intro i de go ba ma h1 h2
    refine pk_le c i (fun h => ?_) (fun h => tp_isb_t (br_f (by decide) (tp_search (fr := 0) H (by omega) (fun r de' go' ba' ma' hr => ?_))))
    · rw [show i = c by omega]; exact P de go ba ma
    have e := tp_Is0 hr
    have e1 := ih (i + 1) de' go' ba' ma' (by omega) (by omega)
    refine br_c (fun z => nm_r (tp_or0 _) (nm_r (nI_1 i) ?_)) (fun z => nm_e (nm_r (nI_1 i) ?_))
    · rw [show tp_hid K F S w v c (i + 1) = tp_hid K F S w v c i from if_neg (fun q => e.mpr q z)] at e1
      exact e1
    · rw [show tp_hid K F S w v c (i + 1) = tp_hid K F S w v c i ||| ((1 : Int32) <<< (nI i &&& 31)) from if_pos (e.mp z)] at e1
      exact e1
theorem tp_lt0 : ∀ k, k < 32 → (nI k < (0 : Int32) ↔ k < 0) := by
  intro k hk
  exact ⟨fun h => absurd h (nI_pos (by omega)), fun h => absurd h (by omega)⟩
theorem tp_yhid (H : tp_OK c K F S G) {post : Int32 → SY → Prop} (P : ∀ va', post (tp_hid K F S w v c c) (nI c, w, K, F, G, va')) : ∀ n i va, c < n + i → i ≤ c → wY_hidden_4 post (tp_b v) n (tp_hid K F S w v c i) (nI i) (nI c) w K F G va := by
  have hc := H.2.1
  intro n
  induction n with
  | zero => intro i va h1 h2; omega
  | succ n ih =>
    intro i va h1 h2
    have h21 : i < c → wY_hidden_21 post (wY_hidden_4 post (tp_b v) n) (tp_b v) (tp_hid K F S w v c i) (nI i) (nI c) w K F G va := by
      intro h
      unfold wY_hidden_21 wpY_test
      dsimp only
      refine tp_ytf (fr := 0) H h tp_lt0 (fun r va' hr => ?_)
      have e := tp_Is0 hr
      have e1 := ih (i + 1) va' (by omega) (by omega)
      refine br_c (fun z => nm_r (nI_1 i) ?_) (fun z => nm_e (nm_r (nI_1 i) ?_))
      · rw [show tp_hid K F S w v c (i + 1) = tp_hid K F S w v c i from if_neg (fun q => e.mpr q z)] at e1
        exact e1
      · rw [show tp_hid K F S w v c (i + 1) = tp_hid K F S w v c i ||| ((1 : Int32) <<< (nI i &&& 31)) from if_pos (e.mp z)] at e1
        exact e1
    refine pk_le c i (fun h => ?_) (fun h => br_c (fun _ => h21 h) (fun n0 => br_c (fun _ => h21 h) (fun n1 => ?_)))
    · rw [show i = c by omega]; exact P va
    · rcases tp_b_tri v with z | z | z
      · exact absurd z n0
      · exact absurd z n1
      · exact absurd z (tp_b_n2 v)
/-- how many faults vector k shows -/
def tp_cnt (K F S : Nat → Int32) (w : Int32) (c k : Nat) : Nat → Int32
  | 0 => 0
  | l + 1 => tp_cnt K F S w c k l + tp_b (tp_D K F S w (nI l) false k c) + tp_b (tp_D K F S w (nI l) true k c)
theorem tp_xcnt4 (H : tp_OK c K F S G) {post : Int32 → SX → Prop} {k : Nat} (hk : k < 32) (P : ∀ so' fa', post (tp_cnt K F S w c k c) (nI c, w, K, F, S, so', fa', de, go, ba, ma)) : ∀ n i so fa, c < n + i → i ≤ c → wX_countShown_4 post (nI k) n (tp_cnt K F S w c k i) (nI i) (nI c) w K F S so fa de go ba ma := by
  have hc := H.2.1
  intro n
  induction n with
  | zero => intro i so fa h1 h2; omega
  | succ n ih =>
    intro i so fa h1 h2
    refine pk_le c i (fun h => ?_) (fun h => tp_shS (v := false) H (fun r so1 fa1 hr => ?_))
    · rw [show i = c by omega]; exact P so fa
    dsimp only
    rw [tp_bit_u r hk, hr k hk]
    refine nm_e (tp_shS (v := true) H (fun q so2 fa2 hq => ?_))
    dsimp only
    rw [tp_bit_u q hk, hq k hk]
    exact nm_e (nm_r (nI_1 i) (ih (i + 1) so2 fa2 (by omega) (by omega)))
theorem tp_xcnt (H : tp_OK c K F S G) {post : Int32 → SX → Prop} {k : Nat} (hk : k < 32) (P : ∀ so' fa', post (tp_cnt K F S w c k c) (nI c, w, K, F, S, so', fa', de, go, ba, ma)) : wpX_countShown post (nI c, w, K, F, S, so, fa, de, go, ba, ma) (nI k) := by
  unfold wpX_countShown
  exact ⟨c + 1, tp_xcnt4 H hk P (c + 1) 0 so fa (by omega) (by omega)⟩
theorem tp_ysb4 (H : tp_OK c K F S G) {post : Int32 → SY → Prop} {k : Nat} (hk : k < 32) (P : ∀ va', post (tp_cnt K F S w c k c) (nI c, w, K, F, G, va')) : ∀ n i va, c < n + i → i ≤ c → wY_shownBy_4 post (nI k) n (tp_cnt K F S w c k i) (nI i) (nI c) w K F G va := by
  have hc := H.2.1
  intro n
  induction n with
  | zero => intro i va h1 h2; omega
  | succ n ih =>
    intro i va h1 h2
    refine pk_le c i (fun h => tp_yv_t hk (br_f (by decide) ?_)) (fun h => tp_shY (v := false) H h hk (fun va1 => ?_))
    · rw [show i = c by omega]; exact P va
    have h28 : wY_shownBy_28 post (wY_shownBy_4 post (nI k) n) (nI k) (nI i) (tp_b (tp_D K F S w (nI i) false k c)) (tp_cnt K F S w c k i) (nI c) w K F G va1 := by
      unfold wY_shownBy_28
      refine tp_shY (v := true) H h hk (fun va2 => ?_)
      have e1 := ih (i + 1) va2 (by omega) (by omega)
      unfold tp_cnt at e1
      dsimp only
      rw [tp_b_0]
      refine br_c (fun z => nm_e (nm_r (nI_1 i) ?_)) (fun z => nm_e (nm_r (nI_1 i) ?_))
      · rw [z] at e1; exact e1
      · rw [eq_true_of_ne_false z] at e1; exact e1
    dsimp only
    rw [tp_b_0]
    refine br_c (fun z => ?_) (fun z => ?_)
    · rw [z] at h28; exact h28
    · rw [eq_true_of_ne_false z] at h28; exact h28
theorem tp_ysb (H : tp_OK c K F S G) {post : Int32 → SY → Prop} {k : Nat} (hk : k < 32) (P : ∀ va', post (tp_cnt K F S w c k c) (nI c, w, K, F, G, va')) : wpY_shownBy post (nI c, w, K, F, G, va) (nI k) := by
  unfold wpY_shownBy
  exact ⟨c + 1, tp_ysb4 H hk P (c + 1) 0 va (by omega) (by omega)⟩
theorem tp_ysb4n (H : tp_OK c K F S G) {post : Int32 → SY → Prop} {x : Int32} (hx : x < 0 ∨ nI 32 ≤ x) (P : post (-1) (nI c, w, K, F, G, va)) : ∀ n i y, c < n + i → i ≤ c → wY_shownBy_4 post x n y (nI i) (nI c) w K F G va := by
  have hc := H.2.1
  intro n
  induction n with
  | zero => intro i y h1 h2; omega
  | succ n ih =>
    intro i y h1 h2
    refine pk_le c i (fun h => tp_yv_f hx (br_t rfl P)) (fun h => tp_shY_v (v := false) h hc hx (br_t rfl ?_))
    unfold wY_shownBy_28
    exact tp_shY_v (v := true) h hc hx (br_t rfl (nm_e (nm_r (nI_1 i) (ih (i + 1) _ (by omega) (by omega)))))
/-- the best vector so far, and how many it shows -/
def tp_best (cn : Nat → Int32) : Nat → Int32 × Int32
  | 0 => (0, -1)
  | k + 1 => if cn k ≤ (tp_best cn k).2 then tp_best cn k else (nI k, cn k)
theorem tp_xbest (H : tp_OK c K F S G) {post : Int32 → SX → Prop} (P : ∀ so' fa', post (tp_best (fun k => tp_cnt K F S w c k c) 32).1 (nI c, w, K, F, S, so', fa', de, go, ba, ma)) : ∀ n i so fa, 32 < n + i → i ≤ 32 → wX_bestVector_6 post n (tp_best (fun k => tp_cnt K F S w c k c) i).1 (tp_best (fun k => tp_cnt K F S w c k c) i).2 (nI i) (nI c) w K F S so fa de go ba ma := by
  intro n
  induction n with
  | zero => intro i so fa h1 h2; omega
  | succ n ih =>
    intro i so fa h1 h2
    refine pk_le 32 i (fun h => ?_) (fun h => tp_xcnt H h (fun so1 fa1 => ?_))
    · rw [show i = 32 by omega]; exact P so fa
    have e1 := ih (i + 1) so1 fa1 (by omega) (by omega)
    refine br_c (fun z => nm_r (nI_1 i) ?_) (fun z => nm_r (nI_1 i) ?_)
    · rw [show tp_best (fun k => tp_cnt K F S w c k c) (i + 1) = tp_best (fun k => tp_cnt K F S w c k c) i from if_pos z] at e1
      exact e1
    · rw [show tp_best (fun k => tp_cnt K F S w c k c) (i + 1) = (nI i, tp_cnt K F S w c i c) from if_neg z] at e1
      exact e1
theorem tp_ybest (H : tp_OK c K F S G) {post : Int32 → SY → Prop} (P : ∀ va', post (tp_best (fun k => tp_cnt K F S w c k c) 32).1 (nI c, w, K, F, G, va')) : ∀ n i va, 32 < n + i → i ≤ 32 → wY_bestVector_6 post n (tp_best (fun k => tp_cnt K F S w c k c) i).1 (tp_best (fun k => tp_cnt K F S w c k c) i).2 (nI i) (nI c) w K F G va := by
  intro n
  induction n with
  | zero => intro i va h1 h2; omega
  | succ n ih =>
    intro i va h1 h2
    refine pk_le 32 i (fun h => ?_) (fun h => tp_ysb H h (fun va1 => ?_))
    · rw [show i = 32 by omega]; exact P va
    have e1 := ih (i + 1) va1 (by omega) (by omega)
    refine br_c (fun z => ?_) (fun z => ?_)
    · unfold wY_bestVector_30
      refine br_t z (nm_r (nI_1 i) ?_)
      rw [show tp_best (fun k => tp_cnt K F S w c k c) (i + 1) = tp_best (fun k => tp_cnt K F S w c k c) i from if_pos z] at e1
      exact e1
    · unfold wY_bestVector_30
      refine br_f z (nm_r (nI_1 i) ?_)
      rw [show tp_best (fun k => tp_cnt K F S w c k c) (i + 1) = (nI i, tp_cnt K F S w c i c) from if_neg z] at e1
      exact e1
theorem tp_yal (H : tp_OK c K F S G) {post : Int32 → SY → Prop} {a b : Nat} {p q : Bool} (ha : a < c) (hb : b < c) (P1 : (∀ k, k < 32 → tp_D K F S w (nI a) p k c = tp_D K F S w (nI b) q k c) → ∀ va', post 1 (nI c, w, K, F, G, va')) (P0 : (∃ k, k < 32 ∧ ¬ tp_D K F S w (nI a) p k c = tp_D K F S w (nI b) q k c) → ∀ va', post 0 (nI c, w, K, F, G, va')) : ∀ n i va, 33 < n + i → i ≤ 32 → (∀ k, k < i → tp_D K F S w (nI a) p k c = tp_D K F S w (nI b) q k c) → wY_alike_46 post (nI a) (tp_b p) (nI b) (tp_b q) n 1 (nI i) (nI c) w K F G va := by
  intro n
  induction n with
  | zero => intro i va h1 h2; omega
  | succ n ih =>
    intro i va h1 h2 hs
    refine pk_le 32 i (fun h => ⟨rfl, P1 (fun k hk => hs k (by omega)) va⟩) (fun h => br_f (by decide) (tp_shY H ha h (fun va1 => tp_shY H hb h (fun va2 => ?_))))
    refine br_c (fun z => nm_r (nI_1 i) (ih (i + 1) va2 (by omega) (by omega) (fun k hk => ?_))) (fun z => nm_r (nI_1 i) ?_)
    · by_cases e : k = i
      · rw [e]; exact tp_b_inj z
      · exact hs k (by omega)
    · have hp := P0 ⟨i, h, fun e => z (by rw [e])⟩ va2
      obtain ⟨m, rfl⟩ : ∃ m, n = m + 1 := ⟨n - 1, by omega⟩
      exact pk_le 32 (i + 1) (fun _ => ⟨rfl, hp⟩) (fun _ => br_t rfl ⟨rfl, hp⟩)
theorem tp_yal0 {post : Int32 → SY → Prop} {x1 x2 x3 x4 : Int32} (P : post 0 (nI c, w, K, F, G, va)) : ∃ n, wY_alike_46 post x1 x2 x3 x4 n 0 0 (nI c) w K F G va :=
  ⟨1, br_f (by decide) (br_t rfl ⟨rfl, P⟩)⟩
/-- the vectors below k that make line l one -/
def tp_on (K F S : Nat → Int32) (l : Nat) : Nat → Int32
  | 0 => 0
  | k + 1 => tp_on K F S l k + tp_b (tp_v K F S (-1) false k l)
theorem tp_xon {post : Int32 → SX → Prop} {l : Nat} (hl : l < 16) (hs : ∀ k, k < 32 → bt (so l) k = tp_v K F S (-1) false k l) (P : post (tp_on K F S l 32) (nI c, w, K, F, S, so, fa, de, go, ba, ma)) : ∀ n i, 32 < n + i → i ≤ 32 → wX_ones_18 post (nI l) (nI c) w K F S so fa de go ba ma n (tp_on K F S l i) (nI i) := by
  intro n
  induction n with
  | zero => intro i h1 h2; omega
  | succ n ih =>
    intro i h1 h2
    refine pk_le 32 i (fun h => ?_) (fun h => ⟨vp_in_nI hl (by omega), ?_⟩)
    · rw [show i = 32 by omega]; exact P
    rw [nI_clamp (by omega), tp_bit_u _ h, hs i h]
    exact nm_e (nm_r (nI_1 i) (ih (i + 1) (by omega) (by omega)))
theorem tp_yon (H : tp_OK c K F S G) {post : Int32 → SY → Prop} {l : Nat} (hl : l < c) (P : ∀ va', post (tp_on K F S l 32) (nI c, w, K, F, G, va')) : ∀ n i va, 32 < n + i → i ≤ 32 → wY_ones_4 post (nI l) n (tp_on K F S l i) (nI i) (nI c) w K F G va := by
  have hc := H.2.1
  intro n
  induction n with
  | zero => intro i va h1 h2; omega
  | succ n ih =>
    intro i va h1 h2
    refine pk_le 32 i (fun h => ?_) (fun h => tp_yis_t hl hc (br_f (by decide) (tp_yvalue H hl h (fun va1 => ?_))))
    · rw [show i = 32 by omega]
      unfold wY_ones_33
      exact tp_yis_t hl hc (br_f (by decide) (P va))
    exact nm_e (nm_r (nI_1 i) (ih (i + 1) va1 (by omega) (by omega)))
end
end
section
/-! a new gate, a line taken back, testFrom: both sides -/
theorem tp_narn : ∀ n, n < 16 → vp_nar .byte (nI n).toInt8.toInt32 = nI n := by
  intro n hn
  rw [pk_vb]
  exact (by decide +kernel : ∀ n, n < 16 → (nI n).toInt8.toInt32 = nI n) n hn
theorem tp_cls (x : Int32) {c : Nat} (hc : c ≤ 32) : (x < 0 ∨ nI c ≤ x) ∨ ∃ l, l < c ∧ x = nI l := by
  rcases pk_ix x (n := c) (by omega) with h | h | h
  · exact Or.inl (Or.inl h)
  · exact Or.inl (Or.inr h)
  · exact Or.inr h
theorem tp_OKg {c kd a s g : Nat} {K F S G : Nat → Int32} (H : tp_OK c K F S G) (h16 : c < 16) (hk : kd ≤ 5) (ha : a < c) (hs : s < c) (hg : g < c) (he : nI kd = 5 ∨ g = s) : tp_OK (c + 1) (upd K c (nI kd)) (upd F c (nI a)) (upd S c (nI s)) (upd G c (nI g)) := by
  refine ⟨by have := H.1; omega, by omega, fun i hi => ?_⟩
  by_cases e : i = c
  · subst e
    rw [pk_us, pk_us, pk_us, pk_us]
    refine ⟨⟨kd, hk, rfl⟩, ⟨a, by omega, rfl⟩, ⟨s, by omega, rfl⟩, ⟨g, by omega, rfl⟩, ?_⟩
    rcases he with he | he
    · exact Or.inl he
    · exact Or.inr (by rw [he])
  · rw [pk_un e, pk_un e, pk_un e, pk_un e]
    exact H.2.2 i hi
theorem tp_OKd {c : Nat} {K F S G : Nat → Int32} (H : tp_OK (c + 1) K F S G) (h5 : 5 ≤ c) : tp_OK c K F S G := ⟨h5, by have := H.2.1; omega, H.2.2⟩
section
variable {c : Nat} {w : Int32} {v : Bool} {K F S G so fa de go ba ma va : Nat → Int32}
theorem tp_xg32 {post : Int32 → SX → Prop} {kd a s : Nat} {x3 : Int32} (hc : c ≤ 16) (hk : kd ≤ 5) (ha : a < 16) (hs : s < 16) (h5 : nI kd = 5 → s = a) (hn : ¬ nI kd = 5 → x3 = nI s) (P2 : ¬ c < 16 → post (-2) (nI c, w, K, F, S, so, fa, de, go, ba, ma)) (P : c < 16 → post (nI (c + 1) - 1) (nI (c + 1), w, upd K c (nI kd), upd F c (nI a), upd S c (nI s), so, fa, de, go, ba, ma)) : wX_gate_32 post (nI kd) (nI a) x3 (nI c) w K F S so fa de go ba ma := by
  unfold wX_gate_32
  refine pk_lt c 16 (fun h => ?_) (fun h => P2 (by omega))
  have hi : vp_in (nI c) 16 := vp_in_nI h (by omega)
  have h84 : ∀ K' F', wX_gate_84 post (nI s) (nI c) (nI c) w K' F' S so fa de go ba ma = (vp_in (nI c) 16 ∧ ∀ S', S' = upd S c (nI s) → ∀ c', c' = nI c + 1 → post (c' - 1) (c', w, K', F', S', so, fa, de, go, ba, ma)) := by
    intro K' F'
    unfold wX_gate_84
    rw [nI_clamp (by omega), tp_narn s hs]
  rw [nI_clamp (by omega), tp_narn kd (by omega), tp_narn a ha]
  refine ⟨hi, nm_e ⟨hi, nm_e (br_c (fun e => ?_) (fun e => ?_))⟩⟩
  · rw [← h5 e, h84]
    rw [← h5 e] at P
    exact ⟨hi, nm_e (nm_r (nI_1 c) (P h))⟩
  · rw [hn e, h84]
    exact ⟨hi, nm_e (nm_r (nI_1 c) (P h))⟩
theorem tp_yg32 {post : Int32 → SY → Prop} {kd a g : Nat} {x3 : Int32} (hc : c ≤ 16) (hk : kd ≤ 5) (h5 : nI kd = 5 → g = 0) (hn : ¬ nI kd = 5 → x3 = nI g) (P2 : ¬ c < 16 → post (-2) (nI c, w, K, F, G, va)) (P : c < 16 → post (nI (c + 1) - 1) (nI (c + 1), w, upd K c (nI kd), upd F c (nI a), upd G c (nI g), va)) : wY_gate_32 post (nI kd) (nI a) x3 (nI c) w K F G va := by
  unfold wY_gate_32
  refine pk_lt c 16 (fun h => ?_) (fun h => P2 (by omega))
  have hi : vp_in (nI c) 16 := vp_in_nI h (by omega)
  have h84 : ∀ K' F', wY_gate_82 post (nI g) (nI c) (nI c) w K' F' G va = (vp_in (nI c) 16 ∧ ∀ G', G' = upd G c (nI g) → ∀ c', c' = nI c + 1 → post (c' - 1) (c', w, K', F', G', va)) := by
    intro K' F'
    unfold wY_gate_82
    rw [nI_clamp (by omega)]
  rw [nI_clamp (by omega)]
  refine ⟨hi, nm_e ⟨hi, nm_e (br_c (fun e => ?_) (fun e => ?_))⟩⟩
  · have h0 : (0 : Int32) = nI g := by rw [h5 e]; rfl
    rw [h0, h84]
    exact ⟨hi, nm_e (nm_r (nI_1 c) (P h))⟩
  · rw [hn e, h84]
    exact ⟨hi, nm_e (nm_r (nI_1 c) (P h))⟩
/-- from which vector on -/
def tp_Fr (x : Int32) (fr : Nat) : Prop := (x = nI fr ∧ fr ≤ 31) ∨ (x < 0 ∧ fr = 0) ∨ (nI 32 ≤ x ∧ fr = 32)
theorem tp_fr (x : Int32) : ∃ fr, tp_Fr x fr := by
  rcases pk_ix x (n := 32) (by omega) with h | h | ⟨l, hl, e⟩
  · exact ⟨0, Or.inr (Or.inl ⟨h, rfl⟩)⟩
  · exact ⟨32, Or.inr (Or.inr ⟨h, rfl⟩)⟩
  · exact ⟨l, Or.inl ⟨e, by omega⟩⟩
theorem tp_fr_lt {x : Int32} {fr : Nat} (h : tp_Fr x fr) : ∀ k, k < 32 → (nI k < x ↔ k < fr) := by
  intro k hk
  rcases h with ⟨rfl, h⟩ | ⟨h, rfl⟩ | ⟨h, rfl⟩
  · exact nI_ltI (by omega) (by omega)
  · rw [Int32.lt_iff_toInt_lt, nI_toInt (by omega)]
    rw [Int32.lt_iff_toInt_lt, show (0 : Int32).toInt = 0 from by decide] at h
    omega
  · rw [Int32.lt_iff_toInt_lt, nI_toInt (by omega)]
    rw [Int32.le_iff_toInt_le, nI_toInt (by omega)] at h
    omega
theorem tp_xtf (H : tp_OK c K F S G) {post : Int32 → SX → Prop} {l fr : Nat} {x : Int32} (hl : l < c) (hfr : tp_Fr x fr) (P : ∀ r de' go' ba' ma', tp_Is (fun k => tp_D K F S w (nI l) v k c) fr r → post r (nI c, w, K, F, S, so, fa, de', go', ba', ma')) : wpX_testFrom post (nI c, w, K, F, S, so, fa, de, go, ba, ma) (nI l) (tp_b v) x := by
  have hc := H.2.1
  unfold wpX_testFrom
  refine tp_isl_t hl hc (br_f (by decide) (tp_isb_t (br_f (by decide) ?_)))
  rcases hfr with ⟨rfl, h⟩ | ⟨h, rfl⟩ | ⟨h, rfl⟩
  · refine br_t (nI_le (b := 31) h (by decide)) (br_t (nI_pos' (by omega)) ?_)
    unfold wX_testFrom_32
    exact tp_search H h (fun r de' go' ba' ma' hr => P r de' go' ba' ma' hr)
  · have h31 : x ≤ 31 := by
      rw [Int32.lt_iff_toInt_lt, show (0 : Int32).toInt = 0 from by decide] at h
      rw [Int32.le_iff_toInt_le, show (31 : Int32).toInt = 31 from by decide]
      omega
    refine br_t h31 (br_f (Int32.not_le.mpr h) ?_)
    unfold wX_testFrom_32
    exact tp_search (fr := 0) H (by omega) (fun r de' go' ba' ma' hr => P r de' go' ba' ma' hr)
  · have h31 : ¬ x ≤ 31 := by
      rw [Int32.le_iff_toInt_le, nI_toInt (by omega)] at h
      rw [Int32.le_iff_toInt_le, show (31 : Int32).toInt = 31 from by decide]
      omega
    exact br_f h31 (P _ _ _ _ _ (Or.inl ⟨rfl, fun k hk hf => absurd hf (by omega)⟩))
theorem tp_xtfb {post : Int32 → SX → Prop} (hc : c ≤ 16) {x2 x3 x4 : Int32} (hB : (x2 < 0 ∨ nI c ≤ x2) ∨ (¬ x3 = 0 ∧ ¬ x3 = 1)) (P : post (-1) (nI c, w, K, F, S, so, fa, de, go, ba, ma)) : wpX_testFrom post (nI c, w, K, F, S, so, fa, de, go, ba, ma) x2 x3 x4 := by
  unfold wpX_testFrom
  rcases hB with h | h
  · exact tp_isl_f h (br_t rfl P)
  · rcases tp_cls x2 (c := c) (by omega) with h2 | ⟨l, hl, rfl⟩
    · exact tp_isl_f h2 (br_t rfl P)
    · exact tp_isl_t hl hc (br_f (by decide) (tp_isb_f h (br_t rfl P)))
end
end
section
/-! what is owed -/
def i_Rel (_ : Nat) (u : SX) (v : SY) : Prop := ∃ (c : Nat) (w : Int32) (K F S G so fa de go ba ma va : Nat → Int32), tp_OK c K F S G ∧ u = (nI c, w, K, F, S, so, fa, de, go, ba, ma) ∧ v = (nI c, w, K, F, G, va)
theorem tp_mk {k c : Nat} {w : Int32} {K F S G so fa de go ba ma va : Nat → Int32} (H : tp_OK c K F S G) : i_Rel k (nI c, w, K, F, S, so, fa, de, go, ba, ma) (nI c, w, K, F, G, va) := ⟨c, w, K, F, S, G, so, fa, de, go, ba, ma, va, H, rfl, rfl⟩
theorem i_up {k : Nat} {u : SX} {v : SY} (h : i_Rel k u v) : i_Rel (k + 5) u v := h
theorem i_vc0 : wpX_init (fun u => wpY_init (fun v => i_Rel 0 u v)) := by
  have H : tp_OK 5 (fun _ => 0) (fun _ => 0) (fun _ => 0) (fun _ => 0) := ⟨by omega, by omega, fun i _ => ⟨⟨0, by omega, rfl⟩, ⟨0, by omega, rfl⟩, ⟨0, by omega, rfl⟩, ⟨0, by omega, rfl⟩, Or.inr rfl⟩⟩
  unfold wpX_init wpY_init
  exact tp_mk H
theorem i_vc_gate {k : Nat} {u : SX} {v : SY} (I : i_Rel k u v) (hk : k + 5 ≤ 2560) (v1 : Int32) (v2 : Int32) (v3 : Int32) : wpX_gate (fun r u' => wpY_gate (fun r' v' => r' = r ∧ i_Rel (k + 5) u' v') v v1 v2 v3) u v1 v2 v3 := by
  obtain ⟨c, w, K, F, S, G, so, fa, de, go, ba, ma, va, H, rfl, rfl⟩ := I
  have hc := H.2.1
  have hc5 := H.1
  unfold wpX_gate wpY_gate
  dsimp only
  by_cases h0 : v1 < 0
  · exact br_t h0 (br_t h0 ⟨rfl, tp_mk H⟩)
  by_cases h5 : 5 < v1
  · exact br_f h0 (br_t h5 (br_f h0 (br_t h5 ⟨rfl, tp_mk H⟩)))
  obtain ⟨kd, hkd, rfl⟩ := nI_of2 (M := 5) (n := 5) (by decide) h0 (Int32.not_lt.mp h5)
  refine br_f h0 (br_f h5 ?_)
  rcases tp_cls v2 (c := c) (by omega) with h2 | ⟨a, ha, rfl⟩
  · exact tp_isl_f h2 (br_t rfl (br_f h0 (br_f h5 (tp_yis_f h2 (br_t rfl ⟨rfl, tp_mk H⟩)))))
  refine tp_isl_t ha hc (br_f (by decide) ?_)
  by_cases e5 : nI kd = 5
  · refine br_t e5 ?_
    refine tp_xg32 (s := a) hc hkd (by omega) (by omega) (fun _ => rfl) (fun n => absurd e5 n) (fun n16 => ?_) (fun h16 => ?_)
    · exact br_f h0 (br_f h5 (tp_yis_t ha hc (br_f (by decide) (br_t e5 (tp_yg32 (g := 0) hc hkd (fun _ => rfl) (fun n => absurd e5 n) (fun _ => ⟨rfl, tp_mk H⟩) (fun h => absurd h n16))))))
    · exact br_f h0 (br_f h5 (tp_yis_t ha hc (br_f (by decide) (br_t e5 (tp_yg32 (g := 0) hc hkd (fun _ => rfl) (fun n => absurd e5 n) (fun n => absurd h16 n) (fun h => ⟨rfl, tp_mk (tp_OKg H h16 hkd ha ha (by omega) (Or.inl e5))⟩))))))
  · refine br_f e5 ?_
    rcases tp_cls v3 (c := c) (by omega) with h3 | ⟨b, hb, rfl⟩
    · exact tp_isl_f h3 (br_t rfl (br_f h0 (br_f h5 (tp_yis_t ha hc (br_f (by decide) (br_f e5 (tp_yis_f h3 (br_t rfl ⟨rfl, tp_mk H⟩))))))))
    · refine tp_isl_t hb hc (br_f (by decide) ?_)
      refine tp_xg32 (s := b) hc hkd (by omega) (by omega) (fun n => absurd n e5) (fun _ => rfl) (fun n16 => ?_) (fun h16 => ?_)
      · exact br_f h0 (br_f h5 (tp_yis_t ha hc (br_f (by decide) (br_f e5 (tp_yis_t hb hc (br_f (by decide) (tp_yg32 (g := b) hc hkd (fun n => absurd n e5) (fun _ => rfl) (fun _ => ⟨rfl, tp_mk H⟩) (fun h => absurd h n16))))))))
      · exact br_f h0 (br_f h5 (tp_yis_t ha hc (br_f (by decide) (br_f e5 (tp_yis_t hb hc (br_f (by decide) (tp_yg32 (g := b) hc hkd (fun n => absurd n e5) (fun _ => rfl) (fun n => absurd h16 n) (fun h => ⟨rfl, tp_mk (tp_OKg H h16 hkd ha hb hb (Or.inr rfl))⟩))))))))
theorem i_vc_drop {k : Nat} {u : SX} {v : SY} (I : i_Rel k u v) (hk : k + 5 ≤ 2560) : wpX_drop (fun r u' => wpY_drop (fun r' v' => r' = r ∧ i_Rel (k + 5) u' v') v) u := by
  obtain ⟨c, w, K, F, S, G, so, fa, de, go, ba, ma, va, H, rfl, rfl⟩ := I
  have hc := H.2.1
  have hc5 := H.1
  unfold wpX_drop wpY_drop
  dsimp only
  by_cases e : c = 5
  · exact pk_eq c 5 (fun _ => pk_lt 5 c (fun h => absurd h (by omega)) (fun _ => ⟨rfl, tp_mk H⟩)) (fun n => absurd e n)
  · obtain ⟨m, rfl⟩ : ∃ m, c = m + 1 := ⟨c - 1, by omega⟩
    refine pk_eq (m + 1) 5 (fun n => absurd n e) (fun _ => nm_r (nI_pred m) (nm_e (pk_lt 5 (m + 1) (fun h => nm_r (nI_pred m) (nm_e ⟨rfl, tp_mk (tp_OKd H (by omega))⟩)) (fun h => absurd h (by omega)))))
theorem i_vc_watch {k : Nat} {u : SX} {v : SY} (I : i_Rel k u v) (hk : k + 5 ≤ 2560) (v1 : Int32) (v2 : Int32) : wpX_watch (fun r u' => wpY_watch (fun r' v' => r' = r ∧ i_Rel (k + 5) u' v') v v1 (lw_bz v2)) u v1 (lw_bz v2) := by
  obtain ⟨c, w, K, F, S, G, so, fa, de, go, ba, ma, va, H, rfl, rfl⟩ := I
  have hc := H.2.1
  unfold wpX_watch wpY_watch
  dsimp only
  rcases tp_cls v1 (c := c) (by omega) with h1 | ⟨l, hl, rfl⟩
  · exact tp_isl_f h1 (br_t rfl (tp_yis_f h1 (br_t rfl ⟨rfl, tp_mk H⟩)))
  · refine tp_isl_t hl hc (br_f (by decide) (br_c (fun e => nm_e (tp_yis_t hl hc (br_f (by decide) (br_t e (nm_e ⟨rfl, tp_mk H⟩))))) (fun e => nm_e (tp_yis_t hl hc (br_f (by decide) (br_f e (nm_e ⟨rfl, tp_mk H⟩)))))))
theorem i_vc_lines {k : Nat} {u : SX} {v : SY} (I : i_Rel k u v) (hk : k + 5 ≤ 2560) : wpX_lines (fun r => wpY_lines (fun r' => r' = r ∧ i_Rel (k + 5) u v) v) u := by
  obtain ⟨c, w, K, F, S, G, so, fa, de, go, ba, ma, va, H, rfl, rfl⟩ := I
  unfold wpX_lines wpY_lines
  exact ⟨rfl, tp_mk H⟩
theorem i_vc_watched {k : Nat} {u : SX} {v : SY} (I : i_Rel k u v) (hk : k + 5 ≤ 2560) : wpX_watched (fun r => wpY_watched (fun r' => r' = r ∧ i_Rel (k + 5) u v) v) u := by
  obtain ⟨c, w, K, F, S, G, so, fa, de, go, ba, ma, va, H, rfl, rfl⟩ := I
  unfold wpX_watched wpY_watched
  exact ⟨rfl, tp_mk H⟩
theorem i_vc_value {k : Nat} {u : SX} {v : SY} (I : i_Rel k u v) (hk : k + 5 ≤ 2560) (v1 : Int32) (v2 : Int32) : wpX_value (fun r u' => wpY_value (fun r' v' => r' = r ∧ i_Rel (k + 5) u' v') v v1 v2) u v1 v2 := by
  obtain ⟨c, w, K, F, S, G, so, fa, de, go, ba, ma, va, H, rfl, rfl⟩ := I
  have hc := H.2.1
  unfold wpX_value
  dsimp only
  rcases tp_cls v1 (c := c) (by omega) with h1 | ⟨l, hl, rfl⟩
  · refine tp_isl_f h1 (br_t rfl ?_)
    unfold wpY_value
    exact tp_yis_f h1 (br_t rfl ⟨rfl, tp_mk H⟩)
  refine tp_isl_t hl hc (br_f (by decide) ?_)
  rcases tp_cls v2 (c := 32) (by omega) with h2 | ⟨j, hj, rfl⟩
  · refine tp_isv_f h2 (br_t rfl ?_)
    unfold wpY_value
    exact tp_yis_t hl hc (br_f (by decide) (tp_yv_f h2 (br_t rfl ⟨rfl, tp_mk H⟩)))
  refine tp_isv_t hj (br_f (by decide) (tp_simS H (fun so' hs => ⟨vp_in_nI (by omega) (by omega), ?_⟩)))
  rw [nI_clamp (by omega), tp_bit_u _ hj, hs l hl j hj]
  exact tp_yvalue H hl hj (fun va' => ⟨rfl, tp_mk H⟩)
theorem i_vc_shows {k : Nat} {u : SX} {v : SY} (I : i_Rel k u v) (hk : k + 5 ≤ 2560) (v1 : Int32) (v2 : Int32) (v3 : Int32) : wpX_shows (fun r u' => wpY_shows (fun r' v' => r' = r ∧ i_Rel (k + 5) u' v') v v1 v2 v3) u v1 v2 v3 := by
  obtain ⟨c, w, K, F, S, G, so, fa, de, go, ba, ma, va, H, rfl, rfl⟩ := I
  have hc := H.2.1
  unfold wpX_shows
  dsimp only
  rcases tp_cls v2 (c := c) (by omega) with h2 | ⟨l, hl, rfl⟩
  · exact tp_isl_f h2 (br_t rfl (tp_shY_b (Or.inl h2) ⟨rfl, tp_mk H⟩))
  refine tp_isl_t hl hc (br_f (by decide) ?_)
  rcases tp_bit v3 with ⟨b, rfl⟩ | h3
  · refine tp_isb_t (br_f (by decide) ?_)
    rcases tp_cls v1 (c := 32) (by omega) with h1 | ⟨j, hj, rfl⟩
    · exact tp_isv_f h1 (br_t rfl (tp_shY_v hl hc h1 ⟨rfl, tp_mk H⟩))
    refine tp_isv_t hj (br_f (by decide) (tp_shS H (fun r so' fa' hr => ?_)))
    dsimp only
    rw [tp_bit_u _ hj, hr j hj, tp_b_0]
    refine br_c (fun e => tp_shY H hl hj (fun va' => ⟨?_, tp_mk H⟩)) (fun e => tp_shY H hl hj (fun va' => ⟨?_, tp_mk H⟩))
    · rw [e]; rfl
    · rw [eq_true_of_ne_false e]; rfl
  · exact tp_isb_f h3 (br_t rfl (tp_shY_b (Or.inr h3) ⟨rfl, tp_mk H⟩))
theorem i_vc_testFrom {k : Nat} {u : SX} {v : SY} (I : i_Rel k u v) (hk : k + 5 ≤ 2560) (v1 : Int32) (v2 : Int32) (v3 : Int32) : wpX_testFrom (fun r u' => wpY_testFrom (fun r' v' => r' = r ∧ i_Rel (k + 5) u' v') v v1 v2 v3) u v1 v2 v3 := by
  obtain ⟨c, w, K, F, S, G, so, fa, de, go, ba, ma, va, H, rfl, rfl⟩ := I
  have hc := H.2.1
  rcases tp_cls v1 (c := c) (by omega) with h1 | ⟨l, hl, rfl⟩
  · exact tp_xtfb hc (Or.inl h1) (tp_ytfb (Or.inl h1) ⟨rfl, tp_mk H⟩)
  rcases tp_bit v2 with ⟨b, rfl⟩ | h2
  · obtain ⟨fr, hfr⟩ := tp_fr v3
    exact tp_xtf H hl hfr (fun r de' go' ba' ma' hr => tp_ytf H hl (tp_fr_lt hfr) (fun r' va' hr' => ⟨tp_Is_u hr hr', tp_mk H⟩))
  · exact tp_xtfb hc (Or.inr h2) (tp_ytfb (Or.inr h2) ⟨rfl, tp_mk H⟩)
theorem i_vc_test {k : Nat} {u : SX} {v : SY} (I : i_Rel k u v) (hk : k + 5 ≤ 2560) (v1 : Int32) (v2 : Int32) : wpX_test (fun r u' => wpY_test (fun r' v' => r' = r ∧ i_Rel (k + 5) u' v') v v1 v2) u v1 v2 := by
  obtain ⟨c, w, K, F, S, G, so, fa, de, go, ba, ma, va, H, rfl, rfl⟩ := I
  have hc := H.2.1
  unfold wpX_test wpY_test
  dsimp only
  rcases tp_cls v1 (c := c) (by omega) with h1 | ⟨l, hl, rfl⟩
  · exact tp_xtfb hc (Or.inl h1) (tp_ytfb (Or.inl h1) ⟨rfl, tp_mk H⟩)
  rcases tp_bit v2 with ⟨b, rfl⟩ | h2
  · obtain ⟨fr, hfr⟩ := tp_fr 0
    exact tp_xtf H hl hfr (fun r de' go' ba' ma' hr => tp_ytf H hl (tp_fr_lt hfr) (fun r' va' hr' => ⟨tp_Is_u hr hr', tp_mk H⟩))
  · exact tp_xtfb hc (Or.inr h2) (tp_ytfb (Or.inr h2) ⟨rfl, tp_mk H⟩)
theorem i_vc_hidden {k : Nat} {u : SX} {v : SY} (I : i_Rel k u v) (hk : k + 5 ≤ 2560) (v1 : Int32) : wpX_hidden (fun r u' => wpY_hidden (fun r' v' => r' = r ∧ i_Rel (k + 5) u' v') v v1) u v1 := by
  obtain ⟨c, w, K, F, S, G, so, fa, de, go, ba, ma, va, H, rfl, rfl⟩ := I
  have hc5 := H.1
  unfold wpX_hidden wpY_hidden
  dsimp only
  rcases tp_bit v1 with ⟨b, rfl⟩ | h1
  · refine ⟨c + 1, tp_xhid H (fun de' go' ba' ma' => ?_) (c + 1) 0 de go ba ma (by omega) (by omega)⟩
    exact ⟨c + 1, tp_yhid H (fun va' => ⟨rfl, tp_mk H⟩) (c + 1) 0 va (by omega) (by omega)⟩
  · refine ⟨1, pk_le c 0 (fun h => absurd h (by omega)) (fun _ => tp_isb_f h1 (br_t rfl ?_)) (ha := by have := H.2.1; omega)⟩
    exact ⟨1, pk_le c 0 (fun h => absurd h (by omega)) (fun _ => br_f h1.1 (br_f h1.2 ⟨rfl, tp_mk H⟩)) (ha := by have := H.2.1; omega)⟩
theorem i_vc_shownBy {k : Nat} {u : SX} {v : SY} (I : i_Rel k u v) (hk : k + 5 ≤ 2560) (v1 : Int32) : wpX_shownBy (fun r u' => wpY_shownBy (fun r' v' => r' = r ∧ i_Rel (k + 5) u' v') v v1) u v1 := by
  obtain ⟨c, w, K, F, S, G, so, fa, de, go, ba, ma, va, H, rfl, rfl⟩ := I
  unfold wpX_shownBy
  dsimp only
  rcases tp_cls v1 (c := 32) (by omega) with h1 | ⟨j, hj, rfl⟩
  · refine tp_isv_f h1 (br_t rfl ?_)
    unfold wpY_shownBy
    exact ⟨c + 1, tp_ysb4n H h1 ⟨rfl, tp_mk H⟩ (c + 1) 0 0 (by omega) (by omega)⟩
  · exact tp_isv_t hj (br_f (by decide) (tp_xcnt H hj (fun so' fa' => tp_ysb H hj (fun va' => ⟨rfl, tp_mk H⟩))))
theorem i_vc_bestVector {k : Nat} {u : SX} {v : SY} (I : i_Rel k u v) (hk : k + 5 ≤ 2560) : wpX_bestVector (fun r u' => wpY_bestVector (fun r' v' => r' = r ∧ i_Rel (k + 5) u' v') v) u := by
  obtain ⟨c, w, K, F, S, G, so, fa, de, go, ba, ma, va, H, rfl, rfl⟩ := I
  unfold wpX_bestVector wpY_bestVector
  dsimp only
  refine ⟨33, tp_xbest H (fun so' fa' => ?_) 33 0 so fa (by omega) (by omega)⟩
  exact ⟨33, tp_ybest H (fun va' => ⟨rfl, tp_mk H⟩) 33 0 va (by omega) (by omega)⟩
theorem i_vc_alike {k : Nat} {u : SX} {v : SY} (I : i_Rel k u v) (hk : k + 5 ≤ 2560) (v1 : Int32) (v2 : Int32) (v3 : Int32) (v4 : Int32) : wpX_alike (fun r u' => wpY_alike (fun r' v' => r' = r ∧ i_Rel (k + 5) u' v') v v1 v2 v3 v4) u v1 v2 v3 v4 := by
  obtain ⟨c, w, K, F, S, G, so, fa, de, go, ba, ma, va, H, rfl, rfl⟩ := I
  have hc := H.2.1
  unfold wpX_alike wpY_alike
  dsimp only
  rcases tp_cls v1 (c := c) (by omega) with h1 | ⟨a, ha, rfl⟩
  · exact tp_isl_f h1 (br_t rfl (tp_yis_f h1 (br_t rfl (tp_yal0 ⟨rfl, tp_mk H⟩))))
  refine tp_isl_t ha hc (br_f (by decide) ?_)
  rcases tp_cls v3 (c := c) (by omega) with h3 | ⟨b, hb, rfl⟩
  · rcases tp_bit v2 with ⟨p, rfl⟩ | h2
    · exact tp_isb_t (br_f (by decide) (tp_isl_f h3 (br_t rfl (tp_yis_t ha hc (br_f (by decide) (tp_yis_f h3 (br_t rfl (tp_yal0 ⟨rfl, tp_mk H⟩))))))))
    · exact tp_isb_f h2 (br_t rfl (tp_yis_t ha hc (br_f (by decide) (tp_yis_f h3 (br_t rfl (tp_yal0 ⟨rfl, tp_mk H⟩))))))
  rcases tp_bit v2 with ⟨p, rfl⟩ | h2
  · refine tp_isb_t (br_f (by decide) (tp_isl_t hb hc (br_f (by decide) ?_)))
    have en : ∀ {post : Int32 → SY → Prop} {x4 : Int32}, wY_alike_25 post (nI a) (tp_b p) (nI b) x4 (nI c) w K F G va → ((tp_b p = 0 → wY_alike_25 post (nI a) (tp_b p) (nI b) x4 (nI c) w K F G va) ∧ (¬ tp_b p = 0 → ((tp_b p = 1 → wY_alike_25 post (nI a) (tp_b p) (nI b) x4 (nI c) w K F G va) ∧ (¬ tp_b p = 1 → ∃ n, wY_alike_46 post (nI a) (tp_b p) (nI b) x4 n 0 0 (nI c) w K F G va)))) := by
      intro post x4 h
      cases p
      · exact br_t rfl h
      · exact br_f (by decide) (br_t rfl h)
    rcases tp_bit v4 with ⟨q, rfl⟩ | h4
    · refine tp_isb_t (br_f (by decide) (tp_shS H (fun r so1 fa1 hr => tp_shS H (fun s so2 fa2 hs => ?_))))
      have same : r = s ↔ ∀ j, j < 32 → tp_D K F S w (nI a) p j c = tp_D K F S w (nI b) q j c := by
        constructor
        · intro e j hj
          rw [← hr j hj, ← hs j hj, e]
        · intro h
          apply b_ext
          intro j hj
          rw [hr j hj, hs j hj, h j hj]
      have yy : ∀ {post : Int32 → SY → Prop}, ((∀ j, j < 32 → tp_D K F S w (nI a) p j c = tp_D K F S w (nI b) q j c) → ∀ va', post 1 (nI c, w, K, F, G, va')) → ((∃ j, j < 32 ∧ ¬ tp_D K F S w (nI a) p j c = tp_D K F S w (nI b) q j c) → ∀ va', post 0 (nI c, w, K, F, G, va')) → wY_alike_25 post (nI a) (tp_b p) (nI b) (tp_b q) (nI c) w K F G va := by
        intro post P1 P0
        have g : ∃ n, wY_alike_46 post (nI a) (tp_b p) (nI b) (tp_b q) n 1 0 (nI c) w K F G va := ⟨34, tp_yal H ha hb P1 P0 34 0 va (by omega) (by omega) (fun j hj => absurd hj (by omega))⟩
        unfold wY_alike_25
        cases q
        · exact br_t rfl g
        · exact br_f (by decide) (br_t rfl g)
      refine br_c (fun e => ?_) (fun e => ?_)
      · exact tp_yis_t ha hc (br_f (by decide) (tp_yis_t hb hc (br_f (by decide) (en (yy (fun _ va' => ⟨rfl, tp_mk H⟩) (fun ⟨j, hj, n⟩ => absurd (same.mp e j hj) n))))))
      · exact tp_yis_t ha hc (br_f (by decide) (tp_yis_t hb hc (br_f (by decide) (en (yy (fun z => absurd (same.mpr z) e) (fun _ va' => ⟨rfl, tp_mk H⟩))))))
    · refine tp_isb_f h4 (br_t rfl (tp_yis_t ha hc (br_f (by decide) (tp_yis_t hb hc (br_f (by decide) (en ?_))))))
      unfold wY_alike_25
      exact br_f h4.1 (br_f h4.2 (tp_yal0 ⟨rfl, tp_mk H⟩))
  · exact tp_isb_f h2 (br_t rfl (tp_yis_t ha hc (br_f (by decide) (tp_yis_t hb hc (br_f (by decide) (br_f h2.1 (br_f h2.2 (tp_yal0 ⟨rfl, tp_mk H⟩))))))))
theorem i_vc_ones {k : Nat} {u : SX} {v : SY} (I : i_Rel k u v) (hk : k + 5 ≤ 2560) (v1 : Int32) : wpX_ones (fun r u' => wpY_ones (fun r' v' => r' = r ∧ i_Rel (k + 5) u' v') v v1) u v1 := by
  obtain ⟨c, w, K, F, S, G, so, fa, de, go, ba, ma, va, H, rfl, rfl⟩ := I
  have hc := H.2.1
  unfold wpX_ones wpY_ones
  dsimp only
  rcases tp_cls v1 (c := c) (by omega) with h1 | ⟨l, hl, rfl⟩
  · refine tp_isl_f h1 (br_t rfl ⟨1, br_f (by decide) (tp_yis_f h1 (br_t rfl ?_))⟩)
    unfold wY_ones_33
    exact tp_yis_f h1 (br_t rfl ⟨rfl, tp_mk H⟩)
  · refine tp_isl_t hl hc (br_f (by decide) (tp_simS H (fun so' hs => ⟨33, tp_xon (by omega) (hs l hl) ?_ 33 0 (by omega) (by omega)⟩)))
    exact ⟨33, tp_yon H hl (fun va' => ⟨rfl, tp_mk H⟩) 33 0 va (by omega) (by omega)⟩
end
