section
/-! ===== Int32 by its bits: bt x i ===== -/
def bt (x : Int32) (i : Nat) : Bool := x.toBitVec.getLsbD i
theorem b_ext {x y : Int32} (h : ∀ i, i < 32 → bt x i = bt y i) : x = y := Int32.toBitVec_inj.mp (BitVec.eq_of_getLsbD_eq (fun i hi => h i hi))
theorem b_or (x y : Int32) (i : Nat) : bt (x ||| y) i = (bt x i || bt y i) := by unfold bt; rw [Int32.toBitVec_or, BitVec.getLsbD_or]
theorem b_and (x y : Int32) (i : Nat) : bt (x &&& y) i = (bt x i && bt y i) := by unfold bt; rw [Int32.toBitVec_and, BitVec.getLsbD_and]
theorem b_xor (x y : Int32) (i : Nat) : bt (x ^^^ y) i = (bt x i ^^ bt y i) := by unfold bt; rw [Int32.toBitVec_xor, BitVec.getLsbD_xor]
theorem b_big {x : Int32} {i : Nat} (h : 32 ≤ i) : bt x i = false := BitVec.getLsbD_of_ge _ _ h
theorem b_255 (i : Nat) : bt 255 i = decide (i < 8) := by
  rcases Nat.lt_or_ge i 32 with h | h
  · exact (by decide +kernel : ∀ i, i < 32 → bt 255 i = decide (i < 8)) i h
  · rw [b_big h, decide_eq_false (by omega)]
theorem b_65535 (i : Nat) : bt 65535 i = decide (i < 16) := by
  rcases Nat.lt_or_ge i 32 with h | h
  · exact (by decide +kernel : ∀ i, i < 32 → bt 65535 i = decide (i < 16)) i h
  · rw [b_big h, decide_eq_false (by omega)]
theorem b_m1 : ∀ i, i < 32 → bt (-1) i = true := by decide +kernel
theorem b_0 (i : Nat) : bt 0 i = false := BitVec.getLsbD_zero
theorem s_l : ∀ n, n < 32 → ((nI n &&& 31).toBitVec.smod 32).toNat = n := by decide +kernel
theorem s_u : ∀ n, n < 32 → (((nI n).toUInt32 &&& Int32.toUInt32 31).toBitVec % 32).toNat = n := by decide +kernel
theorem b_shl (n : Nat) (hn : n < 32) (x : Int32) {i : Nat} (hi : i < 32) : bt (x <<< (nI n &&& 31)) i = (decide (n ≤ i) && bt x (i - n)) := by
  unfold bt
  rw [Int32.toBitVec_shiftLeft]
  show (x.toBitVec <<< ((nI n &&& 31).toBitVec.smod 32).toNat).getLsbD i = _
  rw [s_l n hn, BitVec.getLsbD_shiftLeft]
  rcases Nat.lt_or_ge i n with h | h
  · simp [h, Nat.not_le.mpr h]
  · simp [hi, h, Nat.not_lt.mpr h]
theorem b_ushr (n : Nat) (hn : n < 32) (x : Int32) (i : Nat) : bt ((x.toUInt32 >>> ((nI n).toUInt32 &&& Int32.toUInt32 31)).toInt32) i = bt x (n + i) := by
  show (x.toUInt32 >>> ((nI n).toUInt32 &&& Int32.toUInt32 31)).toBitVec.getLsbD i = x.toUInt32.toBitVec.getLsbD (n + i)
  rw [UInt32.toBitVec_shiftRight]
  show (x.toUInt32.toBitVec >>> (((nI n).toUInt32 &&& Int32.toUInt32 31).toBitVec % 32).toNat).getLsbD i = _
  rw [s_u n hn, BitVec.getLsbD_ushiftRight]
/-! ===== nI under and, xor, >>>, one bit, 65535 ===== -/
theorem nx_and (a b : Nat) : nI a &&& nI b = nI (a &&& b) := by
  apply Int32.toBitVec_inj.1
  show BitVec.ofNat 32 a &&& BitVec.ofNat 32 b = BitVec.ofNat 32 (a &&& b)
  apply BitVec.eq_of_getLsbD_eq
  intro i hi
  simp [hi]
theorem nx_xor (a b : Nat) : nI a ^^^ nI b = nI (a ^^^ b) := by
  apply Int32.toBitVec_inj.1
  show BitVec.ofNat 32 a ^^^ BitVec.ofNat 32 b = BitVec.ofNat 32 (a ^^^ b)
  apply BitVec.eq_of_getLsbD_eq
  intro i hi
  simp [hi]
theorem nx_mod (k : Nat) : nI k &&& 65535 = nI (k % 65536) := by
  show nI k &&& nI 65535 = _
  rw [nx_and, show (65535 : Nat) = 2 ^ 16 - 1 from rfl, Nat.and_two_pow_sub_one_eq_mod]
theorem nx_m16 {k : Nat} (h : k < 65536) : nI k &&& 65535 = nI k := by rw [nx_mod, Nat.mod_eq_of_lt h]
theorem nx_mask (x : Int32) : ∃ k, k < 65536 ∧ x &&& 65535 = nI k := by
  have e : x = nI x.toBitVec.toNat := by
    apply Int32.toBitVec_inj.1
    show x.toBitVec = BitVec.ofNat 32 x.toBitVec.toNat
    simp
  refine ⟨x.toBitVec.toNat % 65536, Nat.mod_lt _ (by omega), ?_⟩
  rw [← nx_mod, ← e]
end
section
/-! ===== the code, with no program in sight: syndrome, ones, data places ===== -/
def cf_n (b : Bool) : Nat := if b then 1 else 0
theorem cf_nb : ∀ b : Bool, ∀ i, i < 32 → bt (nI (cf_n b)) i = (decide (i = 0) && b) := by decide +kernel
theorem cf_1b : ∀ i, i < 32 → bt 1 i = decide (i = 0) := by decide +kernel
theorem cf_n0 (b : Bool) : nI (cf_n b) = 0 ↔ b = false := by cases b <;> decide
theorem cf_nlt (b : Bool) : cf_n b ≤ 1 := by cases b <;> decide
/-- one bit, as the program takes it -/
theorem cf_one (x : Int32) (k : Nat) (hk : k < 32) : (x.toUInt32 >>> ((nI k).toUInt32 &&& Int32.toUInt32 31)).toInt32 &&& 1 = nI (cf_n (bt x k)) := by
  apply b_ext
  intro i hi
  rw [b_and, b_ushr k hk, cf_1b i hi, cf_nb _ i hi]
  by_cases h : i = 0
  · subst h
    simp
  · simp [h]
theorem cf_put : ∀ b : Bool, ∀ p, p < 32 → ∀ i, i < 32 → bt (nI (cf_n b) <<< (nI p &&& 31)) i = (decide (i = p) && b) := by
  intro b p hp i hi
  rw [b_shl p hp _ hi]
  by_cases h : p ≤ i
  · rw [cf_nb b (i - p) (by omega)]
    by_cases e : i = p
    · subst e
      simp
    · rw [decide_eq_false (show ¬ i - p = 0 by omega), decide_eq_false e]
      simp
  · rw [decide_eq_false h, decide_eq_false (show ¬ i = p by omega)]
    simp
theorem cf_xor_self (x : Int32) : x ^^^ x = 0 := by
  apply b_ext
  intro i _
  rw [b_xor, b_0]
  cases bt x i <;> rfl
theorem cf_xor_0 (x : Int32) : x ^^^ 0 = x := by
  apply b_ext
  intro i _
  rw [b_xor, b_0]
  cases bt x i <;> rfl
theorem cf_0_xor (x : Int32) : 0 ^^^ x = x := by
  apply b_ext
  intro i _
  rw [b_xor, b_0]
  cases bt x i <;> rfl
theorem cf_xor_back (x y : Int32) : x ^^^ y ^^^ y = x := by
  apply b_ext
  intro i _
  rw [b_xor, b_xor]
  cases bt x i <;> cases bt y i <;> rfl
theorem cf_or_xor {x y : Int32} (h : ∀ i, i < 32 → bt x i = false ∨ bt y i = false) : x ||| y = x ^^^ y := by
  apply b_ext
  intro i hi
  rw [b_or, b_xor]
  rcases h i hi with e | e <;> rw [e]
  · cases bt y i <;> rfl
  · cases bt x i <;> rfl
theorem cf_or_assoc (x y z : Int32) : x ||| y ||| z = x ||| (y ||| z) := by
  apply b_ext
  intro i _
  rw [b_or, b_or, b_or, b_or, Bool.or_assoc]
/-- the exclusive-or of the places 1..n that hold a one -/
def cf_sy (x : Int32) : Nat → Int32
  | 0 => 0
  | n + 1 => cf_sy x n ^^^ (if bt x (n + 1) = true then nI (n + 1) else 0)
theorem cf_sy_xor (x y : Int32) (n : Nat) : cf_sy (x ^^^ y) n = cf_sy x n ^^^ cf_sy y n := by
  induction n with
  | zero => exact (cf_xor_0 0).symm
  | succ n ih =>
    show cf_sy (x ^^^ y) n ^^^ _ = (cf_sy x n ^^^ _) ^^^ (cf_sy y n ^^^ _)
    rw [ih, b_xor]
    generalize cf_sy x n = a
    generalize cf_sy y n = b
    generalize nI (n + 1) = c
    apply b_ext
    intro i _
    cases bt x (n + 1) <;> cases bt y (n + 1) <;> simp only [Bool.xor_false, Bool.xor_true, Bool.not_false, Bool.not_true, Bool.false_eq_true, if_true, if_false, b_xor, b_0] <;> cases bt a i <;> cases bt b i <;> cases bt c i <;> rfl
theorem cf_sy_eq {x y : Int32} (n : Nat) (h : ∀ i, 1 ≤ i → i ≤ n → bt x i = bt y i) : cf_sy x n = cf_sy y n := by
  induction n with
  | zero => rfl
  | succ n ih =>
    show cf_sy x n ^^^ _ = cf_sy y n ^^^ _
    rw [ih (fun i a b => h i a (by omega)), h (n + 1) (by omega) (by omega)]
theorem cf_sy_lt (x : Int32) (n : Nat) (hn : n < 32) : ∃ m, m < 32 ∧ cf_sy x n = nI m := by
  induction n with
  | zero => exact ⟨0, by omega, rfl⟩
  | succ n ih =>
    obtain ⟨m, hm, e⟩ := ih (by omega)
    show ∃ m, m < 32 ∧ cf_sy x n ^^^ _ = nI m
    rw [e]
    cases bt x (n + 1)
    · exact ⟨m, hm, cf_xor_0 _⟩
    · exact ⟨m ^^^ (n + 1), Nat.xor_lt_two_pow (n := 5) hm hn, nx_xor m (n + 1)⟩
/-- how many of the bits 0..n-1 are ones -/
def cf_on (x : Int32) : Nat → Nat
  | 0 => 0
  | n + 1 => cf_on x n + cf_n (bt x n)
theorem cf_on_le (x : Int32) (n : Nat) : cf_on x n ≤ n := by
  induction n with
  | zero => exact Nat.le_refl 0
  | succ n ih =>
    show cf_on x n + cf_n (bt x n) ≤ n + 1
    have := cf_nlt (bt x n)
    omega
theorem cf_on_xor (x y : Int32) (n : Nat) : cf_on (x ^^^ y) n % 2 = (cf_on x n + cf_on y n) % 2 := by
  induction n with
  | zero => rfl
  | succ n ih =>
    show (cf_on (x ^^^ y) n + cf_n (bt (x ^^^ y) n)) % 2 = (cf_on x n + cf_n (bt x n) + (cf_on y n + cf_n (bt y n))) % 2
    rw [b_xor]
    generalize cf_on (x ^^^ y) n = a at ih ⊢
    generalize cf_on x n = b at ih ⊢
    generalize cf_on y n = c at ih ⊢
    have n0 : cf_n false = 0 := rfl
    have n1 : cf_n true = 1 := rfl
    cases bt x n <;> cases bt y n <;> simp only [Bool.xor_false, Bool.xor_true, Bool.not_false, Bool.not_true, n0, n1] <;> omega
/-- the data places in order; how many lie below i -/
def cf_pl (j : Nat) : Nat := [3, 5, 6, 7, 9, 10, 11, 12, 13, 14, 15, 17, 18, 19, 20, 21].getD j 0
def cf_dd (i : Nat) : Bool := [3, 5, 6, 7, 9, 10, 11, 12, 13, 14, 15, 17, 18, 19, 20, 21].contains i
def cf_kk (i : Nat) : Nat := ([3, 5, 6, 7, 9, 10, 11, 12, 13, 14, 15, 17, 18, 19, 20, 21].filter (fun j => decide (j < i))).length
theorem cf_chk : ∀ p, p < 22 → 1 ≤ p → ((nI p &&& (nI p - 1)) = 0 ↔ cf_dd p = false) := by decide +kernel
theorem cf_k1 : ∀ p, p < 22 → cf_dd p = true → cf_kk (p + 1) = cf_kk p + 1 ∧ cf_kk p < 16 ∧ cf_pl (cf_kk p) = p := by decide +kernel
theorem cf_k0 : ∀ p, p < 22 → cf_dd p = false → cf_kk (p + 1) = cf_kk p := by decide +kernel
theorem cf_p1 : ∀ j, j < 16 → cf_dd (cf_pl j) = true ∧ cf_kk (cf_pl j) = j ∧ cf_pl j < 22 ∧ 1 ≤ cf_pl j := by decide +kernel
theorem cf_d0 : cf_dd 0 = false := by decide +kernel
/-- what the first loop of encode has at place p -/
def cf_I1 (v : Int32) (p : Nat) (c : Int32) : Prop := ∀ i, i < 32 → bt c i = (decide (i < p) && cf_dd i && bt v (cf_kk i))
theorem cf_I1_0 (v : Int32) : cf_I1 v 1 0 := by
  intro i hi
  rw [b_0]
  by_cases h : i < 1
  · rw [show i = 0 by omega, cf_d0]
    simp
  · rw [decide_eq_false h]
    rfl
theorem cf_I1_f {v c : Int32} {p : Nat} (h : cf_I1 v p c) (hd : cf_dd p = false) : cf_I1 v (p + 1) c := by
  intro i hi
  rw [h i hi]
  by_cases e : i = p
  · subst e
    rw [hd]
    simp
  · rw [show decide (i < p + 1) = decide (i < p) from decide_eq_decide.mpr (by omega)]
theorem cf_I1_t {v c : Int32} {p : Nat} (hp : p < 22) (h : cf_I1 v p c) (hd : cf_dd p = true) : cf_I1 v (p + 1) (c ||| nI (cf_n (bt v (cf_kk p))) <<< (nI p &&& 31)) := by
  intro i hi
  rw [b_or, h i hi, cf_put _ p (by omega) i hi]
  by_cases e : i = p
  · subst e
    rw [hd, decide_eq_false (Nat.lt_irrefl i), decide_eq_true (Nat.lt_succ_self i), decide_eq_true rfl]
    simp
  · rw [show decide (i < p + 1) = decide (i < p) from decide_eq_decide.mpr (by omega), decide_eq_false e]
    simp
/-- the check bits of s, at the places 1, 2, 4, 8, 16 -/
def cf_ck (s : Int32) : Nat → Int32
  | 0 => 0
  | b + 1 => cf_ck s b ||| nI (cf_n (bt s b)) <<< (nI (2 ^ b) &&& 31)
theorem cf_ck_sy : ∀ m, m < 32 → cf_sy (cf_ck (nI m) 5) 21 = nI m := by decide +kernel
theorem cf_ck_d : ∀ m, m < 32 → ∀ i, i < 32 → (cf_dd i = true ∨ i = 0) → bt (cf_ck (nI m) 5) i = false := by decide +kernel
/-- a code word for v -/
def cf_Good (v c : Int32) : Prop := cf_sy c 21 = 0 ∧ cf_on c 22 % 2 = 0 ∧ ∀ j, j < 16 → bt c (cf_pl j) = bt v j
theorem cf_e01 : ∀ e, e < 2 → cf_on (nI e) 22 = e := by decide +kernel
theorem cf_e01b : ∀ e, e < 2 → ∀ i, i < 32 → 1 ≤ i → bt (nI e) i = false := by decide +kernel
theorem cf_good {v c1 : Int32} (h : cf_I1 v 22 c1) : cf_Good v ((c1 ||| cf_ck (cf_sy c1 21) 5) ||| (nI (cf_on (c1 ||| cf_ck (cf_sy c1 21) 5) 22) &&& 1)) := by
  obtain ⟨m, hm, em⟩ := cf_sy_lt c1 21 (by omega)
  have hx : c1 ||| cf_ck (cf_sy c1 21) 5 = c1 ^^^ cf_ck (cf_sy c1 21) 5 := by
    apply cf_or_xor
    intro i hi
    cases hd : cf_dd i
    · left
      rw [h i hi, hd]
      simp
    · right
      rw [em]
      exact cf_ck_d m hm i hi (Or.inl hd)
  have hs : cf_sy (c1 ||| cf_ck (cf_sy c1 21) 5) 21 = 0 := by
    rw [hx, cf_sy_xor, em, cf_ck_sy m hm]
    exact cf_xor_self _
  have h0 : bt (c1 ||| cf_ck (cf_sy c1 21) 5) 0 = false := by
    rw [b_or, h 0 (by omega), cf_d0, em, cf_ck_d m hm 0 (by omega) (Or.inr rfl)]
    simp
  have hb : ∀ j, j < 16 → bt (c1 ||| cf_ck (cf_sy c1 21) 5) (cf_pl j) = bt v j := by
    intro j hj
    obtain ⟨d1, d2, d3, d4⟩ := cf_p1 j hj
    rw [b_or, h (cf_pl j) (by omega), em, cf_ck_d m hm (cf_pl j) (by omega) (Or.inl d1), d1, d2, decide_eq_true d3]
    simp
  generalize c1 ||| cf_ck (cf_sy c1 21) 5 = c at hs h0 hb
  have hle := cf_on_le c 22
  have ea : nI (cf_on c 22) &&& 1 = nI (cf_on c 22 % 2) := pk_andN (by omega) 1 (by decide)
  rw [ea]
  have he : cf_on c 22 % 2 < 2 := Nat.mod_lt _ (by omega)
  have ex : c ||| nI (cf_on c 22 % 2) = c ^^^ nI (cf_on c 22 % 2) := by
    apply cf_or_xor
    intro i hi
    by_cases e : i = 0
    · left
      rw [e, h0]
    · right
      exact cf_e01b _ he i hi (by omega)
  refine ⟨?_, ?_, fun j hj => ?_⟩
  · rw [← hs]
    apply cf_sy_eq
    intro i i1 i2
    rw [b_or, cf_e01b _ he i (by omega) i1]
    simp
  · rw [ex, cf_on_xor, cf_e01 _ he]
    omega
  · obtain ⟨d1, d2, d3, d4⟩ := cf_p1 j hj
    rw [b_or, cf_e01b _ he (cf_pl j) (by omega) d4, hb j hj]
    simp
/-- what the loop of decode has at place p -/
def cf_I2 (x : Int32) (p : Nat) (v : Int32) : Prop := ∀ j, j < 32 → bt v j = (decide (j < cf_kk p) && bt x (cf_pl j))
theorem cf_I2_0 (x : Int32) : cf_I2 x 1 0 := by
  intro j hj
  rw [b_0, show cf_kk 1 = 0 by decide +kernel]
  simp
theorem cf_I2_f {x v : Int32} {p : Nat} (hp : p < 22) (h : cf_I2 x p v) (hd : cf_dd p = false) : cf_I2 x (p + 1) v := by
  intro j hj
  rw [h j hj, cf_k0 p hp hd]
theorem cf_I2_t {x v : Int32} {p : Nat} (hp : p < 22) (h : cf_I2 x p v) (hd : cf_dd p = true) : cf_I2 x (p + 1) (v ||| nI (cf_n (bt x p)) <<< (nI (cf_kk p) &&& 31)) := by
  intro j hj
  obtain ⟨k1, k2, k3⟩ := cf_k1 p hp hd
  rw [b_or, h j hj, cf_put _ (cf_kk p) (by omega) j hj, k1]
  by_cases e : j = cf_kk p
  · rw [e, k3, decide_eq_false (Nat.lt_irrefl _), decide_eq_true (Nat.lt_succ_self _), decide_eq_true rfl]
    simp
  · rw [show decide (j < cf_kk p + 1) = decide (j < cf_kk p) from decide_eq_decide.mpr (by omega), decide_eq_false e]
    simp
theorem cf_I2_v {v c w : Int32} (hv : ∀ j, 16 ≤ j → bt v j = false) (hg : ∀ j, j < 16 → bt c (cf_pl j) = bt v j) (h : cf_I2 c 22 w) : w = v := by
  apply b_ext
  intro j hj
  rw [h j hj, show cf_kk 22 = 16 by decide +kernel]
  by_cases e : j < 16
  · rw [decide_eq_true e, hg j e]
    rfl
  · rw [decide_eq_false e, hv j (by omega)]
    rfl
theorem cf_m16 (x : Int32) : ∀ j, 16 ≤ j → bt (x &&& 65535) j = false := by
  intro j hj
  rw [b_and, b_65535, decide_eq_false (by omega)]
  simp
/-- one turned bit -/
theorem cf_t_sy : ∀ b, b < 22 → cf_sy ((1 : Int32) <<< (nI b &&& 31)) 21 = nI b := by decide +kernel
theorem cf_t_on : ∀ b, b < 22 → cf_on ((1 : Int32) <<< (nI b &&& 31)) 22 = 1 := by decide +kernel
end
section
/-! ===== the walks of the static methods ===== -/
theorem cf_oneI (x : Int32) (k : Nat) (hk : k < 32) : (x.toUInt32 >>> ((nI k).toUInt32 &&& Int32.toUInt32 31)).toInt32 &&& 1 = 0 ↔ bt x k = false := by
  rw [cf_one x k hk]
  exact cf_n0 _
theorem cf_or_0 (c : Int32) : c ||| 0 = c := by
  apply b_ext
  intro i _
  rw [b_or, b_0, Bool.or_false]
theorem cf_sec_t {post : Int32 → Prop} {u : St0} {s : Nat} (hs : s < 16) (h : post 1) : wpX_isSector post u (nI s) :=
  pk_lt s 0 (fun z => absurd z (by omega)) (fun _ => pk_lt 15 s (fun z => absurd z (by omega)) (fun _ => h))
theorem cf_sec_f {post : Int32 → Prop} {u : St0} {p : Int32} (hp : p < 0 ∨ 15 < p) (h : post 0) : wpX_isSector post u p := by
  unfold wpX_isSector
  refine br_c (fun _ => h) (fun z => br_t ?_ h)
  rcases hp with g | g
  · exact absurd g z
  · exact g
theorem cf_syn {post : Int32 → Prop} {u : St0} {x : Int32} (h : post (cf_sy x 21)) : wpX_syndrome post u x := by
  refine pk_loop (σ := Unit) (fun n i _ => wX_syndrome_4 post x n (cf_sy x i) (nI (i + 1))) (fun _ _ => True) 21 0 () (by omega) trivial ?_ ?_
  · intro n _ _
    exact pk_le 22 22 (fun _ => h) (fun z => absurd z (by omega))
  · intro n i _ hi _ hw
    have t : wX_syndrome_4 post x n (cf_sy x (i + 1)) (nI (i + 1 + 1)) := hw () trivial
    refine pk_le 22 (i + 1) (fun z => absurd z (by omega)) (fun _ => ek_if (cf_oneI x (i + 1) (by omega)) (fun e => ?_) (fun e => ?_))
    · refine nm_r (e' := cf_sy x (i + 1)) ?_ (nm_r (nI_1 (i + 1)) t)
      rw [cf_sy, e]
      rfl
    · refine nm_r (e' := cf_sy x (i + 1)) ?_ (nm_r (nI_1 (i + 1)) t)
      rw [cf_sy, eq_true_of_ne_false e]
      rfl
theorem cf_ones {post : Int32 → Prop} {u : St0} {x : Int32} (h : post (nI (cf_on x 22))) : wpX_ones post u x := by
  refine pk_loop (σ := Unit) (fun n i _ => wX_ones_4 post x n (nI (cf_on x i)) (nI i)) (fun _ _ => True) 22 0 () (by omega) trivial ?_ ?_
  · intro n _ _
    exact pk_le 22 22 (fun _ => h) (fun z => absurd z (by omega))
  · intro n i _ hi _ hw
    refine pk_le 22 i (fun z => absurd z (by omega)) (fun _ => nm_r (e' := nI (cf_on x (i + 1))) ?_ (nm_r (nI_1 i) (hw () trivial)))
    rw [cf_one x i (by omega), nI_add]
    rfl
theorem cf_isC {post : Int32 → Prop} {u : St0} {p : Nat} (hp : p < 22) (h1 : 1 ≤ p) (a : cf_dd p = false → post 1) (b : cf_dd p = true → post 0) : wpX_isCheck post u (nI p) :=
  ek_if (cf_chk p hp h1) a (fun z => b (eq_true_of_ne_false z))
theorem cf_sh5 : ∀ i, i < 5 → (1 : Int32) <<< (nI i &&& 31) = nI (2 ^ i) := by decide +kernel
theorem cf_e46 {post : Int32 → Prop} {s c : Int32} (h : post ((c ||| cf_ck s 5) ||| (nI (cf_on (c ||| cf_ck s 5) 22) &&& 1))) : ∃ n, wX_encode_46 post s n c 0 := by
  refine Exists.elim (pk_loop (σ := Unit) (fun n i _ => wX_encode_46 post s n (c ||| cf_ck s i) (nI i)) (fun _ _ => True) 5 0 () (by omega) trivial ?_ ?_) (fun n hn => ⟨n, ?_⟩)
  · intro n _ _
    exact pk_le 5 5 (fun _ => cf_ones h) (fun z => absurd z (by omega))
  · intro n i _ hi _ hw
    refine pk_le 5 i (fun z => absurd z (by omega)) (fun _ => nm_r (e' := c ||| cf_ck s (i + 1)) ?_ (nm_r (nI_1 i) (hw () trivial)))
    rw [cf_one s i (by omega), cf_sh5 i hi]
    exact cf_or_assoc _ _ _
  · have hn' : wX_encode_46 post s n (c ||| 0) (nI 0) := hn
    rw [cf_or_0] at hn'
    exact hn'
theorem cf_kk1 : cf_kk 1 = 0 := by decide +kernel
theorem cf_enc {post : Int32 → Prop} {u : St0} {v : Int32} (h : ∀ c, cf_Good v c → post c) : wpX_encode post u v := by
  unfold wpX_encode
  refine Exists.elim (pk_loop (fun n i (s : Int32) => wX_encode_6 post v n s (nI (cf_kk (i + 1))) (nI (i + 1))) (fun i s => cf_I1 v (i + 1) s) 21 0 0 (by omega) (cf_I1_0 v) ?_ ?_) (fun n hn => ⟨n, ?_⟩)
  · intro n c hc
    exact pk_le 22 22 (fun _ => cf_syn (cf_e46 (h _ (cf_good hc)))) (fun z => absurd z (by omega))
  · intro n i c hi hc hw
    refine pk_le 22 (i + 1) (fun z => absurd z (by omega)) (fun _ => cf_isC (by omega) (by omega) (fun d => ?_) (fun d => ?_))
    · have t : wX_encode_6 post v n c (nI (cf_kk (i + 1 + 1))) (nI (i + 1 + 1)) := hw c (cf_I1_f hc d)
      rw [cf_k0 (i + 1) (by omega) d] at t
      exact br_f (by decide) (nm_r (nI_1 (i + 1)) t)
    · have k := cf_k1 (i + 1) (by omega) d
      have t : wX_encode_6 post v n (c ||| nI (cf_n (bt v (cf_kk (i + 1)))) <<< (nI (i + 1) &&& 31)) (nI (cf_kk (i + 1 + 1))) (nI (i + 1 + 1)) := hw _ (cf_I1_t (by omega) hc d)
      rw [k.1] at t
      refine br_t rfl (nm_r (e' := c ||| nI (cf_n (bt v (cf_kk (i + 1)))) <<< (nI (i + 1) &&& 31)) ?_ (nm_r (nI_1 _) (nm_r (nI_1 (i + 1)) t)))
      rw [cf_one v (cf_kk (i + 1)) (by omega)]
  · have hn' : wX_encode_6 post v n 0 (nI (cf_kk 1)) (nI 1) := hn
    rw [cf_kk1] at hn'
    exact hn'
theorem cf_d54 {post : Int32 → Prop} {x : Int32} (h : ∀ w, cf_I2 x 22 w → post w) : ∃ n, wX_decode_54 post x n 0 0 1 := by
  refine Exists.elim (pk_loop (fun n i (s : Int32) => wX_decode_54 post x n s (nI (cf_kk (i + 1))) (nI (i + 1))) (fun i s => cf_I2 x (i + 1) s) 21 0 0 (by omega) (cf_I2_0 x) ?_ ?_) (fun n hn => ⟨n, ?_⟩)
  · intro n c hc
    exact pk_le 22 22 (fun _ => h _ hc) (fun z => absurd z (by omega))
  · intro n i c hi hc hw
    refine pk_le 22 (i + 1) (fun z => absurd z (by omega)) (fun _ => cf_isC (by omega) (by omega) (fun d => ?_) (fun d => ?_))
    · have t : wX_decode_54 post x n c (nI (cf_kk (i + 1 + 1))) (nI (i + 1 + 1)) := hw c (cf_I2_f (by omega) hc d)
      rw [cf_k0 (i + 1) (by omega) d] at t
      exact br_f (by decide) (nm_r (nI_1 (i + 1)) t)
    · have k := cf_k1 (i + 1) (by omega) d
      have t : wX_decode_54 post x n (c ||| nI (cf_n (bt x (i + 1))) <<< (nI (cf_kk (i + 1)) &&& 31)) (nI (cf_kk (i + 1 + 1))) (nI (i + 1 + 1)) := hw _ (cf_I2_t (by omega) hc d)
      rw [k.1] at t
      refine br_t rfl (nm_r (e' := c ||| nI (cf_n (bt x (i + 1))) <<< (nI (cf_kk (i + 1)) &&& 31)) ?_ (nm_r (nI_1 _) (nm_r (nI_1 (i + 1)) t)))
      rw [cf_one x (i + 1) (by omega)]
  · have hn' : wX_decode_54 post x n 0 (nI (cf_kk 1)) (nI 1) := hn
    rw [cf_kk1] at hn'
    exact hn'
theorem cf_par (x : Int32) : nI (cf_on x 22) &&& 1 = nI (cf_on x 22 % 2) :=
  pk_andN (Nat.lt_of_le_of_lt (cf_on_le x 22) (by omega)) 1 (by decide)
/-- a code word as it is -/
theorem cf_dec0 {post : Int32 → Prop} {u : St0} {v c : Int32} (hv : ∀ j, 16 ≤ j → bt v j = false) (g : cf_Good v c) (h : post v) : wpX_decode post u c := by
  obtain ⟨g1, g2, g3⟩ := g
  unfold wpX_decode
  refine cf_syn (cf_ones (br_t ?_ ?_))
  · rw [cf_par, g2]
    rfl
  · rw [g1]
    unfold wX_decode_19
    refine br_t rfl (br_t rfl ?_)
    unfold wX_decode_31
    exact br_t rfl (cf_d54 (fun w hw => by rw [cf_I2_v hv g3 hw]; exact h))
/-- a code word with one bit turned -/
theorem cf_dec1 {post : Int32 → Prop} {u : St0} {v c : Int32} {b : Nat} (hb : b < 22) (hv : ∀ j, 16 ≤ j → bt v j = false) (g : cf_Good v c) (h : post v) : wpX_decode post u (c ^^^ (1 : Int32) <<< (nI b &&& 31)) := by
  obtain ⟨g1, g2, g3⟩ := g
  unfold wpX_decode
  refine cf_syn (cf_ones (br_f ?_ ?_))
  · rw [cf_par, cf_on_xor, cf_t_on b hb, show (cf_on c 22 + 1) % 2 = 1 by omega]
    decide
  · rw [cf_sy_xor, g1, cf_t_sy b hb, cf_0_xor]
    unfold wX_decode_19
    refine br_f (by decide) ?_
    unfold wX_decode_31
    exact br_f (by decide) (nm_r (cf_xor_back c _) (cf_d54 (fun w hw => by rw [cf_I2_v hv g3 hw]; exact h)))
end
section
/-! ===== the walks of the methods over the flash ===== -/
def cf_Z : Nat → Int32 := fun _ => 0
theorem cf_fc97 {post : St2 → Prop} {ns : Int64} {a2 : Nat → Int32} {a3 : Nat → Int64} {a4 a5 a6 : Nat → Int32} (h : post (0, 0, ns, cf_Z, a2, a3, a4, a5, a6)) : ∃ n, wX_findCurrent_97 post 0 ns cf_Z a2 a3 a4 a5 a6 n (nI 0) 0 := by
  refine pk_loop (σ := Unit) (fun n i _ => wX_findCurrent_97 post 0 ns cf_Z a2 a3 a4 a5 a6 n (nI i) 0) (fun _ _ => True) 4 0 () (by omega) trivial ?_ ?_
  · intro n _ _
    exact pk_le 4 4 (fun _ => h) (fun z => absurd z (by omega))
  · intro n i _ hi _ hw
    exact pk_le 4 i (fun z => absurd z (by omega)) (fun _ => ⟨pk_in i 32 (by omega), br_t rfl (nm_r (e' := 0) (by decide) (nm_r (nI_1 i) (hw () trivial)))⟩)
theorem cf_fc49 {post : St2 → Prop} {ns : Int64} {a2 : Nat → Int32} {a3 : Nat → Int64} {a4 a5 a6 : Nat → Int32} (h : post (0, 0, ns, cf_Z, a2, a3, a4, a5, a6)) : ∃ n, wX_findCurrent_49 post 0 ns cf_Z a2 a3 a4 a5 a6 n 0 0 := by
  refine pk_loop (σ := Unit) (fun n i _ => wX_findCurrent_49 post 0 ns cf_Z a2 a3 a4 a5 a6 n (nI i) 0) (fun _ _ => True) 8 0 () (by omega) trivial ?_ ?_
  · intro n _ _
    exact pk_le 8 8 (fun _ => nm_r (e' := nI 0) (by decide) (cf_fc97 h)) (fun z => absurd z (by omega))
  · intro n i _ hi _ hw
    exact pk_le 8 i (fun z => absurd z (by omega)) (fun _ => ⟨pk_in (4 * i) 32 (by omega) (pk_mul 4 i), br_t rfl (nm_r (nI_1 i) (hw () trivial))⟩)
theorem cf_fc {post : St2 → Prop} {cu fi : Int32} {ns : Int64} {a2 : Nat → Int32} {a3 : Nat → Int64} {a4 a5 a6 : Nat → Int32} (h : post (0, 0, ns, cf_Z, a2, a3, a4, a5, a6)) : wpX_findCurrent post (cu, fi, ns, cf_Z, a2, a3, a4, a5, a6) := by
  refine pk_loop (σ := Unit) (fun n i _ => wX_findCurrent_12 post 0 ns cf_Z a2 a3 a4 a5 a6 n (nI i) 0) (fun _ _ => True) 8 0 () (by omega) trivial ?_ ?_
  · intro n _ _
    exact pk_le 8 8 (fun _ => cf_fc49 h) (fun z => absurd z (by omega))
  · intro n i _ hi _ hw
    exact pk_le 8 i (fun z => absurd z (by omega)) (fun _ => ⟨pk_in (4 * i) 32 (by omega) (pk_mul 4 i), br_t rfl (nm_r (nI_1 i) (hw () trivial))⟩)
theorem cf_pw28 {post : St2 → Prop} {cu fi : Int32} {ns : Int64} {a2 : Nat → Int32} {a3 : Nat → Int64} {a4 a5 a6 : Nat → Int32} (h : post (0, 0, ns, cf_Z, a2, a3, a4, a5, a6)) : ∃ n, wX_power_28 post cu fi n 0 ns cf_Z a2 a3 a4 a5 a6 := by
  refine pk_loop (σ := Unit) (fun n i _ => wX_power_28 post cu fi n (nI i) ns cf_Z a2 a3 a4 a5 a6) (fun _ _ => True) 32 0 () (by omega) trivial ?_ ?_
  · intro n _ _
    exact pk_le 32 32 (fun _ => cf_fc h) (fun z => absurd z (by omega))
  · intro n i _ hi _ hw
    exact pk_le 32 i (fun z => absurd z (by omega)) (fun _ => ⟨pk_in i 32 (by omega), br_t rfl (nm_r (nI_1 i) (hw () trivial))⟩)
theorem cf_power {post : St2 → Prop} {cu fi : Int32} {ns : Int64} {a2 : Nat → Int32} {a3 : Nat → Int64} {a4 a5 a6 : Nat → Int32} (h : ∀ a : Nat → Int32, (∀ j, j < 16 → a j = -1) → post (0, 0, 1, cf_Z, a2, a3, a4, a5, a)) : wpX_power post (cu, fi, ns, cf_Z, a2, a3, a4, a5, a6) := by
  refine pk_loop (fun n i s => wX_power_7 post cu fi 1 n (nI i) cf_Z a2 a3 a4 a5 s) (fun i s => ∀ j, j < i → s j = -1) 16 0 a6 (by omega) (fun j hj => absurd hj (by omega)) ?_ ?_
  · intro n s hs
    exact pk_le 16 16 (fun _ => cf_pw28 (h s hs)) (fun z => absurd z (by omega))
  · intro n i s hi hs hw
    refine pk_le 16 i (fun z => absurd z (by omega)) (fun _ => ⟨pk_in i 16 (by omega), nm_r (e' := upd s i (-1)) (by rw [nI_clamp (by omega)]) (nm_r (nI_1 i) (hw _ (fun j hj => ?_)))⟩)
    by_cases e : j = i
    · rw [e, pk_us]
    · rw [pk_un e]
      exact hs j (by omega)
theorem cf_init {post : St2 → Prop} (h : ∀ a : Nat → Int32, (∀ j, j < 16 → a j = -1) → post (0, 0, 1, cf_Z, cf_Z, (fun _ => 0), cf_Z, cf_Z, a)) : wpX_init post 6 176 (0, 0, 0) :=
  ⟨by omega, by omega, by omega, by omega, by omega, by omega, by omega, by omega, by omega, by omega, by omega, by omega, cf_power h⟩
/-- a page is written at page k of block 0 -/
theorem cf_pt {post : St2 → Prop} {k s : Nat} {ns : Int64} {a1 a2 : Nat → Int32} {a3 : Nat → Int64} {a4 a5 a6 : Nat → Int32} {p1 p2 p3 : Int32} (hk : k < 4) (hs : s < 16) (h : post (0, nI (k + 1), ns + 1, upd a1 k p1, upd a2 k (nI s), vp_updL a3 k ns, upd a4 k p2, upd a5 k p3, upd a6 s (nI k))) : wpX_put post (0, nI k, ns, a1, a2, a3, a4, a5, a6) (nI s) p1 p2 p3 := by
  have ek : (nI k).toNatClampNeg = k := nI_clamp (by omega)
  have es : (nI s).toNatClampNeg = s := nI_clamp (by omega)
  have v : vp_in (nI k) 32 := pk_in k 32 (by omega)
  refine nm_r (e' := nI k) ?_ ⟨v, nm_r (e' := upd a1 k p1) (by rw [ek]) ⟨v, nm_r (e' := upd a2 k (nI s)) (by rw [ek]) ⟨v, nm_r (e' := vp_updL a3 k ns) (by rw [ek]) ⟨v, nm_r (e' := upd a4 k p2) (by rw [ek]) ⟨v, nm_r (e' := upd a5 k p3) (by rw [ek]) (nm_e (nm_r (nI_1 k) ⟨pk_in s 16 hs, nm_r (e' := upd a6 s (nI k)) (by rw [es]) h⟩))⟩⟩⟩⟩⟩
  show nI (4 * 0) + nI k = nI k
  rw [nI_add, Nat.mul_zero, Nat.zero_add]
theorem cf_pg {post : St2 → Prop} {k s : Nat} {ns : Int64} {a1 a2 : Nat → Int32} {a3 : Nat → Int64} {a4 a5 a6 : Nat → Int32} {p1 p2 p3 : Int32} (hk : k < 4) (hs : s < 16) (h : post (0, nI (k + 1), ns + 1, upd a1 k p1, upd a2 k (nI s), vp_updL a3 k ns, upd a4 k p2, upd a5 k p3, upd a6 s (nI k))) : wpX_program post (0, nI k, ns, a1, a2, a3, a4, a5, a6) (nI s) p1 p2 p3 := by
  refine pk_eq k 4 (fun z => absurd z (by omega)) (fun _ => ?_)
  unfold wX_program_40
  exact cf_pt hk hs h
theorem cf_wrB {post : Int32 → St2 → Prop} {cu fi : Int32} {ns : Int64} {a1 a2 : Nat → Int32} {a3 : Nat → Int64} {a4 a5 a6 : Nat → Int32} {p v : Int32} (hp : p < 0 ∨ 15 < p) (h : post (-1) (cu, fi, ns, a1, a2, a3, a4, a5, a6)) : wpX_write post (cu, fi, ns, a1, a2, a3, a4, a5, a6) p v := by
  unfold wpX_write
  exact cf_sec_f hp (br_t rfl h)
theorem cf_wr {post : Int32 → St2 → Prop} {k s : Nat} {ns : Int64} {a1 a2 : Nat → Int32} {a3 : Nat → Int64} {a4 a5 a6 : Nat → Int32} {v : Int32} (hk : k < 4) (hs : s < 16) (h : ∀ c, cf_Good (v &&& 65535) c → post 0 (0, nI (k + 1), ns + 1, upd a1 k 1, upd a2 k (nI s), vp_updL a3 k ns, upd a4 k c, upd a5 k 0, upd a6 s (nI k))) : wpX_write post (0, nI k, ns, a1, a2, a3, a4, a5, a6) (nI s) v := by
  unfold wpX_write
  exact cf_sec_t hs (br_f (by decide) (cf_enc (fun c hc => cf_pg hk hs (h c hc))))
theorem cf_iwF {post : Int32 → Prop} {cu fi : Int32} {ns : Int64} {a1 a2 : Nat → Int32} {a3 : Nat → Int64} {a4 a5 a6 : Nat → Int32} {s : Nat} (hs : s < 16) (e : a6 s = -1) (h : post 0) : wpX_isWritten post (cu, fi, ns, a1, a2, a3, a4, a5, a6) (nI s) := by
  refine ⟨pk_in s 16 hs, br_t ?_ h⟩
  rw [nI_clamp (by omega), e]
  decide
theorem cf_iwT {post : Int32 → Prop} {cu fi : Int32} {ns : Int64} {a1 a2 : Nat → Int32} {a3 : Nat → Int64} {a4 a5 a6 : Nat → Int32} {s : Nat} (hs : s < 16) (e : a6 s = 0) (e1 : a1 0 = 1) (h : post 1) : wpX_isWritten post (cu, fi, ns, a1, a2, a3, a4, a5, a6) (nI s) := by
  have es : a6 (nI s).toNatClampNeg = nI 0 := by
    rw [nI_clamp (by omega), e]
    rfl
  refine ⟨pk_in s 16 hs, br_f ?_ ⟨pk_in s 16 hs, pk_in 0 32 (by omega) es, br_t ?_ h⟩⟩
  · rw [es]
    decide
  · rw [es, nI_clamp (by omega)]
    exact e1
theorem cf_tuB {post : Int32 → St2 → Prop} {cu fi : Int32} {ns : Int64} {a1 a2 : Nat → Int32} {a3 : Nat → Int64} {a4 a5 a6 : Nat → Int32} {p b : Int32} (hp : p < 0 ∨ 15 < p) (h : post (-1) (cu, fi, ns, a1, a2, a3, a4, a5, a6)) : wpX_turn post (cu, fi, ns, a1, a2, a3, a4, a5, a6) p b := by
  unfold wpX_turn
  exact cf_sec_f hp (br_t rfl h)
theorem cf_tuX {post : Int32 → St2 → Prop} {cu fi : Int32} {ns : Int64} {a1 a2 : Nat → Int32} {a3 : Nat → Int64} {a4 a5 a6 : Nat → Int32} {s : Nat} {b : Int32} (hs : s < 16) (hb : b < 0 ∨ ¬ b ≤ 21) (h : post (-1) (cu, fi, ns, a1, a2, a3, a4, a5, a6)) : wpX_turn post (cu, fi, ns, a1, a2, a3, a4, a5, a6) (nI s) b := by
  unfold wpX_turn
  refine cf_sec_t hs (br_f (by decide) (br_c (fun _ => h) (fun z => br_f ?_ h)))
  rcases hb with g | g
  · exact absurd g z
  · exact g
theorem cf_tuE {post : Int32 → St2 → Prop} {cu fi : Int32} {ns : Int64} {a1 a2 : Nat → Int32} {a3 : Nat → Int64} {a4 a5 a6 : Nat → Int32} {s b : Nat} (hs : s < 16) (hb : b < 22) (e : a6 s = -1) (h : post (-2) (cu, fi, ns, a1, a2, a3, a4, a5, a6)) : wpX_turn post (cu, fi, ns, a1, a2, a3, a4, a5, a6) (nI s) (nI b) := by
  unfold wpX_turn
  exact cf_sec_t hs (br_f (by decide) (br_f (nI_pos (by omega)) (br_t (nI_le (b := 21) (by omega) (by omega)) (cf_iwF hs e (br_t rfl h)))))
theorem cf_tuW {post : Int32 → St2 → Prop} {cu fi : Int32} {ns : Int64} {a1 a2 : Nat → Int32} {a3 : Nat → Int64} {a4 a5 a6 : Nat → Int32} {s b : Nat} (hs : s < 16) (hb : b < 22) (e : a6 s = 0) (e1 : a1 0 = 1) (e5 : a5 0 = 0) (h : post 1 (cu, fi, ns, a1, a2, a3, a4, upd a5 0 ((1 : Int32) <<< (nI b &&& 31)), a6)) : wpX_turn post (cu, fi, ns, a1, a2, a3, a4, a5, a6) (nI s) (nI b) := by
  unfold wpX_turn
  have es : a6 (nI s).toNatClampNeg = nI 0 := by
    rw [nI_clamp (by omega), e]
    rfl
  have e0 : (nI 0).toNatClampNeg = 0 := nI_clamp (by omega)
  refine cf_sec_t hs (br_f (by decide) (br_f (nI_pos (by omega)) (br_t (nI_le (b := 21) (by omega) (by omega)) (cf_iwT hs e e1 (br_f (by decide) ⟨pk_in s 16 hs, nm_r es ⟨pk_in 0 32 (by omega), nm_r (e' := (1 : Int32) <<< (nI b &&& 31)) (by rw [e0, e5, cf_0_xor]) (cf_ones ?_)⟩⟩)))))
  rw [cf_t_on b hb]
  exact br_t (by decide) ⟨pk_in 0 32 (by omega), nm_r (e' := upd a5 0 ((1 : Int32) <<< (nI b &&& 31))) (by rw [e0]) h⟩
theorem cf_rdB {post : Int32 → Prop} {cu fi : Int32} {ns : Int64} {a1 a2 : Nat → Int32} {a3 : Nat → Int64} {a4 a5 a6 : Nat → Int32} {p : Int32} (hp : p < 0 ∨ 15 < p) (h : post (-1)) : wpX_read post (cu, fi, ns, a1, a2, a3, a4, a5, a6) p := by
  unfold wpX_read
  exact cf_sec_f hp (br_t rfl h)
theorem cf_rdE {post : Int32 → Prop} {cu fi : Int32} {ns : Int64} {a1 a2 : Nat → Int32} {a3 : Nat → Int64} {a4 a5 a6 : Nat → Int32} {s : Nat} (hs : s < 16) (e : a6 s = -1) (h : post (-2)) : wpX_read post (cu, fi, ns, a1, a2, a3, a4, a5, a6) (nI s) := by
  unfold wpX_read
  exact cf_sec_t hs (br_f (by decide) ⟨pk_in s 16 hs, nm_r (e' := -1) (by rw [nI_clamp (by omega), e]) (br_t (by decide) h)⟩)
/-- what is decoded to v, whatever is asked of it -/
def cf_Dec (v raw : Int32) : Prop := ∀ post : Int32 → Prop, post v → wpX_decode post () raw
theorem cf_rdW {post : Int32 → Prop} {cu fi : Int32} {ns : Int64} {a1 a2 : Nat → Int32} {a3 : Nat → Int64} {a4 a5 a6 : Nat → Int32} {s : Nat} {v : Int32} (hs : s < 16) (e : a6 s = 0) (e1 : a1 0 = 1) (d : cf_Dec v (a4 0 ^^^ a5 0)) (h : post v) : wpX_read post (cu, fi, ns, a1, a2, a3, a4, a5, a6) (nI s) := by
  unfold wpX_read
  have e0 : (nI 0).toNatClampNeg = 0 := nI_clamp (by omega)
  refine cf_sec_t hs (br_f (by decide) ⟨pk_in s 16 hs, nm_r (e' := nI 0) (by rw [nI_clamp (by omega), e]; rfl) (br_f (by decide) ⟨pk_in 0 32 (by omega), br_f ?_ ⟨pk_in 0 32 (by omega), pk_in 0 32 (by omega), ?_⟩⟩)⟩)
  · rw [e0, e1]
    decide
  · rw [e0]
    exact d _ h
/-- the picture: sector s (16: none) holds v -/
def cf_P (s : Nat) (v : Int32) (a1 a4 a5 a6 : Nat → Int32) : Prop := (∀ j, j < 16 → j ≠ s → a6 j = -1) ∧ (s < 16 → a6 s = 0 ∧ a1 0 = 1 ∧ cf_Dec v (a4 0 ^^^ a5 0))
def cf_c (s i : Nat) : Nat := if s < i then 1 else 0
theorem cf_c1 (s : Nat) : cf_c s s + 1 = cf_c s (s + 1) := by
  unfold cf_c
  rw [if_neg (by omega), if_pos (by omega)]
theorem cf_c0 {s i : Nat} (h : i ≠ s) : cf_c s i = cf_c s (i + 1) := by
  unfold cf_c
  by_cases e : s < i
  · rw [if_pos e, if_pos (by omega)]
  · rw [if_neg e, if_neg (by omega)]
theorem cf_wn {post : Int32 → Prop} {cu fi : Int32} {ns : Int64} {a1 a2 : Nat → Int32} {a3 : Nat → Int64} {a4 a5 a6 : Nat → Int32} {s : Nat} {v : Int32} (hP : cf_P s v a1 a4 a5 a6) (h : post (nI (cf_c s 16))) : wpX_written post (cu, fi, ns, a1, a2, a3, a4, a5, a6) := by
  obtain ⟨h1, h2⟩ := hP
  refine pk_loop (σ := Unit) (fun n i _ => wX_written_4 post cu fi ns a1 a2 a3 a4 a5 a6 n (nI (cf_c s i)) (nI i)) (fun _ _ => True) 16 0 () (by omega) trivial ?_ ?_
  · intro n _ _
    exact pk_le 16 16 (fun _ => h) (fun z => absurd z (by omega))
  · intro n i _ hi _ hw
    have t : wX_written_4 post cu fi ns a1 a2 a3 a4 a5 a6 n (nI (cf_c s (i + 1))) (nI (i + 1)) := hw () trivial
    refine pk_le 16 i (fun z => absurd z (by omega)) (fun _ => ?_)
    by_cases e : i = s
    · subst e
      obtain ⟨q1, q2, _⟩ := h2 hi
      exact cf_iwT hi q1 q2 (br_f (by decide) (nm_r (e' := nI (cf_c i (i + 1))) (by rw [nI_1, cf_c1]) (nm_r (nI_1 i) t)))
    · refine cf_iwF hi (h1 i hi e) (br_t rfl (nm_r (e' := nI (cf_c s (i + 1))) ?_ (nm_r (nI_1 i) t)))
      rw [← cf_c0 e]
      exact nI_add _ 0
def cf_u (s i : Nat) (v : Int32) : Int32 := if s < i then v else 0
theorem cf_u0 {s i : Nat} {v : Int32} (h : i ≠ s) : cf_u s i v = cf_u s (i + 1) v := by
  unfold cf_u
  by_cases e : s < i
  · rw [if_pos e, if_pos (by omega)]
  · rw [if_neg e, if_neg (by omega)]
theorem cf_add0 (x : Int32) : x + 0 = x := by grind
theorem cf_0add (x : Int32) : 0 + x = x := by grind
theorem cf_sum {post : Int32 → Prop} {cu fi : Int32} {ns : Int64} {a1 a2 : Nat → Int32} {a3 : Nat → Int64} {a4 a5 a6 : Nat → Int32} {s m : Nat} {v : Int32} (hm : m < 65536) (ev : v = nI m) (hP : cf_P s v a1 a4 a5 a6) (h : post (cf_u s 16 v)) : wpX_sum post (cu, fi, ns, a1, a2, a3, a4, a5, a6) := by
  obtain ⟨h1, h2⟩ := hP
  refine pk_loop (σ := Unit) (fun n i _ => wX_sum_4 post cu fi ns a1 a2 a3 a4 a5 a6 n (cf_u s i v) (nI i)) (fun _ _ => True) 16 0 () (by omega) trivial ?_ ?_
  · intro n _ _
    exact pk_le 16 16 (fun _ => h) (fun z => absurd z (by omega))
  · intro n i _ hi _ hw
    have t : wX_sum_4 post cu fi ns a1 a2 a3 a4 a5 a6 n (cf_u s (i + 1) v) (nI (i + 1)) := hw () trivial
    refine pk_le 16 i (fun z => absurd z (by omega)) (fun _ => ?_)
    by_cases e : i = s
    · subst e
      obtain ⟨q1, q2, q3⟩ := h2 hi
      have u1 : cf_u i i v = 0 := if_neg (by omega)
      have u2 : cf_u i (i + 1) v = v := if_pos (by omega)
      refine cf_rdW hi q1 q2 q3 (pk_le m 0 (fun z => nm_r (e' := cf_u i (i + 1) v) ?_ (nm_r (nI_1 i) t)) (fun _ => nm_r (e' := cf_u i (i + 1) v) ?_ (nm_r (nI_1 i) t)) ev)
      · rw [u1, u2, ev, show m = 0 by omega]
        rfl
      · rw [u1, u2, cf_0add]
    · refine cf_rdE hi (h1 i hi e) (br_t (by decide) (nm_r (e' := cf_u s (i + 1) v) ?_ (nm_r (nI_1 i) t)))
      rw [← cf_u0 e, cf_add0]
theorem cf_trB {post : Int32 → St2 → Prop} {cu fi : Int32} {ns : Int64} {a1 a2 : Nat → Int32} {a3 : Nat → Int64} {a4 a5 a6 : Nat → Int32} {p : Int32} (hp : p < 0 ∨ 15 < p) (h : ∀ u, post (-1) u) : wpX_trim post (cu, fi, ns, a1, a2, a3, a4, a5, a6) p := by
  unfold wpX_trim
  exact cf_sec_f hp (br_t rfl (h _))
theorem cf_trE {post : Int32 → St2 → Prop} {cu fi : Int32} {ns : Int64} {a1 a2 : Nat → Int32} {a3 : Nat → Int64} {a4 a5 a6 : Nat → Int32} {s : Nat} (hs : s < 16) (e : a6 s = -1) (h : ∀ u, post (-2) u) : wpX_trim post (cu, fi, ns, a1, a2, a3, a4, a5, a6) (nI s) := by
  unfold wpX_trim
  exact cf_sec_t hs (br_f (by decide) (cf_iwF hs e (br_t rfl (h _))))
theorem cf_trW {post : Int32 → St2 → Prop} {k : Nat} {ns : Int64} {a1 a2 : Nat → Int32} {a3 : Nat → Int64} {a4 a5 a6 : Nat → Int32} {s : Nat} (hk : k < 4) (hs : s < 16) (e : a6 s = 0) (e1 : a1 0 = 1) (h : ∀ u, post 0 u) : wpX_trim post (0, nI k, ns, a1, a2, a3, a4, a5, a6) (nI s) := by
  unfold wpX_trim
  exact cf_sec_t hs (br_f (by decide) (cf_iwT hs e e1 (br_f (by decide) (cf_pg hk hs (h _)))))
end
section
/-! ===== the law ===== -/
/-- the flags: x3 the other sector, x6 whether it is one, x7 whether it is the one written -/
def cf_F (s : Nat) (x3 x6 x7 : Int32) : Prop := ((x3 < 0 ∨ 15 < x3) ∧ x6 = 0) ∨ (∃ o, o < 16 ∧ o ≠ s ∧ x3 = nI o ∧ x6 = 1 ∧ x7 = 0) ∨ (s < 16 ∧ x3 = nI s ∧ x6 = 1 ∧ x7 = 1)
def cf_5 (s : Nat) (x5 : Int32) : Prop := (s < 16 ∧ x5 = 1) ∨ (s = 16 ∧ x5 = 0)
theorem cf_225 {post : Int32 → St0 → Prop} {mc ms : Nat} {z : Int32} {kc ks : Nat} (h : post 1 ()) : wL_lawOf_225 post mc ms z z kc ks := br_t rfl h
theorem cf_194 {post : Int32 → St0 → Prop} {mc ms : Nat} {x3 x6 x7 z v : Int32} {kc ks k s : Nat} {ns : Int64} {a1 a2 : Nat → Int32} {a3 : Nat → Int64} {a4 a5 a6 : Nat → Int32} (h : post 1 ()) (hk : k < 4) (hF : cf_F s x3 x6 x7) (hP : cf_P s v a1 a4 a5 a6) : wL_lawOf_194 post mc ms x3 x6 x7 z z kc ks 0 (nI k) ns a1 a2 a3 a4 a5 a6 := by
  obtain ⟨h1, h2⟩ := hP
  unfold wL_lawOf_194
  refine br_t rfl ?_
  rcases hF with ⟨g, e6⟩ | ⟨o, ho, hn, e3, e6, e7⟩ | ⟨hs, e3, e6, e7⟩
  · exact cf_trB g (fun u => br_t e6 (cf_225 h))
  · subst e3
    exact cf_trE ho (h1 o ho hn) (fun u => br_f (by rw [e6]; decide) (br_t e7 (cf_225 h)))
  · subst e3
    obtain ⟨q1, q2, _⟩ := h2 hs
    exact cf_trW hk hs q1 q2 (fun u => br_f (by rw [e6]; decide) (br_f (by rw [e7]; decide) (cf_225 h)))
theorem cf_173 {post : Int32 → St0 → Prop} {mc ms : Nat} {x1 x3 x5 x6 x7 z : Int32} {kc ks k s : Nat} {ns : Int64} {a1 a2 : Nat → Int32} {a3 : Nat → Int64} {a4 a5 a6 : Nat → Int32} (h : post 1 ()) (hk : k < 4) (h5 : cf_5 s x5) (hF : cf_F s x3 x6 x7) (hP : cf_P s (x1 &&& 65535) a1 a4 a5 a6) : wL_lawOf_173 post mc ms x1 x3 x5 x6 x7 z z kc ks 0 (nI k) ns a1 a2 a3 a4 a5 a6 := by
  unfold wL_lawOf_173
  obtain ⟨m, hm, em⟩ := nx_mask x1
  refine br_t rfl (cf_sum hm em hP ?_)
  rcases h5 with ⟨hs, e5⟩ | ⟨hs, e5⟩
  · refine br_f (by rw [e5]; decide) ?_
    rw [show cf_u s 16 (x1 &&& 65535) = x1 &&& 65535 from if_pos hs]
    exact cf_194 h hk hF hP
  · refine br_t e5 ?_
    rw [show cf_u s 16 (x1 &&& 65535) = 0 from if_neg (by omega)]
    exact cf_194 h hk hF hP
theorem cf_153 {post : Int32 → St0 → Prop} {mc ms : Nat} {x1 x3 x5 x6 x7 z : Int32} {kc ks k s : Nat} {ns : Int64} {a1 a2 : Nat → Int32} {a3 : Nat → Int64} {a4 a5 a6 : Nat → Int32} (h : post 1 ()) (hk : k < 4) (h5 : cf_5 s x5) (hF : cf_F s x3 x6 x7) (hP : cf_P s (x1 &&& 65535) a1 a4 a5 a6) : wL_lawOf_153 post mc ms x1 x3 x5 x6 x7 z z kc ks 0 (nI k) ns a1 a2 a3 a4 a5 a6 := by
  unfold wL_lawOf_153
  refine br_t rfl (cf_wn hP ?_)
  rcases h5 with ⟨hs, e5⟩ | ⟨hs, e5⟩
  · refine br_f (by rw [e5]; decide) ?_
    rw [show nI (cf_c s 16) = 1 by unfold cf_c; rw [if_pos hs]; rfl]
    exact cf_173 h hk (Or.inl ⟨hs, e5⟩) hF hP
  · refine br_t e5 ?_
    rw [show nI (cf_c s 16) = 0 by unfold cf_c; rw [if_neg (by omega)]; rfl]
    exact cf_173 h hk (Or.inr ⟨hs, e5⟩) hF hP
theorem cf_119 {post : Int32 → St0 → Prop} {mc ms : Nat} {x1 x3 x5 x6 x7 z : Int32} {kc ks k s : Nat} {ns : Int64} {a1 a2 : Nat → Int32} {a3 : Nat → Int64} {a4 a5 a6 : Nat → Int32} (h : post 1 ()) (hk : k < 4) (h5 : cf_5 s x5) (hF : cf_F s x3 x6 x7) (hP : cf_P s (x1 &&& 65535) a1 a4 a5 a6) : wL_lawOf_119 post mc ms x1 x3 x5 x6 x7 z z kc ks 0 (nI k) ns a1 a2 a3 a4 a5 a6 := by
  unfold wL_lawOf_119
  refine br_t rfl ?_
  rcases hF with ⟨g, e6⟩ | ⟨o, ho, hn, e3, e6, e7⟩ | ⟨hs, e3, e6, e7⟩
  · exact cf_rdB g (br_t e6 (cf_153 h hk h5 (Or.inl ⟨g, e6⟩) hP))
  · subst e3
    exact cf_rdE ho (hP.1 o ho hn) (br_f (by rw [e6]; decide) (br_t e7 (cf_153 h hk h5 (Or.inr (Or.inl ⟨o, ho, hn, rfl, e6, e7⟩)) hP)))
  · subst e3
    obtain ⟨q1, q2, q3⟩ := hP.2 hs
    exact cf_rdW hs q1 q2 q3 (br_f (by rw [e6]; decide) (br_f (by rw [e7]; decide) (cf_153 h hk h5 (Or.inr (Or.inr ⟨hs, rfl, e6, e7⟩)) hP)))
/-- the picture ahead of turn -/
def cf_Q (s : Nat) (v : Int32) (a1 a4 a5 a6 : Nat → Int32) : Prop := (∀ j, j < 16 → j ≠ s → a6 j = -1) ∧ (s < 16 → a6 s = 0 ∧ a1 0 = 1 ∧ cf_Good v (a4 0) ∧ a5 0 = 0)
theorem cf_Q_P {s : Nat} {v : Int32} {a1 a4 a5 a6 : Nat → Int32} (hv : ∀ j, 16 ≤ j → bt v j = false) (h : cf_Q s v a1 a4 a5 a6) : cf_P s v a1 a4 a5 a6 := by
  refine ⟨h.1, fun hs => ?_⟩
  obtain ⟨q1, q2, q3, q4⟩ := h.2 hs
  refine ⟨q1, q2, fun post hp => ?_⟩
  rw [q4, cf_xor_0]
  exact cf_dec0 hv q3 hp
theorem cf_bit (b : Int32) : (b < 0 ∨ ¬ b ≤ 21) ∨ ∃ j : Nat, j < 22 ∧ b = nI j := by
  by_cases h : b < 0
  · exact Or.inl (Or.inl h)
  · by_cases g : b ≤ 21
    · obtain ⟨j, hj, e⟩ := nI_of2 (M := 21) (n := 21) (by decide) h g
      exact Or.inr ⟨j, by omega, e⟩
    · exact Or.inl (Or.inr g)
theorem cf_77 {post : Int32 → St0 → Prop} {mc ms : Nat} {x1 x2 x3 x5 x6 x7 z : Int32} {kc ks k s : Nat} {ns : Int64} {a1 a2 : Nat → Int32} {a3 : Nat → Int64} {a4 a5 a6 : Nat → Int32} (h : post 1 ()) (hk : k < 4) (h5 : cf_5 s x5) (hF : cf_F s x3 x6 x7) (hQ : cf_Q s (x1 &&& 65535) a1 a4 a5 a6) : wL_lawOf_77 post mc ms x1 x2 x3 x5 x6 x7 z z kc ks 0 (nI k) ns a1 a2 a3 a4 a5 a6 := by
  have hP := cf_Q_P (cf_m16 x1) hQ
  have E : wL_lawOf_119 post mc ms x1 x3 x5 x6 x7 (-1) (-1) kc ks 0 (nI k) ns a1 a2 a3 a4 a5 a6 := cf_119 h hk h5 hF hP
  unfold wL_lawOf_77
  refine br_t rfl ?_
  rcases hF with ⟨g, e6⟩ | ⟨o, ho, hn, e3, e6, e7⟩ | ⟨hs, e3, e6, e7⟩
  · exact cf_tuB g (br_t e6 E)
  · rcases cf_bit x2 with hb | ⟨b, hb, eb⟩
    · subst e3
      refine cf_tuX ho hb (br_f (by rw [e6]; decide) (br_c (fun _ => E) (fun w => br_f ?_ E)))
      rcases hb with g | g
      · exact absurd g w
      · exact g
    · subst e3 eb
      exact cf_tuE ho hb (hP.1 o ho hn) (br_f (by rw [e6]; decide) (br_f (nI_pos (by omega)) (br_t (nI_le (b := 21) (by omega) (by omega)) (br_t e7 (cf_119 h hk h5 (Or.inr (Or.inl ⟨o, ho, hn, rfl, e6, e7⟩)) hP)))))
  · rcases cf_bit x2 with hb | ⟨b, hb, eb⟩
    · subst e3
      refine cf_tuX hs hb (br_f (by rw [e6]; decide) (br_c (fun _ => E) (fun w => br_f ?_ E)))
      rcases hb with g | g
      · exact absurd g w
      · exact g
    · subst e3 eb
      obtain ⟨q1, q2, q3, q4⟩ := hQ.2 hs
      refine cf_tuW hs hb q1 q2 q4 (br_f (by rw [e6]; decide) (br_f (nI_pos (by omega)) (br_t (nI_le (b := 21) (by omega) (by omega)) (br_f (by rw [e7]; decide) (cf_119 h hk h5 (Or.inr (Or.inr ⟨hs, rfl, e6, e7⟩)) ⟨hP.1, fun _ => ⟨q1, q2, fun post hp => ?_⟩⟩)))))
      rw [pk_us]
      exact cf_dec1 hb (cf_m16 x1) q3 hp
theorem cf_no (b : Int32) : (b < 0 ∨ 15 < b) ∨ ∃ j : Nat, j < 16 ∧ b = nI j := by
  by_cases h : b < 0
  · exact Or.inl (Or.inl h)
  · by_cases g : 15 < b
    · exact Or.inl (Or.inr g)
    · obtain ⟨j, hj, e⟩ := nI_of2 (M := 15) (n := 15) (by decide) h (Int32.not_lt.mp g)
      exact Or.inr ⟨j, by omega, e⟩
/-- from the first write on: s the sector (16: x0 is none) -/
theorem cf_58 {post : Int32 → St0 → Prop} {mc ms : Nat} {x0 x1 x2 x3 x5 x6 x7 : Int32} {kc ks s : Nat} {ns : Int64} {a1 a2 : Nat → Int32} {a3 : Nat → Int64} {a4 a5 a6 : Nat → Int32} (h : post 1 ()) (h0 : (s < 16 ∧ x0 = nI s ∧ x5 = 1) ∨ (s = 16 ∧ (x0 < 0 ∨ 15 < x0) ∧ x5 = 0)) (hF : cf_F s x3 x6 x7) (h6 : ∀ j, j < 16 → a6 j = -1) : wL_lawOf_58 post mc ms x0 x1 x2 x3 x5 x6 x7 kc ks 0 0 ns a1 a2 a3 a4 a5 a6 := by
  unfold wL_lawOf_58
  rcases h0 with ⟨hs, e0, e5⟩ | ⟨hs, e0, e5⟩
  · subst e0
    refine cf_wr (k := 0) (by omega) hs (fun c hc => br_f (by rw [e5]; decide) (cf_77 (k := 1) h (by omega) (Or.inl ⟨hs, e5⟩) hF ⟨fun j hj hn => ?_, fun _ => ⟨?_, ?_, ?_, ?_⟩⟩))
    · rw [pk_un hn]
      exact h6 j hj
    · rw [pk_us]
      rfl
    · rw [pk_us]
    · rw [pk_us]
      exact hc
    · rw [pk_us]
  · exact cf_wrB e0 (br_t e5 (cf_77 (k := 0) h (by omega) (Or.inr ⟨hs, e5⟩) hF ⟨fun j hj _ => h6 j hj, fun z => absurd z (by omega)⟩))
theorem cf_41 {post : Int32 → St0 → Prop} {mc ms : Nat} {x0 x1 x2 x3 x5 x6 : Int32} {kc ks s : Nat} {ns : Int64} {a1 a2 : Nat → Int32} {a3 : Nat → Int64} {a4 a5 a6 : Nat → Int32} (h : post 1 ()) (h0 : (s < 16 ∧ x0 = nI s ∧ x5 = 1) ∨ (s = 16 ∧ (x0 < 0 ∨ 15 < x0) ∧ x5 = 0)) (h3 : ((x3 < 0 ∨ 15 < x3) ∧ x6 = 0) ∨ ∃ o, o < 16 ∧ x3 = nI o ∧ x6 = 1) (h6 : ∀ j, j < 16 → a6 j = -1) : wL_lawOf_41 post mc ms x0 x1 x2 x3 x5 x6 kc ks 0 0 ns a1 a2 a3 a4 a5 a6 := by
  unfold wL_lawOf_41 wL_lawOf_57
  have hw := h0
  rcases h0 with ⟨hs, e0, e5⟩ | ⟨hs, e0, e5⟩
  · refine br_f (by rw [e5]; decide) ?_
    rcases h3 with ⟨g, e6⟩ | ⟨o, ho, e3, e6⟩
    · exact br_c (fun _ => cf_58 h hw (Or.inl ⟨g, e6⟩) h6) (fun _ => cf_58 h hw (Or.inl ⟨g, e6⟩) h6)
    · exact pk_eq o s (fun z => cf_58 h hw (Or.inr (Or.inr ⟨hs, by rw [e3, z], e6, rfl⟩)) h6) (fun z => cf_58 h hw (Or.inr (Or.inl ⟨o, ho, z, e3, e6, rfl⟩)) h6) e3 e0
  · refine br_t e5 ?_
    rcases h3 with ⟨g, e6⟩ | ⟨o, ho, e3, e6⟩
    · exact cf_58 h hw (Or.inl ⟨g, e6⟩) h6
    · exact cf_58 h hw (Or.inr (Or.inl ⟨o, ho, by omega, e3, e6, rfl⟩)) h6
theorem cf_24 {post : Int32 → St0 → Prop} {mc ms : Nat} {x0 x1 x2 x3 x5 : Int32} {kc ks s : Nat} {ns : Int64} {a1 a2 : Nat → Int32} {a3 : Nat → Int64} {a4 a5 a6 : Nat → Int32} (h : post 1 ()) (h0 : (s < 16 ∧ x0 = nI s ∧ x5 = 1) ∨ (s = 16 ∧ (x0 < 0 ∨ 15 < x0) ∧ x5 = 0)) (h6 : ∀ j, j < 16 → a6 j = -1) : wL_lawOf_24 post mc ms x0 x1 x2 x3 x5 kc ks 0 0 ns a1 a2 a3 a4 a5 a6 := by
  unfold wL_lawOf_24 wL_lawOf_40
  rcases cf_no x3 with g | ⟨o, ho, e3⟩
  · exact br_c (fun _ => cf_41 h h0 (Or.inl ⟨g, rfl⟩) h6) (fun z => br_t (g.resolve_left z) (cf_41 h h0 (Or.inl ⟨g, rfl⟩) h6))
  · subst e3
    exact pk_lt o 0 (fun z => absurd z (by omega)) (fun _ => pk_lt 15 o (fun z => absurd z (by omega)) (fun _ => cf_41 h h0 (Or.inr ⟨o, ho, rfl, rfl⟩) h6))
theorem cf_law {post : Int32 → St0 → Prop} {x0 x1 x2 x3 : Int32} (h : post 1 ()) : wpL_lawOf post 7 185 () x0 x1 x2 x3 := by
  refine ⟨by omega, by omega, 6, 176, by omega, by omega, cf_init (fun a h6 => ?_)⟩
  rcases cf_no x0 with g | ⟨s, hs, e0⟩
  · exact br_c (fun _ => cf_24 h (Or.inr ⟨rfl, g, rfl⟩) h6) (fun z => br_t (g.resolve_left z) (cf_24 h (Or.inr ⟨rfl, g, rfl⟩) h6))
  · subst e0
    exact pk_lt s 0 (fun z => absurd z (by omega)) (fun _ => pk_lt 15 s (fun z => absurd z (by omega)) (fun _ => cf_24 h (Or.inl ⟨hs, rfl, rfl⟩) h6))
theorem cf_cell {post : Int32 → Prop} {L : Nat} {xs : Nat → Int32} {u : St0} (k : Nat) (hk : k < 4) (hL : L ≤ 4) (h : ∀ r, post r) : wpL_cellAt post L xs u (nI k) :=
  pk_le L k (fun _ => h _) (fun z => ⟨pk_in k L z, h _⟩)
theorem i_vc (xs : Nat → Int32) (L : Nat) (hL : L ≤ 4) : wpL_law (fun r => r = 1) L xs :=
  cf_cell 0 (by omega) hL (fun _ => cf_cell 1 (by omega) hL (fun _ => cf_cell 2 (by omega) hL (fun _ => cf_cell 3 (by omega) hL (fun _ => ⟨7, 185, by omega, by omega, cf_law rfl⟩))))
end
