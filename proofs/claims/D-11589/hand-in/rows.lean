section
/-! bits over nI; the kit's and-row and xor-row of BITS turned to rn_ -/
theorem rn_and (a b : Nat) : nI a &&& nI b = nI (a &&& b) := by
  apply Int32.toBitVec_inj.1
  show BitVec.ofNat 32 a &&& BitVec.ofNat 32 b = BitVec.ofNat 32 (a &&& b)
  apply BitVec.eq_of_getLsbD_eq
  intro i hi
  simp [hi]
theorem rn_xor (a b : Nat) : nI a ^^^ nI b = nI (a ^^^ b) := by
  apply Int32.toBitVec_inj.1
  show BitVec.ofNat 32 a ^^^ BitVec.ofNat 32 b = BitVec.ofNat 32 (a ^^^ b)
  apply BitVec.eq_of_getLsbD_eq
  intro i hi
  simp [hi]
theorem rn_or (a b : Nat) : nI a ||| nI b = nI (a ||| b) := by
  apply Int32.toBitVec_inj.1
  show BitVec.ofNat 32 a ||| BitVec.ofNat 32 b = BitVec.ofNat 32 (a ||| b)
  apply BitVec.eq_of_getLsbD_eq
  intro i hi
  simp [hi]
theorem rn_sl : ∀ n, n < 32 → ((nI n &&& 31).toBitVec.smod 32).toNat = n := by decide +kernel
theorem rn_shr {n t : Nat} (hn : n < 2 ^ 31) (ht : t < 32) : nI n >>> (nI t &&& 31) = nI (n / 2 ^ t) := pk_shrN hn _ t (rn_sl t ht)
theorem rn_shl {n t : Nat} (ht : t < 32) (h : n * 2 ^ t < 2 ^ 32) : nI n <<< (nI t &&& 31) = nI (n * 2 ^ t) := pk_shlN _ t (rn_sl t ht) h
theorem rn_pw {t : Nat} (ht : t < 32) : (2 : Nat) ^ t < 2 ^ 32 := Nat.pow_lt_pow_right (by omega) ht
theorem rn_one {t : Nat} (ht : t < 32) : (1 : Int32) <<< (nI t &&& 31) = nI (2 ^ t) := by
  have h : nI 1 <<< (nI t &&& 31) = nI (1 * 2 ^ t) := rn_shl ht (by rw [Nat.one_mul]; exact rn_pw ht)
  rw [Nat.one_mul] at h
  exact h
/-- a Boolean as an int -/
def rn_b (b : Bool) : Int32 := cond b 1 0
theorem rn_b1 : ¬ rn_b true = 0 := by decide
theorem rn_bit {T t : Nat} (hT : T < 2 ^ 31) (ht : t < 32) : (nI T >>> (nI t &&& 31)) &&& 1 = rn_b (T.testBit t) := by
  rw [rn_shr hT ht]
  show nI (T / 2 ^ t) &&& nI 1 = _
  rw [rn_and, Nat.and_one_is_mod, Nat.testBit_eq_decide_div_mod_eq]
  rcases Nat.mod_two_eq_zero_or_one (T / 2 ^ t) with h | h
  · rw [h]; decide
  · rw [h]; decide
/-- has: two roads -/
theorem rn_has {post : Int32 → Prop} {x y : Int32} (T t : Nat) (f : T.testBit t = true → post 1) (g : T.testBit t = false → post 0) (hx : x = nI T := by rfl) (hy : y = nI t := by rfl) (hT : T < 2 ^ 31 := by omega) (ht : t < 32 := by omega) : wpX_has post () x y := by
  subst hx hy
  unfold wpX_has
  rw [rn_bit hT ht]
  cases e : T.testBit t
  · exact br_f (by decide) (g e)
  · exact br_t (by decide) (f e)
theorem rn_hs {x y : Int32} {A B : Prop} (T t : Nat) (f : T.testBit t = true → B) (g : T.testBit t = false → A) (hx : x = nI T := by rfl) (hy : y = nI t := by rfl) (hT : T < 2 ^ 31 := by omega) (ht : t < 32 := by omega) : wpX_has (fun r => (r = 0 → A) ∧ (¬ r = 0 → B)) () x y :=
  rn_has T t (fun h => br_f (by decide) (f h)) (fun h => br_t rfl (g h)) hx hy hT ht
theorem rn_bz {A B : Prop} (b : Bool) (f : b = true → B) (g : b = false → A) : (rn_b b = 0 → A) ∧ (¬ rn_b b = 0 → B) := by
  cases b
  · exact br_t rfl (g rfl)
  · exact br_f (by decide) (f rfl)
theorem rn_lt {n i : Nat} (h : n < 2 ^ i) (hi : i ≤ 31) : n < 2 ^ 31 := Nat.lt_of_lt_of_le h (Nat.pow_le_pow_right (by omega) hi)
/-- stores that fill from below -/
theorem rn_fill {f s : Nat → Int32} {i k : Nat} {x : Int32} (hk : k = i) (h : ∀ j, j < i → s j = f j) (hx : x = f i) : ∀ j, j < i + 1 → upd s k x j = f j := by
  intro j hj
  rw [hk]
  by_cases e : j = i
  · rw [e, pk_us, hx]
  · rw [pk_un e]
    exact h j (by omega)
/-- all of p below n -/
def rn_al (p : Nat → Bool) : Nat → Bool
  | 0 => true
  | n + 1 => rn_al p n && p n
theorem rn_alI {p : Nat → Bool} : ∀ {n : Nat}, rn_al p n = true → ∀ k, k < n → p k = true
  | 0, _, k, hk => absurd hk (by omega)
  | n + 1, h, k, hk => by
    have h2 : (rn_al p n && p n) = true := h
    rw [Bool.and_eq_true] at h2
    rcases Nat.lt_or_ge k n with z | z
    · exact rn_alI h2.1 k z
    · rw [show k = n by omega]
      exact h2.2
/-- some m below 8 -/
def rn_any (p : Nat → Bool) : Bool := p 0 || p 1 || p 2 || p 3 || p 4 || p 5 || p 6 || p 7
theorem rn_lt8 {m : Nat} (h : m < 8) : m = 0 ∨ m = 1 ∨ m = 2 ∨ m = 3 ∨ m = 4 ∨ m = 5 ∨ m = 6 ∨ m = 7 := by omega
theorem rn_lt3 {m : Nat} (h : m < 3) : m = 0 ∨ m = 1 ∨ m = 2 := by omega
theorem rn_lt2 {m : Nat} (h : m < 2) : m = 0 ∨ m = 1 := by omega
theorem rn_anyI {p : Nat → Bool} {m : Nat} (hm : m < 8) (h : p m = true) : rn_any p = true := by
  unfold rn_any
  rcases rn_lt8 hm with e | e | e | e | e | e | e | e <;> (subst e; rw [h]; simp)
theorem rn_anyE {p : Nat → Bool} (h : rn_any p = true) : ∃ m, m < 8 ∧ p m = true := by
  unfold rn_any at h
  simp only [Bool.or_eq_true] at h
  rcases h with ((((((h | h) | h) | h) | h) | h) | h) | h
  · exact ⟨0, by omega, h⟩
  · exact ⟨1, by omega, h⟩
  · exact ⟨2, by omega, h⟩
  · exact ⟨3, by omega, h⟩
  · exact ⟨4, by omega, h⟩
  · exact ⟨5, by omega, h⟩
  · exact ⟨6, by omega, h⟩
  · exact ⟨7, by omega, h⟩
theorem rn_anyN {p : Nat → Bool} (h : ∀ m, m < 8 → ¬ p m = true) : rn_any p = false := by
  cases e : rn_any p
  · rfl
  · obtain ⟨m, hm, hp⟩ := rn_anyE e
    exact absurd hp (h m hm)
theorem rn_anyC {p q : Nat → Bool} (h : ∀ m, m < 8 → p m = q m) : rn_any p = rn_any q := by
  unfold rn_any
  rw [h 0 (by omega), h 1 (by omega), h 2 (by omega), h 3 (by omega), h 4 (by omega), h 5 (by omega), h 6 (by omega), h 7 (by omega)]
/-- how many m below 8 -/
def rn_cnt (p : Nat → Bool) : Nat := (p 0).toNat + (p 1).toNat + (p 2).toNat + (p 3).toNat + (p 4).toNat + (p 5).toNat + (p 6).toNat + (p 7).toNat
theorem rn_cntC {p q : Nat → Bool} (h : ∀ m, m < 8 → p m = q m) : rn_cnt p = rn_cnt q := by
  unfold rn_cnt
  rw [h 0 (by omega), h 1 (by omega), h 2 (by omega), h 3 (by omega), h 4 (by omega), h 5 (by omega), h 6 (by omega), h 7 (by omega)]
theorem rn_cnt0 {p : Nat → Bool} (h : ∀ m, m < 8 → ¬ p m = true) : rn_cnt p = 0 := by
  have e : ∀ m, m < 8 → p m = (fun _ => false) m := fun m hm => by
    cases z : p m
    · rfl
    · exact absurd z (h m hm)
  rw [rn_cntC e]
  rfl
theorem rn_cntP {p : Nat → Bool} : (rn_any p = true ↔ 0 < rn_cnt p) := by
  unfold rn_any rn_cnt
  generalize p 0 = x0
  generalize p 1 = x1
  generalize p 2 = x2
  generalize p 3 = x3
  generalize p 4 = x4
  generalize p 5 = x5
  generalize p 6 = x6
  generalize p 7 = x7
  revert x0 x1 x2 x3 x4 x5 x6 x7
  decide
theorem rn_cntS {p q r : Nat → Bool} (h : ∀ m, m < 8 → (p m).toNat = (q m).toNat + (r m).toNat) : rn_cnt p = rn_cnt q + rn_cnt r := by
  unfold rn_cnt
  have h0 := h 0 (by omega)
  have h1 := h 1 (by omega)
  have h2 := h 2 (by omega)
  have h3 := h 3 (by omega)
  have h4 := h 4 (by omega)
  have h5 := h 5 (by omega)
  have h6 := h 6 (by omega)
  have h7 := h 7 (by omega)
  omega
/-- every set of assignments is a mask -/
def rn_m8 (x0 x1 x2 x3 x4 x5 x6 x7 : Bool) : Nat := x0.toNat + 2 * x1.toNat + 4 * x2.toNat + 8 * x3.toNat + 16 * x4.toNat + 32 * x5.toNat + 64 * x6.toNat + 128 * x7.toNat
theorem rn_m8b : ∀ x0 x1 x2 x3 x4 x5 x6 x7 : Bool, rn_m8 x0 x1 x2 x3 x4 x5 x6 x7 < 256 ∧ (rn_m8 x0 x1 x2 x3 x4 x5 x6 x7).testBit 0 = x0 ∧ (rn_m8 x0 x1 x2 x3 x4 x5 x6 x7).testBit 1 = x1 ∧ (rn_m8 x0 x1 x2 x3 x4 x5 x6 x7).testBit 2 = x2 ∧ (rn_m8 x0 x1 x2 x3 x4 x5 x6 x7).testBit 3 = x3 ∧ (rn_m8 x0 x1 x2 x3 x4 x5 x6 x7).testBit 4 = x4 ∧ (rn_m8 x0 x1 x2 x3 x4 x5 x6 x7).testBit 5 = x5 ∧ (rn_m8 x0 x1 x2 x3 x4 x5 x6 x7).testBit 6 = x6 ∧ (rn_m8 x0 x1 x2 x3 x4 x5 x6 x7).testBit 7 = x7 := by decide +kernel
theorem rn_mask (X : Nat → Bool) : ∃ M, M < 256 ∧ ∀ m, m < 8 → X m = M.testBit m := by
  obtain ⟨hM, h0, h1, h2, h3, h4, h5, h6, h7⟩ := rn_m8b (X 0) (X 1) (X 2) (X 3) (X 4) (X 5) (X 6) (X 7)
  refine ⟨_, hM, fun m hm => ?_⟩
  rcases rn_lt8 hm with e | e | e | e | e | e | e | e
  · rw [e, h0]
  · rw [e, h1]
  · rw [e, h2]
  · rw [e, h3]
  · rw [e, h4]
  · rw [e, h5]
  · rw [e, h6]
  · rw [e, h7]
/-- small masks and shifts over nI -/
theorem rn_a1 {i : Nat} (h : i < 2 ^ 31) : nI i &&& 1 = nI (i % 2) := pk_andN (by omega) 1 (by decide)
theorem rn_a7 {i : Nat} (h : i < 2 ^ 31) : nI i &&& 7 = nI (i % 8) := pk_andN (by omega) 3 (by decide)
theorem rn_s1 {i : Nat} (h : i < 2 ^ 31) : nI i >>> ((1 : Int32) &&& 31) = nI (i / 2) := pk_shrN h _ 1 (by decide)
theorem rn_s2 {i : Nat} (h : i < 2 ^ 31) : nI i >>> ((2 : Int32) &&& 31) = nI (i / 4) := pk_shrN h _ 2 (by decide)
theorem rn_s3 {i : Nat} (h : i < 2 ^ 31) : nI i >>> ((3 : Int32) &&& 31) = nI (i / 8) := pk_shrN h _ 3 (by decide)
theorem rn_s6 {i : Nat} (h : i < 2 ^ 31) : nI i >>> ((6 : Int32) &&& 31) = nI (i / 64) := pk_shrN h _ 6 (by decide)
theorem rn_s7 {i : Nat} (h : i < 2 ^ 31) : nI i >>> ((7 : Int32) &&& 31) = nI (i / 128) := pk_shrN h _ 7 (by decide)
end
section
/-! the marks of a table -/
def rn_me (T k : Nat) : Bool := !(T.testBit (k / 8) && T.testBit (k % 8)) || T.testBit (k / 8 &&& k % 8)
def rn_jo (T k : Nat) : Bool := !(T.testBit (k / 8) && T.testBit (k % 8)) || T.testBit (k / 8 ||| k % 8)
def rn_ma (T k : Nat) : Bool := !(T.testBit (k / 64) && (T.testBit (k / 8 % 8) && T.testBit (k % 8))) || T.testBit (k / 64 &&& k / 8 % 8 ||| k / 64 &&& k % 8 ||| k / 8 % 8 &&& k % 8)
def rn_pa (T k : Nat) : Bool := !(T.testBit (k / 64) && (T.testBit (k / 8 % 8) && T.testBit (k % 8))) || T.testBit (k / 64 ^^^ k / 8 % 8 ^^^ k % 8)
theorem rn_p62 {post : Int32 → Prop} {J : Int32 → Int32 → Int32 → Prop} {T i s t : Nat} {B : Bool} {z : Int32} (hT : T < 256) (hs : s < 8) (ht : t < 8)
    (h : J z (rn_b (B && T.testBit (s ||| t))) (nI (i + 1))) : wX_closedUnderPairs_62 post J (nI T) (rn_b B) (nI i) (nI s) (nI t) z := by
  have hst : s ||| t < 2 ^ 3 := Nat.or_lt_two_pow hs ht
  refine rn_bz B (fun e => ?_) (fun e => nm_r (nI_1 i) ?_)
  · subst e
    refine rn_hs T (s ||| t) (fun h1 => nm_r (nI_1 i) ?_) (fun h1 => nm_r (nI_1 i) ?_) rfl (rn_or s t) (by omega) (by omega)
    · rw [h1] at h
      exact h
    · rw [h1] at h
      exact h
  · subst e
    exact h
theorem rn_pst {post : Int32 → Prop} {T n i : Nat} {A B : Bool} (hT : T < 256) (hi : i < 64)
    (h : wX_closedUnderPairs_6 post (nI T) n (rn_b (A && rn_me T i)) (rn_b (B && rn_jo T i)) (nI (i + 1))) : wX_closedUnderPairs_6 post (nI T) (n + 1) (rn_b A) (rn_b B) (nI i) := by
  have hs : i / 8 < 8 := by omega
  have ht : i % 8 < 8 := by omega
  have hst : i / 8 &&& i % 8 ≤ i / 8 := Nat.and_le_left
  refine pk_le 64 i (fun z => absurd z (by omega)) (fun _ => nm_r (rn_s3 (by omega)) (nm_r (rn_a7 (by omega)) ?_))
  refine rn_hs T (i / 8) (fun h1 => rn_hs T (i % 8) (fun h2 => ?_) (fun h2 => nm_r (nI_1 i) ?_)) (fun h1 => nm_r (nI_1 i) ?_)
  · have e1 : rn_me T i = T.testBit (i / 8 &&& i % 8) := by unfold rn_me; rw [h1, h2]; rfl
    have e2 : rn_jo T i = T.testBit (i / 8 ||| i % 8) := by unfold rn_jo; rw [h1, h2]; rfl
    rw [e1, e2] at h
    refine rn_bz A (fun e => ?_) (fun e => ?_)
    · subst e
      refine rn_hs T (i / 8 &&& i % 8) (fun h3 => ?_) (fun h3 => ?_) rfl (rn_and _ _) (by omega) (by omega)
      · rw [h3] at h
        exact rn_p62 hT hs ht h
      · rw [h3] at h
        exact rn_p62 hT hs ht h
    · subst e
      exact rn_p62 hT hs ht h
  · have e1 : rn_me T i = true := by unfold rn_me; rw [h2, Bool.and_false]; rfl
    have e2 : rn_jo T i = true := by unfold rn_jo; rw [h2, Bool.and_false]; rfl
    rw [e1, e2, Bool.and_true, Bool.and_true] at h
    exact h
  · have e1 : rn_me T i = true := by unfold rn_me; rw [h1, Bool.false_and]; rfl
    have e2 : rn_jo T i = true := by unfold rn_jo; rw [h1, Bool.false_and]; rfl
    rw [e1, e2, Bool.and_true, Bool.and_true] at h
    exact h
theorem rn_pairsC {post : Int32 → Prop} {T : Nat} (hT : T < 256) (h : post (nI (4 * (rn_al (rn_me T) 64).toNat + 8 * (rn_al (rn_jo T) 64).toNat))) : wpX_closedUnderPairs post () (nI T) := by
  refine pk_loop (σ := Unit) (fun n i _ => wX_closedUnderPairs_6 post (nI T) n (rn_b (rn_al (rn_me T) i)) (rn_b (rn_al (rn_jo T) i)) (nI i)) (fun _ _ => True) 64 0 () (by omega) trivial ?_ (fun n i _ hi _ hw => rn_pst hT hi (hw () trivial))
  intro n _ _
  refine pk_le 64 64 (fun _ => ?_) (fun z => absurd z (by omega))
  refine rn_bz _ (fun e1 => rn_bz _ (fun e2 => ?_) (fun e2 => ?_)) (fun e1 => rn_bz _ (fun e2 => ?_) (fun e2 => ?_))
  · rw [e1, e2] at h
    exact ek_v (P := post) (by decide) h
  · rw [e1, e2] at h
    exact ek_v (P := post) (by decide) h
  · rw [e1, e2] at h
    exact ek_v (P := post) (by decide) h
  · rw [e1, e2] at h
    exact ek_v (P := post) (by decide) h
theorem rn_t97 {post : Int32 → Prop} {J : Int32 → Int32 → Int32 → Prop} {T i s t u : Nat} {B : Bool} {z : Int32} (hT : T < 256) (hs : s < 8) (ht : t < 8) (hu : u < 8)
    (h : J z (rn_b (B && T.testBit (s ^^^ t ^^^ u))) (nI (i + 1))) : wX_closedUnderTriples_97 post J (nI T) (rn_b B) (nI i) (nI s) (nI t) (nI u) z := by
  have hst : s ^^^ t ^^^ u < 2 ^ 3 := Nat.xor_lt_two_pow (Nat.xor_lt_two_pow hs ht) hu
  refine rn_bz B (fun e => ?_) (fun e => nm_r (nI_1 i) ?_)
  · subst e
    refine rn_hs T (s ^^^ t ^^^ u) (fun h1 => nm_r (nI_1 i) ?_) (fun h1 => nm_r (nI_1 i) ?_) rfl (by rw [rn_xor, rn_xor]) (by omega) (by omega)
    · rw [h1] at h
      exact h
    · rw [h1] at h
      exact h
  · subst e
    exact h
theorem rn_tst {post : Int32 → Prop} {T n i : Nat} {A B : Bool} (hT : T < 256) (hi : i < 512)
    (h : wX_closedUnderTriples_6 post (nI T) n (rn_b (A && rn_ma T i)) (rn_b (B && rn_pa T i)) (nI (i + 1))) : wX_closedUnderTriples_6 post (nI T) (n + 1) (rn_b A) (rn_b B) (nI i) := by
  have hs : i / 64 < 8 := by omega
  have ht : i / 8 % 8 < 8 := by omega
  have hu : i % 8 < 8 := by omega
  have hm : i / 64 &&& i / 8 % 8 ||| i / 64 &&& i % 8 ||| i / 8 % 8 &&& i % 8 < 2 ^ 3 := Nat.or_lt_two_pow (Nat.or_lt_two_pow (Nat.lt_of_le_of_lt Nat.and_le_left hs) (Nat.lt_of_le_of_lt Nat.and_le_left hs)) (Nat.lt_of_le_of_lt Nat.and_le_left ht)
  refine pk_le 512 i (fun z => absurd z (by omega)) (fun _ => nm_r (rn_s6 (by omega)) (nm_r (e' := nI (i / 8 % 8)) (by rw [rn_s3 (by omega), rn_a7 (by omega)]) (nm_r (rn_a7 (by omega)) ?_)))
  refine rn_hs T (i / 64) (fun h1 => rn_hs T (i / 8 % 8) (fun h2 => rn_hs T (i % 8) (fun h3 => nm_r (e' := nI (i / 64 &&& i / 8 % 8 ||| i / 64 &&& i % 8 ||| i / 8 % 8 &&& i % 8)) (by rw [rn_and, rn_and, rn_and, rn_or, rn_or]) ?_) (fun h3 => nm_r (nI_1 i) ?_)) (fun h2 => nm_r (nI_1 i) ?_)) (fun h1 => nm_r (nI_1 i) ?_)
  · have e1 : rn_ma T i = T.testBit (i / 64 &&& i / 8 % 8 ||| i / 64 &&& i % 8 ||| i / 8 % 8 &&& i % 8) := by unfold rn_ma; rw [h1, h2, h3]; rfl
    have e2 : rn_pa T i = T.testBit (i / 64 ^^^ i / 8 % 8 ^^^ i % 8) := by unfold rn_pa; rw [h1, h2, h3]; rfl
    rw [e1, e2] at h
    refine rn_bz A (fun e => ?_) (fun e => ?_)
    · subst e
      refine rn_hs T (i / 64 &&& i / 8 % 8 ||| i / 64 &&& i % 8 ||| i / 8 % 8 &&& i % 8) (fun h4 => ?_) (fun h4 => ?_)
      · rw [h4] at h
        exact rn_t97 hT hs ht hu h
      · rw [h4] at h
        exact rn_t97 hT hs ht hu h
    · subst e
      exact rn_t97 hT hs ht hu h
  · have e1 : rn_ma T i = true := by unfold rn_ma; rw [h3, Bool.and_false, Bool.and_false]; rfl
    have e2 : rn_pa T i = true := by unfold rn_pa; rw [h3, Bool.and_false, Bool.and_false]; rfl
    rw [e1, e2, Bool.and_true, Bool.and_true] at h
    exact h
  · have e1 : rn_ma T i = true := by unfold rn_ma; rw [h2, Bool.false_and, Bool.and_false]; rfl
    have e2 : rn_pa T i = true := by unfold rn_pa; rw [h2, Bool.false_and, Bool.and_false]; rfl
    rw [e1, e2, Bool.and_true, Bool.and_true] at h
    exact h
  · have e1 : rn_ma T i = true := by unfold rn_ma; rw [h1, Bool.false_and]; rfl
    have e2 : rn_pa T i = true := by unfold rn_pa; rw [h1, Bool.false_and]; rfl
    rw [e1, e2, Bool.and_true, Bool.and_true] at h
    exact h
theorem rn_triplesC {post : Int32 → Prop} {T : Nat} (hT : T < 256) (h : post (nI (16 * (rn_al (rn_ma T) 512).toNat + 32 * (rn_al (rn_pa T) 512).toNat))) : wpX_closedUnderTriples post () (nI T) := by
  refine pk_loop (σ := Unit) (fun n i _ => wX_closedUnderTriples_6 post (nI T) n (rn_b (rn_al (rn_ma T) i)) (rn_b (rn_al (rn_pa T) i)) (nI i)) (fun _ _ => True) 512 0 () (by omega) trivial ?_ (fun n i _ hi _ hw => rn_tst hT hi (hw () trivial))
  intro n _ _
  refine pk_le 512 512 (fun _ => ?_) (fun z => absurd z (by omega))
  refine rn_bz _ (fun e1 => rn_bz _ (fun e2 => ?_) (fun e2 => ?_)) (fun e1 => rn_bz _ (fun e2 => ?_) (fun e2 => ?_))
  · rw [e1, e2] at h
    exact ek_v (P := post) (by decide) h
  · rw [e1, e2] at h
    exact ek_v (P := post) (by decide) h
  · rw [e1, e2] at h
    exact ek_v (P := post) (by decide) h
  · rw [e1, e2] at h
    exact ek_v (P := post) (by decide) h
/-- what a mark says -/
def rn_M (T mk : Nat) : Prop := mk < 128 ∧ mk.testBit 2 = rn_al (rn_me T) 64 ∧ mk.testBit 3 = rn_al (rn_jo T) 64 ∧ mk.testBit 4 = rn_al (rn_ma T) 512 ∧ mk.testBit 5 = rn_al (rn_pa T) 512
def rn_sum (a b f : Nat) (me jo ma pa : Bool) : Nat := 1 * a + 2 * b + (4 * me.toNat + 8 * jo.toNat) + (16 * ma.toNat + 32 * pa.toNat) + f
theorem rn_sumM : ∀ a, a < 2 → ∀ b, b < 2 → ∀ me jo ma pa : Bool, (rn_sum a b 0 me jo ma pa < 128 ∧ (rn_sum a b 0 me jo ma pa).testBit 2 = me ∧ (rn_sum a b 0 me jo ma pa).testBit 3 = jo ∧ (rn_sum a b 0 me jo ma pa).testBit 4 = ma ∧ (rn_sum a b 0 me jo ma pa).testBit 5 = pa) ∧ (rn_sum a b 64 me jo ma pa < 128 ∧ (rn_sum a b 64 me jo ma pa).testBit 2 = me ∧ (rn_sum a b 64 me jo ma pa).testBit 3 = jo ∧ (rn_sum a b 64 me jo ma pa).testBit 4 = ma ∧ (rn_sum a b 64 me jo ma pa).testBit 5 = pa) := by decide +kernel
theorem rn_traits {post : Int32 → Prop} {T : Nat} (hT : T < 256) (h : ∀ mk, rn_M T mk → post (nI mk)) : wpX_traitsOf post () (nI T) := by
  have e0 : (1 * (nI T &&& 1)) + (2 * ((nI T >>> ((7 : Int32) &&& 31)) &&& 1)) = nI (1 * (T % 2) + 2 * (T / 128 % 2)) := by
    rw [rn_a1 (by omega), rn_s7 (by omega), rn_a1 (by omega)]
    show nI 1 * nI (T % 2) + nI 2 * nI (T / 128 % 2) = _
    rw [pk_mul, pk_mul, nI_add]
  obtain ⟨h0, h64⟩ := rn_sumM (T % 2) (by omega) (T / 128 % 2) (by omega) (rn_al (rn_me T) 64) (rn_al (rn_jo T) 64) (rn_al (rn_ma T) 512) (rn_al (rn_pa T) 512)
  refine nm_r e0 (rn_pairsC hT (nm_r (nI_add _ _) (rn_triplesC hT (nm_r (nI_add _ _) ?_))))
  refine pk_loop (fun n i (s : Int32) => wX_traitsOf_33 post (nI T) (nI (1 * (T % 2) + 2 * (T / 128 % 2) + (4 * (rn_al (rn_me T) 64).toNat + 8 * (rn_al (rn_jo T) 64).toNat) + (16 * (rn_al (rn_ma T) 512).toNat + 32 * (rn_al (rn_pa T) 512).toNat))) n s (nI i)) (fun _ _ => True) 8 0 1 (by omega) trivial ?_ ?_
  · intro n s _
    refine pk_le 8 8 (fun _ => br_c (fun _ => h _ h0) (fun _ => ?_)) (fun z => absurd z (by omega))
    exact ek_v (P := post) (nI_add _ 64) (h _ h64)
  · intro n i s hi _ hw
    exact pk_le 8 i (fun z => absurd z (by omega)) (fun _ => rn_hs T i (fun _ => rn_hs T (7 - i) (fun _ => nm_r (nI_1 i) (hw _ trivial)) (fun _ => nm_r (nI_1 i) (hw _ trivial)) rfl (pk_sub (a := 7) (by omega)) (by omega) (by omega)) (fun _ => nm_r (nI_1 i) (hw _ trivial)))
/-! the object is made: new, define, require -/
theorem rn_define {post : Int32 → St2 → Prop} {f1 f2 f3 f4 f5 : Int32} {a1 a2 a3 a4 a5 a6 a7 a8 a9 a10 a11 a12 a13 a14 : Nat → Int32} {r T : Nat} (hr : r < 6) (hT : T < 256) (h3 : a3 r = 0)
    (H : ∀ q mk, rn_M T mk → post q (f1, f2, f3, f4, f5, upd a1 r (nI T), upd a2 r (nI mk), a3, a4, a5, a6, a7, a8, a9, a10, a11, a12, a13, a14)) :
    wpX_define post (f1, f2, f3, f4, f5, a1, a2, a3, a4, a5, a6, a7, a8, a9, a10, a11, a12, a13, a14) (nI r) (nI T) := by
  refine br_f (nI_pos (by omega)) (pk_le r 5 (fun _ => br_f (nI_pos (by omega)) (pk_le T 255 (fun _ => ⟨pk_in r 6 hr, ?_⟩) (fun z => absurd z (by omega)))) (fun z => absurd z (by omega)))
  rw [nI_clamp (show r < 2 ^ 31 by omega)]
  refine br_t (by rw [h3]; decide) ⟨pk_in r 6 hr, nm_e (rn_traits hT (fun mk hm => ⟨pk_in r 6 hr, nm_e ?_⟩))⟩
  refine pk_loop (fun n i (s : Int32) => wX_define_59 post (nI T) f1 f2 f3 f4 f5 (upd a1 r (nI T)) (upd a2 r (nI mk)) a3 a4 a5 a6 a7 a8 a9 a10 a11 a12 a13 a14 n s (nI i)) (fun _ _ => True) 8 0 0 (by omega) trivial ?_ ?_
  · intro n s _
    exact pk_le 8 8 (fun _ => H s mk hm) (fun z => absurd z (by omega))
  · intro n i s hi _ hw
    exact pk_le 8 i (fun z => absurd z (by omega)) (fun _ => nm_e (nm_r (nI_1 i) (hw _ trivial)))
theorem rn_isVar {post : Int32 → Prop} {f2 f3 f4 f5 : Int32} {a1 a2 a3 a4 a5 a6 a7 a8 a9 a10 a11 a12 a13 a14 : Nat → Int32} {v : Nat} (hv : v < 3) (h : post 1) : wpX_isVar post (3, f2, f3, f4, f5, a1, a2, a3, a4, a5, a6, a7, a8, a9, a10, a11, a12, a13, a14) (nI v) :=
  br_f (nI_pos (by omega)) (pk_le 3 v (fun z => absurd z (by omega)) (fun _ => h))
theorem rn_require {post : Int32 → St2 → Prop} {f3 f4 f5 : Int32} {a1 a2 a3 a4 a5 a6 a7 a8 a9 a10 a11 a12 a13 a14 : Nat → Int32} {l r x y z : Nat} (hl : l < 20) (hr : r < 6) (hx : x < 3) (hy : y < 3) (hz : z < 3)
    (H : post (nI l) (3, nI (l + 1), f3, f4, f5, a1, a2, upd a3 r (a3 r + 1), upd a4 l (nI r), upd a5 l (nI x), upd a6 l (nI y), upd a7 l (nI z), a8, a9, a10, a11, a12, a13, a14)) :
    wpX_require post (3, nI l, f3, f4, f5, a1, a2, a3, a4, a5, a6, a7, a8, a9, a10, a11, a12, a13, a14) (nI r) (nI x) (nI y) (nI z) := by
  refine br_f (nI_pos (by omega)) (pk_le r 5 (fun _ => rn_isVar hx (br_f (by decide) (rn_isVar hy (br_f (by decide) (rn_isVar hz (br_f (by decide) ?_)))))) (fun z => absurd z (by omega)))
  rw [nI_clamp (show r < 2 ^ 31 by omega), nI_clamp (show l < 2 ^ 31 by omega)]
  refine pk_eq l 20 (fun z => absurd z (by omega)) (fun _ => ⟨pk_in l 20 hl, nm_e ⟨pk_in l 20 hl, nm_e ⟨pk_in l 20 hl, nm_e ⟨pk_in l 20 hl, nm_e ⟨pk_in r 6 hr, pk_in r 6 hr, nm_e (nm_r (nI_1 l) ?_)⟩⟩⟩⟩⟩)
  rw [nI_pred]
  exact H
theorem rn_init {post : St2 → Prop} (H : ∀ a1 a2 a8 : Nat → Int32, (∀ j, j < 8 → a8 j = 2) → post (3, 0, (-1), 0, 0, a1, a2, (fun _ => 0), (fun _ => 0), (fun _ => 0), (fun _ => 0), (fun _ => 0), a8, (fun _ => 0), (fun _ => 0), (fun _ => 0), (fun _ => 0), (fun _ => 0), (fun _ => 0))) :
    wpX_init post 100 2000 (0, 0, 0, 0, 0) 3 := by
  refine ⟨by omega, by omega, by omega, by omega, by omega, by omega, by omega, by omega, by omega, by omega, by omega, by omega, by omega, by omega, by omega, by omega, by omega, by omega, by omega, by omega, by omega, by omega, by omega, by omega, by omega, by omega, by omega, by omega, ?_⟩
  refine pk_le 2 3 (fun _ => pk_le 3 8 (fun _ => ?_) (fun z => absurd z (by omega))) (fun z => absurd z (by omega))
  refine pk_loop (fun n i (s : (Nat → Int32) × (Nat → Int32)) => wX_init_147 post 100 2000 14 226 3 0 0 0 0 n (nI i) s.1 s.2 (fun _ => 0) (fun _ => 0) (fun _ => 0) (fun _ => 0) (fun _ => 0) (fun _ => 0) (fun _ => 0) (fun _ => 0) (fun _ => 0) (fun _ => 0) (fun _ => 0) (fun _ => 0)) (fun _ _ => True) 6 0 ((fun _ => 0), (fun _ => 0)) (by omega) trivial ?_ ?_
  · intro n s _
    refine pk_le 6 6 (fun _ => ?_) (fun z => absurd z (by omega))
    exact pk_loop (fun n i (t : Nat → Int32) => wX_init_178 post 100 2000 14 226 3 0 0 0 0 n (nI i) s.1 s.2 (fun _ => 0) (fun _ => 0) (fun _ => 0) (fun _ => 0) (fun _ => 0) t (fun _ => 0) (fun _ => 0) (fun _ => 0) (fun _ => 0) (fun _ => 0) (fun _ => 0)) (fun i t => ∀ j, j < i → t j = 2) 8 0 (fun _ => 0) (by omega) lt_0
      (fun n t ht => pk_le 8 8 (fun _ => H s.1 s.2 t ht) (fun z => absurd z (by omega)))
      (fun n i t hi ht hw => pk_le 8 i (fun z => absurd z (by omega)) (fun _ => ⟨pk_in i 8 hi, nm_e (nm_r (nI_1 i) (hw _ (rn_fill (f := fun _ => 2) (nI_clamp (by omega)) ht rfl)))⟩))
  · intro n i s hi _ hw
    exact pk_le 6 i (fun z => absurd z (by omega)) (fun _ => ⟨pk_in i 6 hi, nm_e ⟨pk_in i 6 hi, nm_e (nm_r (nI_1 i) (hw (_, _) trivial))⟩⟩)
end
section
/-! the picture: bit v of an assignment, the places of a constraint, the tables, the domains -/
def rn_v (m v : Nat) : Nat := m / 2 ^ v % 2
def rn_x (c : Nat) : Nat := if c = 0 then 0 else 2
def rn_y (c : Nat) : Nat := if c = 0 then 1 else 0
def rn_z (c : Nat) : Nat := if c = 0 then 2 else 1
def rn_ti (c m : Nat) : Nat := 4 * rn_v m (rn_x c) + 2 * rn_v m (rn_y c) + rn_v m (rn_z c)
theorem rn_xyz : ∀ c, c < 2 → rn_x c < 3 ∧ rn_y c < 3 ∧ rn_z c < 3 ∧ rn_x c ≠ rn_y c ∧ rn_x c ≠ rn_z c ∧ rn_y c ≠ rn_z c := by decide
def rn_K (V M : Nat → Nat) (a1 a2 a3 a4 a5 a6 a7 a8 : Nat → Int32) : Prop :=
  (∀ c, c < 2 → V c < 256 ∧ a1 c = nI (V c) ∧ a2 c = nI (M c) ∧ rn_M (V c) (M c) ∧ a3 c = 1 ∧ a4 c = nI c ∧ a5 c = nI (rn_x c) ∧ a6 c = nI (rn_y c) ∧ a7 c = nI (rn_z c)) ∧ (∀ j, 2 ≤ j → j < 6 → a3 j = 0) ∧ (∀ j, j < 3 → a8 j = 2)
def rn_D (a9 : Nat → Int32) (D : Nat → Nat) : Prop := ∀ v, v < 3 → a9 v = nI (D v) ∧ D v < 4
def rn_up (D : Nat → Nat) (v d : Nat) : Nat → Nat := fun u => if u = v then d else D u
theorem rn_ups {D : Nat → Nat} {v d : Nat} : rn_up D v d v = d := if_pos rfl
theorem rn_upn {D : Nat → Nat} {u v d : Nat} (h : u ≠ v) : rn_up D v d u = D u := if_neg h
theorem rn_Du {a9 : Nat → Int32} {D : Nat → Nat} {v d : Nat} (h : rn_D a9 D) (hd : d < 4) : rn_D (upd a9 v (nI d)) (rn_up D v d) := by
  intro u hu
  by_cases e : u = v
  · subst e
    rw [pk_us, rn_ups]
    exact ⟨rfl, hd⟩
  · rw [pk_un e, rn_upn e]
    exact h u hu
/-- setDomains: all three domains are full -/
theorem rn_setD {post : St2 → Prop} {sk fd : Int32} {a1 a2 a3 a4 a5 a6 a7 a8 a9 a10 a11 a12 a13 a14 : Nat → Int32} (h8 : ∀ j, j < 3 → a8 j = 2) (H : ∀ a9' : Nat → Int32, rn_D a9' (fun _ => 3) → post (3, 2, sk, 0, fd, a1, a2, a3, a4, a5, a6, a7, a8, a9', a10, a11, a12, a13, a14)) : wpX_setDomains post (3, 2, sk, 0, fd, a1, a2, a3, a4, a5, a6, a7, a8, a9, a10, a11, a12, a13, a14) := by
  refine pk_loop (fun n i (t : Nat → Int32) => wX_setDomains_2 post 3 2 sk 0 fd n (nI i) a1 a2 a3 a4 a5 a6 a7 a8 t a10 a11 a12 a13 a14) (fun i t => ∀ j, j < i → t j = 3) 3 0 a9 (by omega) lt_0 ?_ ?_
  · intro n t ht
    exact pk_le 3 3 (fun _ => H t (fun v hv => ⟨ht v hv, (by decide : (3 : Nat) < 4)⟩)) (fun z => absurd z (by omega))
  · intro n i t hi ht hw
    refine pk_le 3 i (fun z => absurd z (by omega)) (fun _ => ⟨pk_in i 8 (by omega), ?_⟩)
    rw [nI_clamp (show i < 2 ^ 31 by omega)]
    exact br_t (h8 i hi) ⟨pk_in i 8 (by omega), nm_e (nm_r (nI_1 i) (hw _ (rn_fill (f := fun _ => 3) rfl ht rfl)))⟩
/-- netTraits: the marks of the two tables in use -/
theorem rn_nt0 {post : Int32 → Prop} {sk fd : Int32} {a1 a2 a3 a4 a5 a6 a7 a8 a9 a10 a11 a12 a13 a14 : Nat → Int32} {n i : Nat} {x : Int32} (hi : i < 6) (h3 : a3 i = 0) (h : wX_netTraits_5 post 3 2 sk 0 fd a1 a2 a3 a4 a5 a6 a7 a8 a9 a10 a11 a12 a13 a14 n x (nI (i + 1))) : wX_netTraits_5 post 3 2 sk 0 fd a1 a2 a3 a4 a5 a6 a7 a8 a9 a10 a11 a12 a13 a14 (n + 1) x (nI i) := by
  refine pk_le 6 i (fun z => absurd z (by omega)) (fun _ => ⟨pk_in i 6 hi, ?_⟩)
  rw [nI_clamp (show i < 2 ^ 31 by omega)]
  exact br_t (by rw [h3]; decide) (nm_r (nI_1 i) h)
theorem rn_nt1 {post : Int32 → Prop} {sk fd : Int32} {a1 a2 a3 a4 a5 a6 a7 a8 a9 a10 a11 a12 a13 a14 : Nat → Int32} {n i : Nat} {x : Int32} (hi : i < 6) (h3 : a3 i = 1) (h : wX_netTraits_5 post 3 2 sk 0 fd a1 a2 a3 a4 a5 a6 a7 a8 a9 a10 a11 a12 a13 a14 n (x &&& a2 i) (nI (i + 1))) : wX_netTraits_5 post 3 2 sk 0 fd a1 a2 a3 a4 a5 a6 a7 a8 a9 a10 a11 a12 a13 a14 (n + 1) x (nI i) := by
  refine pk_le 6 i (fun z => absurd z (by omega)) (fun _ => ⟨pk_in i 6 hi, ?_⟩)
  rw [nI_clamp (show i < 2 ^ 31 by omega)]
  exact br_f (by rw [h3]; decide) ⟨pk_in i 6 hi, nm_e (nm_r (nI_1 i) h)⟩
theorem rn_nt2 {post : Int32 → Prop} {sk fd : Int32} {a1 a2 a3 a4 a5 a6 a7 a8 a9 a10 a11 a12 a13 a14 : Nat → Int32} {n : Nat} {x : Int32} (h : post x) : wX_netTraits_5 post 3 2 sk 0 fd a1 a2 a3 a4 a5 a6 a7 a8 a9 a10 a11 a12 a13 a14 (n + 1) x (nI 6) :=
  pk_le 6 6 (fun _ => h) (fun z => absurd z (by omega))
theorem rn_nt {post : Int32 → Prop} {sk fd : Int32} {a1 a2 a3 a4 a5 a6 a7 a8 a9 a10 a11 a12 a13 a14 : Nat → Int32} {V M : Nat → Nat} (K : rn_K V M a1 a2 a3 a4 a5 a6 a7 a8) (h : post (nI (127 &&& M 0 &&& M 1))) : wpX_netTraits post (3, 2, sk, 0, fd, a1, a2, a3, a4, a5, a6, a7, a8, a9, a10, a11, a12, a13, a14) := by
  obtain ⟨k, k3, _⟩ := K
  obtain ⟨_, _, e0, _, h0, _⟩ := k 0 (by omega)
  obtain ⟨_, _, e1, _, h1, _⟩ := k 1 (by omega)
  have e : (127 : Int32) &&& a2 0 &&& a2 1 = nI (127 &&& M 0 &&& M 1) := by
    rw [e0, e1]
    show nI 127 &&& nI (M 0) &&& nI (M 1) = _
    rw [rn_and, rn_and]
  rw [← e] at h
  exact ⟨7, rn_nt1 (i := 0) (by omega) h0 (rn_nt1 (i := 1) (by omega) h1 (rn_nt0 (i := 2) (by omega) (k3 2 (by omega) (by omega)) (rn_nt0 (i := 3) (by omega) (k3 3 (by omega) (by omega)) (rn_nt0 (i := 4) (by omega) (k3 4 (by omega) (by omega)) (rn_nt0 (i := 5) (by omega) (k3 5 (by omega) (by omega)) (rn_nt2 h))))))⟩
/-- fetch and keep -/
theorem rn_fetch {post : St2 → Prop} {sk fd : Int32} {a1 a2 a3 a4 a5 a6 a7 a8 a9 a10 a11 a12 a13 a14 : Nat → Int32} (b : Nat) (hb : b + 8 ≤ 72) (H : ∀ a9' : Nat → Int32, (∀ j, j < 8 → a9' j = a10 (b + j)) → post (3, 2, sk, 0, fd, a1, a2, a3, a4, a5, a6, a7, a8, a9', a10, a11, a12, a13, a14)) : wpX_fetch post (3, 2, sk, 0, fd, a1, a2, a3, a4, a5, a6, a7, a8, a9, a10, a11, a12, a13, a14) (nI b) := by
  refine pk_loop (fun n i (t : Nat → Int32) => wX_fetch_2 post (nI b) 3 2 sk 0 fd n (nI i) a1 a2 a3 a4 a5 a6 a7 a8 t a10 a11 a12 a13 a14) (fun i t => ∀ j, j < i → t j = a10 (b + j)) 8 0 a9 (by omega) lt_0 ?_ ?_
  · intro n t ht
    exact pk_le 8 8 (fun _ => H t ht) (fun z => absurd z (by omega))
  · intro n i t hi ht hw
    refine pk_le 8 i (fun z => absurd z (by omega)) (fun _ => ⟨pk_in (b + i) 72 (by omega) (nI_add b i), pk_in i 8 hi, ?_⟩)
    rw [nI_add, nI_clamp (show b + i < 2 ^ 31 by omega), nI_clamp (show i < 2 ^ 31 by omega)]
    exact nm_e (nm_r (nI_1 i) (hw _ (rn_fill (f := fun j => a10 (b + j)) rfl ht rfl)))
theorem rn_keep {post : St2 → Prop} {sk fd : Int32} {a1 a2 a3 a4 a5 a6 a7 a8 a9 a10 a11 a12 a13 a14 : Nat → Int32} (b : Nat) (hb : b + 8 ≤ 72) (H : ∀ a10' : Nat → Int32, (∀ j, j < 8 → a10' (b + j) = a9 j) → (∀ j, (j < b ∨ b + 8 ≤ j) → a10' j = a10 j) → post (3, 2, sk, 0, fd, a1, a2, a3, a4, a5, a6, a7, a8, a9, a10', a11, a12, a13, a14)) : wpX_keep post (3, 2, sk, 0, fd, a1, a2, a3, a4, a5, a6, a7, a8, a9, a10, a11, a12, a13, a14) (nI b) := by
  refine pk_loop (fun n i (t : Nat → Int32) => wX_keep_2 post (nI b) 3 2 sk 0 fd n (nI i) a1 a2 a3 a4 a5 a6 a7 a8 a9 t a11 a12 a13 a14) (fun i t => (∀ j, j < i → t (b + j) = a9 j) ∧ (∀ j, (j < b ∨ b + 8 ≤ j) → t j = a10 j)) 8 0 a10 (by omega) ⟨lt_0, fun _ _ => rfl⟩ ?_ ?_
  · intro n t ht
    exact pk_le 8 8 (fun _ => H t ht.1 ht.2) (fun z => absurd z (by omega))
  · intro n i t hi ht hw
    have F : (∀ j, j < i + 1 → upd t (b + i) (a9 i) (b + j) = a9 j) ∧ (∀ j, (j < b ∨ b + 8 ≤ j) → upd t (b + i) (a9 i) j = a10 j) := by
      refine ⟨fun j hj => ?_, fun j hj => ?_⟩
      · by_cases e : j = i
        · rw [e, pk_us]
        · rw [pk_un (by omega)]
          exact ht.1 j (by omega)
      · rw [pk_un (by omega)]
        exact ht.2 j hj
    refine pk_le 8 i (fun z => absurd z (by omega)) (fun _ => ⟨pk_in i 8 hi, pk_in (b + i) 72 (by omega) (nI_add b i), ?_⟩)
    rw [nI_add, nI_clamp (show b + i < 2 ^ 31 by omega), nI_clamp (show i < 2 ^ 31 by omega)]
    exact nm_e (nm_r (nI_1 i) (hw _ F))
/-- fitting -/
def rn_ft (W dx dy dz : Nat) : Nat → Nat
  | 0 => 0
  | t + 1 => if (W.testBit t && (dx.testBit (t / 4) && (dy.testBit (t / 2 % 2) && dz.testBit (t % 2)))) = true then rn_ft W dx dy dz t ||| 2 ^ t else rn_ft W dx dy dz t
theorem rn_ft1 {W dx dy dz t : Nat} (h : (W.testBit t && (dx.testBit (t / 4) && (dy.testBit (t / 2 % 2) && dz.testBit (t % 2)))) = true) : rn_ft W dx dy dz (t + 1) = rn_ft W dx dy dz t ||| 2 ^ t := if_pos h
theorem rn_ft0 {W dx dy dz t : Nat} (h : (W.testBit t && (dx.testBit (t / 4) && (dy.testBit (t / 2 % 2) && dz.testBit (t % 2)))) = false) : rn_ft W dx dy dz (t + 1) = rn_ft W dx dy dz t := if_neg (by rw [h]; decide)
theorem rn_fst {post : Int32 → Prop} {sk cl fd : Int32} {a1 a2 a3 a4 a5 a6 a7 a8 a9 a10 a11 a12 a13 a14 : Nat → Int32} {x y z W n t : Nat} {D : Nat → Nat} (hW : W < 256) (hx : x < 3) (hy : y < 3) (hz : z < 3) (hxy : x ≠ y) (hxz : x ≠ z) (hyz : y ≠ z) (hD : rn_D a9 D) (ht : t < 8)
    (h : wX_fitting_41 post (nI x) (nI y) (nI z) (nI W) 3 2 sk cl fd a1 a2 a3 a4 a5 a6 a7 a8 a9 a10 a11 a12 a13 a14 n (nI (rn_ft W (D x) (D y) (D z) (t + 1))) (nI (t + 1))) :
    wX_fitting_41 post (nI x) (nI y) (nI z) (nI W) 3 2 sk cl fd a1 a2 a3 a4 a5 a6 a7 a8 a9 a10 a11 a12 a13 a14 (n + 1) (nI (rn_ft W (D x) (D y) (D z) t)) (nI t) := by
  have dx := (hD x hx).2
  have dy := (hD y hy).2
  have dz := (hD z hz).2
  have ex : a9 (nI x).toNatClampNeg = nI (D x) := by rw [nI_clamp (by omega)]; exact (hD x hx).1
  have ey : a9 (nI y).toNatClampNeg = nI (D y) := by rw [nI_clamp (by omega)]; exact (hD y hy).1
  have ez : a9 (nI z).toNatClampNeg = nI (D z) := by rw [nI_clamp (by omega)]; exact (hD z hz).1
  refine pk_le 8 t (fun z => absurd z (by omega)) (fun _ => nm_r (rn_s2 (by omega)) (nm_r (e' := nI (t / 2 % 2)) (by rw [rn_s1 (by omega), rn_a1 (by omega)]) (nm_r (rn_a1 (by omega)) ?_)))
  refine pk_eq x y (fun z => absurd z hxy) (fun _ => pk_eq x z (fun e => absurd e hxz) (fun _ => pk_eq y z (fun e => absurd e hyz) (fun _ => ?_)))
  refine And.intro (pk_in x 8 (by omega)) (rn_hs (D x) (t / 4) (fun h1 => And.intro (pk_in y 8 (by omega)) (rn_hs (D y) (t / 2 % 2) (fun h2 => And.intro (pk_in z 8 (by omega)) (rn_hs (D z) (t % 2) (fun h3 => ?_) (fun h3 => ?_) ez rfl (by omega) (by omega))) (fun h2 => ?_) ey rfl (by omega) (by omega))) (fun h1 => ?_) ex rfl (by omega) (by omega))
  · refine br_f (by decide) (br_f (by decide) (rn_hs W t (fun h4 => ?_) (fun h4 => nm_r (nI_1 t) ?_)))
    · rw [rn_ft1 (by rw [h1, h2, h3, h4]; rfl)] at h
      exact nm_r (e' := nI (rn_ft W (D x) (D y) (D z) t ||| 2 ^ t)) (by rw [rn_one (by omega), rn_or]) (nm_r (nI_1 t) h)
    · rw [rn_ft0 (by rw [h4]; rfl)] at h
      exact h
  · rw [rn_ft0 (by rw [h3, Bool.and_false, Bool.and_false, Bool.and_false])] at h
    exact br_f (by decide) (br_t rfl (nm_r (nI_1 t) h))
  · rw [rn_ft0 (by rw [h2, Bool.false_and, Bool.and_false, Bool.and_false])] at h
    exact br_f (by decide) (br_t rfl (nm_r (nI_1 t) h))
  · rw [rn_ft0 (by rw [h1, Bool.false_and, Bool.and_false])] at h
    exact br_f (by decide) (br_t rfl (nm_r (nI_1 t) h))
theorem rn_fitting {post : Int32 → Prop} {sk cl fd : Int32} {a1 a2 a3 a4 a5 a6 a7 a8 a9 a10 a11 a12 a13 a14 : Nat → Int32} {c r x y z W : Nat} {D : Nat → Nat} (hc : c < 20) (hr : r < 6) (hW : W < 256) (h1 : a1 r = nI W) (h4 : a4 c = nI r) (h5 : a5 c = nI x) (h6 : a6 c = nI y) (h7 : a7 c = nI z) (hx : x < 3) (hy : y < 3) (hz : z < 3) (hxy : x ≠ y) (hxz : x ≠ z) (hyz : y ≠ z) (hD : rn_D a9 D)
    (h : post (nI (rn_ft W (D x) (D y) (D z) 8))) : wpX_fitting post (3, 2, sk, cl, fd, a1, a2, a3, a4, a5, a6, a7, a8, a9, a10, a11, a12, a13, a14) (nI c) := by
  have cc : (nI c).toNatClampNeg = c := nI_clamp (by omega)
  have cr : (nI r).toNatClampNeg = r := nI_clamp (by omega)
  refine ⟨pk_in c 20 hc, nm_r (e' := nI x) (by rw [cc]; exact h5) ⟨pk_in c 20 hc, nm_r (e' := nI y) (by rw [cc]; exact h6) ⟨pk_in c 20 hc, nm_r (e' := nI z) (by rw [cc]; exact h7) ⟨pk_in c 20 hc, pk_in r 6 hr (by rw [cc]; exact h4), nm_r (e' := nI W) (by rw [cc, h4, cr]; exact h1) ?_⟩⟩⟩⟩
  exact pk_loop (σ := Unit) (fun n t _ => wX_fitting_41 post (nI x) (nI y) (nI z) (nI W) 3 2 sk cl fd a1 a2 a3 a4 a5 a6 a7 a8 a9 a10 a11 a12 a13 a14 n (nI (rn_ft W (D x) (D y) (D z) t)) (nI t)) (fun _ _ => True) 8 0 () (by omega) trivial
    (fun n _ _ => pk_le 8 8 (fun _ => h) (fun z => absurd z (by omega)))
    (fun n t _ ht _ hw => rn_fst hW hx hy hz hxy hxz hyz hD ht (hw () trivial))
/-- shadow -/
def rn_sh (F w : Nat) : Nat → Nat
  | 0 => 0
  | t + 1 => if F.testBit t = true then (if t &&& w = 0 then rn_sh F w t ||| 1 else rn_sh F w t ||| 2) else rn_sh F w t
theorem rn_sh0 {F w t : Nat} (h : F.testBit t = false) : rn_sh F w (t + 1) = rn_sh F w t := if_neg (by rw [h]; decide)
theorem rn_sh1 {F w t : Nat} (h : F.testBit t = true) (h2 : t &&& w = 0) : rn_sh F w (t + 1) = rn_sh F w t ||| 1 := by
  have e : rn_sh F w (t + 1) = if t &&& w = 0 then rn_sh F w t ||| 1 else rn_sh F w t ||| 2 := if_pos h
  rw [e, if_pos h2]
theorem rn_sh2 {F w t : Nat} (h : F.testBit t = true) (h2 : ¬ t &&& w = 0) : rn_sh F w (t + 1) = rn_sh F w t ||| 2 := by
  have e : rn_sh F w (t + 1) = if t &&& w = 0 then rn_sh F w t ||| 1 else rn_sh F w t ||| 2 := if_pos h
  rw [e, if_neg h2]
theorem rn_shadow {post : Int32 → Prop} {F w : Nat} (hF : F < 256) (h : post (nI (rn_sh F w 8))) : wpX_shadow post () (nI F) (nI w) := by
  refine pk_loop (σ := Unit) (fun n t _ => wX_shadow_4 post (nI F) (nI w) n (nI (rn_sh F w t)) (nI t)) (fun _ _ => True) 8 0 () (by omega) trivial
    (fun n _ _ => pk_le 8 8 (fun _ => h) (fun z => absurd z (by omega))) ?_
  intro n t _ ht _ hw
  have hw' : wX_shadow_4 post (nI F) (nI w) n (nI (rn_sh F w (t + 1))) (nI (t + 1)) := hw () trivial
  have hl : t &&& w ≤ t := Nat.and_le_left
  refine pk_le 8 t (fun z => absurd z (by omega)) (fun _ => rn_hs F t (fun h1 => pk_eq (t &&& w) 0 (fun h2 => ?_) (fun h2 => ?_) (rn_and t w) rfl (by omega) (by omega)) (fun h1 => nm_r (nI_1 t) ?_))
  · rw [rn_sh1 h1 h2] at hw'
    exact nm_r (e' := nI (rn_sh F w t ||| 1)) (rn_or _ 1) (nm_r (nI_1 t) hw')
  · rw [rn_sh2 h1 h2] at hw'
    exact nm_r (e' := nI (rn_sh F w t ||| 2)) (rn_or _ 2) (nm_r (nI_1 t) hw')
  · rw [rn_sh0 h1] at hw'
    exact hw'
theorem rn_ftB {W dx dy dz : Nat} : ∀ t, rn_ft W dx dy dz t < 2 ^ t
  | 0 => Nat.zero_lt_one
  | t + 1 => by
    have ih := rn_ftB (W := W) (dx := dx) (dy := dy) (dz := dz) t
    have p : (2 : Nat) ^ t < 2 ^ (t + 1) := Nat.pow_lt_pow_right (by omega) (by omega)
    cases e : (W.testBit t && (dx.testBit (t / 4) && (dy.testBit (t / 2 % 2) && dz.testBit (t % 2))))
    · rw [rn_ft0 e]
      exact Nat.lt_trans ih p
    · rw [rn_ft1 e]
      exact Nat.or_lt_two_pow (Nat.lt_trans ih p) p
/-- narrow: the three domains under the shadows of what fits -/
def rn_F (W x y z : Nat) (D : Nat → Nat) : Nat := rn_ft W (D x) (D y) (D z) 8
def rn_nD (W x y z : Nat) (D : Nat → Nat) : Nat → Nat :=
  rn_up (rn_up (rn_up D x (D x &&& rn_sh (rn_F W x y z D) 4 8)) y (D y &&& rn_sh (rn_F W x y z D) 2 8)) z (D z &&& rn_sh (rn_F W x y z D) 1 8)
theorem rn_n127 {post : Int32 → St2 → Prop} {sk fd z0 : Int32} {a1 a2 a3 a4 a5 a6 a7 a8 a9 a10 a11 a12 a13 a14 : Nat → Int32} {x y z X : Nat} {D : Nat → Nat} (hx : x < 3) (hy : y < 3) (hz : z < 3) (hz0 : z0 = 0 ∨ z0 = 1) (hD : rn_D a9 D) (hX : X < 2 ^ 31)
    (f : X = D x + D y * 4 + D z * 16 → post 0 (3, 2, sk, z0, fd, a1, a2, a3, a4, a5, a6, a7, a8, a9, a10, a11, a12, a13, a14)) (g : X ≠ D x + D y * 4 + D z * 16 → post 1 (3, 2, sk, z0, fd, a1, a2, a3, a4, a5, a6, a7, a8, a9, a10, a11, a12, a13, a14)) : wX_narrow_127 post (nI x) (nI y) (nI z) (nI X) z0 3 2 sk 0 fd a1 a2 a3 a4 a5 a6 a7 a8 a9 a10 a11 a12 a13 a14 := by
  have n1 : narrow .boolean (.int z0) = .int z0 ∧ fits .boolean (.int z0) = true := by
    rcases hz0 with e | e
    · rw [e]; exact ⟨rfl, rfl⟩
    · rw [e]; exact ⟨rfl, rfl⟩
  refine ⟨n1.1, n1.2, pk_in x 8 (by omega), pk_in y 8 (by omega), pk_in z 8 (by omega), ?_⟩
  obtain ⟨ex, dx⟩ := hD x hx
  obtain ⟨ey, dy⟩ := hD y hy
  obtain ⟨ez, dz⟩ := hD z hz
  rw [nI_clamp (show x < 2 ^ 31 by omega), nI_clamp (show y < 2 ^ 31 by omega), nI_clamp (show z < 2 ^ 31 by omega)]
  refine pk_eq X (D x + D y * 4 + D z * 16) f g rfl ?_ hX (by omega)
  rw [ex, ey, ez]
  show nI (D x) + nI (D y) * nI 4 + nI (D z) * nI 16 = _
  rw [pk_mul, pk_mul, nI_add, nI_add]
theorem rn_nw {post : Int32 → St2 → Prop} {sk fd : Int32} {a1 a2 a3 a4 a5 a6 a7 a8 a9 a10 a11 a12 a13 a14 : Nat → Int32} {c r x y z W : Nat} {D : Nat → Nat} (hc : c < 20) (hr : r < 6) (hW : W < 256) (h1 : a1 r = nI W) (h4 : a4 c = nI r) (h5 : a5 c = nI x) (h6 : a6 c = nI y) (h7 : a7 c = nI z) (hx : x < 3) (hy : y < 3) (hz : z < 3) (hxy : x ≠ y) (hxz : x ≠ z) (hyz : y ≠ z) (hD : rn_D a9 D)
    (H : ∀ (e k : Bool) (a9' : Nat → Int32), (e = true ↔ (rn_nD W x y z D x = D x ∧ rn_nD W x y z D y = D y ∧ rn_nD W x y z D z = D z)) → (k = true ↔ rn_F W x y z D = 0) → rn_D a9' (rn_nD W x y z D) → post (rn_b (!e)) (3, 2, sk, (rn_b k), fd, a1, a2, a3, a4, a5, a6, a7, a8, a9', a10, a11, a12, a13, a14)) :
    wpX_narrow post (3, 2, sk, 0, fd, a1, a2, a3, a4, a5, a6, a7, a8, a9, a10, a11, a12, a13, a14) (nI c) := by
  have cc : (nI c).toNatClampNeg = c := nI_clamp (by omega)
  have cx : (nI x).toNatClampNeg = x := nI_clamp (by omega)
  have cy : (nI y).toNatClampNeg = y := nI_clamp (by omega)
  have cz : (nI z).toNatClampNeg = z := nI_clamp (by omega)
  obtain ⟨ex, dx⟩ := hD x hx
  obtain ⟨ey, dy⟩ := hD y hy
  obtain ⟨ez, dz⟩ := hD z hz
  have hF : rn_F W x y z D < 256 := rn_ftB 8
  have lx : D x &&& rn_sh (rn_F W x y z D) 4 8 ≤ D x := Nat.and_le_left
  have ly : D y &&& rn_sh (rn_F W x y z D) 2 8 ≤ D y := Nat.and_le_left
  have lz : D z &&& rn_sh (rn_F W x y z D) 1 8 ≤ D z := Nat.and_le_left
  have D1 := rn_Du (v := x) hD (show D x &&& rn_sh (rn_F W x y z D) 4 8 < 4 by omega)
  have D2 := rn_Du (v := y) D1 (show D y &&& rn_sh (rn_F W x y z D) 2 8 < 4 by omega)
  have D3 : rn_D _ (rn_nD W x y z D) := rn_Du (v := z) D2 (show D z &&& rn_sh (rn_F W x y z D) 1 8 < 4 by omega)
  have sx : rn_nD W x y z D x < 4 := (D3 x hx).2
  have sy : rn_nD W x y z D y < 4 := (D3 y hy).2
  have sz : rn_nD W x y z D z < 4 := (D3 z hz).2
  refine ⟨pk_in c 20 hc, nm_r (e' := nI x) (by rw [cc]; exact h5) ⟨pk_in c 20 hc, nm_r (e' := nI y) (by rw [cc]; exact h6) ⟨pk_in c 20 hc, nm_r (e' := nI z) (by rw [cc]; exact h7) ⟨pk_in x 8 (by omega), pk_in y 8 (by omega), pk_in z 8 (by omega), ?_⟩⟩⟩⟩
  rw [cx, cy, cz]
  refine nm_r (e' := nI (D x + D y * 4 + D z * 16)) (by rw [ex, ey, ez]; show nI (D x) + nI (D y) * nI 4 + nI (D z) * nI 16 = _; rw [pk_mul, pk_mul, nI_add, nI_add]) ?_
  refine rn_fitting hc hr hW h1 h4 h5 h6 h7 hx hy hz hxy hxz hyz hD ?_
  refine ⟨pk_in x 8 (by omega), rn_shadow (F := rn_F W x y z D) (w := 4) hF ⟨pk_in x 8 (by omega), nm_r (e' := upd a9 x (nI (D x &&& rn_sh (rn_F W x y z D) 4 8))) (by rw [ex, rn_and]) ⟨pk_in y 8 (by omega), rn_shadow (F := rn_F W x y z D) (w := 2) hF ⟨pk_in y 8 (by omega), nm_r (e' := upd (upd a9 x (nI (D x &&& rn_sh (rn_F W x y z D) 4 8))) y (nI (D y &&& rn_sh (rn_F W x y z D) 2 8))) (by rw [pk_un (Ne.symm hxy), ey, rn_and]) ⟨pk_in z 8 (by omega), rn_shadow (F := rn_F W x y z D) (w := 1) hF ⟨pk_in z 8 (by omega), nm_r (e' := upd (upd (upd a9 x (nI (D x &&& rn_sh (rn_F W x y z D) 4 8))) y (nI (D y &&& rn_sh (rn_F W x y z D) 2 8))) z (nI (D z &&& rn_sh (rn_F W x y z D) 1 8))) (by rw [pk_un (Ne.symm hyz), pk_un (Ne.symm hxz), ez, rn_and]) ?_⟩⟩⟩⟩⟩⟩
  refine pk_eq (rn_F W x y z D) 0 (fun e0 => ?_) (fun e0 => ?_)
  · exact rn_n127 hx hy hz (Or.inr rfl) D3 (by omega)
      (fun e => H true true _ ⟨fun _ => ⟨by omega, by omega, by omega⟩, fun _ => rfl⟩ ⟨fun _ => e0, fun _ => rfl⟩ D3)
      (fun e => H false true _ ⟨fun z => absurd z (by decide), fun z => absurd (by rw [z.1, z.2.1, z.2.2]) e⟩ ⟨fun _ => e0, fun _ => rfl⟩ D3)
  · exact rn_n127 hx hy hz (Or.inl rfl) D3 (by omega)
      (fun e => H true false _ ⟨fun _ => ⟨by omega, by omega, by omega⟩, fun _ => rfl⟩ ⟨fun z => absurd z (by decide), fun z => absurd z e0⟩ D3)
      (fun e => H false false _ ⟨fun z => absurd z (by decide), fun z => absurd (by rw [z.1, z.2.1, z.2.2]) e⟩ ⟨fun z => absurd z (by decide), fun z => absurd z e0⟩ D3)
end
section
/-! what narrow does to the domains, in assignments -/
def rn_fit (D : Nat → Nat) (m : Nat) : Bool := (D 0).testBit (rn_v m 0) && ((D 1).testBit (rn_v m 1) && (D 2).testBit (rn_v m 2))
theorem rn_v2 (m v : Nat) : rn_v m v < 2 := Nat.mod_lt _ (by omega)
theorem rn_fitE {D : Nat → Nat} {m : Nat} : rn_fit D m = true ↔ ∀ v, v < 3 → (D v).testBit (rn_v m v) = true := by
  unfold rn_fit
  constructor
  · intro h v hv
    rw [Bool.and_eq_true, Bool.and_eq_true] at h
    rcases rn_lt3 hv with e | e | e
    · rw [e]; exact h.1
    · rw [e]; exact h.2.1
    · rw [e]; exact h.2.2
  · intro h
    rw [h 0 (by omega), h 1 (by omega), h 2 (by omega)]
    rfl
theorem rn_fitC {D D' : Nat → Nat} {m : Nat} (h : ∀ v, v < 3 → D v = D' v) : rn_fit D m = rn_fit D' m := by
  unfold rn_fit
  rw [h 0 (by omega), h 1 (by omega), h 2 (by omega)]
theorem rn_ftT {W dx dy dz t : Nat} : ∀ n, ((rn_ft W dx dy dz n).testBit t = true ↔ t < n ∧ (W.testBit t && (dx.testBit (t / 4) && (dy.testBit (t / 2 % 2) && dz.testBit (t % 2)))) = true)
  | 0 => by
    constructor
    · intro h
      rw [show rn_ft W dx dy dz 0 = 0 from rfl, Nat.zero_testBit] at h
      exact absurd h (by decide)
    · intro h
      exact absurd h.1 (by omega)
  | n + 1 => by
    have ih := rn_ftT (W := W) (dx := dx) (dy := dy) (dz := dz) (t := t) n
    cases e : (W.testBit n && (dx.testBit (n / 4) && (dy.testBit (n / 2 % 2) && dz.testBit (n % 2))))
    · rw [rn_ft0 e, ih]
      constructor
      · intro h
        exact ⟨by omega, h.2⟩
      · intro h
        refine ⟨?_, h.2⟩
        rcases Nat.lt_or_ge t n with z | z
        · exact z
        · have h2 := h.2
          rw [show t = n by omega, e] at h2
          exact absurd h2 (by decide)
    · rw [rn_ft1 e, Nat.testBit_or, Bool.or_eq_true, ih, Nat.testBit_two_pow]
      constructor
      · intro h
        rcases h with h | h
        · exact ⟨by omega, h.2⟩
        · have h2 : n = t := of_decide_eq_true h
          rw [← h2]
          exact ⟨by omega, e⟩
      · intro h
        rcases Nat.lt_or_ge t n with z | z
        · exact Or.inl ⟨z, h.2⟩
        · exact Or.inr (decide_eq_true (by omega))
theorem rn_t12 : ∀ a, a < 2 → ((1 : Nat).testBit a = true ↔ a = 0) ∧ ((2 : Nat).testBit a = true ↔ ¬ a = 0) := by decide
theorem rn_shT {F w a : Nat} (ha : a < 2) : ∀ n, ((rn_sh F w n).testBit a = true ↔ ∃ t, t < n ∧ F.testBit t = true ∧ (t &&& w = 0 ↔ a = 0))
  | 0 => by
    constructor
    · intro h
      rw [show rn_sh F w 0 = 0 from rfl, Nat.zero_testBit] at h
      exact absurd h (by decide)
    · intro h
      obtain ⟨t, ht, _⟩ := h
      exact absurd ht (by omega)
  | n + 1 => by
    have ih := rn_shT (F := F) (w := w) ha n
    have lift : (∃ t, t < n ∧ F.testBit t = true ∧ (t &&& w = 0 ↔ a = 0)) → ∃ t, t < n + 1 ∧ F.testBit t = true ∧ (t &&& w = 0 ↔ a = 0) := fun h => by
      obtain ⟨t, h1, h2⟩ := h
      exact ⟨t, by omega, h2⟩
    have drop : ∀ t, t < n + 1 → F.testBit t = true → (t &&& w = 0 ↔ a = 0) → t = n ∨ ∃ t, t < n ∧ F.testBit t = true ∧ (t &&& w = 0 ↔ a = 0) := fun t h1 h2 h3 => by
      rcases Nat.lt_or_ge t n with z | z
      · exact Or.inr ⟨t, z, h2, h3⟩
      · exact Or.inl (by omega)
    cases e : F.testBit n
    · rw [rn_sh0 e, ih]
      refine ⟨lift, fun h => ?_⟩
      obtain ⟨t, h1, h2, h3⟩ := h
      rcases drop t h1 h2 h3 with z | z
      · rw [z, e] at h2
        exact absurd h2 (by decide)
      · exact z
    · by_cases e2 : n &&& w = 0
      · rw [rn_sh1 e e2, Nat.testBit_or, Bool.or_eq_true, ih, (rn_t12 a ha).1]
        constructor
        · intro h
          rcases h with h | h
          · exact lift h
          · exact ⟨n, by omega, e, ⟨fun _ => h, fun _ => e2⟩⟩
        · intro h
          obtain ⟨t, h1, h2, h3⟩ := h
          rcases drop t h1 h2 h3 with z | z
          · rw [z] at h3
            exact Or.inr (h3.mp e2)
          · exact Or.inl z
      · rw [rn_sh2 e e2, Nat.testBit_or, Bool.or_eq_true, ih, (rn_t12 a ha).2]
        constructor
        · intro h
          rcases h with h | h
          · exact lift h
          · exact ⟨n, by omega, e, ⟨fun z => absurd z e2, fun z => absurd z h⟩⟩
        · intro h
          obtain ⟨t, h1, h2, h3⟩ := h
          rcases drop t h1 h2 h3 with z | z
          · rw [z] at h3
            exact Or.inr (fun q => e2 (h3.mpr q))
          · exact Or.inl z
theorem rn_w421 : ∀ t, t < 8 → (t &&& 4 = 0 ↔ t / 4 = 0) ∧ (t &&& 2 = 0 ↔ t / 2 % 2 = 0) ∧ (t &&& 1 = 0 ↔ t % 2 = 0) := by decide
theorem rn_tiF : ∀ c, c < 2 → ∀ m, m < 8 → rn_ti c m < 8 ∧ rn_ti c m / 4 = rn_v m (rn_x c) ∧ rn_ti c m / 2 % 2 = rn_v m (rn_y c) ∧ rn_ti c m % 2 = rn_v m (rn_z c) := by decide
theorem rn_tiS : ∀ c, c < 2 → ∀ t, t < 8 → ∃ m, m < 8 ∧ rn_ti c m = t := by decide
theorem rn_cov : ∀ c, c < 2 → ∀ v, v < 3 → v = rn_x c ∨ v = rn_y c ∨ v = rn_z c := by decide
theorem rn_fitX {D : Nat → Nat} {c m : Nat} (hc : c < 2) : rn_fit D m = true ↔ (D (rn_x c)).testBit (rn_v m (rn_x c)) = true ∧ (D (rn_y c)).testBit (rn_v m (rn_y c)) = true ∧ (D (rn_z c)).testBit (rn_v m (rn_z c)) = true := by
  obtain ⟨hx, hy, hz, _⟩ := rn_xyz c hc
  rw [rn_fitE]
  constructor
  · intro h
    exact ⟨h _ hx, h _ hy, h _ hz⟩
  · intro h v hv
    rcases rn_cov c hc v hv with e | e | e
    · rw [e]; exact h.1
    · rw [e]; exact h.2.1
    · rw [e]; exact h.2.2
theorem rn_FT {W c : Nat} {D : Nat → Nat} (hc : c < 2) {m : Nat} (hm : m < 8) : (rn_F W (rn_x c) (rn_y c) (rn_z c) D).testBit (rn_ti c m) = true ↔ W.testBit (rn_ti c m) = true ∧ rn_fit D m = true := by
  obtain ⟨t8, tx, ty, tz⟩ := rn_tiF c hc m hm
  unfold rn_F
  rw [rn_ftT, tx, ty, tz, Bool.and_eq_true, Bool.and_eq_true, Bool.and_eq_true, rn_fitX hc]
  exact ⟨fun h => h.2, fun h => ⟨t8, h⟩⟩
/-- D' holds at each place what the fitting triples of constraint c have there -/
def rn_pr (W c : Nat) (D D' : Nat → Nat) : Prop := ∀ v, v < 3 → ∀ a, a < 2 → ((D' v).testBit a = true ↔ ∃ m, m < 8 ∧ rn_v m v = a ∧ W.testBit (rn_ti c m) = true ∧ rn_fit D m = true)
theorem rn_prA {W c w v q d : Nat} {D : Nat → Nat} (hc : c < 2) (hv : v < 3) (hw : ∀ m, m < 8 → (rn_ti c m &&& w = 0 ↔ rn_v m v = 0)) (hd : d = D v &&& rn_sh (rn_F W (rn_x c) (rn_y c) (rn_z c) D) w 8) (hq : q < 2) : d.testBit q = true ↔ ∃ m, m < 8 ∧ rn_v m v = q ∧ W.testBit (rn_ti c m) = true ∧ rn_fit D m = true := by
  rw [hd, Nat.testBit_and, Bool.and_eq_true, rn_shT hq]
  constructor
  · intro h
    obtain ⟨h0, t, h1, h2, h3⟩ := h
    obtain ⟨m, hm, e⟩ := rn_tiS c hc t h1
    rw [← e] at h2 h3
    have h4 := (rn_FT hc hm).mp h2
    have h5 := hw m hm
    have h6 := rn_v2 m v
    refine ⟨m, hm, ?_, h4⟩
    rcases rn_lt2 hq with z | z
    · rw [z]; exact h5.mp (h3.mpr z)
    · have h7 : ¬ rn_v m v = 0 := fun y => absurd (h3.mp (h5.mpr y)) (by omega)
      omega
  · intro h
    obtain ⟨m, hm, e, h1, h2⟩ := h
    have h3 := rn_fitE.mp h2 v hv
    rw [e] at h3
    refine ⟨h3, rn_ti c m, (rn_tiF c hc m hm).1, (rn_FT hc hm).mpr ⟨h1, h2⟩, ?_⟩
    rw [hw m hm, e]
theorem rn_nDp {W c : Nat} {D : Nat → Nat} (hc : c < 2) : rn_pr W c D (rn_nD W (rn_x c) (rn_y c) (rn_z c) D) := by
  obtain ⟨hx, hy, hz, hxy, hxz, hyz⟩ := rn_xyz c hc
  intro v hv a ha
  rcases rn_cov c hc v hv with e | e | e
  · rw [e]
    refine rn_prA (w := 4) hc hx (fun m hm => ?_) ?_ ha
    · obtain ⟨t8, tx, _, _⟩ := rn_tiF c hc m hm
      rw [(rn_w421 _ t8).1, tx]
    · unfold rn_nD
      rw [rn_upn hxz, rn_upn hxy, rn_ups]
  · rw [e]
    refine rn_prA (w := 2) hc hy (fun m hm => ?_) ?_ ha
    · obtain ⟨t8, _, ty, _⟩ := rn_tiF c hc m hm
      rw [(rn_w421 _ t8).2.1, ty]
    · unfold rn_nD
      rw [rn_upn hyz, rn_ups]
  · rw [e]
    refine rn_prA (w := 1) hc hz (fun m hm => ?_) ?_ ha
    · obtain ⟨t8, _, _, tz⟩ := rn_tiF c hc m hm
      rw [(rn_w421 _ t8).2.2, tz]
    · unfold rn_nD
      rw [rn_ups]
theorem rn_ne8 : ∀ F, F < 256 → ¬ F = 0 → ∃ t, t < 8 ∧ F.testBit t = true := by decide +kernel
theorem rn_narrow {post : Int32 → St2 → Prop} {sk fd : Int32} {a1 a2 a3 a4 a5 a6 a7 a8 a9 a10 a11 a12 a13 a14 : Nat → Int32} {V M D : Nat → Nat} {c : Nat} (hc : c < 2) (K : rn_K V M a1 a2 a3 a4 a5 a6 a7 a8) (hD : rn_D a9 D)
    (H : ∀ (e k : Bool) (a9' : Nat → Int32) (D' : Nat → Nat), rn_D a9' D' → rn_pr (V c) c D D' → (e = true ↔ ∀ v, v < 3 → D' v = D v) → (k = true ↔ ∀ m, m < 8 → (V c).testBit (rn_ti c m) = true → ¬ rn_fit D m = true) → post (rn_b (!e)) (3, 2, sk, (rn_b k), fd, a1, a2, a3, a4, a5, a6, a7, a8, a9', a10, a11, a12, a13, a14)) :
    wpX_narrow post (3, 2, sk, 0, fd, a1, a2, a3, a4, a5, a6, a7, a8, a9, a10, a11, a12, a13, a14) (nI c) := by
  obtain ⟨hx, hy, hz, hxy, hxz, hyz⟩ := rn_xyz c hc
  obtain ⟨hV, h1, _, _, _, h4, h5, h6, h7⟩ := K.1 c hc
  refine rn_nw (r := c) (by omega) (by omega) hV h1 h4 h5 h6 h7 hx hy hz hxy hxz hyz hD (fun e k a9' he hk hD' => H e k a9' _ hD' (rn_nDp hc) ?_ ?_)
  · rw [he]
    constructor
    · intro h v hv
      rcases rn_cov c hc v hv with z | z | z
      · rw [z]; exact h.1
      · rw [z]; exact h.2.1
      · rw [z]; exact h.2.2
    · intro h
      exact ⟨h _ hx, h _ hy, h _ hz⟩
  · rw [hk]
    constructor
    · intro h m hm h1 h2
      have h3 := (rn_FT (W := V c) hc hm).mpr ⟨h1, h2⟩
      rw [h, Nat.zero_testBit] at h3
      exact absurd h3 (by decide)
    · intro h
      rcases Nat.eq_zero_or_pos (rn_F (V c) (rn_x c) (rn_y c) (rn_z c) D) with z | z
      · exact z
      · obtain ⟨t, ht, h2⟩ := rn_ne8 (rn_F (V c) (rn_x c) (rn_y c) (rn_z c) D) (rn_ftB 8) (by omega)
        obtain ⟨m, hm, e⟩ := rn_tiS c hc t ht
        have h3 : (rn_F (V c) (rn_x c) (rn_y c) (rn_z c) D).testBit (rn_ti c m) = true := by rw [e]; exact h2
        have h4 := (rn_FT hc hm).mp h3
        exact absurd h4.2 (h m hm h4.1)
/-! filter -/
def rn_sk (s : Bool) : Int32 := cond s 1 (-1)
def rn_p (V : Nat → Nat) (s : Bool) (m : Nat) : Bool := (V 0).testBit (rn_ti 0 m) && (s || (V 1).testBit (rn_ti 1 m))
theorem rn_pA {V : Nat → Nat} {s : Bool} {m : Nat} (h : rn_p V s m = true) {c : Nat} (hc : c < 2) (ha : c = 0 ∨ s = false) : (V c).testBit (rn_ti c m) = true := by
  unfold rn_p at h
  rw [Bool.and_eq_true] at h
  rcases rn_lt2 hc with e | e
  · rw [e]; exact h.1
  · rcases ha with z | z
    · omega
    · rw [z, Bool.false_or] at h
      rw [e]; exact h.2
theorem rn_pI {V : Nat → Nat} {s : Bool} {m : Nat} (h : ∀ c, c < 2 → (c = 0 ∨ s = false) → (V c).testBit (rn_ti c m) = true) : rn_p V s m = true := by
  unfold rn_p
  rw [h 0 (by omega) (Or.inl rfl), Bool.true_and]
  cases e : s
  · rw [h 1 (by omega) (Or.inr e)]; rfl
  · rfl
/-- D lies within D0, keeps its solutions, has no empty domain -/
def rn_in (V : Nat → Nat) (s : Bool) (D0 D : Nat → Nat) : Prop := (∀ v, v < 3 → ∀ a, a < 2 → (D v).testBit a = true → (D0 v).testBit a = true) ∧ (∀ m, m < 8 → rn_p V s m = true → rn_fit D0 m = true → rn_fit D m = true) ∧ (∀ v, v < 3 → ¬ D v = 0)
/-- every value left has a fitting triple in every constraint -/
def rn_st (V : Nat → Nat) (s : Bool) (D : Nat → Nat) : Prop := ∀ c, c < 2 → (c = 0 ∨ s = false) → ∀ v, v < 3 → ∀ a, a < 2 → (D v).testBit a = true → ∃ m, m < 8 ∧ rn_v m v = a ∧ (V c).testBit (rn_ti c m) = true ∧ rn_fit D m = true
theorem rn_prS {W c : Nat} {D D' : Nat → Nat} (h : rn_pr W c D D') : ∀ v, v < 3 → ∀ a, a < 2 → (D' v).testBit a = true → (D v).testBit a = true := by
  intro v hv a ha h1
  obtain ⟨m, hm, e, _, h2⟩ := (h v hv a ha).mp h1
  have h3 := rn_fitE.mp h2 v hv
  rw [e] at h3
  exact h3
theorem rn_inS {V : Nat → Nat} {s : Bool} {D0 D D' : Nat → Nat} {c : Nat} (hc : c < 2) (ha : c = 0 ∨ s = false) (hi : rn_in V s D0 D) (hp : rn_pr (V c) c D D') (hn : ¬ ∀ m, m < 8 → (V c).testBit (rn_ti c m) = true → ¬ rn_fit D m = true) : rn_in V s D0 D' := by
  refine ⟨fun v hv a ha h => hi.1 v hv a ha (rn_prS hp v hv a ha h), fun m hm h1 h2 => rn_fitE.mpr (fun v hv => (hp v hv _ (rn_v2 m v)).mpr ⟨m, hm, rfl, rn_pA h1 hc ha, hi.2.1 m hm h1 h2⟩), fun v hv e => hn (fun m hm h1 h2 => ?_)⟩
  have h3 := (hp v hv _ (rn_v2 m v)).mpr ⟨m, hm, rfl, h1, h2⟩
  rw [e, Nat.zero_testBit] at h3
  exact absurd h3 (by decide)
def rn_pc (d : Nat) : Nat := (d.testBit 0).toNat + (d.testBit 1).toNat
def rn_sz (D : Nat → Nat) : Nat := rn_pc (D 0) + rn_pc (D 1) + rn_pc (D 2)
theorem rn_pcM : ∀ d, d < 4 → ∀ d', d' < 4 → ((¬ d'.testBit 0 = true ∨ d.testBit 0 = true) ∧ (¬ d'.testBit 1 = true ∨ d.testBit 1 = true)) → (rn_pc d' ≤ rn_pc d ∧ (d' = d ∨ rn_pc d' < rn_pc d)) := by decide
theorem rn_pc2 : ∀ d, d < 4 → rn_pc d ≤ 2 := by decide
theorem rn_szM {a9 a9' : Nat → Int32} {D D' : Nat → Nat} (h : rn_D a9 D) (h' : rn_D a9' D') (hs : ∀ v, v < 3 → ∀ a, a < 2 → (D' v).testBit a = true → (D v).testBit a = true) : rn_sz D' ≤ rn_sz D ∧ ((¬ ∀ v, v < 3 → D' v = D v) → rn_sz D' < rn_sz D) := by
  have k : ∀ v, v < 3 → rn_pc (D' v) ≤ rn_pc (D v) ∧ (¬ D' v = D v → rn_pc (D' v) < rn_pc (D v)) := fun v hv => by
    have q := rn_pcM _ (h v hv).2 _ (h' v hv).2 ⟨Decidable.not_or_of_imp (hs v hv 0 (by omega)), Decidable.not_or_of_imp (hs v hv 1 (by omega))⟩
    exact ⟨q.1, fun z => q.2.resolve_left z⟩
  have k0 := k 0 (by omega)
  have k1 := k 1 (by omega)
  have k2 := k 2 (by omega)
  unfold rn_sz
  refine ⟨by omega, fun hn => ?_⟩
  by_cases e0 : D' 0 = D 0
  · by_cases e1 : D' 1 = D 1
    · by_cases e2 : D' 2 = D 2
      · exact absurd (fun v hv => by rcases rn_lt3 hv with e | e | e <;> (rw [e]; assumption)) hn
      · have := k2.2 e2
        omega
    · have := k1.2 e1
      omega
  · have := k0.2 e0
    omega
abbrev rn_J6 : Type := Int32 → Int32 → Int32 → Int32 → Int32 → Int32 → (Nat → Int32) → (Nat → Int32) → (Nat → Int32) → (Nat → Int32) → (Nat → Int32) → (Nat → Int32) → (Nat → Int32) → (Nat → Int32) → (Nat → Int32) → (Nat → Int32) → (Nat → Int32) → (Nat → Int32) → (Nat → Int32) → (Nat → Int32) → Prop
theorem rn_f39 {post : Int32 → St2 → Prop} {J : rn_J6} {x1 sk fd : Int32} {a1 a2 a3 a4 a5 a6 a7 a8 a9 a10 a11 a12 a13 a14 : Nat → Int32} {V M D : Nat → Nat} {n c : Nat} {b : Bool} (hc : c < 2) (hs : ¬ nI c = sk) (K : rn_K V M a1 a2 a3 a4 a5 a6 a7 a8) (hD : rn_D a9 D)
    (Hc : (∀ m, m < 8 → (V c).testBit (rn_ti c m) = true → ¬ rn_fit D m = true) → ∀ a9' : Nat → Int32, post 0 (3, 2, sk, 0, fd, a1, a2, a3, a4, a5, a6, a7, a8, a9', a10, a11, a12, a13, a14))
    (Hn : ∀ (e : Bool) (a9' : Nat → Int32) (D' : Nat → Nat), rn_D a9' D' → rn_pr (V c) c D D' → (e = true ↔ ∀ v, v < 3 → D' v = D v) → (¬ ∀ m, m < 8 → (V c).testBit (rn_ti c m) = true → ¬ rn_fit D m = true) → wX_filter_39 post J x1 n (rn_b (b || !e)) (nI (c + 1)) 3 2 sk 0 fd a1 a2 a3 a4 a5 a6 a7 a8 a9' a10 a11 a12 a13 a14) :
    wX_filter_39 post J x1 (n + 1) (rn_b b) (nI c) 3 2 sk 0 fd a1 a2 a3 a4 a5 a6 a7 a8 a9 a10 a11 a12 a13 a14 := by
  refine pk_le 2 c (fun z => absurd z (by omega)) (fun _ => br_f hs (rn_narrow hc K hD (fun e k a9' D' h1 h2 h3 h4 => ?_)))
  have fin : ∀ z : Bool, (b || !e) = z → wX_filter_72 post J (wX_filter_39 post J x1 n) x1 (nI c) (rn_b z) 3 2 sk (rn_b k) fd a1 a2 a3 a4 a5 a6 a7 a8 a9' a10 a11 a12 a13 a14 := by
    intro z hz
    refine rn_bz k (fun e1 => Hc (h4.mp e1) a9') (fun e1 => nm_r (nI_1 c) ?_)
    subst e1
    rw [← hz]
    exact Hn e a9' D' h1 h2 h3 (fun y => absurd (h4.mpr y) (by decide))
  refine rn_bz (!e) (fun e1 => fin true ?_) (fun e1 => rn_bz b (fun e2 => fin true ?_) (fun e2 => fin false ?_))
  · rw [e1, Bool.or_true]
  · rw [e2, Bool.true_or]
  · rw [e1, e2]; rfl
theorem rn_f39s {post : Int32 → St2 → Prop} {J : rn_J6} {x1 x2 sk fd : Int32} {a1 a2 a3 a4 a5 a6 a7 a8 a9 a10 a11 a12 a13 a14 : Nat → Int32} {n c : Nat} (hc : c < 2) (hs : nI c = sk) (h : wX_filter_39 post J x1 n x2 (nI (c + 1)) 3 2 sk 0 fd a1 a2 a3 a4 a5 a6 a7 a8 a9 a10 a11 a12 a13 a14) : wX_filter_39 post J x1 (n + 1) x2 (nI c) 3 2 sk 0 fd a1 a2 a3 a4 a5 a6 a7 a8 a9 a10 a11 a12 a13 a14 :=
  pk_le 2 c (fun z => absurd z (by omega)) (fun _ => br_t hs (nm_r (nI_1 c) h))
theorem rn_f39e {post : Int32 → St2 → Prop} {J : rn_J6} {sk fd : Int32} {a1 a2 a3 a4 a5 a6 a7 a8 a9 a10 a11 a12 a13 a14 : Nat → Int32} {n i : Nat} {b : Bool} (f : b = false → post 1 (3, 2, sk, 0, fd, a1, a2, a3, a4, a5, a6, a7, a8, a9, a10, a11, a12, a13, a14)) (g : b = true → J (nI (i + 1)) 3 2 sk 0 fd a1 a2 a3 a4 a5 a6 a7 a8 a9 a10 a11 a12 a13 a14) : wX_filter_39 post J (nI i) (n + 1) (rn_b b) (nI 2) 3 2 sk 0 fd a1 a2 a3 a4 a5 a6 a7 a8 a9 a10 a11 a12 a13 a14 :=
  pk_le 2 2 (fun _ => rn_bz b (fun e => nm_r (nI_1 i) (g e)) (fun e => f e)) (fun z => absurd z (by omega))
theorem rn_f29 {post : Int32 → St2 → Prop} {sk fd : Int32} {a1 a2 a3 a4 a5 a6 a7 a8 a10 a11 a12 a13 a14 : Nat → Int32} {V M D0 : Nat → Nat} {s : Bool} (hs : sk = rn_sk s) (K : rn_K V M a1 a2 a3 a4 a5 a6 a7 a8)
    (H0 : (∀ m, m < 8 → rn_p V s m = true → ¬ rn_fit D0 m = true) → ∀ a9' : Nat → Int32, post 0 (3, 2, sk, 0, fd, a1, a2, a3, a4, a5, a6, a7, a8, a9', a10, a11, a12, a13, a14))
    (H1 : ∀ (a9' : Nat → Int32) (D' : Nat → Nat), rn_D a9' D' → rn_in V s D0 D' → rn_st V s D' → post 1 (3, 2, sk, 0, fd, a1, a2, a3, a4, a5, a6, a7, a8, a9', a10, a11, a12, a13, a14)) :
    ∀ (n i : Nat) (a9 : Nat → Int32) (D : Nat → Nat), rn_D a9 D → rn_in V s D0 D → rn_sz D < n → i + n ≤ 18 → wX_filter_29 post n (nI i) 3 2 sk 0 fd a1 a2 a3 a4 a5 a6 a7 a8 a9 a10 a11 a12 a13 a14 := by
  intro n
  induction n with
  | zero =>
    intro i a9 D _ _ h _
    exact absurd h (by omega)
  | succ n ih =>
    intro i a9 D hD hi hz hn
    refine pk_le 18 i (fun z => absurd z (by omega)) (fun _ => ⟨3, ?_⟩)
    have no : ∀ c, c < 2 → (c = 0 ∨ s = false) → ∀ D1, rn_in V s D0 D1 → (∀ m, m < 8 → (V c).testBit (rn_ti c m) = true → ¬ rn_fit D1 m = true) → ∀ m, m < 8 → rn_p V s m = true → ¬ rn_fit D0 m = true := fun c hc ha D1 h1 h2 m hm h3 h4 => h2 m hm (rn_pA h3 hc ha) (h1.2.1 m hm h3 h4)
    refine rn_f39 (c := 0) (b := false) (by omega) (by rw [hs]; cases s <;> decide) K hD (fun h a9' => H0 (no 0 (by omega) (Or.inl rfl) D hi h) a9') (fun e1 a9' D1 hD1 p1 q1 n1 => ?_)
    have i1 := rn_inS (by omega) (Or.inl rfl) hi p1 n1
    have z1 := rn_szM hD hD1 (rn_prS p1)
    cases es : s
    · subst es
      refine rn_f39 (c := 1) (by omega) (by rw [hs]; decide) K hD1 (fun h a9' => H0 (no 1 (by omega) (Or.inr rfl) D1 i1 h) a9') (fun e2 a9'' D2 hD2 p2 q2 n2 => ?_)
      have i2 := rn_inS (by omega) (Or.inr rfl) i1 p2 n2
      have z2 := rn_szM hD1 hD2 (rn_prS p2)
      refine rn_f39e (fun eb => H1 a9'' D2 hD2 i2 ?_) (fun eb => ih (i + 1) a9'' D2 hD2 i2 ?_ (by omega))
      · have t1 : e1 = true := by
          cases e1
          · exact absurd eb (by cases e2 <;> decide)
          · rfl
        have t2 : e2 = true := by
          cases e2
          · exact absurd eb (by cases e1 <;> decide)
          · rfl
        have g1 := q1.mp t1
        have g2 := q2.mp t2
        intro c hc _ v hv a ha h
        rw [g2 v hv] at h
        rcases rn_lt2 hc with e | e
        · obtain ⟨m, hm, h1, h2, h3⟩ := (p1 v hv a ha).mp h
          rw [e]
          refine ⟨m, hm, h1, h2, ?_⟩
          rw [rn_fitC (D' := D) (fun v hv => by rw [g2 v hv, g1 v hv])]
          exact h3
        · rw [← g2 v hv] at h
          obtain ⟨m, hm, h1, h2, h3⟩ := (p2 v hv a ha).mp h
          rw [e]
          refine ⟨m, hm, h1, h2, ?_⟩
          rw [rn_fitC (D' := D1) (fun v hv => g2 v hv)]
          exact h3
      · cases e1
        · have := z1.2 (fun h => absurd (q1.mpr h) (by decide))
          omega
        · cases e2
          · have := z2.2 (fun h => absurd (q2.mpr h) (by decide))
            omega
          · exact absurd eb (by decide)
    · subst es
      refine rn_f39s (c := 1) (by omega) (by rw [hs]; rfl) ?_
      refine rn_f39e (fun eb => H1 a9' D1 hD1 i1 ?_) (fun eb => ih (i + 1) a9' D1 hD1 i1 ?_ (by omega))
      · have t1 : e1 = true := by
          cases e1
          · exact absurd eb (by decide)
          · rfl
        have g1 := q1.mp t1
        intro c hc hca v hv a ha h
        have e : c = 0 := by
          rcases hca with z | z
          · exact z
          · exact absurd z (by decide)
        obtain ⟨m, hm, h1, h2, h3⟩ := (p1 v hv a ha).mp h
        rw [e]
        refine ⟨m, hm, h1, h2, ?_⟩
        rw [rn_fitC (D' := D) (fun v hv => g1 v hv)]
        exact h3
      · cases e1
        · have := z1.2 (fun h => absurd (q1.mpr h) (by decide))
          omega
        · exact absurd eb (by decide)
theorem rn_filter {post : Int32 → St2 → Prop} {sk fd : Int32} {a1 a2 a3 a4 a5 a6 a7 a8 a9 a10 a11 a12 a13 a14 : Nat → Int32} {V M D : Nat → Nat} {s : Bool} (hs : sk = rn_sk s) (K : rn_K V M a1 a2 a3 a4 a5 a6 a7 a8) (hD : rn_D a9 D)
    (H0 : (∀ m, m < 8 → rn_p V s m = true → ¬ rn_fit D m = true) → ∀ a9' : Nat → Int32, post 0 (3, 2, sk, 0, fd, a1, a2, a3, a4, a5, a6, a7, a8, a9', a10, a11, a12, a13, a14))
    (H1 : ∀ (a9' : Nat → Int32) (D' : Nat → Nat), rn_D a9' D' → rn_in V s D D' → rn_st V s D' → post 1 (3, 2, sk, 0, fd, a1, a2, a3, a4, a5, a6, a7, a8, a9', a10, a11, a12, a13, a14)) : wpX_filter post (3, 2, sk, 0, fd, a1, a2, a3, a4, a5, a6, a7, a8, a9, a10, a11, a12, a13, a14) := by
  have sz : rn_sz D < 7 := by
    have := rn_pc2 _ (hD 0 (by omega)).2
    have := rn_pc2 _ (hD 1 (by omega)).2
    have := rn_pc2 _ (hD 2 (by omega)).2
    unfold rn_sz
    omega
  refine pk_loop (σ := Unit) (fun n i _ => wX_filter_2 post 3 2 sk 0 fd a1 a2 a3 a4 a5 a6 a7 a8 a9 a10 a11 a12 a13 a14 n (nI i)) (fun i _ => ∀ v, v < i → ¬ D v = 0) 3 0 () (by omega) lt_0 ?_ ?_
  · intro n _ h
    exact pk_le 3 3 (fun _ => ⟨7, rn_f29 hs K H0 H1 7 0 a9 D hD ⟨fun _ _ _ _ h => h, fun _ _ _ h => h, h⟩ sz (by omega)⟩) (fun z => absurd z (by omega))
  · intro n i _ hi h hw
    have di := (hD i hi).2
    refine pk_le 3 i (fun z => absurd z (by omega)) (fun _ => ⟨pk_in i 8 (by omega), pk_eq (D i) 0 (fun e => H0 (fun m hm _ hf => ?_) a9) (fun e => nm_r (nI_1 i) (hw () (lt_s h e))) (by rw [nI_clamp (by omega)]; exact (hD i hi).1) rfl (by omega) (by omega)⟩)
    have h3 := rn_fitE.mp hf i hi
    rw [e, Nat.zero_testBit] at h3
    exact absurd h3 (by decide)
/-! filter decides where the tables are closed under meet, or under join -/
theorem rn_meU {W s t : Nat} (h : rn_al (rn_me W) 64 = true) (hs : s < 8) (ht : t < 8) (h1 : W.testBit s = true) (h2 : W.testBit t = true) : W.testBit (s &&& t) = true := by
  have h3 := rn_alI h (s * 8 + t) (by omega)
  unfold rn_me at h3
  rw [show (s * 8 + t) / 8 = s by omega, show (s * 8 + t) % 8 = t by omega, h1, h2] at h3
  exact h3
theorem rn_joU {W s t : Nat} (h : rn_al (rn_jo W) 64 = true) (hs : s < 8) (ht : t < 8) (h1 : W.testBit s = true) (h2 : W.testBit t = true) : W.testBit (s ||| t) = true := by
  have h3 := rn_alI h (s * 8 + t) (by omega)
  unfold rn_jo at h3
  rw [show (s * 8 + t) / 8 = s by omega, show (s * 8 + t) % 8 = t by omega, h1, h2] at h3
  exact h3
def rn_mm (b0 b1 b2 : Nat) : Nat := b0 + 2 * b1 + 4 * b2
theorem rn_mmV : ∀ b0, b0 < 2 → ∀ b1, b1 < 2 → ∀ b2, b2 < 2 → rn_mm b0 b1 b2 < 8 ∧ rn_v (rn_mm b0 b1 b2) 0 = b0 ∧ rn_v (rn_mm b0 b1 b2) 1 = b1 ∧ rn_v (rn_mm b0 b1 b2) 2 = b2 := by decide
def rn_i3 (a b c x : Nat) : Bool := a != x || (b == x && c == x)
theorem rn_i3I {a b c x : Nat} (h : a = x → b = x ∧ c = x) : rn_i3 a b c x = true := by
  unfold rn_i3
  by_cases e : a = x
  · obtain ⟨h1, h2⟩ := h e
    simp [h1, h2]
  · simp [e]
def rn_ck (m0 m1 m2 x : Nat) : Bool := rn_i3 (rn_v m0 0) (rn_v m1 0) (rn_v m2 0) x && (rn_i3 (rn_v m1 1) (rn_v m0 1) (rn_v m2 1) x && rn_i3 (rn_v m2 2) (rn_v m0 2) (rn_v m1 2) x)
theorem rn_tiA : ∀ c, c < 2 → ∀ m, m < 8 → ∀ n, n < 8 → (m &&& n < 8 ∧ rn_ti c (m &&& n) = rn_ti c m &&& rn_ti c n) := by decide
theorem rn_mmA : ∀ m0, m0 < 8 → ∀ m1, m1 < 8 → ∀ m2, m2 < 8 → rn_ck m0 m1 m2 1 = true → rn_mm (rn_v m0 0) (rn_v m1 1) (rn_v m2 2) = m0 &&& m1 &&& m2 := by decide +kernel
theorem rn_tiO : ∀ c, c < 2 → ∀ m, m < 8 → ∀ n, n < 8 → (m ||| n < 8 ∧ rn_ti c (m ||| n) = rn_ti c m ||| rn_ti c n) := by decide
theorem rn_mmO : ∀ m0, m0 < 8 → ∀ m1, m1 < 8 → ∀ m2, m2 < 8 → rn_ck m0 m1 m2 0 = true → rn_mm (rn_v m0 0) (rn_v m1 1) (rn_v m2 2) = m0 ||| m1 ||| m2 := by decide +kernel
theorem rn_d01 : ∀ d, d < 4 → ¬ d = 0 → (d.testBit 0 = true ∨ d.testBit 1 = true) := by decide
/-- the least value left in a domain, and the greatest -/
theorem rn_lo {D : Nat → Nat} (h4 : ∀ v, v < 3 → D v < 4) (hn : ∀ v, v < 3 → ¬ D v = 0) : ∃ b : Nat → Nat, ∀ v, v < 3 → b v < 2 ∧ (D v).testBit (b v) = true ∧ (b v = 1 → ¬ (D v).testBit 0 = true) := by
  refine ⟨fun v => if (D v).testBit 0 = true then 0 else 1, fun v hv => ?_⟩
  dsimp only
  by_cases e : (D v).testBit 0 = true
  · rw [if_pos e]
    exact ⟨by omega, e, fun z => absurd z (by decide)⟩
  · rw [if_neg e]
    refine ⟨by omega, ?_, fun _ => e⟩
    rcases rn_d01 _ (h4 v hv) (hn v hv) with z | z
    · exact absurd z e
    · exact z
theorem rn_hi {D : Nat → Nat} (h4 : ∀ v, v < 3 → D v < 4) (hn : ∀ v, v < 3 → ¬ D v = 0) : ∃ b : Nat → Nat, ∀ v, v < 3 → b v < 2 ∧ (D v).testBit (b v) = true ∧ (b v = 0 → ¬ (D v).testBit 1 = true) := by
  refine ⟨fun v => if (D v).testBit 1 = true then 1 else 0, fun v hv => ?_⟩
  dsimp only
  by_cases e : (D v).testBit 1 = true
  · rw [if_pos e]
    exact ⟨by omega, e, fun z => absurd z (by decide)⟩
  · rw [if_neg e]
    refine ⟨by omega, ?_, fun _ => e⟩
    rcases rn_d01 _ (h4 v hv) (hn v hv) with z | z
    · exact z
    · exact absurd z e
theorem rn_meet {V : Nat → Nat} {s : Bool} {D : Nat → Nat} (hst : rn_st V s D) (h4 : ∀ v, v < 3 → D v < 4) (hn : ∀ v, v < 3 → ¬ D v = 0) (hm : ∀ c, c < 2 → (c = 0 ∨ s = false) → rn_al (rn_me (V c)) 64 = true) : ∃ m, m < 8 ∧ rn_p V s m = true ∧ rn_fit D m = true := by
  obtain ⟨b, hb⟩ := rn_lo h4 hn
  obtain ⟨b0, f0, g0⟩ := hb 0 (by omega)
  obtain ⟨b1, f1, g1⟩ := hb 1 (by omega)
  obtain ⟨b2, f2, g2⟩ := hb 2 (by omega)
  obtain ⟨m8, v0, v1, v2⟩ := rn_mmV (b 0) b0 (b 1) b1 (b 2) b2
  refine ⟨rn_mm (b 0) (b 1) (b 2), m8, rn_pI (fun c hc ha => ?_), rn_fitE.mpr (fun v hv => ?_)⟩
  · obtain ⟨m0, l0, e0, w0, t0⟩ := hst c hc ha 0 (by omega) (b 0) b0 f0
    obtain ⟨m1, l1, e1, w1, t1⟩ := hst c hc ha 1 (by omega) (b 1) b1 f1
    obtain ⟨m2, l2, e2, w2, t2⟩ := hst c hc ha 2 (by omega) (b 2) b2 f2
    have one : ∀ v, v < 3 → ∀ m, rn_fit D m = true → b v = 1 → rn_v m v = 1 := fun v hv m ht hb1 => by
      have h1 := rn_fitE.mp ht v hv
      have h2 := rn_v2 m v
      rcases Nat.eq_zero_or_pos (rn_v m v) with z | z
      · rw [z] at h1
        exact absurd h1 ((hb v hv).2.2 hb1)
      · omega
    have k := rn_mmA m0 l0 m1 l1 m2 l2 (by unfold rn_ck; rw [rn_i3I (fun z => ⟨one 0 (by omega) m1 t1 (by omega), one 0 (by omega) m2 t2 (by omega)⟩), rn_i3I (fun z => ⟨one 1 (by omega) m0 t0 (by omega), one 1 (by omega) m2 t2 (by omega)⟩), rn_i3I (fun z => ⟨one 2 (by omega) m0 t0 (by omega), one 2 (by omega) m1 t1 (by omega)⟩)]; rfl)
    rw [e0, e1, e2] at k
    obtain ⟨u8, u1⟩ := rn_tiA c hc m0 l0 m1 l1
    rw [k, (rn_tiA c hc _ u8 m2 l2).2, u1]
    have q0 := (rn_tiF c hc m0 l0).1
    have q1 := (rn_tiF c hc m1 l1).1
    have q2 := (rn_tiF c hc m2 l2).1
    have q01 : rn_ti c m0 &&& rn_ti c m1 ≤ rn_ti c m0 := Nat.and_le_left
    exact rn_meU (hm c hc ha) (by omega) q2 (rn_meU (hm c hc ha) q0 q1 w0 w1) w2
  · rcases rn_lt3 hv with e | e | e
    · rw [e, v0]; exact f0
    · rw [e, v1]; exact f1
    · rw [e, v2]; exact f2
theorem rn_join0 {V : Nat → Nat} {s : Bool} {D : Nat → Nat} (hst : rn_st V s D) (h4 : ∀ v, v < 3 → D v < 4) (hn : ∀ v, v < 3 → ¬ D v = 0) (hm : ∀ c, c < 2 → (c = 0 ∨ s = false) → rn_al (rn_jo (V c)) 64 = true) : ∃ m, m < 8 ∧ rn_p V s m = true ∧ rn_fit D m = true := by
  obtain ⟨b, hb⟩ := rn_hi h4 hn
  obtain ⟨b0, f0, g0⟩ := hb 0 (by omega)
  obtain ⟨b1, f1, g1⟩ := hb 1 (by omega)
  obtain ⟨b2, f2, g2⟩ := hb 2 (by omega)
  obtain ⟨m8, v0, v1, v2⟩ := rn_mmV (b 0) b0 (b 1) b1 (b 2) b2
  refine ⟨rn_mm (b 0) (b 1) (b 2), m8, rn_pI (fun c hc ha => ?_), rn_fitE.mpr (fun v hv => ?_)⟩
  · obtain ⟨m0, l0, e0, w0, t0⟩ := hst c hc ha 0 (by omega) (b 0) b0 f0
    obtain ⟨m1, l1, e1, w1, t1⟩ := hst c hc ha 1 (by omega) (b 1) b1 f1
    obtain ⟨m2, l2, e2, w2, t2⟩ := hst c hc ha 2 (by omega) (b 2) b2 f2
    have one : ∀ v, v < 3 → ∀ m, rn_fit D m = true → b v = 0 → rn_v m v = 0 := fun v hv m ht hb1 => by
      have h1 := rn_fitE.mp ht v hv
      have h2 := rn_v2 m v
      rcases Nat.eq_zero_or_pos (rn_v m v) with z | z
      · exact z
      · rw [show rn_v m v = 1 by omega] at h1
        exact absurd h1 ((hb v hv).2.2 hb1)
    have k := rn_mmO m0 l0 m1 l1 m2 l2 (by unfold rn_ck; rw [rn_i3I (fun z => ⟨one 0 (by omega) m1 t1 (by omega), one 0 (by omega) m2 t2 (by omega)⟩), rn_i3I (fun z => ⟨one 1 (by omega) m0 t0 (by omega), one 1 (by omega) m2 t2 (by omega)⟩), rn_i3I (fun z => ⟨one 2 (by omega) m0 t0 (by omega), one 2 (by omega) m1 t1 (by omega)⟩)]; rfl)
    rw [e0, e1, e2] at k
    obtain ⟨u8, u1⟩ := rn_tiO c hc m0 l0 m1 l1
    rw [k, (rn_tiO c hc _ u8 m2 l2).2, u1]
    have q0 := (rn_tiF c hc m0 l0).1
    have q1 := (rn_tiF c hc m1 l1).1
    have q2 := (rn_tiF c hc m2 l2).1
    have q01 : rn_ti c m0 ||| rn_ti c m1 < 2 ^ 3 := Nat.or_lt_two_pow q0 q1
    exact rn_joU (hm c hc ha) q01 q2 (rn_joU (hm c hc ha) q0 q1 w0 w1) w2
  · rcases rn_lt3 hv with e | e | e
    · rw [e, v0]; exact f0
    · rw [e, v1]; exact f1
    · rw [e, v2]; exact f2
end
section
/-! search: how many solutions the domains hold -/
def rn_cn (V : Nat → Nat) (s : Bool) (D : Nat → Nat) : Nat := rn_cnt (fun m => rn_p V s m && rn_fit D m)
theorem rn_cnt8 (p : Nat → Bool) : rn_cnt p ≤ 8 := by
  unfold rn_cnt
  have h0 := Bool.toNat_le (p 0)
  have h1 := Bool.toNat_le (p 1)
  have h2 := Bool.toNat_le (p 2)
  have h3 := Bool.toNat_le (p 3)
  have h4 := Bool.toNat_le (p 4)
  have h5 := Bool.toNat_le (p 5)
  have h6 := Bool.toNat_le (p 6)
  have h7 := Bool.toNat_le (p 7)
  omega
theorem rn_inC {V : Nat → Nat} {s : Bool} {D D' : Nat → Nat} (h : rn_in V s D D') : rn_cn V s D' = rn_cn V s D := by
  refine rn_cntC (fun m hm => ?_)
  show (rn_p V s m && rn_fit D' m) = (rn_p V s m && rn_fit D m)
  cases e : rn_p V s m
  · rfl
  · rw [Bool.true_and, Bool.true_and]
    cases e1 : rn_fit D m
    · cases e2 : rn_fit D' m
      · rfl
      · have h1 := rn_fitE.mpr (fun v hv => h.1 v hv _ (rn_v2 m v) (rn_fitE.mp e2 v hv))
        rw [e1] at h1
        exact absurd h1 (by decide)
    · exact h.2.1 m hm e e1
def rn_op (D : Nat → Nat) : Nat := (decide (D 0 = 3)).toNat + (decide (D 1 = 3)).toNat + (decide (D 2 = 3)).toNat
theorem rn_op3 (D : Nat → Nat) : rn_op D ≤ 3 := by
  unfold rn_op
  have h0 := Bool.toNat_le (decide (D 0 = 3))
  have h1 := Bool.toNat_le (decide (D 1 = 3))
  have h2 := Bool.toNat_le (decide (D 2 = 3))
  omega
theorem rn_opd : ∀ d, d < 4 → ∀ d', d' < 4 → ((¬ d'.testBit 0 = true ∨ d.testBit 0 = true) ∧ (¬ d'.testBit 1 = true ∨ d.testBit 1 = true)) → (decide (d' = 3)).toNat ≤ (decide (d = 3)).toNat := by decide
theorem rn_opM {D D' : Nat → Nat} (h : ∀ v, v < 3 → D v < 4) (h' : ∀ v, v < 3 → D' v < 4) (hs : ∀ v, v < 3 → ∀ a, a < 2 → (D' v).testBit a = true → (D v).testBit a = true) : rn_op D' ≤ rn_op D := by
  have k : ∀ v, v < 3 → (decide (D' v = 3)).toNat ≤ (decide (D v = 3)).toNat := fun v hv => rn_opd _ (h v hv) _ (h' v hv) ⟨Decidable.not_or_of_imp (hs v hv 0 (by omega)), Decidable.not_or_of_imp (hs v hv 1 (by omega))⟩
  have k0 := k 0 (by omega)
  have k1 := k 1 (by omega)
  have k2 := k 2 (by omega)
  unfold rn_op
  omega
theorem rn_opU {D : Nat → Nat} {v d : Nat} (hv : v < 3) (h3 : D v = 3) (hd : ¬ d = 3) : rn_op (rn_up D v d) + 1 = rn_op D := by
  have e1 : (decide (d = 3)).toNat = 0 := by rw [decide_eq_false hd]; rfl
  have e2 : (decide (D v = 3)).toNat = 1 := by rw [decide_eq_true h3]; rfl
  unfold rn_op
  rcases rn_lt3 hv with e | e | e
  · subst e
    rw [rn_ups, rn_upn (show (1 : Nat) ≠ 0 by decide), rn_upn (show (2 : Nat) ≠ 0 by decide), e1, e2]
    omega
  · subst e
    rw [rn_ups, rn_upn (show (0 : Nat) ≠ 1 by decide), rn_upn (show (2 : Nat) ≠ 1 by decide), e1, e2]
    omega
  · subst e
    rw [rn_ups, rn_upn (show (0 : Nat) ≠ 2 by decide), rn_upn (show (1 : Nat) ≠ 2 by decide), e1, e2]
theorem rn_spB : ∀ a, a < 2 → ∀ P A B : Bool, ((P && ((3 : Nat).testBit a && (A && B))).toNat = (P && ((1 : Nat).testBit a && (A && B))).toNat + (P && ((2 : Nat).testBit a && (A && B))).toNat) ∧ ((P && (A && ((3 : Nat).testBit a && B))).toNat = (P && (A && ((1 : Nat).testBit a && B))).toNat + (P && (A && ((2 : Nat).testBit a && B))).toNat) ∧ ((P && (A && (B && (3 : Nat).testBit a))).toNat = (P && (A && (B && (1 : Nat).testBit a))).toNat + (P && (A && (B && (2 : Nat).testBit a))).toNat) := by decide
theorem rn_split {V D : Nat → Nat} {s : Bool} {v : Nat} (hv : v < 3) (h3 : D v = 3) : rn_cn V s D = rn_cn V s (rn_up D v 1) + rn_cn V s (rn_up D v 2) := by
  refine rn_cntS (fun m hm => ?_)
  show (rn_p V s m && rn_fit D m).toNat = (rn_p V s m && rn_fit (rn_up D v 1) m).toNat + (rn_p V s m && rn_fit (rn_up D v 2) m).toNat
  unfold rn_fit
  rcases rn_lt3 hv with e | e | e
  · subst e
    rw [rn_ups, rn_ups, rn_upn (show (1 : Nat) ≠ 0 by decide), rn_upn (show (2 : Nat) ≠ 0 by decide), rn_upn (show (1 : Nat) ≠ 0 by decide), rn_upn (show (2 : Nat) ≠ 0 by decide), h3]
    exact (rn_spB _ (rn_v2 m 0) _ _ _).1
  · subst e
    rw [rn_ups, rn_ups, rn_upn (show (0 : Nat) ≠ 1 by decide), rn_upn (show (2 : Nat) ≠ 1 by decide), rn_upn (show (0 : Nat) ≠ 1 by decide), rn_upn (show (2 : Nat) ≠ 1 by decide), h3]
    exact (rn_spB _ (rn_v2 m 1) _ _ _).2.1
  · subst e
    rw [rn_ups, rn_ups, rn_upn (show (0 : Nat) ≠ 2 by decide), rn_upn (show (1 : Nat) ≠ 2 by decide), rn_upn (show (0 : Nat) ≠ 2 by decide), rn_upn (show (1 : Nat) ≠ 2 by decide), h3]
    exact (rn_spB _ (rn_v2 m 2) _ _ _).2.2
theorem rn_mmR : ∀ m, m < 8 → rn_mm (rn_v m 0) (rn_v m 1) (rn_v m 2) = m := by decide
theorem rn_d12 (d : Nat) (h4 : d < 4) (h0 : ¬ d = 0) (h3 : ¬ d = 3) (a : Nat) (ha : a < 2) (b : Nat) (hb : b < 2) (h1 : d.testBit a = true) (h2 : d.testBit b = true) : a = b := by
  have e : d = 1 ∨ d = 2 := by omega
  rcases e with e | e
  · rw [e, (rn_t12 a ha).1] at h1
    rw [e, (rn_t12 b hb).1] at h2
    omega
  · rw [e, (rn_t12 a ha).2] at h1
    rw [e, (rn_t12 b hb).2] at h2
    omega
theorem rn_cnE : ∀ q, q < 8 → rn_cnt (fun m => decide (m = q)) = 1 := by decide
/-- where every domain has one value and every value is carried, there is one solution -/
theorem rn_one1 {V D : Nat → Nat} {s : Bool} (hst : rn_st V s D) (h4 : ∀ v, v < 3 → D v < 4) (hn : ∀ v, v < 3 → ¬ D v = 0) (h3 : ∀ v, v < 3 → ¬ D v = 3) : rn_cn V s D = 1 := by
  obtain ⟨b, hb⟩ := rn_lo h4 hn
  obtain ⟨b0, f0, _⟩ := hb 0 (by omega)
  obtain ⟨b1, f1, _⟩ := hb 1 (by omega)
  obtain ⟨b2, f2, _⟩ := hb 2 (by omega)
  obtain ⟨m8, v0, v1, v2⟩ := rn_mmV (b 0) b0 (b 1) b1 (b 2) b2
  have fq : rn_fit D (rn_mm (b 0) (b 1) (b 2)) = true := rn_fitE.mpr (fun v hv => by
    rcases rn_lt3 hv with e | e | e
    · rw [e, v0]; exact f0
    · rw [e, v1]; exact f1
    · rw [e, v2]; exact f2)
  have uq : ∀ m, m < 8 → rn_fit D m = true → m = rn_mm (b 0) (b 1) (b 2) := fun m hm h => by
    have k : ∀ v, v < 3 → rn_v m v = b v := fun v hv => rn_d12 _ (h4 v hv) (hn v hv) (h3 v hv) _ (rn_v2 m v) _ (hb v hv).1 (rn_fitE.mp h v hv) (hb v hv).2.1
    rw [← rn_mmR m hm, k 0 (by omega), k 1 (by omega), k 2 (by omega)]
  have pq : rn_p V s (rn_mm (b 0) (b 1) (b 2)) = true := rn_pI (fun c hc ha => by
    obtain ⟨m, hm, _, h1, h2⟩ := hst c hc ha 0 (by omega) (b 0) b0 f0
    rw [← uq m hm h2]
    exact h1)
  rw [← rn_cnE _ m8]
  refine rn_cntC (fun m hm => ?_)
  show (rn_p V s m && rn_fit D m) = decide (m = rn_mm (b 0) (b 1) (b 2))
  by_cases e : m = rn_mm (b 0) (b 1) (b 2)
  · rw [decide_eq_true e, e, pq, fq]; rfl
  · rw [decide_eq_false e]
    cases e1 : rn_fit D m
    · rw [Bool.and_false]
    · exact absurd (uq m hm e1) e
theorem rn_fo {post : Int32 → Prop} {sk fd : Int32} {a1 a2 a3 a4 a5 a6 a7 a8 a9 a10 a11 a12 a13 a14 : Nat → Int32} {D : Nat → Nat} (hD : rn_D a9 D) (H : ∀ v, v ≤ 3 → (∀ u, u < v → ¬ D u = 3) → (v < 3 → D v = 3) → post (nI v)) : wpX_firstOpen post (3, 2, sk, 0, fd, a1, a2, a3, a4, a5, a6, a7, a8, a9, a10, a11, a12, a13, a14) := by
  refine pk_loop (σ := Unit) (fun n i _ => wX_firstOpen_2 post 3 2 sk 0 fd a1 a2 a3 a4 a5 a6 a7 a8 a9 a10 a11 a12 a13 a14 n (nI i)) (fun i _ => ∀ u, u < i → ¬ D u = 3) 3 0 () (by omega) lt_0 ?_ ?_
  · intro n _ h
    exact pk_le 3 3 (fun _ => H 3 (by omega) h (fun z => absurd z (by omega))) (fun z => absurd z (by omega))
  · intro n i _ hi h hw
    have di := (hD i hi).2
    exact pk_le 3 i (fun z => absurd z (by omega)) (fun _ => ⟨pk_in i 8 (by omega), pk_eq (D i) 3 (fun e => H i (by omega) h (fun _ => e)) (fun e => nm_r (nI_1 i) (hw () (lt_s h e))) (by rw [nI_clamp (by omega)]; exact (hD i hi).1) rfl (by omega) (by omega)⟩)
theorem rn_e8 (d : Nat) : (8 : Int32) + (nI d * 8) = nI (8 + d * 8) := by
  show nI 8 + nI d * nI 8 = _
  rw [pk_mul, nI_add]
theorem rn_open {post : Int32 → St2 → Prop} {sk : Int32} {a1 a2 a3 a4 a5 a6 a7 a8 a9 a10 a11 a12 a13 a14 : Nat → Int32} {V M D : Nat → Nat} {s : Bool} {f d : Nat} (hs : sk = rn_sk s) (K : rn_K V M a1 a2 a3 a4 a5 a6 a7 a8) (hD : rn_D a9 D) (hd : d ≤ 7)
    (H0 : rn_cn V s D = 0 → ∀ a9' : Nat → Int32, post 0 (3, 2, sk, 0, (nI f), a1, a2, a3, a4, a5, a6, a7, a8, a9', a10, a11, a12, a13, a14))
    (H1 : rn_cn V s D = 1 → ∀ a9' : Nat → Int32, post 0 (3, 2, sk, 0, (nI (f + 1)), a1, a2, a3, a4, a5, a6, a7, a8, a9', a10, a11, a12, a13, a14))
    (H2 : ∀ (v : Nat) (D' : Nat → Nat) (a9' a10' : Nat → Int32), v < 3 → D' v = 3 → (∀ u, u < 3 → D' u < 4) → rn_cn V s D' = rn_cn V s D → rn_op D' ≤ rn_op D → (∀ j, j < 3 → a10' (8 + d * 8 + j) = nI (D' j)) → (∀ j, j < 8 + d * 8 → a10' j = a10 j) → rn_D a9' (rn_up D' v 1) → post 1 (3, 2, sk, 0, (nI f), a1, a2, a3, a4, a5, a6, a7, a8, a9', a10', (upd a11 d (nI v)), (upd a12 d 0), a13, a14)) :
    wpX_open post (3, 2, sk, 0, (nI f), a1, a2, a3, a4, a5, a6, a7, a8, a9, a10, a11, a12, a13, a14) (nI d) := by
  refine rn_filter hs K hD (fun h a9' => br_t rfl (H0 (rn_cnt0 (fun m hm hb => ?_)) a9')) (fun a9' D' hD' hin hst => br_f (by decide) (rn_fo hD' (fun v hv h1 h2 => ?_)))
  · have hb' : (rn_p V s m && rn_fit D m) = true := hb
    rw [Bool.and_eq_true] at hb'
    exact h m hm hb'.1 hb'.2
  · refine pk_eq v 3 (fun e => nm_r (nI_1 f) (H1 ?_ a9')) (fun e => pk_le d 7 (fun _ => ⟨pk_in d 8 (by omega), ?_⟩) (fun z => absurd z (by omega)))
    · subst e
      rw [← rn_inC hin]
      exact rn_one1 hst (fun v hv => (hD' v hv).2) hin.2.2 h1
    · rw [rn_e8, nI_clamp (show d < 2 ^ 31 by omega), nI_clamp (show v < 2 ^ 31 by omega)]
      refine nm_e ⟨pk_in d 8 (by omega), nm_e (rn_keep (8 + d * 8) (by omega) (fun a10' k1 k2 => ⟨pk_in v 8 (by omega), nm_e ?_⟩))⟩
      exact H2 v D' _ a10' (by omega) (h2 (by omega)) (fun u hu => (hD' u hu).2) (rn_inC hin) (rn_opM (fun v hv => (hD v hv).2) (fun v hv => (hD' v hv).2) hin.1) (fun j hj => by rw [k1 j (by omega)]; exact (hD' j hj).1) (fun j hj => k2 j (Or.inl hj)) (rn_Du (d := 1) hD' (by omega))
def rn_E : Nat → Nat
  | 0 => 1
  | k + 1 => 2 * rn_E k + 2
theorem rn_E1 : ∀ k, 1 ≤ rn_E k
  | 0 => by decide
  | k + 1 => by
    show 1 ≤ 2 * rn_E k + 2
    omega
theorem rn_srch {post : Int32 → St2 → Prop} {sk : Int32} {a1 a2 a3 a4 a5 a6 a7 a8 a13 a14 : Nat → Int32} {V M : Nat → Nat} {s al : Bool} (hs : sk = rn_sk s) (K : rn_K V M a1 a2 a3 a4 a5 a6 a7 a8) :
    ∀ (k d st n f : Nat) (D : Nat → Nat) (a9 a10 a11 a12 : Nat → Int32), n + st = 60 → st + rn_E k ≤ 50 → rn_op D ≤ k → d + k ≤ 3 → f + rn_cn V s D ≤ 100 → rn_D a9 D →
    (∀ (f' : Nat) (a9' a10' a11' a12' : Nat → Int32), al = false → 0 < f' → f' ≤ f + rn_cn V s D → (∀ j, j < 8 → a10' j = a10 j) → post (nI f') (3, 2, sk, 0, (nI f'), a1, a2, a3, a4, a5, a6, a7, a8, a9', a10', a11', a12', a13, a14)) →
    (∀ (st' n' : Nat) (a9' a10' a11' a12' : Nat → Int32), n' + st' = 60 → st' + 1 ≤ st + rn_E k → (∀ j, j < 8 + d * 8 → a10' j = a10 j) → (∀ i, i < d → a11' i = a11 i) → (∀ i, i < d → a12' i = a12 i) → wX_search_54 post (wX_search_12 post (rn_b al) n') (rn_b al) (nI d) 0 (nI st') 3 2 sk 0 (nI (f + rn_cn V s D)) a1 a2 a3 a4 a5 a6 a7 a8 a9' a10' a11' a12' a13 a14) →
    wX_search_12 post (rn_b al) (n + 1) (nI d) 1 (nI st) 3 2 sk 0 (nI f) a1 a2 a3 a4 a5 a6 a7 a8 a9 a10 a11 a12 a13 a14 := by
  intro k
  induction k with
  | zero =>
    intro d st n f D a9 a10 a11 a12 hn hst hop hdk hf hD Hx Hc
    have eE : rn_E 0 = 1 := rfl
    rw [eE] at hst Hc
    refine pk_le 2048 st (fun z => absurd z (by omega)) (fun _ => br_f (by decide) (rn_open hs K hD (by omega) (fun h0 a9' => br_t rfl ?_) (fun h1 a9' => br_t rfl ?_) (fun v D' a9' a10' hv h3 h4 hc ho k1 k2 hD' => ?_)))
    · rw [h0, Nat.add_zero] at Hc Hx
      exact rn_bz al (fun e => Hc st n a9' a10 a11 a12 hn (by omega) (fun _ _ => rfl) (fun _ _ => rfl) (fun _ _ => rfl)) (fun e => pk_le f 0 (fun _ => Hc st n a9' a10 a11 a12 hn (by omega) (fun _ _ => rfl) (fun _ _ => rfl) (fun _ _ => rfl)) (fun z => Hx f a9' a10 a11 a12 e z (by omega) (fun _ _ => rfl)))
    · rw [h1] at Hc Hx
      exact rn_bz al (fun e => Hc st n a9' a10 a11 a12 hn (by omega) (fun _ _ => rfl) (fun _ _ => rfl) (fun _ _ => rfl)) (fun e => pk_le (f + 1) 0 (fun _ => Hc st n a9' a10 a11 a12 hn (by omega) (fun _ _ => rfl) (fun _ _ => rfl) (fun _ _ => rfl)) (fun z => Hx (f + 1) a9' a10 a11 a12 e z (by omega) (fun _ _ => rfl)))
    · have := rn_opU (d := 1) hv h3 (by decide)
      omega
  | succ k ih =>
    intro d st n f D a9 a10 a11 a12 hn hst hop hdk hf hD Hx Hc
    have e1 := rn_E1 k
    have eE : rn_E (k + 1) = 2 * rn_E k + 2 := rfl
    rw [eE] at hst Hc
    refine pk_le 2048 st (fun z => absurd z (by omega)) (fun _ => br_f (by decide) (rn_open hs K hD (by omega) (fun h0 a9' => br_t rfl ?_) (fun h1 a9' => br_t rfl ?_) (fun v D' a9' a10' hv h3 h4 hc ho k1 k2 hD' => br_f (by decide) (nm_r (nI_1 d) (nm_r (nI_1 st) ?_)))))
    · rw [h0, Nat.add_zero] at Hc Hx
      exact rn_bz al (fun e => Hc st n a9' a10 a11 a12 hn (by omega) (fun _ _ => rfl) (fun _ _ => rfl) (fun _ _ => rfl)) (fun e => pk_le f 0 (fun _ => Hc st n a9' a10 a11 a12 hn (by omega) (fun _ _ => rfl) (fun _ _ => rfl) (fun _ _ => rfl)) (fun z => Hx f a9' a10 a11 a12 e z (by omega) (fun _ _ => rfl)))
    · rw [h1] at Hc Hx
      exact rn_bz al (fun e => Hc st n a9' a10 a11 a12 hn (by omega) (fun _ _ => rfl) (fun _ _ => rfl) (fun _ _ => rfl)) (fun e => pk_le (f + 1) 0 (fun _ => Hc st n a9' a10 a11 a12 hn (by omega) (fun _ _ => rfl) (fun _ _ => rfl) (fun _ _ => rfl)) (fun z => Hx (f + 1) a9' a10 a11 a12 e z (by omega) (fun _ _ => rfl)))
    · have o1 := rn_opU (d := 1) hv h3 (by decide)
      have o2 := rn_opU (d := 2) hv h3 (by decide)
      have sp := rn_split (V := V) (s := s) hv h3
      rw [← hc, sp] at Hc Hx hf
      obtain ⟨n0, rfl⟩ : ∃ n0, n = n0 + 1 := ⟨n - 1, by omega⟩
      refine ih (d + 1) (st + 1) n0 f (rn_up D' v 1) a9' a10' (upd a11 d (nI v)) (upd a12 d 0) (by omega) (by omega) (by omega) (by omega) (by omega) hD' ?_ ?_
      · intro f' b9 b10 b11 b12 hal hf1 hf2 hj
        exact Hx f' b9 b10 b11 b12 hal hf1 (by omega) (fun j hj8 => by rw [hj j hj8]; exact k2 j (by omega))
      · intro st1 n1 b9 b10 b11 b12 hn1 hst1 q10 q11 q12
        have w12 : b12 d = 0 := by rw [q12 d (by omega), pk_us]
        have w11 : b11 d = nI v := by rw [q11 d (by omega), pk_us]
        refine nm_r (pk_m1 d) (pk_le 0 d (fun _ => ⟨pk_in d 8 (by omega), ?_⟩) (fun z => absurd z (by omega)))
        rw [rn_e8, nI_clamp (show d < 2 ^ 31 by omega)]
        refine br_t w12 ⟨pk_in d 8 (by omega), nm_e (rn_fetch (8 + d * 8) (by omega) (fun c9 hc9 => ⟨pk_in d 8 (by omega), ?_⟩))⟩
        rw [w11, nI_clamp (show v < 2 ^ 31 by omega)]
        refine ⟨pk_in v 8 (by omega), nm_e (nm_r (nI_1 d) (nm_r (nI_1 st1) ?_))⟩
        have hD2 : rn_D c9 D' := fun j hj => ⟨by rw [hc9 j (by omega), q10 (8 + d * 8 + j) (by omega)]; exact k1 j hj, h4 j hj⟩
        obtain ⟨n2, rfl⟩ : ∃ n2, n1 = n2 + 1 := ⟨n1 - 1, by omega⟩
        refine ih (d + 1) (st1 + 1) n2 (f + rn_cn V s (rn_up D' v 1)) (rn_up D' v 2) (upd c9 v 2) b10 b11 (upd b12 d 1) (by omega) (by omega) (by omega) (by omega) (by omega) (rn_Du (d := 2) hD2 (by omega)) ?_ ?_
        · intro f' c9' c10 c11 c12 hal hf1 hf2 hj
          exact Hx f' c9' c10 c11 c12 hal hf1 (by omega) (fun j hj8 => by rw [hj j hj8, q10 j (by omega)]; exact k2 j (by omega))
        · intro st2 n3 d9 d10 d11 d12 hn3 hst2 r10 r11 r12
          have x12 : d12 d = 1 := by rw [r12 d (by omega), pk_us]
          refine nm_r (pk_m1 d) (pk_le 0 d (fun _ => ⟨pk_in d 8 (by omega), ?_⟩) (fun z => absurd z (by omega)))
          rw [nI_clamp (show d < 2 ^ 31 by omega)]
          refine br_f (by rw [x12]; decide) (nm_r (nI_1 st2) ?_)
          obtain ⟨n4, rfl⟩ : ∃ n4, n3 = n4 + 1 := ⟨n3 - 1, by omega⟩
          refine pk_le 2048 (st2 + 1) (fun z => absurd z (by omega)) (fun _ => br_t rfl ?_)
          have hfin := Hc (st2 + 1) n4 d9 d10 d11 d12 (by omega) (by omega) (fun j hj => by rw [r10 j (by omega), q10 j (by omega)]; exact k2 j (by omega)) (fun i hi => by rw [r11 i (by omega), q11 i (by omega), pk_un (by omega)]) (fun i hi => by rw [r12 i (by omega), pk_un (by omega), q12 i (by omega), pk_un (by omega)])
          rw [← Nat.add_assoc] at hfin
          exact hfin
theorem rn_search {post : Int32 → St2 → Prop} {sk fd : Int32} {a1 a2 a3 a4 a5 a6 a7 a8 a9 a10 a11 a12 a13 a14 : Nat → Int32} {V M D : Nat → Nat} {s al : Bool} (hs : sk = rn_sk s) (K : rn_K V M a1 a2 a3 a4 a5 a6 a7 a8) (hD : rn_D a9 D)
    (H : ∀ (f' : Nat) (a9' a10' a11' a12' : Nat → Int32), (al = true → f' = rn_cn V s D) → (0 < f' ↔ 0 < rn_cn V s D) → f' ≤ 8 → (∀ j, j < 8 → a10' j = a10 j) → post (nI f') (3, 2, sk, 0, (nI f'), a1, a2, a3, a4, a5, a6, a7, a8, a9', a10', a11', a12', a13, a14)) :
    wpX_search post (3, 2, sk, 0, fd, a1, a2, a3, a4, a5, a6, a7, a8, a9, a10, a11, a12, a13, a14) (rn_b al) := by
  have c8 : rn_cn V s D ≤ 8 := rn_cnt8 _
  refine ⟨61, ?_⟩
  refine rn_srch hs K 3 0 0 60 0 D a9 a10 a11 a12 (by omega) (by decide) (rn_op3 D) (by omega) (by omega) hD ?_ ?_
  · intro f' a9' a10' a11' a12' hal h1 h2 hj
    exact H f' a9' a10' a11' a12' (fun z => absurd z (by rw [hal]; decide)) (by omega) (by omega) hj
  · intro st' n' a9' a10' a11' a12' _ _ hj _ _
    refine nm_e (br_f (by decide) ?_)
    have h := H (rn_cn V s D) a9' a10' a11' a12' (fun _ => rfl) Iff.rfl c8 (fun j h => hj j (by omega))
    rw [Nat.zero_add]
    exact h
end
section
/-! elimination modulo two: rows of three variables (bits 0 to 2) and a parity (bit 8) -/
def rn_row (w : Nat) : Prop := w &&& 263 = w
def rn_rs (w m : Nat) : Bool := ((w.testBit 0 && m.testBit 0) ^^ ((w.testBit 1 && m.testBit 1) ^^ (w.testBit 2 && m.testBit 2))) == w.testBit 8
theorem rn_rsB : ∀ w0 w1 w2 w8 r0 r1 r2 r8 x y z : Bool, (((r0 && x) ^^ ((r1 && y) ^^ (r2 && z))) == r8) = true → ((((w0 ^^ r0) && x) ^^ (((w1 ^^ r1) && y) ^^ ((w2 ^^ r2) && z))) == (w8 ^^ r8)) = (((w0 && x) ^^ ((w1 && y) ^^ (w2 && z))) == w8) := by decide +kernel
theorem rn_rsX {w r m : Nat} (h : rn_rs r m = true) : rn_rs (w ^^^ r) m = rn_rs w m := by
  unfold rn_rs at h ⊢
  rw [Nat.testBit_xor, Nat.testBit_xor, Nat.testBit_xor, Nat.testBit_xor]
  exact rn_rsB _ _ _ _ _ _ _ _ _ _ _ h
theorem rn_rs0 : ∀ m, m < 8 → rn_rs 0 m = true := by decide
theorem rn_rs256 : ∀ m, m < 8 → rn_rs 256 m = false := by decide
def rn_r3 (w : Nat) : Bool := (w &&& 263 == w) && (!w.testBit 0 && (!w.testBit 1 && !w.testBit 2))
theorem rn_r3A : ∀ w, w < 264 → rn_r3 w = true → (w = 0 ∨ w = 256) := by decide +kernel
theorem rn_row3 (w : Nat) (hw : w < 264) (h : w &&& 263 = w) (h0 : w.testBit 0 = false) (h1 : w.testBit 1 = false) (h2 : w.testBit 2 = false) : w = 0 ∨ w = 256 := by
  refine rn_r3A w hw ?_
  unfold rn_r3
  rw [h0, h1, h2, h, beq_self_eq_true]
  rfl
theorem rn_rowB {w : Nat} (h : rn_row w) : w < 264 := by
  have h1 : w &&& 263 ≤ 263 := Nat.and_le_right
  unfold rn_row at h
  omega
theorem rn_rowX {w r : Nat} (h : rn_row w) (h2 : rn_row r) : rn_row (w ^^^ r) := by
  unfold rn_row at h h2 ⊢
  rw [Nat.and_xor_distrib_right, h, h2]
def rn_R (a14 : Nat → Int32) (R : Nat → Nat) : Prop := ∀ v, v < 3 → a14 v = nI (R v)
def rn_rok (R : Nat → Nat) : Prop := ∀ v, v < 3 → R v = 0 ∨ (rn_row (R v) ∧ (R v).testBit v = true ∧ ∀ u, u < v → (R v).testBit u = false)
def rn_rw (R : Nat → Nat) (m : Nat) : Bool := rn_rs (R 0) m && (rn_rs (R 1) m && rn_rs (R 2) m)
theorem rn_rwE {R : Nat → Nat} {m : Nat} : rn_rw R m = true ↔ ∀ v, v < 3 → rn_rs (R v) m = true := by
  unfold rn_rw
  constructor
  · intro h v hv
    rw [Bool.and_eq_true, Bool.and_eq_true] at h
    rcases rn_lt3 hv with e | e | e
    · rw [e]; exact h.1
    · rw [e]; exact h.2.1
    · rw [e]; exact h.2.2
  · intro h
    rw [h 0 (by omega), h 1 (by omega), h 2 (by omega)]
    rfl
theorem rn_rokB {R : Nat → Nat} (ok : rn_rok R) {v : Nat} (hv : v < 3) : R v < 264 := by
  rcases ok v hv with e | e
  · omega
  · exact rn_rowB e.1
theorem rn_beq {a b : Bool} (h : a = true ↔ b = true) : a = b := by
  cases a
  · cases b
    · rfl
    · exact h.mpr rfl
  · exact (h.mp rfl).symm
theorem rn_join {post : Int32 → St2 → Prop} {sk fd : Int32} {a1 a2 a3 a4 a5 a6 a7 a8 a9 a10 a11 a12 a13 a14 : Nat → Int32} {R : Nat → Nat} {row : Nat} (hrow : rn_row row) (hR : rn_R a14 R) (ok : rn_rok R)
    (H0 : (∀ m, m < 8 → ¬ (rn_rw R m = true ∧ rn_rs row m = true)) → post 0 (3, 2, sk, 0, fd, a1, a2, a3, a4, a5, a6, a7, a8, a9, a10, a11, a12, a13, a14))
    (H1 : ∀ (a14' : Nat → Int32) (R' : Nat → Nat), rn_R a14' R' → rn_rok R' → (∀ m, m < 8 → rn_rw R' m = (rn_rw R m && rn_rs row m)) → post 1 (3, 2, sk, 0, fd, a1, a2, a3, a4, a5, a6, a7, a8, a9, a10, a11, a12, a13, a14')) :
    wpX_join post (3, 2, sk, 0, fd, a1, a2, a3, a4, a5, a6, a7, a8, a9, a10, a11, a12, a13, a14) (nI row) := by
  refine pk_loop (fun n v (w : Nat) => wX_join_4 post 3 2 sk 0 fd a1 a2 a3 a4 a5 a6 a7 a8 a9 a10 a11 a12 a13 a14 n (nI w) (nI v)) (fun v w => rn_row w ∧ (∀ u, u < v → w.testBit u = false) ∧ (∀ m, m < 8 → rn_rw R m = true → rn_rs w m = rn_rs row m)) 3 0 row (by omega) ⟨hrow, lt_0, fun _ _ _ => rfl⟩ ?_ ?_
  · intro n w h
    obtain ⟨h1, h2, h3⟩ := h
    have hb := rn_rowB h1
    refine pk_le 3 3 (fun _ => pk_eq w 0 (fun e => H1 a14 R hR ok (fun m hm => ?_)) (fun e => H0 (fun m hm hh => ?_))) (fun z => absurd z (by omega))
    · cases e1 : rn_rw R m
      · rfl
      · rw [Bool.true_and, ← h3 m hm e1, e, rn_rs0 m hm]
    · rcases rn_row3 w hb h1 (h2 0 (by omega)) (h2 1 (by omega)) (h2 2 (by omega)) with z | z
      · exact e z
      · have h4 := h3 m hm hh.1
        rw [z, rn_rs256 m hm, hh.2] at h4
        exact absurd h4 (by decide)
  · intro n v w hv h hw
    obtain ⟨h1, h2, h3⟩ := h
    have hb := rn_rowB h1
    have rb := rn_rokB ok hv
    refine pk_le 3 v (fun z => absurd z (by omega)) (fun _ => rn_hs w v (fun g => ⟨pk_in v 8 (by omega), ?_⟩) (fun g => nm_r (nI_1 v) (hw w ⟨h1, lt_s h2 g, h3⟩)))
    rw [nI_clamp (show v < 2 ^ 31 by omega)]
    refine pk_eq (R v) 0 (fun e => ⟨pk_in v 8 (by omega), nm_e (H1 _ (rn_up R v w) ?_ ?_ ?_)⟩) (fun e => ⟨pk_in v 8 (by omega), nm_r (e' := nI (w ^^^ R v)) (by rw [hR v hv, rn_xor]) (nm_r (nI_1 v) (hw (w ^^^ R v) ?_))⟩) (hR v hv)
    · intro u hu
      by_cases e2 : u = v
      · rw [e2, pk_us, rn_ups]
      · rw [pk_un e2, rn_upn e2]
        exact hR u hu
    · intro u hu
      by_cases e2 : u = v
      · rw [e2, rn_ups]
        exact Or.inr ⟨h1, g, h2⟩
      · rw [rn_upn e2]
        exact ok u hu
    · intro m hm
      refine rn_beq ?_
      rw [Bool.and_eq_true, rn_rwE]
      constructor
      · intro k
        have kv := k v hv
        rw [rn_ups] at kv
        have kw : rn_rw R m = true := rn_rwE.mpr (fun u hu => by
          by_cases e2 : u = v
          · rw [e2, e]; exact rn_rs0 m hm
          · have ku := k u hu
            rw [rn_upn e2] at ku
            exact ku)
        exact ⟨kw, by rw [← h3 m hm kw]; exact kv⟩
      · intro k u hu
        by_cases e2 : u = v
        · rw [e2, rn_ups, h3 m hm k.1]
          exact k.2
        · rw [rn_upn e2]
          exact rn_rwE.mp k.1 u hu
    · rcases ok v hv with z | z
      · exact absurd z e
      · refine ⟨rn_rowX h1 z.1, lt_s (fun u hu => ?_) ?_, fun m hm k => ?_⟩
        · rw [Nat.testBit_xor, h2 u hu, z.2.2 u hu]
          rfl
        · rw [Nat.testBit_xor, g, z.2.1]
          rfl
        · rw [rn_rsX (rn_rwE.mp k v hv)]
          exact h3 m hm k
/-- parities of a table under a mask -/
def rn_od (t k : Nat) : Nat := ((t &&& k) ^^^ (t &&& k) / 2 ^^^ (t &&& k) / 4) % 2
def rn_pk (W k : Nat) : Nat → Nat
  | 0 => 0
  | t + 1 => if W.testBit t = true then rn_pk W k t ||| 2 ^ rn_od t k else rn_pk W k t
theorem rn_pk1 {W k t : Nat} (h : W.testBit t = true) : rn_pk W k (t + 1) = rn_pk W k t ||| 2 ^ rn_od t k := if_pos h
theorem rn_pk0 {W k t : Nat} (h : W.testBit t = false) : rn_pk W k (t + 1) = rn_pk W k t := if_neg (by rw [h]; decide)
theorem rn_od2 (t k : Nat) : rn_od t k < 2 := Nat.mod_lt _ (by omega)
theorem rn_pkB {W k : Nat} : ∀ t, rn_pk W k t < 2 ^ 2
  | 0 => show 0 < 4 by decide
  | t + 1 => by
    have ih := rn_pkB (W := W) (k := k) t
    cases e : W.testBit t
    · rw [rn_pk0 e]; exact ih
    · rw [rn_pk1 e]
      exact Nat.or_lt_two_pow ih (Nat.pow_lt_pow_right (by omega) (rn_od2 t k))
theorem rn_pkT {W k t : Nat} (h : W.testBit t = true) : ∀ n, t < n → (rn_pk W k n).testBit (rn_od t k) = true
  | 0, hn => absurd hn (by omega)
  | n + 1, hn => by
    rcases Nat.lt_or_ge t n with z | z
    · have ih := rn_pkT (k := k) h n z
      cases e : W.testBit n
      · rw [rn_pk0 e]; exact ih
      · rw [rn_pk1 e, Nat.testBit_or, ih, Bool.true_or]
    · rw [show n = t by omega, rn_pk1 h, Nat.testBit_or, Nat.testBit_two_pow, decide_eq_true rfl, Bool.or_true]
theorem rn_parities {post : Int32 → Prop} {W k : Nat} (hW : W < 256) (hk : k < 8) (h : post (nI (rn_pk W k 8))) : wpX_parities post () (nI W) (nI k) := by
  refine pk_loop (σ := Unit) (fun n t _ => wX_parities_4 post (nI W) (nI k) n (nI (rn_pk W k t)) (nI t)) (fun _ _ => True) 8 0 () (by omega) trivial
    (fun n _ _ => pk_le 8 8 (fun _ => h) (fun z => absurd z (by omega))) ?_
  intro n t _ ht _ hw
  have hw' : wX_parities_4 post (nI W) (nI k) n (nI (rn_pk W k (t + 1))) (nI (t + 1)) := hw () trivial
  have hl : t &&& k ≤ t := Nat.and_le_left
  have o2 := rn_od2 t k
  have hx : (t &&& k) ^^^ (t &&& k) / 2 ^^^ (t &&& k) / 4 < 2 ^ 3 := Nat.xor_lt_two_pow (Nat.xor_lt_two_pow (by omega) (by omega)) (by omega)
  refine pk_le 8 t (fun z => absurd z (by omega)) (fun _ => rn_hs W t (fun h1 => ?_) (fun h1 => nm_r (nI_1 t) ?_))
  · rw [rn_pk1 h1] at hw'
    refine nm_r (rn_and t k) (nm_r (e' := nI (rn_od t k)) ?_ (nm_r (e' := nI (rn_pk W k t ||| 2 ^ rn_od t k)) ?_ (nm_r (nI_1 t) hw')))
    · rw [rn_s1 (by omega), rn_s2 (by omega), rn_xor, rn_xor, rn_a1 (by omega)]
      rfl
    · rw [rn_one (by omega), rn_or]
  · rw [rn_pk0 h1] at hw'
    exact hw'
/-! joinAll -/
def rn_r1 (c k zz : Nat) : Nat := if k &&& 1 = 0 then zz else zz ^^^ 2 ^ rn_z c
def rn_r2 (c k zz : Nat) : Nat := rn_r1 c k (if k &&& 2 = 0 then zz else zz ^^^ 2 ^ rn_y c)
def rn_r4 (c k : Nat) : Nat := rn_r2 c k (if k &&& 4 = 0 then 0 else 0 ^^^ 2 ^ rn_x c)
def rn_rr (c k q : Nat) : Nat := rn_r4 c k ||| q / 2 * 2 ^ 8
theorem rn_rrS : ∀ c, c < 2 → ∀ k, k < 8 → ∀ q, q < 4 → (rn_rr c k q &&& 263 = rn_rr c k q ∧ ∀ m, m < 8 → rn_rs (rn_rr c k q) m = (rn_od (rn_ti c m) k == q / 2)) := by decide +kernel
theorem rn_j112 {post : Int32 → St2 → Prop} {J : rn_J6} {x1 x2 sk fd : Int32} {a1 a2 a3 a4 a5 a6 a7 a8 a9 a10 a11 a12 a13 a14 : Nat → Int32} {R : Nat → Nat} {k q zz : Nat} (hq : q < 4) (hrow : rn_row (zz ||| q / 2 * 2 ^ 8)) (hR : rn_R a14 R) (ok : rn_rok R)
    (H0 : (∀ m, m < 8 → ¬ (rn_rw R m = true ∧ rn_rs (zz ||| q / 2 * 2 ^ 8) m = true)) → post 0 (3, 2, sk, 0, fd, a1, a2, a3, a4, a5, a6, a7, a8, a9, a10, a11, a12, a13, a14))
    (H1 : ∀ (a14' : Nat → Int32) (R' : Nat → Nat), rn_R a14' R' → rn_rok R' → (∀ m, m < 8 → rn_rw R' m = (rn_rw R m && rn_rs (zz ||| q / 2 * 2 ^ 8) m)) → J (nI (k + 1)) 3 2 sk 0 fd a1 a2 a3 a4 a5 a6 a7 a8 a9 a10 a11 a12 a13 a14') :
    wX_joinAll_112 post J x1 x2 (nI k) (nI q) (nI zz) 3 2 sk 0 fd a1 a2 a3 a4 a5 a6 a7 a8 a9 a10 a11 a12 a13 a14 := by
  have e : (nI zz ||| ((nI q >>> ((1 : Int32) &&& 31)) <<< ((8 : Int32) &&& 31))) = nI (zz ||| q / 2 * 2 ^ 8) := by
    rw [rn_s1 (by omega), pk_shlN _ 8 (by decide) (by omega), rn_or]
  unfold wX_joinAll_112
  rw [e]
  exact rn_join hrow hR ok (fun h => br_t rfl (H0 h)) (fun a14' R' h1 h2 h3 => br_f (by decide) (nm_r (nI_1 k) (H1 a14' R' h1 h2 h3)))
theorem rn_j88 {post : Int32 → St2 → Prop} {J : rn_J6} {x2 sk fd : Int32} {a1 a2 a3 a4 a5 a6 a7 a8 a9 a10 a11 a12 a13 a14 : Nat → Int32} {R : Nat → Nat} {c k q zz : Nat} (hc : c < 2) (h7 : a7 c = nI (rn_z c)) (hk : k < 8) (hq : q < 4) (hrow : rn_row (rn_r1 c k zz ||| q / 2 * 2 ^ 8)) (hR : rn_R a14 R) (ok : rn_rok R)
    (H0 : (∀ m, m < 8 → ¬ (rn_rw R m = true ∧ rn_rs (rn_r1 c k zz ||| q / 2 * 2 ^ 8) m = true)) → post 0 (3, 2, sk, 0, fd, a1, a2, a3, a4, a5, a6, a7, a8, a9, a10, a11, a12, a13, a14))
    (H1 : ∀ (a14' : Nat → Int32) (R' : Nat → Nat), rn_R a14' R' → rn_rok R' → (∀ m, m < 8 → rn_rw R' m = (rn_rw R m && rn_rs (rn_r1 c k zz ||| q / 2 * 2 ^ 8) m)) → J (nI (k + 1)) 3 2 sk 0 fd a1 a2 a3 a4 a5 a6 a7 a8 a9 a10 a11 a12 a13 a14') :
    wX_joinAll_88 post J (nI c) x2 (nI k) (nI q) (nI zz) 3 2 sk 0 fd a1 a2 a3 a4 a5 a6 a7 a8 a9 a10 a11 a12 a13 a14 := by
  have hz := (rn_xyz c hc).2.2.1
  have hl : k &&& 1 ≤ k := Nat.and_le_left
  refine pk_eq (k &&& 1) 0 (fun e => ?_) (fun e => And.intro (pk_in c 20 (by omega)) ?_) (rn_and k 1) rfl (by omega) (by omega)
  · rw [show rn_r1 c k zz = zz from if_pos e] at hrow H0 H1
    exact rn_j112 hq hrow hR ok H0 H1
  · rw [show rn_r1 c k zz = zz ^^^ 2 ^ rn_z c from if_neg e] at hrow H0 H1
    rw [nI_clamp (show c < 2 ^ 31 by omega), h7, rn_one (by omega), rn_xor]
    exact rn_j112 hq hrow hR ok H0 H1
theorem rn_j64 {post : Int32 → St2 → Prop} {J : rn_J6} {x2 sk fd : Int32} {a1 a2 a3 a4 a5 a6 a7 a8 a9 a10 a11 a12 a13 a14 : Nat → Int32} {R : Nat → Nat} {c k q zz : Nat} (hc : c < 2) (h6 : a6 c = nI (rn_y c)) (h7 : a7 c = nI (rn_z c)) (hk : k < 8) (hq : q < 4) (hrow : rn_row (rn_r2 c k zz ||| q / 2 * 2 ^ 8)) (hR : rn_R a14 R) (ok : rn_rok R)
    (H0 : (∀ m, m < 8 → ¬ (rn_rw R m = true ∧ rn_rs (rn_r2 c k zz ||| q / 2 * 2 ^ 8) m = true)) → post 0 (3, 2, sk, 0, fd, a1, a2, a3, a4, a5, a6, a7, a8, a9, a10, a11, a12, a13, a14))
    (H1 : ∀ (a14' : Nat → Int32) (R' : Nat → Nat), rn_R a14' R' → rn_rok R' → (∀ m, m < 8 → rn_rw R' m = (rn_rw R m && rn_rs (rn_r2 c k zz ||| q / 2 * 2 ^ 8) m)) → J (nI (k + 1)) 3 2 sk 0 fd a1 a2 a3 a4 a5 a6 a7 a8 a9 a10 a11 a12 a13 a14') :
    wX_joinAll_64 post J (nI c) x2 (nI k) (nI q) (nI zz) 3 2 sk 0 fd a1 a2 a3 a4 a5 a6 a7 a8 a9 a10 a11 a12 a13 a14 := by
  have hy := (rn_xyz c hc).2.1
  have hl : k &&& 2 ≤ k := Nat.and_le_left
  refine pk_eq (k &&& 2) 0 (fun e => ?_) (fun e => And.intro (pk_in c 20 (by omega)) ?_) (rn_and k 2) rfl (by omega) (by omega)
  · rw [show rn_r2 c k zz = rn_r1 c k zz from congrArg (rn_r1 c k) (if_pos e)] at hrow H0 H1
    exact rn_j88 hc h7 hk hq hrow hR ok H0 H1
  · rw [show rn_r2 c k zz = rn_r1 c k (zz ^^^ 2 ^ rn_y c) from congrArg (rn_r1 c k) (if_neg e)] at hrow H0 H1
    rw [nI_clamp (show c < 2 ^ 31 by omega), h6, rn_one (by omega), rn_xor]
    exact rn_j88 hc h7 hk hq hrow hR ok H0 H1
def rn_eq (W t k : Nat) : Bool := k == 0 || (rn_pk W k 8 == 3 || rn_od t k == rn_pk W k 8 / 2)
theorem rn_q3 : ∀ q, q < 4 → ¬ q = 3 → ∀ o, o < 2 → q.testBit o = true → o = q / 2 := by decide
theorem rn_eqS {W t k : Nat} (h : W.testBit t = true) (ht : t < 8) : rn_eq W t k = true := by
  unfold rn_eq
  by_cases e : rn_pk W k 8 = 3
  · rw [e]; simp
  · have h2 := rn_q3 _ (rn_pkB 8) e _ (rn_od2 t k) (rn_pkT (k := k) h 8 ht)
    rw [← h2]; simp
theorem rn_alT {p : Nat → Bool} (h : ∀ k, p k = true) : ∀ n, rn_al p n = true
  | 0 => rfl
  | n + 1 => by
    show (rn_al p n && p n) = true
    rw [rn_alT h n, h n]
    rfl
theorem rn_aff : ∀ W, W < 256 → rn_al (rn_pa W) 512 = true → W = 0 ∨ ∀ t, t < 8 → rn_al (rn_eq W t) 8 = true → W.testBit t = true := by decide +kernel
theorem rn_joinAll {post : Int32 → St2 → Prop} {sk fd : Int32} {a1 a2 a3 a4 a5 a6 a7 a8 a9 a10 a11 a12 a13 a14 : Nat → Int32} {V M R : Nat → Nat} {c : Nat} (hc : c < 2) (K : rn_K V M a1 a2 a3 a4 a5 a6 a7 a8) (hR : rn_R a14 R) (ok : rn_rok R) (hpa : rn_al (rn_pa (V c)) 512 = true)
    (H0 : (∀ m, m < 8 → ¬ (rn_rw R m = true ∧ (V c).testBit (rn_ti c m) = true)) → ∀ a14' : Nat → Int32, post 0 (3, 2, sk, 0, fd, a1, a2, a3, a4, a5, a6, a7, a8, a9, a10, a11, a12, a13, a14'))
    (H1 : ∀ (a14' : Nat → Int32) (R' : Nat → Nat), rn_R a14' R' → rn_rok R' → (∀ m, m < 8 → rn_rw R' m = (rn_rw R m && (V c).testBit (rn_ti c m))) → post 1 (3, 2, sk, 0, fd, a1, a2, a3, a4, a5, a6, a7, a8, a9, a10, a11, a12, a13, a14')) :
    wpX_joinAll post (3, 2, sk, 0, fd, a1, a2, a3, a4, a5, a6, a7, a8, a9, a10, a11, a12, a13, a14) (nI c) := by
  obtain ⟨hV, h1, _, _, _, h4, h5, h6, h7⟩ := K.1 c hc
  have cc : (nI c).toNatClampNeg = c := nI_clamp (by omega)
  refine ⟨pk_in c 20 (by omega), pk_in c 6 (by omega) (by rw [cc]; exact h4), nm_r (e' := nI (V c)) (by rw [cc, h4, cc]; exact h1) (pk_eq (V c) 0 (fun e => H0 (fun m hm hh => ?_) a14) (fun e => ?_))⟩
  · rw [e, Nat.zero_testBit] at hh
    exact absurd hh.2 (by decide)
  · refine pk_loop (fun n k (t : Nat → Int32) => wX_joinAll_20 post (nI c) (nI (V c)) n (nI k) 3 2 sk 0 fd a1 a2 a3 a4 a5 a6 a7 a8 a9 a10 a11 a12 a13 t) (fun k t => 1 ≤ k ∧ ∃ R', rn_R t R' ∧ rn_rok R' ∧ ∀ m, m < 8 → rn_rw R' m = (rn_rw R m && rn_al (rn_eq (V c) (rn_ti c m)) k)) 8 1 a14 (by omega) ⟨Nat.le_refl 1, R, hR, ok, fun m hm => by rw [show rn_al (rn_eq (V c) (rn_ti c m)) 1 = true from rfl, Bool.and_true]⟩ ?_ ?_
    · intro n t h
      obtain ⟨_, R', g1, g2, g3⟩ := h
      refine pk_le 8 8 (fun _ => H1 t R' g1 g2 (fun m hm => ?_)) (fun z => absurd z (by omega))
      rw [g3 m hm]
      rcases rn_aff _ hV hpa with z | z
      · exact absurd z e
      · congr 1
        refine rn_beq ⟨fun g => z _ (rn_tiF c hc m hm).1 g, fun g => rn_alT (fun k => rn_eqS g (rn_tiF c hc m hm).1) 8⟩
    · intro n k t hk h hw
      obtain ⟨k1, R', g1, g2, g3⟩ := h
      have q4 : rn_pk (V c) k 8 < 4 := rn_pkB 8
      obtain ⟨r1, r2⟩ := rn_rrS c hc k hk _ q4
      have hx := (rn_xyz c hc).1
      have hl : k &&& 4 ≤ k := Nat.and_le_left
      refine pk_le 8 k (fun z => absurd z (by omega)) (fun _ => rn_parities hV hk (pk_eq (rn_pk (V c) k 8) 3 (fun e3 => nm_r (nI_1 k) (hw t ⟨by omega, R', g1, g2, fun m hm => ?_⟩)) (fun e3 => ?_)))
      · rw [g3 m hm]
        show (rn_rw R m && rn_al (rn_eq (V c) (rn_ti c m)) k) = (rn_rw R m && (rn_al (rn_eq (V c) (rn_ti c m)) k && rn_eq (V c) (rn_ti c m) k))
        rw [show rn_eq (V c) (rn_ti c m) k = true by unfold rn_eq; rw [e3]; simp, Bool.and_true]
      · have E0 : (∀ m, m < 8 → ¬ (rn_rw R' m = true ∧ rn_rs (rn_rr c k (rn_pk (V c) k 8)) m = true)) → post 0 (3, 2, sk, 0, fd, a1, a2, a3, a4, a5, a6, a7, a8, a9, a10, a11, a12, a13, t) := fun h => H0 (fun m hm hh => h m hm ⟨by rw [g3 m hm, hh.1, rn_alT (fun k => rn_eqS hh.2 (rn_tiF c hc m hm).1) k]; rfl, by
          have h8 := rn_q3 _ q4 e3 _ (rn_od2 (rn_ti c m) k) (rn_pkT (k := k) hh.2 8 (rn_tiF c hc m hm).1)
          rw [r2 m hm, ← h8]; simp⟩) t
        have E1 : ∀ (a14' : Nat → Int32) (R'' : Nat → Nat), rn_R a14' R'' → rn_rok R'' → (∀ m, m < 8 → rn_rw R'' m = (rn_rw R' m && rn_rs (rn_rr c k (rn_pk (V c) k 8)) m)) → wX_joinAll_20 post (nI c) (nI (V c)) n (nI (k + 1)) 3 2 sk 0 fd a1 a2 a3 a4 a5 a6 a7 a8 a9 a10 a11 a12 a13 a14' := fun a14' R'' j1 j2 j3 => hw a14' ⟨by omega, R'', j1, j2, fun m hm => by
          rw [j3 m hm, g3 m hm, r2 m hm]
          show _ = (rn_rw R m && (rn_al (rn_eq (V c) (rn_ti c m)) k && rn_eq (V c) (rn_ti c m) k))
          have e5 : rn_eq (V c) (rn_ti c m) k = (rn_od (rn_ti c m) k == rn_pk (V c) k 8 / 2) := by
            unfold rn_eq
            have t1 : (k == 0) = false := by rw [beq_eq_false_iff_ne]; omega
            have t2 : (rn_pk (V c) k 8 == 3) = false := by rw [beq_eq_false_iff_ne]; exact e3
            rw [t1, t2]; rfl
          rw [e5, Bool.and_assoc]⟩
        have E4 : ∀ z, (if k &&& 4 = 0 then 0 else 0 ^^^ 2 ^ rn_x c) = z → wX_joinAll_64 post (wX_joinAll_20 post (nI c) (nI (V c)) n) (nI c) (nI (V c)) (nI k) (nI (rn_pk (V c) k 8)) (nI z) 3 2 sk 0 fd a1 a2 a3 a4 a5 a6 a7 a8 a9 a10 a11 a12 a13 t := fun z hz => by
          have er : rn_rr c k (rn_pk (V c) k 8) = rn_r2 c k z ||| rn_pk (V c) k 8 / 2 * 2 ^ 8 := by rw [← hz]; rfl
          rw [er] at E0 E1 r1
          exact rn_j64 hc h6 h7 hk q4 r1 g1 g2 E0 E1
        refine pk_eq (k &&& 4) 0 (fun e => E4 0 (if_pos e)) (fun e => And.intro (pk_in c 20 (by omega)) ?_) (rn_and k 4) rfl (by omega) (by omega)
        rw [cc, h5, rn_one (by omega)]
        show wX_joinAll_64 post (wX_joinAll_20 post (nI c) (nI (V c)) n) (nI c) (nI (V c)) (nI k) (nI (rn_pk (V c) k 8)) (nI 0 ^^^ nI (2 ^ rn_x c)) 3 2 sk 0 fd a1 a2 a3 a4 a5 a6 a7 a8 a9 a10 a11 a12 a13 t
        rw [rn_xor]
        exact E4 _ (if_neg e)
/-! eliminate -/
theorem rn_alX {p : Nat → Bool} : ∀ {n : Nat}, (∀ k, k < n → p k = true) → rn_al p n = true
  | 0, _ => rfl
  | n + 1, h => by
    show (rn_al p n && p n) = true
    rw [rn_alX (fun k hk => h k (by omega)), h n (by omega)]
    rfl
theorem rn_el1 : ∀ v, v < 3 → ((2 ^ v ||| 1 / 2 * 2 ^ 8) &&& 263 = (2 ^ v ||| 1 / 2 * 2 ^ 8) ∧ ∀ m, m < 8 → rn_rs (2 ^ v ||| 1 / 2 * 2 ^ 8) m = (1 : Nat).testBit (rn_v m v)) := by decide +kernel
theorem rn_el2 : ∀ v, v < 3 → ((2 ^ v ||| 2 / 2 * 2 ^ 8) &&& 263 = (2 ^ v ||| 2 / 2 * 2 ^ 8) ∧ ∀ m, m < 8 → rn_rs (2 ^ v ||| 2 / 2 * 2 ^ 8) m = (2 : Nat).testBit (rn_v m v)) := by decide +kernel
theorem rn_elR (v : Nat) (hv : v < 3) (d : Nat) (h4 : d < 4) (h0 : ¬ d = 0) (h3 : ¬ d = 3) : (2 ^ v ||| d / 2 * 2 ^ 8) &&& 263 = (2 ^ v ||| d / 2 * 2 ^ 8) ∧ ∀ m, m < 8 → rn_rs (2 ^ v ||| d / 2 * 2 ^ 8) m = d.testBit (rn_v m v) := by
  have e : d = 1 ∨ d = 2 := by omega
  rcases e with e | e
  · subst e
    exact rn_el1 v hv
  · subst e
    exact rn_el2 v hv
theorem rn_t3 : ∀ a, a < 2 → (3 : Nat).testBit a = true := by decide
theorem rn_e84s {post : Int32 → St2 → Prop} {sk fd : Int32} {a1 a2 a3 a4 a5 a6 a7 a8 a9 a10 a11 a12 a13 a14 : Nat → Int32} {n c : Nat} (hc : c < 2) (hs : nI c = sk) (h : wX_eliminate_84 post n (nI (c + 1)) 3 2 sk 0 fd a1 a2 a3 a4 a5 a6 a7 a8 a9 a10 a11 a12 a13 a14) : wX_eliminate_84 post (n + 1) (nI c) 3 2 sk 0 fd a1 a2 a3 a4 a5 a6 a7 a8 a9 a10 a11 a12 a13 a14 :=
  pk_le 2 c (fun z => absurd z (by omega)) (fun _ => br_t hs (nm_r (nI_1 c) h))
theorem rn_e84e {post : Int32 → St2 → Prop} {sk fd : Int32} {a1 a2 a3 a4 a5 a6 a7 a8 a9 a10 a11 a12 a13 a14 : Nat → Int32} {n : Nat} (h : post 1 (3, 2, sk, 0, fd, a1, a2, a3, a4, a5, a6, a7, a8, a9, a10, a11, a12, a13, a14)) : wX_eliminate_84 post (n + 1) (nI 2) 3 2 sk 0 fd a1 a2 a3 a4 a5 a6 a7 a8 a9 a10 a11 a12 a13 a14 :=
  pk_le 2 2 (fun _ => h) (fun z => absurd z (by omega))
theorem rn_e84 {post : Int32 → St2 → Prop} {sk fd : Int32} {a1 a2 a3 a4 a5 a6 a7 a8 a9 a10 a11 a12 a13 a14 : Nat → Int32} {V M R : Nat → Nat} {n c : Nat} (hc : c < 2) (hs : ¬ nI c = sk) (K : rn_K V M a1 a2 a3 a4 a5 a6 a7 a8) (hR : rn_R a14 R) (ok : rn_rok R) (hpa : rn_al (rn_pa (V c)) 512 = true)
    (H0 : (∀ m, m < 8 → ¬ (rn_rw R m = true ∧ (V c).testBit (rn_ti c m) = true)) → ∀ a14' : Nat → Int32, post 0 (3, 2, sk, 0, fd, a1, a2, a3, a4, a5, a6, a7, a8, a9, a10, a11, a12, a13, a14'))
    (H1 : ∀ (a14' : Nat → Int32) (R' : Nat → Nat), rn_R a14' R' → rn_rok R' → (∀ m, m < 8 → rn_rw R' m = (rn_rw R m && (V c).testBit (rn_ti c m))) → wX_eliminate_84 post n (nI (c + 1)) 3 2 sk 0 fd a1 a2 a3 a4 a5 a6 a7 a8 a9 a10 a11 a12 a13 a14') : wX_eliminate_84 post (n + 1) (nI c) 3 2 sk 0 fd a1 a2 a3 a4 a5 a6 a7 a8 a9 a10 a11 a12 a13 a14 :=
  pk_le 2 c (fun z => absurd z (by omega)) (fun _ => br_f hs (rn_joinAll hc K hR ok hpa (fun h a14' => br_t rfl (H0 h a14')) (fun a14' R' h1 h2 h3 => br_f (by decide) (nm_r (nI_1 c) (H1 a14' R' h1 h2 h3)))))
theorem rn_elim {post : Int32 → St2 → Prop} {sk fd : Int32} {a1 a2 a3 a4 a5 a6 a7 a8 a9 a10 a11 a12 a13 a14 : Nat → Int32} {V M D : Nat → Nat} {s : Bool} (hs : sk = rn_sk s) (K : rn_K V M a1 a2 a3 a4 a5 a6 a7 a8) (hD : rn_D a9 D) (hpa : ∀ c, c < 2 → rn_al (rn_pa (V c)) 512 = true)
    (H0 : (∀ m, m < 8 → rn_p V s m = true → ¬ rn_fit D m = true) → ∀ a14' : Nat → Int32, post 0 (3, 2, sk, 0, fd, a1, a2, a3, a4, a5, a6, a7, a8, a9, a10, a11, a12, a13, a14'))
    (H1 : ∀ (a14' : Nat → Int32) (R' : Nat → Nat), rn_R a14' R' → rn_rok R' → (∀ m, m < 8 → rn_rw R' m = (rn_p V s m && rn_fit D m)) → post 1 (3, 2, sk, 0, fd, a1, a2, a3, a4, a5, a6, a7, a8, a9, a10, a11, a12, a13, a14')) :
    wpX_eliminate post (3, 2, sk, 0, fd, a1, a2, a3, a4, a5, a6, a7, a8, a9, a10, a11, a12, a13, a14) := by
  refine pk_loop (fun n i (t : Nat → Int32) => wX_eliminate_2 post 3 2 sk 0 fd n (nI i) a1 a2 a3 a4 a5 a6 a7 a8 a9 a10 a11 a12 a13 t) (fun i t => ∀ j, j < i → t j = 0) 8 0 a14 (by omega) lt_0 ?_ ?_
  · intro n t0 ht0
    refine pk_le 8 8 (fun _ => ?_) (fun z => absurd z (by omega))
    refine pk_loop (fun n v (t : Nat → Int32) => wX_eliminate_23 post n (nI v) 3 2 sk 0 fd a1 a2 a3 a4 a5 a6 a7 a8 a9 a10 a11 a12 a13 t) (fun v t => ∃ R, rn_R t R ∧ rn_rok R ∧ ∀ m, m < 8 → rn_rw R m = rn_al (fun u => (D u).testBit (rn_v m u)) v) 3 0 t0 (by omega) ⟨fun _ => 0, fun v hv => ht0 v (by omega), fun v hv => Or.inl rfl, fun m hm => rn_rwE.mpr (fun v hv => rn_rs0 m hm)⟩ ?_ ?_
    · intro n t h
      obtain ⟨R, g1, g2, g3⟩ := h
      have g4 : ∀ m, m < 8 → rn_rw R m = rn_fit D m := fun m hm => by
        rw [g3 m hm]
        show (((true && (D 0).testBit (rn_v m 0)) && (D 1).testBit (rn_v m 1)) && (D 2).testBit (rn_v m 2)) = _
        unfold rn_fit
        rw [Bool.true_and, Bool.and_assoc]
      refine pk_le 3 3 (fun _ => ⟨3, ?_⟩) (fun z => absurd z (by omega))
      have no : ∀ c, c < 2 → (c = 0 ∨ s = false) → ∀ R1, (∀ m, m < 8 → rn_p V s m = true → rn_fit D m = true → rn_rw R1 m = true) → (∀ m, m < 8 → ¬ (rn_rw R1 m = true ∧ (V c).testBit (rn_ti c m) = true)) → ∀ m, m < 8 → rn_p V s m = true → ¬ rn_fit D m = true := fun c hc ha R1 h1 h2 m hm h3 h4 => h2 m hm ⟨h1 m hm h3 h4, rn_pA h3 hc ha⟩
      refine rn_e84 (c := 0) (by omega) (by rw [hs]; cases s <;> decide) K g1 g2 (hpa 0 (by omega)) (fun h a14' => H0 (no 0 (by omega) (Or.inl rfl) R (fun m hm _ hf => by rw [g4 m hm]; exact hf) h) a14') (fun t1 R1 j1 j2 j3 => ?_)
      cases es : s
      · subst es
        refine rn_e84 (c := 1) (by omega) (by rw [hs]; decide) K j1 j2 (hpa 1 (by omega)) (fun h a14' => H0 (no 1 (by omega) (Or.inr rfl) R1 (fun m hm hp hf => by rw [j3 m hm, g4 m hm, hf, rn_pA hp (by omega) (Or.inl rfl)]; rfl) h) a14') (fun t2 R2 i1 i2 i3 => rn_e84e (H1 t2 R2 i1 i2 (fun m hm => ?_)))
        rw [i3 m hm, j3 m hm, g4 m hm]
        unfold rn_p
        rw [Bool.false_or, Bool.and_comm, Bool.and_comm (rn_fit D m), ← Bool.and_assoc, Bool.and_comm ((V 1).testBit (rn_ti 1 m))]
      · subst es
        refine rn_e84s (c := 1) (by omega) (by rw [hs]; rfl) (rn_e84e (H1 t1 R1 j1 j2 (fun m hm => ?_)))
        rw [j3 m hm, g4 m hm]
        unfold rn_p
        rw [Bool.true_or, Bool.and_true, Bool.and_comm]
    · intro n v t hv h hw
      obtain ⟨R, g1, g2, g3⟩ := h
      have dv := (hD v hv).2
      have ev : a9 (nI v).toNatClampNeg = nI (D v) := by rw [nI_clamp (by omega)]; exact (hD v hv).1
      refine pk_le 3 v (fun z => absurd z (by omega)) (fun _ => ⟨pk_in v 8 (by omega), pk_eq (D v) 0 (fun e => H0 (fun m hm _ hf => ?_) t) (fun e => ⟨pk_in v 8 (by omega), pk_eq (D v) 3 (fun e3 => nm_r (nI_1 v) (hw t ⟨R, g1, g2, fun m hm => ?_⟩)) (fun e3 => ⟨pk_in v 8 (by omega), ?_⟩) ev rfl (by omega) (by omega)⟩) ev rfl (by omega) (by omega)⟩)
      · have h3 := rn_fitE.mp hf v hv
        rw [e, Nat.zero_testBit] at h3
        exact absurd h3 (by decide)
      · rw [g3 m hm]
        show _ = (rn_al (fun u => (D u).testBit (rn_v m u)) v && (D v).testBit (rn_v m v))
        rw [e3, rn_t3 _ (rn_v2 m v), Bool.and_true]
      · obtain ⟨r1, r2⟩ := rn_elR v hv _ dv e e3
        have er : ((1 : Int32) <<< (nI v &&& 31)) ||| ((a9 (nI v).toNatClampNeg >>> ((1 : Int32) &&& 31)) <<< ((8 : Int32) &&& 31)) = nI (2 ^ v ||| D v / 2 * 2 ^ 8) := by
          rw [ev, rn_one (by omega), rn_s1 (by omega), pk_shlN _ 8 (by decide) (by omega), rn_or]
        rw [er]
        refine rn_join r1 g1 g2 (fun h => br_t rfl (H0 (fun m hm _ hf => h m hm ⟨?_, ?_⟩) t)) (fun t1 R1 j1 j2 j3 => br_f (by decide) (nm_r (nI_1 v) (hw t1 ⟨R1, j1, j2, fun m hm => ?_⟩)))
        · rw [g3 m hm]
          exact rn_alX (fun u hu => rn_fitE.mp hf u (by omega)) 
        · rw [r2 m hm]
          exact rn_fitE.mp hf v hv
        · rw [j3 m hm, g3 m hm, r2 m hm]
          rfl
  · intro n i t hi ht hw
    refine pk_le 8 i (fun z => absurd z (by omega)) (fun _ => ⟨pk_in i 8 hi, nm_e (nm_r (nI_1 i) (hw _ (rn_fill (f := fun _ => 0) (nI_clamp (by omega)) ht rfl)))⟩)
/-- rank, and the number of solutions of reduced rows -/
def rn_rk (R : Nat → Nat) : Nat → Nat
  | 0 => 0
  | v + 1 => if R v = 0 then rn_rk R v else rn_rk R v + 1
theorem rn_rkB {R : Nat → Nat} : ∀ v, rn_rk R v ≤ v
  | 0 => Nat.le_refl 0
  | v + 1 => by
    have ih := rn_rkB (R := R) v
    by_cases e : R v = 0
    · rw [show rn_rk R (v + 1) = rn_rk R v from if_pos e]; omega
    · rw [show rn_rk R (v + 1) = rn_rk R v + 1 from if_neg e]; omega
theorem rn_rank {post : Int32 → Prop} {sk fd : Int32} {a1 a2 a3 a4 a5 a6 a7 a8 a9 a10 a11 a12 a13 a14 : Nat → Int32} {R : Nat → Nat} (hR : rn_R a14 R) (ok : rn_rok R) (h : post (nI (rn_rk R 3))) : wpX_rank post (3, 2, sk, 0, fd, a1, a2, a3, a4, a5, a6, a7, a8, a9, a10, a11, a12, a13, a14) := by
  refine pk_loop (σ := Unit) (fun n v _ => wX_rank_4 post 3 2 sk 0 fd a1 a2 a3 a4 a5 a6 a7 a8 a9 a10 a11 a12 a13 a14 n (nI (rn_rk R v)) (nI v)) (fun _ _ => True) 3 0 () (by omega) trivial
    (fun n _ _ => pk_le 3 3 (fun _ => h) (fun z => absurd z (by omega))) ?_
  intro n v _ hv _ hw
  have hw' : wX_rank_4 post 3 2 sk 0 fd a1 a2 a3 a4 a5 a6 a7 a8 a9 a10 a11 a12 a13 a14 n (nI (rn_rk R (v + 1))) (nI (v + 1)) := hw () trivial
  have rb := rn_rokB ok hv
  refine pk_le 3 v (fun z => absurd z (by omega)) (fun _ => ⟨pk_in v 8 (by omega), pk_eq (R v) 0 (fun e => nm_r (nI_1 v) ?_) (fun e => nm_r (nI_1 _) (nm_r (nI_1 v) ?_)) (by rw [nI_clamp (by omega)]; exact hR v hv) rfl (by omega) (by omega)⟩)
  · rw [show rn_rk R (v + 1) = rn_rk R v from if_pos e] at hw'
    exact hw'
  · rw [show rn_rk R (v + 1) = rn_rk R v + 1 from if_neg e] at hw'
    exact hw'
def rn_rc (r0 r1 r2 : Nat) : Bool := rn_cnt (fun m => rn_rs r0 m && (rn_rs r1 m && rn_rs r2 m)) == 2 ^ (3 - ((if r0 = 0 then 0 else 1) + (if r1 = 0 then 0 else 1) + (if r2 = 0 then 0 else 1)))
def rn_k0 (r : Nat) : Bool := r == 0 || (r &&& 263 == r && r.testBit 0)
def rn_k1 (r : Nat) : Bool := r == 0 || (r &&& 263 == r && (r.testBit 1 && !r.testBit 0))
def rn_k2 (r : Nat) : Bool := r == 0 || (r &&& 263 == r && (r.testBit 2 && (!r.testBit 0 && !r.testBit 1)))
theorem rn_rcB : rn_al (fun r0 => !rn_k0 r0 || rn_al (fun r1 => !rn_k1 r1 || rn_al (fun r2 => !rn_k2 r2 || rn_rc r0 r1 r2) 264) 264) 264 = true := by decide +kernel
theorem rn_rcA (r0 : Nat) (h0 : r0 < 264) (k0 : rn_k0 r0 = true) (r1 : Nat) (h1 : r1 < 264) (k1 : rn_k1 r1 = true) (r2 : Nat) (h2 : r2 < 264) (k2 : rn_k2 r2 = true) : rn_rc r0 r1 r2 = true := by
  have q0 : (!rn_k0 r0 || rn_al (fun r1 => !rn_k1 r1 || rn_al (fun r2 => !rn_k2 r2 || rn_rc r0 r1 r2) 264) 264) = true := rn_alI rn_rcB r0 h0
  rw [k0, Bool.not_true, Bool.false_or] at q0
  have q1 : (!rn_k1 r1 || rn_al (fun r2 => !rn_k2 r2 || rn_rc r0 r1 r2) 264) = true := rn_alI q0 r1 h1
  rw [k1, Bool.not_true, Bool.false_or] at q1
  have q2 : (!rn_k2 r2 || rn_rc r0 r1 r2) = true := rn_alI q1 r2 h2
  rw [k2, Bool.not_true, Bool.false_or] at q2
  exact q2
theorem rn_rkC {R : Nat → Nat} (ok : rn_rok R) : rn_cnt (rn_rw R) = 2 ^ (3 - rn_rk R 3) := by
  have k0 : rn_k0 (R 0) = true := by
    unfold rn_k0
    rcases ok 0 (by omega) with z | z
    · rw [z]; rfl
    · rw [show R 0 &&& 263 = R 0 from z.1, beq_self_eq_true, z.2.1]
      simp
  have k1 : rn_k1 (R 1) = true := by
    unfold rn_k1
    rcases ok 1 (by omega) with z | z
    · rw [z]; rfl
    · rw [show R 1 &&& 263 = R 1 from z.1, beq_self_eq_true, z.2.1, z.2.2 0 (by omega)]
      simp
  have k2 : rn_k2 (R 2) = true := by
    unfold rn_k2
    rcases ok 2 (by omega) with z | z
    · rw [z]; rfl
    · rw [show R 2 &&& 263 = R 2 from z.1, beq_self_eq_true, z.2.1, z.2.2 0 (by omega), z.2.2 1 (by omega)]
      simp
  have h := rn_rcA _ (rn_rokB ok (by omega)) k0 _ (rn_rokB ok (by omega)) k1 _ (rn_rokB ok (by omega)) k2
  have h2 : rn_cnt (rn_rw R) = 2 ^ (3 - ((if R 0 = 0 then 0 else 1) + (if R 1 = 0 then 0 else 1) + (if R 2 = 0 then 0 else 1))) := eq_of_beq h
  rw [h2]
  congr 2
  show _ = (if R 2 = 0 then (if R 1 = 0 then (if R 0 = 0 then 0 else 0 + 1) else (if R 0 = 0 then 0 else 0 + 1) + 1) else (if R 1 = 0 then (if R 0 = 0 then 0 else 0 + 1) else (if R 0 = 0 then 0 else 0 + 1) + 1) + 1)
  by_cases e0 : R 0 = 0 <;> by_cases e1 : R 1 = 0 <;> by_cases e2 : R 2 = 0 <;> simp [e0, e1, e2]
end
section
/-! implications between literals -/
def rn_tr (m q : Nat) : Prop := rn_v m (q / 2) = q % 2
def rn_Fo (a13 : Nat → Int32) (F : Nat → Nat) : Prop := ∀ k, k < 16 → a13 k = nI (F k)
def rn_G (Q : Nat → Prop) (F : Nat → Nat) : Prop := (∀ k, k < 16 → F k < 2 ^ 16) ∧ (∀ k, k < 16 → (F k).testBit k = true) ∧ (∀ p, p < 16 → ∀ q, q < 16 → (F p).testBit q = true → (F (q ^^^ 1)).testBit (p ^^^ 1) = true) ∧ (∀ m, Q m → ∀ p, p < 16 → ∀ q, q < 16 → (F p).testBit q = true → rn_tr m p → rn_tr m q)
def rn_le (F F' : Nat → Nat) : Prop := ∀ p, p < 16 → ∀ q, q < 16 → (F p).testBit q = true → (F' p).testBit q = true
theorem rn_leT {F F' F'' : Nat → Nat} (h : rn_le F F') (h' : rn_le F' F'') : rn_le F F'' := fun p hp q hq k => h' p hp q hq (h p hp q hq k)
theorem rn_x1 : ∀ q, q < 16 → q ^^^ 1 < 16 ∧ q ^^^ 1 ^^^ 1 = q ∧ (q ^^^ 1) / 2 = q / 2 ∧ (q ^^^ 1) % 2 = 1 - q % 2 := by decide
theorem rn_trN {m q : Nat} (hq : q < 16) : rn_tr m (q ^^^ 1) ↔ ¬ rn_tr m q := by
  obtain ⟨_, _, h1, h2⟩ := rn_x1 q hq
  unfold rn_tr
  rw [h1, h2]
  have := rn_v2 m (q / 2)
  omega
def rn_fb (F : Nat → Nat) (p q : Nat) : Nat → Nat := rn_up (rn_up F p (F p ||| 2 ^ (q ^^^ 1))) q (rn_up F p (F p ||| 2 ^ (q ^^^ 1)) q ||| 2 ^ (p ^^^ 1))
theorem rn_bor {a n j : Nat} : (a ||| 2 ^ n).testBit j = true ↔ a.testBit j = true ∨ j = n := by
  rw [Nat.testBit_or, Bool.or_eq_true, Nat.testBit_two_pow, decide_eq_true_iff]
  constructor
  · intro h
    rcases h with h | h
    · exact Or.inl h
    · exact Or.inr h.symm
  · intro h
    rcases h with h | h
    · exact Or.inl h
    · exact Or.inr h.symm
theorem rn_fbT {F : Nat → Nat} {p q k j : Nat} : (rn_fb F p q k).testBit j = true ↔ (F k).testBit j = true ∨ (k = p ∧ j = q ^^^ 1) ∨ (k = q ∧ j = p ^^^ 1) := by
  unfold rn_fb
  by_cases e : k = q
  · rw [e, rn_ups, rn_bor]
    by_cases e2 : q = p
    · rw [e2, rn_ups, rn_bor]
      constructor
      · intro h
        rcases h with (h | h) | h
        · exact Or.inl h
        · exact Or.inr (Or.inl ⟨rfl, h⟩)
        · exact Or.inr (Or.inr ⟨rfl, h⟩)
      · intro h
        rcases h with h | h | h
        · exact Or.inl (Or.inl h)
        · exact Or.inl (Or.inr h.2)
        · exact Or.inr h.2
    · rw [rn_upn e2]
      constructor
      · intro h
        rcases h with h | h
        · exact Or.inl h
        · exact Or.inr (Or.inr ⟨rfl, h⟩)
      · intro h
        rcases h with h | h | h
        · exact Or.inl h
        · exact absurd h.1 e2
        · exact Or.inr h.2
  · rw [rn_upn e]
    by_cases e2 : k = p
    · rw [e2, rn_ups, rn_bor]
      constructor
      · intro h
        rcases h with h | h
        · exact Or.inl h
        · exact Or.inr (Or.inl ⟨rfl, h⟩)
      · intro h
        rcases h with h | h | h
        · exact Or.inl h
        · exact Or.inr h.2
        · rw [e2] at e
          exact absurd h.1 e
    · rw [rn_upn e2]
      constructor
      · intro h
        exact Or.inl h
      · intro h
        rcases h with h | h | h
        · exact h
        · exact absurd h.1 e2
        · exact absurd h.1 e
theorem rn_fbB {F : Nat → Nat} {p q k : Nat} (hp : p < 16) (hq : q < 16) (h : ∀ k, k < 16 → F k < 2 ^ 16) (hk : k < 16) : rn_fb F p q k < 2 ^ 16 := by
  have p1 : (2 : Nat) ^ (p ^^^ 1) < 2 ^ 16 := Nat.pow_lt_pow_right (by omega) (rn_x1 p hp).1
  have q1 : (2 : Nat) ^ (q ^^^ 1) < 2 ^ 16 := Nat.pow_lt_pow_right (by omega) (rn_x1 q hq).1
  have inn : ∀ k, k < 16 → rn_up F p (F p ||| 2 ^ (q ^^^ 1)) k < 2 ^ 16 := fun k hk => by
    by_cases e : k = p
    · rw [e, rn_ups]
      exact Nat.or_lt_two_pow (h p hp) q1
    · rw [rn_upn e]
      exact h k hk
  unfold rn_fb
  by_cases e : k = q
  · rw [e, rn_ups]
    exact Nat.or_lt_two_pow (inn q hq) p1
  · rw [rn_upn e]
    exact inn k hk
theorem rn_fbG {Q : Nat → Prop} {F : Nat → Nat} {p q : Nat} (hp : p < 16) (hq : q < 16) (G : rn_G Q F) (hno : ∀ m, Q m → rn_tr m p → ¬ rn_tr m q) : rn_G Q (rn_fb F p q) := by
  obtain ⟨g1, g2, g3, g4⟩ := G
  refine ⟨fun k hk => rn_fbB hp hq g1 hk, fun k hk => rn_fbT.mpr (Or.inl (g2 k hk)), fun k hk j hj h => ?_, fun m hm k hk j hj h ht => ?_⟩
  · rcases rn_fbT.mp h with h | h | h
    · exact rn_fbT.mpr (Or.inl (g3 k hk j hj h))
    · rw [h.1, h.2, (rn_x1 q hq).2.1]
      exact rn_fbT.mpr (Or.inr (Or.inr ⟨rfl, rfl⟩))
    · rw [h.1, h.2, (rn_x1 p hp).2.1]
      exact rn_fbT.mpr (Or.inr (Or.inl ⟨rfl, rfl⟩))
  · rcases rn_fbT.mp h with h | h | h
    · exact g4 m hm k hk j hj h ht
    · rw [h.1] at ht
      rw [h.2]
      exact (rn_trN hq).mpr (hno m hm ht)
    · rw [h.1] at ht
      rw [h.2]
      exact (rn_trN hp).mpr (fun z => hno m hm z ht)
theorem rn_forbid {post : St2 → Prop} {sk fd : Int32} {a1 a2 a3 a4 a5 a6 a7 a8 a9 a10 a11 a12 a13 a14 : Nat → Int32} {Q : Nat → Prop} {F : Nat → Nat} {p q : Nat} (hp : p < 16) (hq : q < 16) (hF : rn_Fo a13 F) (G : rn_G Q F) (hno : ∀ m, Q m → rn_tr m p → ¬ rn_tr m q)
    (H : ∀ (a13' : Nat → Int32) (F' : Nat → Nat), rn_Fo a13' F' → rn_G Q F' → rn_le F F' → (F' p).testBit (q ^^^ 1) = true → post (3, 2, sk, 0, fd, a1, a2, a3, a4, a5, a6, a7, a8, a9, a10, a11, a12, a13', a14)) : wpX_forbid post (3, 2, sk, 0, fd, a1, a2, a3, a4, a5, a6, a7, a8, a9, a10, a11, a12, a13, a14) (nI p) (nI q) := by
  have p1 := (rn_x1 p hp).1
  have q1 := (rn_x1 q hq).1
  have F1 : rn_Fo (upd a13 p (nI (F p ||| 2 ^ (q ^^^ 1)))) (rn_up F p (F p ||| 2 ^ (q ^^^ 1))) := fun k hk => by
    by_cases e : k = p
    · rw [e, pk_us, rn_ups]
    · rw [pk_un e, rn_upn e]
      exact hF k hk
  refine ⟨pk_in p 16 hp, pk_in p 16 hp, ?_⟩
  rw [nI_clamp (show p < 2 ^ 31 by omega), nI_clamp (show q < 2 ^ 31 by omega)]
  refine nm_r (e' := upd a13 p (nI (F p ||| 2 ^ (q ^^^ 1)))) ?_ ⟨pk_in q 16 hq, pk_in q 16 hq, nm_r (e' := upd (upd a13 p (nI (F p ||| 2 ^ (q ^^^ 1)))) q (nI (rn_up F p (F p ||| 2 ^ (q ^^^ 1)) q ||| 2 ^ (p ^^^ 1)))) ?_ (H _ (rn_fb F p q) ?_ (rn_fbG hp hq G hno) (fun k _ j _ h => rn_fbT.mpr (Or.inl h)) (rn_fbT.mpr (Or.inr (Or.inl ⟨rfl, rfl⟩))))⟩
  · rw [hF p hp, show nI q ^^^ 1 = nI (q ^^^ 1) from rn_xor q 1, rn_one (by omega), rn_or]
  · rw [F1 q hq, show nI p ^^^ 1 = nI (p ^^^ 1) from rn_xor p 1, rn_one (by omega), rn_or]
  · intro k hk
    unfold rn_fb
    by_cases e : k = q
    · rw [e, pk_us, rn_ups]
    · rw [pk_un e, rn_upn e]
      exact F1 k hk
/-- forbidOutside -/
theorem rn_tl {m v a : Nat} (ha : a < 2) : rn_tr m (2 * v + a) ↔ rn_v m v = a := by
  unfold rn_tr
  rw [show (2 * v + a) / 2 = v by omega, show (2 * v + a) % 2 = a by omega]
theorem rn_2v (v a : Nat) : (2 : Int32) * nI v + nI a = nI (2 * v + a) := by
  show nI 2 * nI v + nI a = _
  rw [pk_mul, nI_add]
theorem rn_fOut {post : St2 → Prop} {sk fd : Int32} {a1 a2 a3 a4 a5 a6 a7 a8 a9 a10 a11 a12 a13 a14 : Nat → Int32} {Q : Nat → Prop} {F D : Nat → Nat} {v : Nat} (hv : v < 3) (hD : rn_D a9 D) (hF : rn_Fo a13 F) (G : rn_G Q F) (hQ : ∀ m, Q m → rn_fit D m = true)
    (H : ∀ (a13' : Nat → Int32) (F' : Nat → Nat), rn_Fo a13' F' → rn_G Q F' → rn_le F F' → (∀ a, a < 2 → (D v).testBit a = false → (F' (2 * v + a)).testBit ((2 * v + a) ^^^ 1) = true) → post (3, 2, sk, 0, fd, a1, a2, a3, a4, a5, a6, a7, a8, a9, a10, a11, a12, a13', a14)) : wpX_forbidOutside post (3, 2, sk, 0, fd, a1, a2, a3, a4, a5, a6, a7, a8, a9, a10, a11, a12, a13, a14) (nI v) := by
  have dv := (hD v hv).2
  refine pk_loop (fun n a (t : Nat → Int32) => wX_forbidOutside_2 post (nI v) n (nI a) 3 2 sk 0 fd a1 a2 a3 a4 a5 a6 a7 a8 a9 a10 a11 a12 t a14) (fun a t => ∃ F', rn_Fo t F' ∧ rn_G Q F' ∧ rn_le F F' ∧ ∀ b, b < a → (D v).testBit b = false → (F' (2 * v + b)).testBit ((2 * v + b) ^^^ 1) = true) 2 0 a13 (by omega) ⟨F, hF, G, fun _ _ _ _ h => h, lt_0⟩ ?_ ?_
  · intro n t h
    obtain ⟨F', h1, h2, h3, h4⟩ := h
    exact pk_le 2 2 (fun _ => H t F' h1 h2 h3 h4) (fun z => absurd z (by omega))
  · intro n a t ha h hw
    obtain ⟨F', h1, h2, h3, h4⟩ := h
    refine pk_le 2 a (fun z => absurd z (by omega)) (fun _ => ⟨pk_in v 8 (by omega), rn_hs (D v) a (fun g => nm_r (nI_1 a) (hw t ⟨F', h1, h2, h3, lt_s h4 (fun z => absurd z (by rw [g]; decide))⟩)) (fun g => ?_) (by rw [nI_clamp (by omega)]; exact (hD v hv).1) rfl (by omega) (by omega)⟩)
    rw [rn_2v]
    refine rn_forbid (Q := Q) (by omega) (by omega) h1 h2 (fun m hm z _ => ?_) (fun t' F'' k1 k2 k3 k4 => nm_r (nI_1 a) (hw t' ⟨F'', k1, k2, rn_leT h3 k3, lt_s (fun b hb z => k3 _ (by omega) _ (rn_x1 _ (by omega)).1 (h4 b hb z)) (fun _ => k4)⟩))
    have h5 := rn_fitE.mp (hQ m hm) v hv
    rw [(rn_tl ha).mp z, g] at h5
    exact absurd h5 (by decide)
/-- forbidPairs -/
def rn_ex (p : Nat → Bool) : Nat → Bool
  | 0 => false
  | n + 1 => rn_ex p n || p n
theorem rn_exE {p : Nat → Bool} : ∀ {n : Nat}, rn_ex p n = true → ∃ k, k < n ∧ p k = true
  | 0, h => absurd (show false = true from h) (by decide)
  | n + 1, h => by
    have h2 : (rn_ex p n || p n) = true := h
    rw [Bool.or_eq_true] at h2
    rcases h2 with z | z
    · obtain ⟨k, hk, hp⟩ := rn_exE z
      exact ⟨k, by omega, hp⟩
    · exact ⟨n, by omega, z⟩
theorem rn_exI {p : Nat → Bool} {k : Nat} (h : p k = true) : ∀ n, k < n → rn_ex p n = true
  | 0, hn => absurd hn (by omega)
  | n + 1, hn => by
    show (rn_ex p n || p n) = true
    rcases Nat.lt_or_ge k n with z | z
    · rw [rn_exI h n z, Bool.true_or]
    · rw [show n = k by omega, h, Bool.or_true]
def rn_fi (wA a wB b t : Nat) : Bool := ((!decide (t &&& wA = 0)) == decide (a = 1)) && ((!decide (t &&& wB = 0)) == decide (b = 1))
theorem rn_fp92 {post : St2 → Prop} {J3 : rn_J6} {J : Int32 → Int32 → Prop} {x2 x3 x4 x5 x6 x7 x8 sk fd : Int32} {a1 a2 a3 a4 a5 a6 a7 a8 a9 a10 a11 a12 a13 a14 : Nat → Int32} {W t : Nat} {sn z : Bool} (hW : W < 256) (ht : t < 8) (h : J (rn_b (sn || (z && W.testBit t))) (nI (t + 1))) :
    wX_forbidPairs_92 post J3 J (nI W) x2 x3 x4 x5 x6 x7 x8 (rn_b sn) (nI t) (rn_b z) 3 2 sk 0 fd a1 a2 a3 a4 a5 a6 a7 a8 a9 a10 a11 a12 a13 a14 := by
  refine rn_bz sn (fun e => nm_r (nI_1 t) ?_) (fun e => rn_bz z (fun e2 => rn_hs W t (fun h1 => nm_r (nI_1 t) ?_) (fun h1 => nm_r (nI_1 t) ?_)) (fun e2 => nm_r (nI_1 t) ?_))
  · rw [e, Bool.true_or] at h
    exact h
  · rw [e, e2, h1] at h
    exact h
  · rw [e, e2, h1] at h
    exact h
  · rw [e, e2] at h
    exact h
theorem rn_bb {A B : Prop} (a b : Bool) (f : (a == b) = true → A) (g : (a == b) = false → B) : (rn_b a = rn_b b → A) ∧ (¬ rn_b a = rn_b b → B) := by
  cases a <;> cases b
  · exact br_t rfl (f rfl)
  · exact br_f (by decide) (g rfl)
  · exact br_f (by decide) (g rfl)
  · exact br_t rfl (f rfl)
theorem rn_fp84 {post : St2 → Prop} {J3 : rn_J6} {J : Int32 → Int32 → Prop} {x2 x3 x4 x5 x6 x7 x8 sk fd : Int32} {a1 a2 a3 a4 a5 a6 a7 a8 a9 a10 a11 a12 a13 a14 : Nat → Int32} {W t : Nat} {sn zC zD : Bool} (hW : W < 256) (ht : t < 8) (h : J (rn_b (sn || ((zC == zD) && W.testBit t))) (nI (t + 1))) :
    wX_forbidPairs_84 post J3 J (nI W) x2 x3 x4 x5 x6 x7 x8 (rn_b sn) (nI t) (rn_b zD) (rn_b zC) 3 2 sk 0 fd a1 a2 a3 a4 a5 a6 a7 a8 a9 a10 a11 a12 a13 a14 := by
  refine rn_bb zC zD (fun e => ?_) (fun e => ?_)
  · rw [e] at h
    exact rn_fp92 (z := true) hW ht h
  · rw [e] at h
    exact rn_fp92 (z := false) hW ht h
theorem rn_fp73 {post : St2 → Prop} {J3 : rn_J6} {J : Int32 → Int32 → Prop} {x2 x3 x4 x5 x6 x7 sk fd : Int32} {a1 a2 a3 a4 a5 a6 a7 a8 a9 a10 a11 a12 a13 a14 : Nat → Int32} {W t b : Nat} {sn zC : Bool} (hW : W < 256) (ht : t < 8) (hb : b < 2) (h : J (rn_b (sn || ((zC == decide (b = 1)) && W.testBit t))) (nI (t + 1))) :
    wX_forbidPairs_73 post J3 J (nI W) x2 x3 x4 x5 x6 x7 (nI b) (rn_b sn) (nI t) (rn_b zC) 3 2 sk 0 fd a1 a2 a3 a4 a5 a6 a7 a8 a9 a10 a11 a12 a13 a14 := by
  refine pk_eq b 1 (fun e => ?_) (fun e => ?_)
  · rw [decide_eq_true e] at h
    exact rn_fp84 (zD := true) hW ht h
  · rw [decide_eq_false e] at h
    exact rn_fp84 (zD := false) hW ht h
theorem rn_fp57 {post : St2 → Prop} {J3 : rn_J6} {J : Int32 → Int32 → Prop} {x2 x3 x5 x6 x7 sk fd : Int32} {a1 a2 a3 a4 a5 a6 a7 a8 a9 a10 a11 a12 a13 a14 : Nat → Int32} {W t b wB : Nat} {sn zA zB : Bool} (hW : W < 256) (ht : t < 8) (hb : b < 2) (h : J (rn_b (sn || (((zA == zB) && ((!decide (t &&& wB = 0)) == decide (b = 1))) && W.testBit t))) (nI (t + 1))) :
    wX_forbidPairs_57 post J3 J (nI W) x2 x3 (nI wB) x5 x6 x7 (nI b) (rn_b sn) (nI t) (rn_b zB) (rn_b zA) 3 2 sk 0 fd a1 a2 a3 a4 a5 a6 a7 a8 a9 a10 a11 a12 a13 a14 := by
  have hl : t &&& wB ≤ t := Nat.and_le_left
  refine rn_bb zA zB (fun e => pk_eq (t &&& wB) 0 (fun e2 => ?_) (fun e2 => ?_) (rn_and t wB) rfl (by omega) (by omega)) (fun e => ?_)
  · rw [e, decide_eq_true e2, Bool.true_and] at h
    exact rn_fp73 (zC := false) hW ht hb h
  · rw [e, decide_eq_false e2, Bool.true_and] at h
    exact rn_fp73 (zC := true) hW ht hb h
  · rw [e, Bool.false_and] at h
    exact rn_fp92 (z := false) hW ht h
theorem rn_fp46 {post : St2 → Prop} {J3 : rn_J6} {J : Int32 → Int32 → Prop} {x2 x3 x5 x6 sk fd : Int32} {a1 a2 a3 a4 a5 a6 a7 a8 a9 a10 a11 a12 a13 a14 : Nat → Int32} {W t a b wB : Nat} {sn zA : Bool} (hW : W < 256) (ht : t < 8) (ha : a < 2) (hb : b < 2) (h : J (rn_b (sn || (((zA == decide (a = 1)) && ((!decide (t &&& wB = 0)) == decide (b = 1))) && W.testBit t))) (nI (t + 1))) :
    wX_forbidPairs_46 post J3 J (nI W) x2 x3 (nI wB) x5 x6 (nI a) (nI b) (rn_b sn) (nI t) (rn_b zA) 3 2 sk 0 fd a1 a2 a3 a4 a5 a6 a7 a8 a9 a10 a11 a12 a13 a14 := by
  refine pk_eq a 1 (fun e => ?_) (fun e => ?_)
  · rw [decide_eq_true e] at h
    exact rn_fp57 (zB := true) hW ht hb h
  · rw [decide_eq_false e] at h
    exact rn_fp57 (zB := false) hW ht hb h
theorem rn_fp27 {post : St2 → Prop} {J3 : rn_J6} {x3 x5 x6 sk fd : Int32} {a1 a2 a3 a4 a5 a6 a7 a8 a9 a10 a11 a12 a13 a14 : Nat → Int32} {W n t a b wA wB : Nat} {sn : Bool} (hW : W < 256) (ht : t < 8) (ha : a < 2) (hb : b < 2)
    (h : wX_forbidPairs_27 post J3 (nI W) (nI wA) x3 (nI wB) x5 x6 (nI a) (nI b) 3 2 sk 0 fd a1 a2 a3 a4 a5 a6 a7 a8 a9 a10 a11 a12 a13 a14 n (rn_b (sn || (rn_fi wA a wB b t && W.testBit t))) (nI (t + 1))) :
    wX_forbidPairs_27 post J3 (nI W) (nI wA) x3 (nI wB) x5 x6 (nI a) (nI b) 3 2 sk 0 fd a1 a2 a3 a4 a5 a6 a7 a8 a9 a10 a11 a12 a13 a14 (n + 1) (rn_b sn) (nI t) := by
  have hl : t &&& wA ≤ t := Nat.and_le_left
  unfold rn_fi at h
  refine pk_le 8 t (fun z => absurd z (by omega)) (fun _ => pk_eq (t &&& wA) 0 (fun e => ?_) (fun e => ?_) (rn_and t wA) rfl (by omega) (by omega))
  · rw [decide_eq_true e] at h
    exact rn_fp46 (zA := false) hW ht ha hb h
  · rw [decide_eq_false e] at h
    exact rn_fp46 (zA := true) hW ht ha hb h
/-- the pairs of values that no triple of W shows at two places lead to each other's opposite -/
def rn_un (W wA u wB v : Nat) (F : Nat → Nat) : Prop := ∀ a, a < 2 → ∀ b, b < 2 → rn_ex (fun t => rn_fi wA a wB b t && W.testBit t) 8 = false → (F (2 * u + a)).testBit ((2 * v + b) ^^^ 1) = true
theorem rn_fiI {wA a wB b t : Nat} (ha : a < 2) (hb : b < 2) (h1 : t &&& wA = 0 ↔ a = 0) (h2 : t &&& wB = 0 ↔ b = 0) : rn_fi wA a wB b t = true := by
  unfold rn_fi
  have k : ∀ w c, c < 2 → (t &&& w = 0 ↔ c = 0) → ((!decide (t &&& w = 0)) == decide (c = 1)) = true := fun w c hc h => by
    rcases rn_lt2 hc with e | e
    · rw [decide_eq_true (h.mpr e), decide_eq_false (show ¬ c = 1 by omega)]; rfl
    · rw [decide_eq_false (fun z => absurd (h.mp z) (by omega)), decide_eq_true e]; rfl
  rw [k wA a ha h1, k wB b hb h2]
  rfl
theorem rn_fPairs {post : St2 → Prop} {sk fd : Int32} {a1 a2 a3 a4 a5 a6 a7 a8 a9 a10 a11 a12 a13 a14 : Nat → Int32} {Q : Nat → Prop} {F : Nat → Nat} {W wA u wB v : Nat} (hW : W < 256) (hu : u < 3) (hv : v < 3) (hF : rn_Fo a13 F) (G : rn_G Q F)
    (hQ : ∀ m, Q m → ∃ t, t < 8 ∧ W.testBit t = true ∧ (t &&& wA = 0 ↔ rn_v m u = 0) ∧ (t &&& wB = 0 ↔ rn_v m v = 0))
    (H : ∀ (a13' : Nat → Int32) (F' : Nat → Nat), rn_Fo a13' F' → rn_G Q F' → rn_le F F' → rn_un W wA u wB v F' → post (3, 2, sk, 0, fd, a1, a2, a3, a4, a5, a6, a7, a8, a9, a10, a11, a12, a13', a14)) : wpX_forbidPairs post (3, 2, sk, 0, fd, a1, a2, a3, a4, a5, a6, a7, a8, a9, a10, a11, a12, a13, a14) (nI W) (nI wA) (nI u) (nI wB) (nI v) := by
  refine pk_loop (fun n k (t : Nat → Int32) => wX_forbidPairs_3 post (nI W) (nI wA) (nI u) (nI wB) (nI v) n (nI k) 3 2 sk 0 fd a1 a2 a3 a4 a5 a6 a7 a8 a9 a10 a11 a12 t a14) (fun k t => ∃ F', rn_Fo t F' ∧ rn_G Q F' ∧ rn_le F F' ∧ ∀ j, j < k → rn_ex (fun t => rn_fi wA (j / 2) wB (j % 2) t && W.testBit t) 8 = false → (F' (2 * u + j / 2)).testBit ((2 * v + j % 2) ^^^ 1) = true) 4 0 a13 (by omega) ⟨F, hF, G, fun _ _ _ _ h => h, lt_0⟩ ?_ ?_
  · intro n t h
    obtain ⟨F', h1, h2, h3, h4⟩ := h
    refine pk_le 4 4 (fun _ => H t F' h1 h2 h3 (fun a ha b hb z => ?_)) (fun z => absurd z (by omega))
    have h5 := h4 (2 * a + b) (by omega)
    rw [show (2 * a + b) / 2 = a by omega, show (2 * a + b) % 2 = b by omega] at h5
    exact h5 z
  · intro n k t hk h hw
    obtain ⟨F', h1, h2, h3, h4⟩ := h
    refine pk_le 4 k (fun z => absurd z (by omega)) (fun _ => nm_r (rn_s1 (by omega)) (nm_r (rn_a1 (by omega)) ?_))
    refine pk_loop (σ := Unit) (fun n' i _ => wX_forbidPairs_27 post (wX_forbidPairs_3 post (nI W) (nI wA) (nI u) (nI wB) (nI v) n) (nI W) (nI wA) (nI u) (nI wB) (nI v) (nI k) (nI (k / 2)) (nI (k % 2)) 3 2 sk 0 fd a1 a2 a3 a4 a5 a6 a7 a8 a9 a10 a11 a12 t a14 n' (rn_b (rn_ex (fun t => rn_fi wA (k / 2) wB (k % 2) t && W.testBit t) i)) (nI i)) (fun _ _ => True) 8 0 () (by omega) trivial ?_ (fun n' i _ hi _ hw' => rn_fp27 hW hi (by omega) (by omega) (hw' () trivial))
    intro n' _ _
    refine pk_le 8 8 (fun _ => rn_bz _ (fun e => nm_r (nI_1 k) (hw t ⟨F', h1, h2, h3, lt_s h4 (fun z => absurd z (by rw [e]; decide))⟩)) (fun e => ?_)) (fun z => absurd z (by omega))
    rw [rn_2v, rn_2v]
    refine rn_forbid (Q := Q) (by omega) (by omega) h1 h2 (fun m hm z1 z2 => ?_) (fun t' F'' k1 k2 k3 k4 => nm_r (nI_1 k) (hw t' ⟨F'', k1, k2, rn_leT h3 k3, lt_s (fun b hb z => k3 _ (by omega) _ (rn_x1 _ (by omega)).1 (h4 b hb z)) (fun _ => k4)⟩))
    obtain ⟨t', t8, w1, w2, w3⟩ := hQ m hm
    rw [(rn_tl (by omega)).mp z1] at w2
    rw [(rn_tl (by omega)).mp z2] at w3
    have h5 := rn_exI (p := fun t => rn_fi wA (k / 2) wB (k % 2) t && W.testBit t) (k := t') (by show (rn_fi wA (k / 2) wB (k % 2) t' && W.testBit t') = true; rw [rn_fiI (by omega) (by omega) w2 w3, w1]; rfl) 8 t8
    rw [e] at h5
    exact absurd h5 (by decide)
theorem rn_unM {W wA u wB v : Nat} {F F' : Nat → Nat} (hu : u < 3) (hv : v < 3) (h : rn_un W wA u wB v F) (hl : rn_le F F') : rn_un W wA u wB v F' :=
  fun a ha b hb z => hl _ (by omega) _ (rn_x1 _ (by omega)).1 (h a ha b hb z)
/-- all that is forbidden for constraint c -/
def rn_uc (W c : Nat) (F : Nat → Nat) : Prop := rn_un W 4 (rn_x c) 2 (rn_y c) F ∧ rn_un W 4 (rn_x c) 1 (rn_z c) F ∧ rn_un W 2 (rn_y c) 1 (rn_z c) F
theorem rn_ucM {W c : Nat} {F F' : Nat → Nat} (hc : c < 2) (h : rn_uc W c F) (hl : rn_le F F') : rn_uc W c F' := by
  obtain ⟨hx, hy, hz, _⟩ := rn_xyz c hc
  exact ⟨rn_unM hx hy h.1 hl, rn_unM hx hz h.2.1 hl, rn_unM hy hz h.2.2 hl⟩
theorem rn_c46s {post : Int32 → St2 → Prop} {sk fd : Int32} {a1 a2 a3 a4 a5 a6 a7 a8 a9 a10 a11 a12 a13 a14 : Nat → Int32} {n c : Nat} (hc : c < 2) (hs : nI c = sk) (h : wX_closeLiterals_46 post n (nI (c + 1)) 3 2 sk 0 fd a1 a2 a3 a4 a5 a6 a7 a8 a9 a10 a11 a12 a13 a14) : wX_closeLiterals_46 post (n + 1) (nI c) 3 2 sk 0 fd a1 a2 a3 a4 a5 a6 a7 a8 a9 a10 a11 a12 a13 a14 :=
  pk_le 2 c (fun z => absurd z (by omega)) (fun _ => br_t hs (nm_r (nI_1 c) h))
theorem rn_c46e {post : Int32 → St2 → Prop} {sk fd : Int32} {a1 a2 a3 a4 a5 a6 a7 a8 a9 a10 a11 a12 a13 a14 : Nat → Int32} {n : Nat} (h : ∃ n, wX_closeLiterals_139 post 3 2 sk 0 fd n 0 a1 a2 a3 a4 a5 a6 a7 a8 a9 a10 a11 a12 a13 a14) : wX_closeLiterals_46 post (n + 1) (nI 2) 3 2 sk 0 fd a1 a2 a3 a4 a5 a6 a7 a8 a9 a10 a11 a12 a13 a14 :=
  pk_le 2 2 (fun _ => h) (fun z => absurd z (by omega))
theorem rn_c46 {post : Int32 → St2 → Prop} {sk fd : Int32} {a1 a2 a3 a4 a5 a6 a7 a8 a9 a10 a11 a12 a13 a14 : Nat → Int32} {V M F : Nat → Nat} {Q : Nat → Prop} {n c : Nat} (hc : c < 2) (hs : ¬ nI c = sk) (K : rn_K V M a1 a2 a3 a4 a5 a6 a7 a8) (hF : rn_Fo a13 F) (G : rn_G Q F) (hQ : ∀ m, Q m → m < 8 ∧ (V c).testBit (rn_ti c m) = true)
    (H : ∀ (a13' : Nat → Int32) (F' : Nat → Nat), rn_Fo a13' F' → rn_G Q F' → rn_le F F' → rn_uc (V c) c F' → wX_closeLiterals_46 post n (nI (c + 1)) 3 2 sk 0 fd a1 a2 a3 a4 a5 a6 a7 a8 a9 a10 a11 a12 a13' a14) : wX_closeLiterals_46 post (n + 1) (nI c) 3 2 sk 0 fd a1 a2 a3 a4 a5 a6 a7 a8 a9 a10 a11 a12 a13 a14 := by
  obtain ⟨hx, hy, hz, _⟩ := rn_xyz c hc
  obtain ⟨hV, h1, _, _, _, h4, h5, h6, h7⟩ := K.1 c hc
  have cc : (nI c).toNatClampNeg = c := nI_clamp (by omega)
  have i20 : vp_in (nI c) 20 := pk_in c 20 (by omega)
  have tq : ∀ m, Q m → ∃ t, t < 8 ∧ (V c).testBit t = true ∧ (t &&& 4 = 0 ↔ rn_v m (rn_x c) = 0) ∧ (t &&& 2 = 0 ↔ rn_v m (rn_y c) = 0) ∧ (t &&& 1 = 0 ↔ rn_v m (rn_z c) = 0) := fun m hm => by
    obtain ⟨m8, w⟩ := hQ m hm
    obtain ⟨t8, tx, ty, tz⟩ := rn_tiF c hc m m8
    obtain ⟨w4, w2, w1⟩ := rn_w421 _ t8
    exact ⟨rn_ti c m, t8, w, by rw [w4, tx], by rw [w2, ty], by rw [w1, tz]⟩
  refine pk_le 2 c (fun z => absurd z (by omega)) (fun _ => br_f hs ⟨i20, pk_in c 6 (by omega) (by rw [cc]; exact h4), nm_r (e' := nI (V c)) (by rw [cc, h4, cc]; exact h1) ⟨i20, i20, ?_⟩⟩)
  rw [cc, h5, h6]
  refine rn_fPairs (wA := 4) (wB := 2) (Q := Q) hV hx hy hF G (fun m hm => by obtain ⟨t, k1, k2, k3, k4, k5⟩ := tq m hm; exact ⟨t, k1, k2, k3, k4⟩) (fun t1 F1 f1 g1 l1 u1 => ⟨i20, i20, ?_⟩)
  rw [h5, h7]
  refine rn_fPairs (wA := 4) (wB := 1) (Q := Q) hV hx hz f1 g1 (fun m hm => by obtain ⟨t, k1, k2, k3, k4, k5⟩ := tq m hm; exact ⟨t, k1, k2, k3, k5⟩) (fun t2 F2 f2 g2 l2 u2 => ⟨i20, i20, ?_⟩)
  rw [h6, h7]
  exact rn_fPairs (wA := 2) (wB := 1) (Q := Q) hV hy hz f2 g2 (fun m hm => by obtain ⟨t, k1, k2, k3, k4, k5⟩ := tq m hm; exact ⟨t, k1, k2, k4, k5⟩) (fun t3 F3 f3 g3 l3 u3 => nm_r (nI_1 c) (H t3 F3 f3 g3 (rn_leT l1 (rn_leT l2 l3)) ⟨rn_unM hx hy u1 (rn_leT l2 l3), rn_unM hx hz u2 l3, u3⟩))
end
section
/-! the closure of the implications -/
def rn_wa (F : Nat → Nat) (c : Nat) : Nat → Nat := fun k => if (F k).testBit c = true then F k ||| F c else F k
theorem rn_waT {F : Nat → Nat} {c k q : Nat} : (rn_wa F c k).testBit q = true ↔ (F k).testBit q = true ∨ ((F k).testBit c = true ∧ (F c).testBit q = true) := by
  unfold rn_wa
  by_cases e : (F k).testBit c = true
  · rw [if_pos e, Nat.testBit_or, Bool.or_eq_true]
    constructor
    · intro h
      rcases h with h | h
      · exact Or.inl h
      · exact Or.inr ⟨e, h⟩
    · intro h
      rcases h with h | h
      · exact Or.inl h
      · exact Or.inr h.2
  · rw [if_neg e]
    constructor
    · intro h
      exact Or.inl h
    · intro h
      rcases h with h | h
      · exact h
      · exact absurd h.1 e
theorem rn_waS {F : Nat → Nat} {c : Nat} : rn_wa F c c = F c := by
  unfold rn_wa
  by_cases e : (F c).testBit c = true
  · rw [if_pos e, Nat.or_self]
  · rw [if_neg e]
theorem rn_waB {F : Nat → Nat} {c k : Nat} (hc : c < 16) (h : ∀ k, k < 16 → F k < 2 ^ 16) (hk : k < 16) : rn_wa F c k < 2 ^ 16 := by
  unfold rn_wa
  by_cases e : (F k).testBit c = true
  · rw [if_pos e]
    exact Nat.or_lt_two_pow (h k hk) (h c hc)
  · rw [if_neg e]
    exact h k hk
/-- one round of the closure -/
abbrev rn_J1 : Type := Int32 → (Nat → Int32) → (Nat → Int32) → (Nat → Int32) → (Nat → Int32) → (Nat → Int32) → (Nat → Int32) → (Nat → Int32) → (Nat → Int32) → (Nat → Int32) → (Nat → Int32) → (Nat → Int32) → (Nat → Int32) → (Nat → Int32) → (Nat → Int32) → Prop
theorem rn_c147 {post : Int32 → St2 → Prop} {J : rn_J1} {sk fd : Int32} {a1 a2 a3 a4 a5 a6 a7 a8 a9 a10 a11 a12 a13 a14 : Nat → Int32} {F : Nat → Nat} {c : Nat} (hc : c < 16) (hF : rn_Fo a13 F) (hB : ∀ k, k < 16 → F k < 2 ^ 16)
    (H : ∀ t : Nat → Int32, rn_Fo t (rn_wa F c) → J (nI (c + 1)) a1 a2 a3 a4 a5 a6 a7 a8 a9 a10 a11 a12 t a14) : ∃ n, wX_closeLiterals_147 post J (nI c) 3 2 sk 0 fd n 0 a1 a2 a3 a4 a5 a6 a7 a8 a9 a10 a11 a12 a13 a14 := by
  refine pk_loop (fun n k (t : Nat → Int32) => wX_closeLiterals_147 post J (nI c) 3 2 sk 0 fd n (nI k) a1 a2 a3 a4 a5 a6 a7 a8 a9 a10 a11 a12 t a14) (fun k t => ∀ j, j < 16 → t j = nI (if j < k then rn_wa F c j else F j)) 16 0 a13 (by omega) (fun j hj => by rw [if_neg (by omega)]; exact hF j hj) ?_ ?_
  · intro n t h
    exact pk_le 16 16 (fun _ => nm_r (nI_1 c) (H t (fun j hj => by have h1 := h j hj; rw [if_pos hj] at h1; exact h1))) (fun z => absurd z (by omega))
  · intro n k t hk h hw
    have tk : t k = nI (F k) := by have h1 := h k hk; rw [if_neg (by omega)] at h1; exact h1
    have tc : t c = nI (F c) := by
      have h1 := h c hc
      by_cases e : c < k
      · rw [if_pos e, rn_waS] at h1; exact h1
      · rw [if_neg e] at h1; exact h1
    have fk := hB k hk
    refine pk_le 16 k (fun z => absurd z (by omega)) (fun _ => ⟨pk_in k 16 hk, ?_⟩)
    rw [nI_clamp (show k < 2 ^ 31 by omega), nI_clamp (show c < 2 ^ 31 by omega)]
    refine rn_hs (F k) c (fun g => ⟨pk_in k 16 hk, pk_in c 16 hc, pk_in k 16 hk, nm_r (e' := upd t k (nI (rn_wa F c k))) ?_ (nm_r (nI_1 k) (hw _ (fun j hj => ?_)))⟩) (fun g => nm_r (nI_1 k) (hw t (fun j hj => ?_))) tk rfl (by omega) (by omega)
    · rw [tk, tc, rn_or]
      unfold rn_wa
      rw [if_pos g]
    · by_cases e : j = k
      · rw [e, pk_us, if_pos (by omega)]
      · rw [pk_un e, h j hj]
        by_cases e2 : j < k
        · rw [if_pos e2, if_pos (by omega)]
        · rw [if_neg e2, if_neg (by omega)]
    · rw [h j hj]
      by_cases e2 : j < k
      · rw [if_pos e2, if_pos (by omega)]
      · rw [if_neg e2]
        by_cases e3 : j = k
        · rw [if_pos (by omega), e3]
          unfold rn_wa
          rw [if_neg (by rw [g]; decide)]
        · rw [if_neg (by omega)]
/-- closed under all mids below M, and no more than any transitive relation above F0 -/
def rn_W (F0 : Nat → Nat) (M : Nat) (F : Nat → Nat) : Prop := (∀ k, k < 16 → F k < 2 ^ 16) ∧ rn_le F0 F ∧ (∀ c, c < M → ∀ k, k < 16 → ∀ q, q < 16 → (F k).testBit c = true → (F c).testBit q = true → (F k).testBit q = true) ∧ (∀ R : Nat → Nat → Prop, (∀ p, p < 16 → ∀ q, q < 16 → ∀ r, r < 16 → R p q → R q r → R p r) → (∀ p, p < 16 → ∀ q, q < 16 → (F0 p).testBit q = true → R p q) → ∀ p, p < 16 → ∀ q, q < 16 → (F p).testBit q = true → R p q)
theorem rn_WS {F0 F : Nat → Nat} {M : Nat} (hM : M < 16) (h : rn_W F0 M F) : rn_W F0 (M + 1) (rn_wa F M) := by
  obtain ⟨h1, h2, h3, h4⟩ := h
  refine ⟨fun k hk => rn_waB hM h1 hk, fun p hp q hq g => rn_waT.mpr (Or.inl (h2 p hp q hq g)), fun c hc k hk q hq g1 g2 => ?_, fun R r1 r2 p hp q hq g => ?_⟩
  · rcases Nat.lt_or_ge c M with z | z
    · rcases rn_waT.mp g1 with a | a
      · rcases rn_waT.mp g2 with b | b
        · exact rn_waT.mpr (Or.inl (h3 c z k hk q hq a b))
        · exact rn_waT.mpr (Or.inr ⟨h3 c z k hk M hM a b.1, b.2⟩)
      · rcases rn_waT.mp g2 with b | b
        · exact rn_waT.mpr (Or.inr ⟨a.1, h3 c z M hM q hq a.2 b⟩)
        · exact rn_waT.mpr (Or.inr ⟨a.1, b.2⟩)
    · have e : c = M := by omega
      subst e
      rw [rn_waS] at g2
      rcases rn_waT.mp g1 with a | a
      · exact rn_waT.mpr (Or.inr ⟨a, g2⟩)
      · exact rn_waT.mpr (Or.inr ⟨a.1, g2⟩)
  · rcases rn_waT.mp g with a | a
    · exact h4 R r1 r2 p hp q hq a
    · exact r1 p hp M hM q hq (h4 R r1 r2 p hp M hM a.1) (h4 R r1 r2 M hM q hq a.2)
theorem rn_c139 {post : Int32 → St2 → Prop} {sk fd : Int32} {a1 a2 a3 a4 a5 a6 a7 a8 a9 a10 a11 a12 a13 a14 : Nat → Int32} {F0 : Nat → Nat} (hF : rn_Fo a13 F0) (hB : ∀ k, k < 16 → F0 k < 2 ^ 16)
    (H : ∀ (t : Nat → Int32) (F : Nat → Nat), rn_Fo t F → rn_W F0 16 F → ∃ n, wX_closeLiterals_199 post 3 2 sk 0 fd a1 a2 a3 a4 a5 a6 a7 a8 a9 a10 a11 a12 t a14 n 0) : ∃ n, wX_closeLiterals_139 post 3 2 sk 0 fd n 0 a1 a2 a3 a4 a5 a6 a7 a8 a9 a10 a11 a12 a13 a14 := by
  refine pk_loop (fun n M (t : Nat → Int32) => wX_closeLiterals_139 post 3 2 sk 0 fd n (nI M) a1 a2 a3 a4 a5 a6 a7 a8 a9 a10 a11 a12 t a14) (fun M t => ∃ F, rn_Fo t F ∧ rn_W F0 M F) 16 0 a13 (by omega) ⟨F0, hF, hB, fun _ _ _ _ g => g, fun c hc => absurd hc (by omega), fun R _ r2 => r2⟩ ?_ ?_
  · intro n t h
    obtain ⟨F, f1, f2⟩ := h
    exact pk_le 16 16 (fun _ => H t F f1 f2) (fun z => absurd z (by omega))
  · intro n M t hM h hw
    obtain ⟨F, f1, f2⟩ := h
    exact pk_le 16 M (fun z => absurd z (by omega)) (fun _ => rn_c147 hM f1 f2.1 (fun t' f' => hw t' ⟨_, f', rn_WS hM f2⟩))
/-! two literals a clause: a choice of literals where nothing contradicts itself -/
theorem rn_chA {g : Nat → Nat → Prop} {P : Nat → Prop} {l : Nat} (hl : l < 16) (tr : ∀ p, p < 16 → ∀ q, q < 16 → ∀ r, r < 16 → g p q → g q r → g p r) (sk : ∀ p, p < 16 → ∀ q, q < 16 → g p q → g (q ^^^ 1) (p ^^^ 1)) (hP : ∀ p, P p → p < 16) (cl : ∀ p q, P p → P q → ¬ g p (q ^^^ 1))
    (n1 : ¬ g l (l ^^^ 1)) (n2 : ∀ p, P p → ¬ g p (l ^^^ 1)) : ∀ p q, (P p ∨ p = l) → (P q ∨ q = l) → ¬ g p (q ^^^ 1) := by
  intro p q hp hq h
  rcases hp with hp | hp
  · rcases hq with hq | hq
    · exact cl p q hp hq h
    · rw [hq] at h
      exact n2 p hp h
  · rcases hq with hq | hq
    · rw [hp] at h
      have h2 := sk l hl (q ^^^ 1) (rn_x1 q (hP q hq)).1 h
      rw [(rn_x1 q (hP q hq)).2.1] at h2
      exact n2 q hq h2
    · rw [hp, hq] at h
      exact n1 h
theorem rn_chB {g : Nat → Nat → Prop} {P : Nat → Prop} {l : Nat} (hl : l < 16) (tr : ∀ p, p < 16 → ∀ q, q < 16 → ∀ r, r < 16 → g p q → g q r → g p r) (sk : ∀ p, p < 16 → ∀ q, q < 16 → g p q → g (q ^^^ 1) (p ^^^ 1)) (hP : ∀ p, P p → p < 16) (cl : ∀ p q, P p → P q → ¬ g p (q ^^^ 1))
    (hx : ∃ p, P p ∧ g p l) : (¬ g l (l ^^^ 1)) ∧ (∀ p, P p → ¬ g p (l ^^^ 1)) := by
  obtain ⟨p, hp, hg⟩ := hx
  have p16 := hP p hp
  have l1 := (rn_x1 l hl).1
  constructor
  · intro h
    have h1 := tr p p16 l hl _ l1 hg h
    have h2 := sk p p16 l hl hg
    exact cl p p hp hp (tr p p16 _ l1 _ (rn_x1 p p16).1 h1 h2)
  · intro p' hp' h
    have h2 := sk p' (hP p' hp') _ l1 h
    rw [(rn_x1 l hl).2.1] at h2
    exact cl p p' hp hp' (tr p p16 l hl _ (rn_x1 p' (hP p' hp')).1 hg h2)
theorem rn_ch {g : Nat → Nat → Prop} {P : Nat → Prop} {e : Nat} (he : e < 16) (tr : ∀ p, p < 16 → ∀ q, q < 16 → ∀ r, r < 16 → g p q → g q r → g p r) (sk : ∀ p, p < 16 → ∀ q, q < 16 → g p q → g (q ^^^ 1) (p ^^^ 1)) (hP : ∀ p, P p → p < 16) (cl : ∀ p q, P p → P q → ¬ g p (q ^^^ 1))
    (nc : ¬ (g e (e ^^^ 1) ∧ g (e ^^^ 1) e)) : ∃ l, (l = e ∨ l = e ^^^ 1) ∧ ∀ p q, (P p ∨ p = l) → (P q ∨ q = l) → ¬ g p (q ^^^ 1) := by
  have e1 := (rn_x1 e he).1
  have ee := (rn_x1 e he).2.1
  by_cases hA : ∃ p, P p ∧ g p e
  · have k := rn_chB he tr sk hP cl hA
    exact ⟨e, Or.inl rfl, rn_chA he tr sk hP cl k.1 k.2⟩
  · by_cases hB : ∃ p, P p ∧ g p (e ^^^ 1)
    · have k := rn_chB e1 tr sk hP cl hB
      exact ⟨e ^^^ 1, Or.inr rfl, rn_chA e1 tr sk hP cl k.1 k.2⟩
    · by_cases hC : g e (e ^^^ 1)
      · refine ⟨e ^^^ 1, Or.inr rfl, rn_chA e1 tr sk hP cl ?_ ?_⟩
        · rw [ee]
          exact fun z => nc ⟨hC, z⟩
        · intro p hp
          rw [ee]
          exact fun z => hA ⟨p, hp, z⟩
      · exact ⟨e, Or.inl rfl, rn_chA he tr sk hP cl hC (fun p hp z => hB ⟨p, hp, z⟩)⟩
theorem rn_01 : (0 : Nat) ^^^ 1 = 1 ∧ (2 : Nat) ^^^ 1 = 3 ∧ (4 : Nat) ^^^ 1 = 5 := by decide
theorem rn_2sat {g : Nat → Nat → Prop} (tr : ∀ p, p < 16 → ∀ q, q < 16 → ∀ r, r < 16 → g p q → g q r → g p r) (sk : ∀ p, p < 16 → ∀ q, q < 16 → g p q → g (q ^^^ 1) (p ^^^ 1))
    (nc : ∀ v, v < 3 → ¬ (g (2 * v) (2 * v + 1) ∧ g (2 * v + 1) (2 * v))) : ∃ m, m < 8 ∧ ∀ u, u < 3 → ∀ v, v < 3 → ¬ g (2 * u + rn_v m u) ((2 * v + rn_v m v) ^^^ 1) := by
  obtain ⟨x01, x23, x45⟩ := rn_01
  obtain ⟨l0, d0, c0⟩ := rn_ch (g := g) (P := fun _ => False) (e := 0) (by omega) tr sk (fun p hp => absurd hp id) (fun p q hp => absurd hp id) (by rw [x01]; exact nc 0 (by omega))
  rw [x01] at d0
  obtain ⟨l1, d1, c1⟩ := rn_ch (g := g) (P := fun p => False ∨ p = l0) (e := 2) (by omega) tr sk (fun p hp => by rcases hp with h | h; exact absurd h id; omega) c0 (by rw [x23]; exact nc 1 (by omega))
  rw [x23] at d1
  obtain ⟨l2, d2, c2⟩ := rn_ch (g := g) (P := fun p => (False ∨ p = l0) ∨ p = l1) (e := 4) (by omega) tr sk (fun p hp => by rcases hp with (h | h) | h; exact absurd h id; omega; omega) c1 (by rw [x45]; exact nc 2 (by omega))
  rw [x45] at d2
  obtain ⟨m8, v0, v1, v2⟩ := rn_mmV l0 (by omega) (l1 - 2) (by omega) (l2 - 4) (by omega)
  have pick : ∀ u, u < 3 → ((False ∨ 2 * u + rn_v (rn_mm l0 (l1 - 2) (l2 - 4)) u = l0) ∨ 2 * u + rn_v (rn_mm l0 (l1 - 2) (l2 - 4)) u = l1) ∨ 2 * u + rn_v (rn_mm l0 (l1 - 2) (l2 - 4)) u = l2 := fun u hu => by
    rcases rn_lt3 hu with e | e | e
    · rw [e, v0]; exact Or.inl (Or.inl (Or.inr (by omega)))
    · rw [e, v1]; exact Or.inl (Or.inr (by omega))
    · rw [e, v2]; exact Or.inr (by omega)
  exact ⟨_, m8, fun u hu v hv => c2 _ _ (pick u hu) (pick v hv)⟩
/-! closeLiterals -/
theorem rn_maU {W s t u : Nat} (h : rn_al (rn_ma W) 512 = true) (hs : s < 8) (ht : t < 8) (hu : u < 8) (h1 : W.testBit s = true) (h2 : W.testBit t = true) (h3 : W.testBit u = true) : W.testBit (s &&& t ||| s &&& u ||| t &&& u) = true := by
  have h4 := rn_alI h (s * 64 + t * 8 + u) (by omega)
  unfold rn_ma at h4
  rw [show (s * 64 + t * 8 + u) / 64 = s by omega, show (s * 64 + t * 8 + u) / 8 % 8 = t by omega, show (s * 64 + t * 8 + u) % 8 = u by omega, h1, h2, h3] at h4
  exact h4
def rn_mj (t s1 s2 s3 : Nat) : Bool := !(rn_fi 4 (t / 4) 2 (t / 2 % 2) s1 && (rn_fi 4 (t / 4) 1 (t % 2) s2 && rn_fi 2 (t / 2 % 2) 1 (t % 2) s3)) || (s1 &&& s2 ||| s1 &&& s3 ||| s2 &&& s3) == t
theorem rn_mjA : ∀ t, t < 8 → ∀ s1, s1 < 8 → ∀ s2, s2 < 8 → ∀ s3, s3 < 8 → rn_mj t s1 s2 s3 = true := by decide +kernel
theorem rn_maj {W t : Nat} (hW : rn_al (rn_ma W) 512 = true) (ht : t < 8) (h1 : rn_ex (fun s => rn_fi 4 (t / 4) 2 (t / 2 % 2) s && W.testBit s) 8 = true) (h2 : rn_ex (fun s => rn_fi 4 (t / 4) 1 (t % 2) s && W.testBit s) 8 = true) (h3 : rn_ex (fun s => rn_fi 2 (t / 2 % 2) 1 (t % 2) s && W.testBit s) 8 = true) : W.testBit t = true := by
  obtain ⟨s1, l1, k1⟩ := rn_exE h1
  obtain ⟨s2, l2, k2⟩ := rn_exE h2
  obtain ⟨s3, l3, k3⟩ := rn_exE h3
  rw [Bool.and_eq_true] at k1 k2 k3
  have h4 := rn_mjA t ht s1 l1 s2 l2 s3 l3
  unfold rn_mj at h4
  rw [k1.1, k2.1, k3.1] at h4
  have h5 : s1 &&& s2 ||| s1 &&& s3 ||| s2 &&& s3 = t := eq_of_beq h4
  rw [← h5]
  exact rn_maU hW l1 l2 l3 k1.2 k2.2 k3.2
theorem rn_ucW {W c m : Nat} {F : Nat → Nat} (hc : c < 2) (hm : m < 8) (hW : rn_al (rn_ma W) 512 = true) (hu : rn_uc W c F) (hg : ∀ u, u < 3 → ∀ v, v < 3 → ¬ (F (2 * u + rn_v m u)).testBit ((2 * v + rn_v m v) ^^^ 1) = true) : W.testBit (rn_ti c m) = true := by
  obtain ⟨hx, hy, hz, _⟩ := rn_xyz c hc
  obtain ⟨t8, tx, ty, tz⟩ := rn_tiF c hc m hm
  have key : ∀ wA u wB v, u < 3 → v < 3 → rn_un W wA u wB v F → rn_ex (fun s => rn_fi wA (rn_v m u) wB (rn_v m v) s && W.testBit s) 8 = true := fun wA u wB v hu hv h => by
    cases e : rn_ex (fun s => rn_fi wA (rn_v m u) wB (rn_v m v) s && W.testBit s) 8
    · exact absurd (h _ (rn_v2 m u) _ (rn_v2 m v) e) (hg u hu v hv)
    · rfl
  refine rn_maj hW t8 ?_ ?_ ?_
  · rw [tx, ty]; exact key 4 _ 2 _ hx hy hu.1
  · rw [tx, tz]; exact key 4 _ 1 _ hx hz hu.2.1
  · rw [ty, tz]; exact key 2 _ 1 _ hy hz hu.2.2
theorem rn_2v0 (v : Nat) : (2 : Int32) * nI v = nI (2 * v) := pk_mul 2 v
theorem rn_2v1 (v : Nat) : (2 : Int32) * nI v + 1 = nI (2 * v + 1) := rn_2v v 1
theorem rn_c199 {post : Int32 → St2 → Prop} {sk fd : Int32} {a1 a2 a3 a4 a5 a6 a7 a8 a9 a10 a11 a12 a13 a14 : Nat → Int32} {F : Nat → Nat} (hF : rn_Fo a13 F) (hB : ∀ k, k < 16 → F k < 2 ^ 16)
    (H0 : (∃ v, v < 3 ∧ (F (2 * v)).testBit (2 * v + 1) = true ∧ (F (2 * v + 1)).testBit (2 * v) = true) → post 0 (3, 2, sk, 0, fd, a1, a2, a3, a4, a5, a6, a7, a8, a9, a10, a11, a12, a13, a14))
    (H1 : (∀ v, v < 3 → ¬ ((F (2 * v)).testBit (2 * v + 1) = true ∧ (F (2 * v + 1)).testBit (2 * v) = true)) → post 1 (3, 2, sk, 0, fd, a1, a2, a3, a4, a5, a6, a7, a8, a9, a10, a11, a12, a13, a14)) : ∃ n, wX_closeLiterals_199 post 3 2 sk 0 fd a1 a2 a3 a4 a5 a6 a7 a8 a9 a10 a11 a12 a13 a14 n 0 := by
  refine pk_loop (σ := Unit) (fun n v _ => wX_closeLiterals_199 post 3 2 sk 0 fd a1 a2 a3 a4 a5 a6 a7 a8 a9 a10 a11 a12 a13 a14 n (nI v)) (fun v _ => ∀ u, u < v → ¬ ((F (2 * u)).testBit (2 * u + 1) = true ∧ (F (2 * u + 1)).testBit (2 * u) = true)) 3 0 () (by omega) lt_0 ?_ ?_
  · intro n _ h
    exact pk_le 3 3 (fun _ => H1 h) (fun z => absurd z (by omega))
  · intro n v _ hv h hw
    have b0 := hB (2 * v) (by omega)
    have b1 := hB (2 * v + 1) (by omega)
    refine pk_le 3 v (fun z => absurd z (by omega)) (fun _ => ⟨pk_in (2 * v) 16 (by omega) (rn_2v0 v), ?_⟩)
    refine rn_hs (F (2 * v)) (2 * v + 1) (fun g1 => ⟨pk_in (2 * v + 1) 16 (by omega) (rn_2v1 v), rn_hs (F (2 * v + 1)) (2 * v) (fun g2 => H0 ⟨v, hv, g1, g2⟩) (fun g2 => nm_r (nI_1 v) (hw () (lt_s h (fun z => absurd z.2 (by rw [g2]; decide))))) (by rw [rn_2v1, nI_clamp (by omega)]; exact hF _ (by omega)) (rn_2v0 v) (by omega) (by omega)⟩) (fun g1 => nm_r (nI_1 v) (hw () (lt_s h (fun z => absurd z.1 (by rw [g1]; decide))))) (by rw [rn_2v0, nI_clamp (by omega)]; exact hF _ (by omega)) (rn_2v1 v) (by omega) (by omega)
theorem rn_close {post : Int32 → St2 → Prop} {sk fd : Int32} {a1 a2 a3 a4 a5 a6 a7 a8 a9 a10 a11 a12 a13 a14 : Nat → Int32} {V M D : Nat → Nat} {s : Bool} (hs : sk = rn_sk s) (K : rn_K V M a1 a2 a3 a4 a5 a6 a7 a8) (hD : rn_D a9 D) (hma : ∀ c, c < 2 → rn_al (rn_ma (V c)) 512 = true)
    (H0 : (∀ m, m < 8 → rn_p V s m = true → ¬ rn_fit D m = true) → ∀ a13' : Nat → Int32, post 0 (3, 2, sk, 0, fd, a1, a2, a3, a4, a5, a6, a7, a8, a9, a10, a11, a12, a13', a14))
    (H1 : (∃ m, m < 8 ∧ rn_p V s m = true ∧ rn_fit D m = true) → ∀ a13' : Nat → Int32, post 1 (3, 2, sk, 0, fd, a1, a2, a3, a4, a5, a6, a7, a8, a9, a10, a11, a12, a13', a14)) : wpX_closeLiterals post (3, 2, sk, 0, fd, a1, a2, a3, a4, a5, a6, a7, a8, a9, a10, a11, a12, a13, a14) := by
  have fin : ∀ (t : Nat → Int32) (F0 : Nat → Nat), rn_Fo t F0 → rn_G (fun m => m < 8 ∧ rn_p V s m = true ∧ rn_fit D m = true) F0 → (∀ v, v < 3 → ∀ a, a < 2 → (D v).testBit a = false → (F0 (2 * v + a)).testBit ((2 * v + a) ^^^ 1) = true) → (∀ c, c < 2 → (c = 0 ∨ s = false) → rn_uc (V c) c F0) → ∃ n, wX_closeLiterals_139 post 3 2 sk 0 fd n 0 a1 a2 a3 a4 a5 a6 a7 a8 a9 a10 a11 a12 t a14 := by
    intro t F0 f0 G0 hd hu
    refine rn_c139 f0 G0.1 (fun t' F f W => rn_c199 f W.1 (fun h => H0 (fun m hm hp hf => ?_) t') (fun h => H1 ?_ t'))
    · obtain ⟨v, hv, g1, g2⟩ := h
      have snd := W.2.2.2 (fun p q => rn_tr m p → rn_tr m q) (fun p _ q _ r _ h1 h2 h3 => h2 (h1 h3)) (fun p hp' q hq g => G0.2.2.2 m ⟨hm, hp, hf⟩ p hp' q hq g)
      have s1 := snd _ (by omega) _ (by omega) g1
      have s2 := snd _ (by omega) _ (by omega) g2
      have e0 := rn_tl (m := m) (v := v) (a := 0) (by omega)
      have e1 := rn_tl (m := m) (v := v) (a := 1) (by omega)
      rw [Nat.add_zero] at e0
      have l2 := rn_v2 m v
      rcases Nat.eq_zero_or_pos (rn_v m v) with z | z
      · have q := e1.mp (s1 (e0.mpr z))
        omega
      · have q := e0.mp (s2 (e1.mpr (by omega)))
        omega
    · have tr : ∀ p, p < 16 → ∀ q, q < 16 → ∀ r, r < 16 → (F p).testBit q = true → (F q).testBit r = true → (F p).testBit r = true := fun p hp q hq r hr g1 g2 => W.2.2.1 q hq p hp r hr g1 g2
      have skw : ∀ p, p < 16 → ∀ q, q < 16 → (F p).testBit q = true → (F (q ^^^ 1)).testBit (p ^^^ 1) = true := W.2.2.2 (fun p q => (F (q ^^^ 1)).testBit (p ^^^ 1) = true) (fun p hp q hq r hr h1 h2 => tr _ (rn_x1 r hr).1 _ (rn_x1 q hq).1 _ (rn_x1 p hp).1 h2 h1) (fun p hp q hq g => W.2.1 _ (rn_x1 q hq).1 _ (rn_x1 p hp).1 (G0.2.2.1 p hp q hq g))
      obtain ⟨m, m8, hg⟩ := rn_2sat (g := fun p q => (F p).testBit q = true) tr skw h
      refine ⟨m, m8, rn_pI (fun c hc ha => rn_ucW hc m8 (hma c hc) (rn_ucM hc (hu c hc ha) W.2.1) hg), rn_fitE.mpr (fun v hv => ?_)⟩
      have l2 := rn_v2 m v
      cases e : (D v).testBit (rn_v m v)
      · exact absurd (W.2.1 _ (by omega) _ (rn_x1 _ (by omega)).1 (hd v hv _ l2 e)) (hg v hv v hv)
      · rfl
  refine pk_loop (fun n i (t : Nat → Int32) => wX_closeLiterals_2 post 3 2 sk 0 fd n (nI i) a1 a2 a3 a4 a5 a6 a7 a8 a9 a10 a11 a12 t a14) (fun i t => ∀ j, j < i → t j = nI (2 ^ j)) 16 0 a13 (by omega) lt_0 ?_ ?_
  · intro n t0 h0
    have G0 : rn_G (fun m => m < 8 ∧ rn_p V s m = true ∧ rn_fit D m = true) (fun k => 2 ^ k) := by
      have eq : ∀ p q : Nat, ((fun k => 2 ^ k) p : Nat).testBit q = true → p = q := fun p q h => by
        have h2 : ((2 : Nat) ^ p).testBit q = true := h
        rw [Nat.testBit_two_pow] at h2
        exact of_decide_eq_true h2
      have rf : ∀ p : Nat, ((fun k => 2 ^ k) p : Nat).testBit p = true := fun p => by
        show ((2 : Nat) ^ p).testBit p = true
        rw [Nat.testBit_two_pow]
        exact decide_eq_true rfl
      refine ⟨fun k hk => Nat.pow_lt_pow_right (by omega) hk, fun k _ => rf k, fun p _ q _ h => ?_, fun m _ p _ q _ h ht => ?_⟩
      · rw [eq p q h]
        exact rf _
      · rw [← eq p q h]
        exact ht
    refine pk_le 16 16 (fun _ => ?_) (fun z => absurd z (by omega))
    refine pk_loop (fun n v (t : Nat → Int32) => wX_closeLiterals_25 post n (nI v) 3 2 sk 0 fd a1 a2 a3 a4 a5 a6 a7 a8 a9 a10 a11 a12 t a14) (fun v t => ∃ F, rn_Fo t F ∧ rn_G (fun m => m < 8 ∧ rn_p V s m = true ∧ rn_fit D m = true) F ∧ ∀ u, u < v → ∀ a, a < 2 → (D u).testBit a = false → (F (2 * u + a)).testBit ((2 * u + a) ^^^ 1) = true) 3 0 t0 (by omega) ⟨fun k => 2 ^ k, h0, G0, lt_0⟩ ?_ ?_
    · intro n t h
      obtain ⟨F, f1, g1, d1⟩ := h
      refine pk_le 3 3 (fun _ => ⟨3, ?_⟩) (fun z => absurd z (by omega))
      refine rn_c46 (c := 0) (by omega) (by rw [hs]; cases s <;> decide) K f1 g1 (fun m hm => ⟨hm.1, rn_pA hm.2.1 (by omega) (Or.inl rfl)⟩) (fun t2 F2 f2 g2 l2 u2 => ?_)
      have d2 : ∀ v, v < 3 → ∀ a, a < 2 → (D v).testBit a = false → (F2 (2 * v + a)).testBit ((2 * v + a) ^^^ 1) = true := fun v hv a ha z => l2 _ (by omega) _ (rn_x1 _ (by omega)).1 (d1 v hv a ha z)
      cases es : s
      · subst es
        refine rn_c46 (c := 1) (by omega) (by rw [hs]; decide) K f2 g2 (fun m hm => ⟨hm.1, rn_pA hm.2.1 (by omega) (Or.inr rfl)⟩) (fun t3 F3 f3 g3 l3 u3 => rn_c46e (fin t3 F3 f3 g3 (fun v hv a ha z => l3 _ (by omega) _ (rn_x1 _ (by omega)).1 (d2 v hv a ha z)) (fun c hc _ => ?_)))
        rcases rn_lt2 hc with e | e
        · rw [e]; exact rn_ucM (by omega) u2 l3
        · rw [e]; exact u3
      · subst es
        refine rn_c46s (c := 1) (by omega) (by rw [hs]; rfl) (rn_c46e (fin t2 F2 f2 g2 d2 (fun c hc ha => ?_)))
        rcases ha with e | e
        · rw [e]; exact u2
        · exact absurd e (by decide)
    · intro n v t hv h hw
      obtain ⟨F, f1, g1, d1⟩ := h
      exact pk_le 3 v (fun z => absurd z (by omega)) (fun _ => rn_fOut hv hD f1 g1 (fun m hm => hm.2.2) (fun t' F' f' g' l' o' => nm_r (nI_1 v) (hw t' ⟨F', f', g', lt_s (fun u hu a ha z => l' _ (by omega) _ (rn_x1 _ (by omega)).1 (d1 u hu a ha z)) o'⟩)))
  · intro n i t hi ht hw
    exact pk_le 16 i (fun z => absurd z (by omega)) (fun _ => ⟨pk_in i 16 hi, nm_e (nm_r (nI_1 i) (hw _ (rn_fill (f := fun j => nI (2 ^ j)) (nI_clamp (by omega)) ht (rn_one (by omega)))))⟩)
end
section
/-! decide -/
theorem rn_q12 : ∀ q, q < 128 → ¬ q &&& 12 = 0 → (q.testBit 2 = true ∨ q.testBit 3 = true) := by decide
theorem rn_q16 : ∀ q, q < 128 → ¬ q &&& 16 = 0 → q.testBit 4 = true := by decide
theorem rn_q32 : ∀ q, q < 128 → ¬ q &&& 32 = 0 → q.testBit 5 = true := by decide
theorem rn_qb {M : Nat → Nat} {i : Nat} (h : (127 &&& M 0 &&& M 1).testBit i = true) : ∀ c, c < 2 → (M c).testBit i = true := by
  rw [Nat.testBit_and, Nat.testBit_and, Bool.and_eq_true, Bool.and_eq_true] at h
  intro c hc
  rcases rn_lt2 hc with e | e
  · rw [e]; exact h.1.2
  · rw [e]; exact h.2
theorem rn_qB (M : Nat → Nat) : 127 &&& M 0 &&& M 1 < 128 := by
  have h1 : 127 &&& M 0 &&& M 1 ≤ 127 &&& M 0 := Nat.and_le_left
  have h2 : 127 &&& M 0 ≤ 127 := Nat.and_le_left
  omega
/-- the assignments that the domains hold -/
def rn_X (V : Nat → Nat) (s : Bool) (D : Nat → Nat) : Nat → Bool := fun m => rn_p V s m && rn_fit D m
theorem rn_X0 {V D : Nat → Nat} {s : Bool} (h : ∀ m, m < 8 → rn_p V s m = true → ¬ rn_fit D m = true) : rn_any (rn_X V s D) = false := rn_anyN (fun m hm z => by
  have z' : (rn_p V s m && rn_fit D m) = true := z
  rw [Bool.and_eq_true] at z'
  exact h m hm z'.1 z'.2)
theorem rn_X1 {V D : Nat → Nat} {s : Bool} (h : ∃ m, m < 8 ∧ rn_p V s m = true ∧ rn_fit D m = true) : rn_any (rn_X V s D) = true := by
  obtain ⟨m, hm, h1, h2⟩ := h
  refine rn_anyI hm ?_
  show (rn_p V s m && rn_fit D m) = true
  rw [h1, h2]
  rfl
theorem rn_decide {post : Int32 → St2 → Prop} {sk fd : Int32} {a1 a2 a3 a4 a5 a6 a7 a8 a9 a10 a11 a12 a13 a14 : Nat → Int32} {V M D : Nat → Nat} {s : Bool} (hs : sk = rn_sk s) (K : rn_K V M a1 a2 a3 a4 a5 a6 a7 a8) (hD : rn_D a9 D)
    (H : ∀ (fd' : Int32) (a9' a10' a11' a12' a13' a14' : Nat → Int32), (∀ j, j < 8 → a10' j = a10 j) → post (rn_b (rn_any (rn_X V s D))) (3, 2, sk, 0, fd', a1, a2, a3, a4, a5, a6, a7, a8, a9', a10', a11', a12', a13', a14')) : wpX_decide post (3, 2, sk, 0, fd, a1, a2, a3, a4, a5, a6, a7, a8, a9, a10, a11, a12, a13, a14) := by
  have qB := rn_qB M
  have l12 : (127 &&& M 0 &&& M 1) &&& 12 ≤ 127 &&& M 0 &&& M 1 := Nat.and_le_left
  have l16 : (127 &&& M 0 &&& M 1) &&& 16 ≤ 127 &&& M 0 &&& M 1 := Nat.and_le_left
  have l32 : (127 &&& M 0 &&& M 1) &&& 32 ≤ 127 &&& M 0 &&& M 1 := Nat.and_le_left
  have mk : ∀ c, c < 2 → rn_M (V c) (M c) := fun c hc => (K.1 c hc).2.2.2.1
  refine rn_nt K ?_
  refine pk_eq ((127 &&& M 0 &&& M 1) &&& 12) 0 (fun _ => pk_eq ((127 &&& M 0 &&& M 1) &&& 16) 0 (fun _ => pk_eq ((127 &&& M 0 &&& M 1) &&& 32) 0 (fun _ => ?_) (fun e => ?_) (rn_and _ 32) rfl (by omega) (by omega)) (fun e => ?_) (rn_and _ 16) rfl (by omega) (by omega)) (fun e => ?_) (rn_and _ 12) rfl (by omega) (by omega)
  · refine rn_search (al := false) hs K hD (fun f' a9' a10' a11' a12' _ hf f8 hj => ?_)
    have h := H (nI f') a9' a10' a11' a12' a13 a14 hj
    have c := rn_cntP (p := rn_X V s D)
    have hf' : 0 < f' ↔ 0 < rn_cnt (rn_X V s D) := hf
    refine pk_le f' 0 (fun z => ?_) (fun z => ?_)
    · have e : rn_any (rn_X V s D) = false := by
        cases e : rn_any (rn_X V s D)
        · rfl
        · exact absurd (hf'.mpr (c.mp e)) (by omega)
      rw [e] at h
      exact h
    · rw [c.mpr (hf'.mp z)] at h
      exact h
  · refine rn_elim hs K hD (fun c hc => by rw [← (mk c hc).2.2.2.2]; exact rn_qb (rn_q32 _ qB e) c hc) (fun h a14' => ⟨rfl, ?_⟩) (fun a14' R' _ ok h => ⟨rfl, ?_⟩)
    · have k := H fd a9 a10 a11 a12 a13 a14' (fun _ _ => rfl)
      rw [rn_X0 h] at k
      exact k
    · have c : rn_any (rn_rw R') = true := rn_cntP.mpr (by rw [rn_rkC ok]; exact Nat.two_pow_pos _)
      rw [rn_anyC (q := rn_X V s D) h] at c
      have k := H fd a9 a10 a11 a12 a13 a14' (fun _ _ => rfl)
      rw [c] at k
      exact k
  · refine rn_close hs K hD (fun c hc => by rw [← (mk c hc).2.2.2.1]; exact rn_qb (rn_q16 _ qB e) c hc) (fun h a13' => ⟨rfl, ?_⟩) (fun h a13' => ⟨rfl, ?_⟩)
    · have k := H fd a9 a10 a11 a12 a13' a14 (fun _ _ => rfl)
      rw [rn_X0 h] at k
      exact k
    · have k := H fd a9 a10 a11 a12 a13' a14 (fun _ _ => rfl)
      rw [rn_X1 h] at k
      exact k
  · refine rn_filter hs K hD (fun h a9' => ⟨rfl, ?_⟩) (fun a9' D' hD' hin hst => ⟨rfl, ?_⟩)
    · have k := H fd a9' a10 a11 a12 a13 a14 (fun _ _ => rfl)
      rw [rn_X0 h] at k
      exact k
    · have k := H fd a9' a10 a11 a12 a13 a14 (fun _ _ => rfl)
      have ex : ∃ m, m < 8 ∧ rn_p V s m = true ∧ rn_fit D' m = true := by
        rcases rn_q12 _ qB e with z | z
        · exact rn_meet hst (fun v hv => (hD' v hv).2) hin.2.2 (fun c hc _ => by rw [← (mk c hc).2.1]; exact rn_qb z c hc)
        · exact rn_join0 hst (fun v hv => (hD' v hv).2) hin.2.2 (fun c hc _ => by rw [← (mk c hc).2.2.1]; exact rn_qb z c hc)
      obtain ⟨m, hm, h1, h2⟩ := ex
      rw [rn_X1 ⟨m, hm, h1, rn_fitE.mpr (fun v hv => hin.1 v hv _ (rn_v2 m v) (rn_fitE.mp h2 v hv))⟩] at k
      exact k
/-! the questions: satisfiable, solutions -/
theorem rn_f3 (m : Nat) : rn_fit (fun _ => 3) m = true := rn_fitE.mpr (fun v _ => rn_t3 _ (rn_v2 m v))
theorem rn_X3 {V : Nat → Nat} {s : Bool} : ∀ m, m < 8 → rn_X V s (fun _ => 3) m = rn_p V s m := fun m _ => by
  show (rn_p V s m && rn_fit (fun _ => 3) m) = _
  rw [rn_f3, Bool.and_true]
theorem rn_satis {post : Int32 → St2 → Prop} {sk fd : Int32} {a1 a2 a3 a4 a5 a6 a7 a8 a9 a10 a11 a12 a13 a14 : Nat → Int32} {V M : Nat → Nat} {s : Bool} (hs : sk = rn_sk s) (K : rn_K V M a1 a2 a3 a4 a5 a6 a7 a8)
    (H : ∀ (fd' : Int32) (a9' a10' a11' a12' a13' a14' : Nat → Int32), post (rn_b (rn_any (rn_p V s))) (3, 2, sk, 0, fd', a1, a2, a3, a4, a5, a6, a7, a8, a9', a10', a11', a12', a13', a14')) : wpX_satisfiable post (3, 2, sk, 0, fd, a1, a2, a3, a4, a5, a6, a7, a8, a9, a10, a11, a12, a13, a14) := by
  refine rn_setD K.2.2 (fun b9 hb => rn_decide hs K hb (fun fd' a9' a10' a11' a12' a13' a14' _ => ?_))
  have h := H fd' a9' a10' a11' a12' a13' a14'
  rw [rn_anyC rn_X3]
  refine rn_bz _ (fun e => ?_) (fun e => ?_)
  · rw [e] at h
    exact h
  · rw [e] at h
    exact h
theorem rn_solut {post : Int32 → St2 → Prop} {sk fd : Int32} {a1 a2 a3 a4 a5 a6 a7 a8 a9 a10 a11 a12 a13 a14 : Nat → Int32} {V M : Nat → Nat} {s : Bool} (hs : sk = rn_sk s) (K : rn_K V M a1 a2 a3 a4 a5 a6 a7 a8)
    (H : ∀ (fd' : Int32) (a9' a10' a11' a12' a13' a14' : Nat → Int32), post (nI (rn_cnt (rn_p V s))) (3, 2, sk, 0, fd', a1, a2, a3, a4, a5, a6, a7, a8, a9', a10', a11', a12', a13', a14')) : wpX_solutions post (3, 2, sk, 0, fd, a1, a2, a3, a4, a5, a6, a7, a8, a9, a10, a11, a12, a13, a14) := by
  have qB := rn_qB M
  have l32 : (127 &&& M 0 &&& M 1) &&& 32 ≤ 127 &&& M 0 &&& M 1 := Nat.and_le_left
  have mk : ∀ c, c < 2 → rn_M (V c) (M c) := fun c hc => (K.1 c hc).2.2.2.1
  refine rn_setD K.2.2 (fun b9 hb => rn_nt K (pk_eq ((127 &&& M 0 &&& M 1) &&& 32) 0 (fun _ => ?_) (fun e => ?_) (rn_and _ 32) rfl (by omega) (by omega)))
  · refine rn_search (al := true) hs K hb (fun f' a9' a10' a11' a12' h1 _ _ _ => ?_)
    have e : f' = rn_cnt (rn_p V s) := by
      rw [h1 rfl]
      exact rn_cntC rn_X3
    rw [e]
    exact H _ a9' a10' a11' a12' a13 a14
  · refine rn_elim hs K hb (fun c hc => by rw [← (mk c hc).2.2.2.2]; exact rn_qb (rn_q32 _ qB e) c hc) (fun h a14' => br_t rfl ?_) (fun a14' R' hR ok h => br_f (by decide) (rn_rank hR ok ?_))
    · have k := H fd b9 a10 a11 a12 a13 a14'
      rw [rn_cnt0 (fun m hm z => h m hm z (rn_f3 m))] at k
      exact k
    · have k := H fd b9 a10 a11 a12 a13 a14'
      have c : rn_cnt (rn_p V s) = 2 ^ (3 - rn_rk R' 3) := by
        rw [← rn_rkC ok]
        exact rn_cntC (fun m hm => by rw [h m hm, rn_f3, Bool.and_true])
      have b3 := rn_rkB (R := R') 3
      rw [c] at k
      refine ek_v (P := fun x => post x (3, 2, sk, 0, fd, a1, a2, a3, a4, a5, a6, a7, a8, b9, a10, a11, a12, a13, a14')) ?_ k
      rw [show (3 : Int32) - nI (rn_rk R' 3) = nI (3 - rn_rk R' 3) from pk_sub (a := 3) b3, rn_one (by omega)]
end
section
/-! extreme -/
theorem rn_fitA {D : Nat → Nat} {v a m : Nat} (hv : v < 3) : rn_fit (rn_up D v (D v &&& 2 ^ a)) m = (rn_fit D m && decide (rn_v m v = a)) := by
  refine rn_beq ?_
  rw [Bool.and_eq_true, rn_fitE, rn_fitE, decide_eq_true_iff]
  constructor
  · intro h
    have hv' := h v hv
    rw [rn_ups, Nat.testBit_and, Bool.and_eq_true, Nat.testBit_two_pow, decide_eq_true_iff] at hv'
    refine ⟨fun u hu => ?_, hv'.2.symm⟩
    by_cases e : u = v
    · rw [e]; exact hv'.1
    · have hu' := h u hu
      rw [rn_upn e] at hu'
      exact hu'
  · intro h u hu
    by_cases e : u = v
    · rw [e, rn_ups, Nat.testBit_and, Bool.and_eq_true, Nat.testBit_two_pow, decide_eq_true_iff]
      exact ⟨h.1 v hv, h.2.symm⟩
    · rw [rn_upn e]
      exact h.1 u hu
theorem rn_fitG {D : Nat → Nat} {v g m : Nat} (hv : v < 3) (hg : (D v).testBit g = true) : rn_fit (rn_up D v (2 ^ g)) m = (rn_fit D m && decide (rn_v m v = g)) := by
  refine rn_beq ?_
  rw [Bool.and_eq_true, rn_fitE, rn_fitE, decide_eq_true_iff]
  constructor
  · intro h
    have hv' := h v hv
    rw [rn_ups, Nat.testBit_two_pow, decide_eq_true_iff] at hv'
    refine ⟨fun u hu => ?_, hv'.symm⟩
    by_cases e : u = v
    · rw [e, ← hv']; exact hg
    · have hu' := h u hu
      rw [rn_upn e] at hu'
      exact hu'
  · intro h u hu
    by_cases e : u = v
    · rw [e, rn_ups, Nat.testBit_two_pow, decide_eq_true_iff]
      exact h.2.symm
    · rw [rn_upn e]
      exact h.1 u hu
/-- the greedy choice at place v, and what is left of the set -/
def rn_nx (v g : Nat) (X : Nat → Bool) : Nat → Bool := fun m => X m && decide (rn_v m v = g)
def rn_gd (w v : Nat) (X : Nat → Bool) : Nat := cond (rn_any (rn_nx v w X)) w (1 - w)
theorem rn_gd2 {w v : Nat} {X : Nat → Bool} (hw : w < 2) : rn_gd w v X < 2 := by
  unfold rn_gd
  cases rn_any (rn_nx v w X)
  · show 1 - w < 2
    omega
  · exact hw
theorem rn_nxI {v g m : Nat} {X : Nat → Bool} (h : X m = true) (e : rn_v m v = g) : rn_nx v g X m = true := by
  show (X m && decide (rn_v m v = g)) = true
  rw [h, decide_eq_true e]
  rfl
theorem rn_nxE {v g m : Nat} {X : Nat → Bool} (h : rn_nx v g X m = true) : X m = true ∧ rn_v m v = g := by
  have h' : (X m && decide (rn_v m v = g)) = true := h
  rw [Bool.and_eq_true, decide_eq_true_iff] at h'
  exact h'
theorem rn_nxC {v g : Nat} {X Y : Nat → Bool} (h : ∀ m, m < 8 → X m = Y m) : ∀ m, m < 8 → rn_nx v g X m = rn_nx v g Y m := fun m hm => by
  show (X m && decide (rn_v m v = g)) = (Y m && decide (rn_v m v = g))
  rw [h m hm]
theorem rn_gdC {w v : Nat} {X Y : Nat → Bool} (h : ∀ m, m < 8 → X m = Y m) : rn_gd w v X = rn_gd w v Y := by
  unfold rn_gd
  rw [rn_anyC (rn_nxC h)]
/-- some m of X has the chosen value at v -/
theorem rn_gdX {w v : Nat} {X : Nat → Bool} (hw : w < 2) (h : rn_any X = true) : ∃ m, m < 8 ∧ X m = true ∧ rn_v m v = rn_gd w v X := by
  unfold rn_gd
  cases e : rn_any (rn_nx v w X)
  · obtain ⟨m, hm, hx⟩ := rn_anyE h
    refine ⟨m, hm, hx, ?_⟩
    have l := rn_v2 m v
    show rn_v m v = 1 - w
    by_cases z : rn_v m v = w
    · exact absurd (rn_anyI hm (rn_nxI hx z)) (by rw [e]; decide)
    · omega
  · obtain ⟨m, hm, hx⟩ := rn_anyE e
    exact ⟨m, hm, (rn_nxE hx).1, (rn_nxE hx).2⟩
theorem rn_gdS {V D : Nat → Nat} {s : Bool} {w v : Nat} (hv : v < 3) (hw : w < 2) (h : rn_any (rn_X V s D) = true) : (∀ m, m < 8 → rn_X V s (rn_up D v (2 ^ rn_gd w v (rn_X V s D))) m = rn_nx v (rn_gd w v (rn_X V s D)) (rn_X V s D) m) ∧ rn_any (rn_X V s (rn_up D v (2 ^ rn_gd w v (rn_X V s D)))) = true := by
  obtain ⟨m, hm, hx, e⟩ := rn_gdX (v := v) hw h
  have hx' : (rn_p V s m && rn_fit D m) = true := hx
  rw [Bool.and_eq_true] at hx'
  have hg := rn_fitE.mp hx'.2 v hv
  rw [e] at hg
  have k : ∀ m, m < 8 → rn_X V s (rn_up D v (2 ^ rn_gd w v (rn_X V s D))) m = rn_nx v (rn_gd w v (rn_X V s D)) (rn_X V s D) m := fun m _ => by
    show (rn_p V s m && rn_fit (rn_up D v (2 ^ rn_gd w v (rn_X V s D))) m) = ((rn_p V s m && rn_fit D m) && decide (rn_v m v = rn_gd w v (rn_X V s D)))
    rw [rn_fitG hv hg, Bool.and_assoc]
  refine ⟨k, ?_⟩
  rw [rn_anyC k]
  exact rn_anyI hm (rn_nxI hx e)
abbrev rn_J7 : Type := Int32 → Int32 → Int32 → Int32 → Int32 → Int32 → Int32 → (Nat → Int32) → (Nat → Int32) → (Nat → Int32) → (Nat → Int32) → (Nat → Int32) → (Nat → Int32) → (Nat → Int32) → (Nat → Int32) → (Nat → Int32) → (Nat → Int32) → (Nat → Int32) → (Nat → Int32) → (Nat → Int32) → (Nat → Int32) → Prop
theorem rn_x77 {post : Int32 → St2 → Prop} {J : rn_J7} {x1 sk fd : Int32} {a1 a2 a3 a4 a5 a6 a7 a8 a9 a10 a11 a12 a13 a14 : Nat → Int32} {D : Nat → Nat} {N v g : Nat} (hv : v < 3) (hg : g < 2) (hD : rn_D a9 D)
    (H : ∀ a9' a10' : Nat → Int32, rn_D a10' (rn_up D v (2 ^ g)) → J (nI (N + g * 2 ^ v)) (nI v + (-1)) 3 2 sk 0 fd a1 a2 a3 a4 a5 a6 a7 a8 a9' a10' a11 a12 a13 a14) : wX_extreme_77 post J x1 (nI N) (nI v) (nI g) 3 2 sk 0 fd a1 a2 a3 a4 a5 a6 a7 a8 a9 a10 a11 a12 a13 a14 := by
  have b : g * 2 ^ v < 2 ^ 32 := by
    rcases rn_lt3 hv with e | e | e <;> (subst e; omega)
  have b4 : 2 ^ g < 4 := by
    rcases rn_lt2 hg with e | e <;> (subst e; decide)
  refine ⟨pk_in v 8 (by omega), ?_⟩
  rw [nI_clamp (show v < 2 ^ 31 by omega)]
  have hD' := rn_Du (v := v) hD b4
  refine nm_r (e' := upd a9 v (nI (2 ^ g))) (by rw [rn_one (by omega)]) (rn_keep 0 (by omega) (fun a10' k1 k2 => nm_r (e' := nI (N + g * 2 ^ v)) (by rw [rn_shl (by omega) b, nI_add]) (nm_e (H _ a10' (fun u hu => ⟨?_, (hD' u hu).2⟩)))))
  have k := k1 u (by omega)
  rw [Nat.zero_add] at k
  rw [k]
  exact (hD' u hu).1
theorem rn_x23 {post : Int32 → St2 → Prop} {sk fd : Int32} {a1 a2 a3 a4 a5 a6 a7 a8 a9 a10 a11 a12 a13 a14 : Nat → Int32} {V M D : Nat → Nat} {s : Bool} {w v N n : Nat} (hs : sk = rn_sk s) (K : rn_K V M a1 a2 a3 a4 a5 a6 a7 a8) (hw : w < 2) (hv : v < 3) (hS : rn_D a10 D)
    (H : ∀ (fd' : Int32) (a9' a10' a11' a12' a13' a14' : Nat → Int32), rn_D a10' (rn_up D v (2 ^ rn_gd w v (rn_X V s D))) → wX_extreme_23 post (nI w) n (nI (N + rn_gd w v (rn_X V s D) * 2 ^ v)) (nI v + (-1)) 3 2 sk 0 fd' a1 a2 a3 a4 a5 a6 a7 a8 a9' a10' a11' a12' a13' a14') :
    wX_extreme_23 post (nI w) (n + 1) (nI N) (nI v) 3 2 sk 0 fd a1 a2 a3 a4 a5 a6 a7 a8 a9 a10 a11 a12 a13 a14 := by
  have dv := (hS v hv).2
  have l : D v &&& 2 ^ w ≤ D v := Nat.and_le_left
  refine br_f (nI_pos (by omega)) (rn_fetch 0 (by omega) (fun b9 h9 => ⟨pk_in v 8 (by omega), ?_⟩))
  have hB : rn_D b9 D := fun u hu => ⟨by rw [h9 u (by omega), Nat.zero_add]; exact (hS u hu).1, (hS u hu).2⟩
  have pw : ∀ m, m < 8 → rn_X V s (rn_up D v (D v &&& 2 ^ w)) m = rn_nx v w (rn_X V s D) m := fun m _ => by
    show (rn_p V s m && rn_fit (rn_up D v (D v &&& 2 ^ w)) m) = ((rn_p V s m && rn_fit D m) && decide (rn_v m v = w))
    rw [rn_fitA hv, Bool.and_assoc]
  rw [nI_clamp (show v < 2 ^ 31 by omega)]
  refine nm_r (e' := nI (D v &&& 2 ^ w)) (by rw [(hB v hv).1, rn_one (by omega), rn_and]) (nm_r (e' := nI (1 - w)) (pk_sub (a := 1) (by omega)) (pk_eq (D v &&& 2 ^ w) 0 (fun e => ?_) (fun e => ⟨pk_in v 8 (by omega), ?_⟩)))
  · have g0 : rn_gd w v (rn_X V s D) = 1 - w := by
      unfold rn_gd
      have z : rn_any (rn_nx v w (rn_X V s D)) = false := by
        rw [← rn_anyC pw]
        refine rn_X0 (fun m _ _ hf => ?_)
        have h3 := rn_fitE.mp hf v hv
        rw [rn_ups, e, Nat.zero_testBit] at h3
        exact absurd h3 (by decide)
      rw [z]
      rfl
    rw [g0] at H
    exact rn_x77 hv (by omega) hB (fun a9' a10' h => H fd a9' a10' a11 a12 a13 a14 h)
  · refine nm_e (rn_decide hs K (rn_Du hB (by omega)) (fun fd' c9 c10 c11 c12 c13 c14 hj => ?_))
    rw [rn_anyC pw]
    have hC : ∀ c9' : Nat → Int32, (∀ j, j < 8 → c9' j = c10 (0 + j)) → rn_D c9' D := fun c9' h9' u hu => ⟨by rw [h9' u (by omega), Nat.zero_add, hj u (by omega)]; exact (hS u hu).1, (hS u hu).2⟩
    refine rn_bz _ (fun ea => ?_) (fun ea => ?_)
    · have g1 : rn_gd w v (rn_X V s D) = w := by
        unfold rn_gd
        rw [ea]
        rfl
      rw [g1] at H
      exact rn_fetch 0 (by omega) (fun c9' h9' => rn_x77 hv hw (hC c9' h9') (fun a9' a10' h => H fd' a9' a10' c11 c12 c13 c14 h))
    · have g1 : rn_gd w v (rn_X V s D) = 1 - w := by
        unfold rn_gd
        rw [ea]
        rfl
      rw [g1] at H
      exact rn_fetch 0 (by omega) (fun c9' h9' => rn_x77 hv (by omega) (hC c9' h9') (fun a9' a10' h => H fd' a9' a10' c11 c12 c13 c14 h))
/-- the number that the greedy choices make; 0: none, n + 1: n -/
def rn_g2 (w : Nat) (X : Nat → Bool) : Nat := rn_gd w 2 X
def rn_g1 (w : Nat) (X : Nat → Bool) : Nat := rn_gd w 1 (rn_nx 2 (rn_g2 w X) X)
def rn_g0 (w : Nat) (X : Nat → Bool) : Nat := rn_gd w 0 (rn_nx 1 (rn_g1 w X) (rn_nx 2 (rn_g2 w X) X))
def rn_xt (w : Nat) (X : Nat → Bool) : Nat := cond (rn_any X) (0 + rn_g2 w X * 2 ^ 2 + rn_g1 w X * 2 ^ 1 + rn_g0 w X * 2 ^ 0 + 1) 0
theorem rn_xtC {w : Nat} {X Y : Nat → Bool} (h : ∀ m, m < 8 → X m = Y m) : rn_xt w X = rn_xt w Y := by
  have e2 : rn_g2 w X = rn_g2 w Y := rn_gdC h
  have h2 : ∀ m, m < 8 → rn_nx 2 (rn_g2 w X) X m = rn_nx 2 (rn_g2 w Y) Y m := by rw [e2]; exact rn_nxC h
  have e1 : rn_g1 w X = rn_g1 w Y := rn_gdC h2
  have h1 : ∀ m, m < 8 → rn_nx 1 (rn_g1 w X) (rn_nx 2 (rn_g2 w X) X) m = rn_nx 1 (rn_g1 w Y) (rn_nx 2 (rn_g2 w Y) Y) m := by rw [e1]; exact rn_nxC h2
  have e0 : rn_g0 w X = rn_g0 w Y := rn_gdC h1
  unfold rn_xt
  rw [rn_anyC h, e2, e1, e0]
def rn_o (k : Nat) : Int32 := match k with
  | 0 => -1
  | n + 1 => nI n
theorem rn_extreme {post : Int32 → St2 → Prop} {sk fd : Int32} {a1 a2 a3 a4 a5 a6 a7 a8 a9 a10 a11 a12 a13 a14 : Nat → Int32} {V M D : Nat → Nat} {s : Bool} {w : Nat} (hs : sk = rn_sk s) (K : rn_K V M a1 a2 a3 a4 a5 a6 a7 a8) (hw : w < 2) (hD : rn_D a9 D)
    (H : ∀ (fd' : Int32) (a9' a10' a11' a12' a13' a14' : Nat → Int32), post (rn_o (rn_xt w (rn_X V s D))) (3, 2, sk, 0, fd', a1, a2, a3, a4, a5, a6, a7, a8, a9', a10', a11', a12', a13', a14')) : wpX_extreme post (3, 2, sk, 0, fd, a1, a2, a3, a4, a5, a6, a7, a8, a9, a10, a11, a12, a13, a14) (nI w) := by
  refine rn_keep 0 (by omega) (fun b10 k1 _ => rn_decide hs K hD (fun fd' c9 c10 c11 c12 c13 c14 hj => rn_bz _ (fun e => nm_e ⟨4, ?_⟩) (fun e => ?_)))
  · have hS : rn_D c10 D := fun u hu => by
      have k := k1 u (by omega)
      rw [Nat.zero_add] at k
      exact ⟨by rw [hj u (by omega), k]; exact (hD u hu).1, (hD u hu).2⟩
    have s2 := rn_gdS (v := 2) (w := w) (by omega) hw e
    have s1 := rn_gdS (v := 1) (w := w) (by omega) hw s2.2
    have E1 : rn_gd w 1 (rn_X V s (rn_up D 2 (2 ^ rn_gd w 2 (rn_X V s D)))) = rn_g1 w (rn_X V s D) := rn_gdC s2.1
    have E0 : rn_gd w 0 (rn_X V s (rn_up (rn_up D 2 (2 ^ rn_gd w 2 (rn_X V s D))) 1 (2 ^ rn_gd w 1 (rn_X V s (rn_up D 2 (2 ^ rn_gd w 2 (rn_X V s D))))))) = rn_g0 w (rn_X V s D) := by
      rw [rn_gdC s1.1]
      refine rn_gdC (fun m hm => ?_)
      rw [E1]
      exact rn_nxC s2.1 m hm
    unfold rn_xt at H
    rw [e] at H
    refine rn_x23 (v := 2) (N := 0) hs K hw (by omega) hS (fun fd2 d9 d10 d11 d12 d13 d14 h2 => ?_)
    refine rn_x23 (v := 1) hs K hw (by omega) h2 (fun fd3 e9 e10 e11 e12 e13 e14 h3 => ?_)
    refine rn_x23 (v := 0) hs K hw (by omega) h3 (fun fd4 f9 f10 f11 f12 f13 f14 h4 => ?_)
    rw [E0, E1]
    exact br_t (by decide) (H fd4 f9 f10 f11 f12 f13 f14)
  · unfold rn_xt at H
    rw [e] at H
    exact H fd' c9 c10 c11 c12 c13 c14
theorem rn_least {post : Int32 → St2 → Prop} {sk fd : Int32} {a1 a2 a3 a4 a5 a6 a7 a8 a9 a10 a11 a12 a13 a14 : Nat → Int32} {V M : Nat → Nat} {s : Bool} (hs : sk = rn_sk s) (K : rn_K V M a1 a2 a3 a4 a5 a6 a7 a8)
    (H : ∀ (fd' : Int32) (a9' a10' a11' a12' a13' a14' : Nat → Int32), post (rn_o (rn_xt 0 (rn_p V s))) (3, 2, sk, 0, fd', a1, a2, a3, a4, a5, a6, a7, a8, a9', a10', a11', a12', a13', a14')) : wpX_least post (3, 2, sk, 0, fd, a1, a2, a3, a4, a5, a6, a7, a8, a9, a10, a11, a12, a13, a14) := by
  refine rn_setD K.2.2 (fun b9 hb => rn_extreme (w := 0) hs K (by omega) hb (fun fd' a9' a10' a11' a12' a13' a14' => ?_))
  rw [rn_xtC rn_X3]
  exact H fd' a9' a10' a11' a12' a13' a14'
theorem rn_greatest {post : Int32 → St2 → Prop} {sk fd : Int32} {a1 a2 a3 a4 a5 a6 a7 a8 a9 a10 a11 a12 a13 a14 : Nat → Int32} {V M : Nat → Nat} {s : Bool} (hs : sk = rn_sk s) (K : rn_K V M a1 a2 a3 a4 a5 a6 a7 a8)
    (H : ∀ (fd' : Int32) (a9' a10' a11' a12' a13' a14' : Nat → Int32), post (rn_o (rn_xt 1 (rn_p V s))) (3, 2, sk, 0, fd', a1, a2, a3, a4, a5, a6, a7, a8, a9', a10', a11', a12', a13', a14')) : wpX_greatest post (3, 2, sk, 0, fd, a1, a2, a3, a4, a5, a6, a7, a8, a9, a10, a11, a12, a13, a14) := by
  refine rn_setD K.2.2 (fun b9 hb => rn_extreme (w := 1) hs K (by omega) hb (fun fd' a9' a10' a11' a12' a13' a14' => ?_))
  rw [rn_xtC rn_X3]
  exact H fd' a9' a10' a11' a12' a13' a14'
end
section
/-! next -/
def rn_sD (k v : Nat) : Nat → Nat := fun u => if u < v then 3 else if u = v then 2 else 2 ^ rn_v k u
theorem rn_and3 : ∀ b, b < 2 → 3 &&& 2 ^ b = 2 ^ b ∧ 2 ^ b < 4 := by decide
theorem rn_share {post : St2 → Prop} {sk fd : Int32} {a1 a2 a3 a4 a5 a6 a7 a8 a9 a10 a11 a12 a13 a14 : Nat → Int32} {k v : Nat} (hk : k < 8) (hv : v < 3) (hD : rn_D a9 (fun _ => 3))
    (H : ∀ a9' : Nat → Int32, rn_D a9' (rn_sD k v) → post (3, 2, sk, 0, fd, a1, a2, a3, a4, a5, a6, a7, a8, a9', a10, a11, a12, a13, a14)) : wpX_shareAbove post (3, 2, sk, 0, fd, a1, a2, a3, a4, a5, a6, a7, a8, a9, a10, a11, a12, a13, a14) (nI k) (nI v) := by
  refine nm_r (nI_1 v) ?_
  refine pk_loop (fun n i (t : Nat → Int32) => wX_shareAbove_4 post (nI k) (nI v) 3 2 sk 0 fd n (nI i) a1 a2 a3 a4 a5 a6 a7 a8 t a10 a11 a12 a13 a14) (fun i t => v < i ∧ ∀ u, u < 3 → t u = nI (if u ≤ v then 3 else if u < i then 2 ^ rn_v k u else 3)) 3 (v + 1) a9 (by omega) ⟨by omega, fun u hu => ?_⟩ ?_ ?_
  · rw [(hD u hu).1]
    by_cases e : u ≤ v
    · rw [if_pos e]
    · rw [if_neg e, if_neg (by omega)]
  · intro n t h
    refine pk_le 3 3 (fun _ => ⟨pk_in v 8 (by omega), pk_in v 8 (by omega), ?_⟩) (fun z => absurd z (by omega))
    rw [nI_clamp (show v < 2 ^ 31 by omega)]
    refine nm_r (e' := upd t v (nI 2)) ?_ (H _ (fun u hu => ?_))
    · rw [h.2 v hv, if_pos (Nat.le_refl v)]
      rfl
    · have k2 := rn_and3 _ (rn_v2 k u)
      unfold rn_sD
      by_cases e : u = v
      · rw [e, pk_us, if_neg (by omega), if_pos rfl]
        exact ⟨rfl, by omega⟩
      · rw [pk_un e, h.2 u hu]
        by_cases e2 : u < v
        · rw [if_pos (by omega), if_pos e2]
          exact ⟨rfl, by omega⟩
        · rw [if_neg (by omega), if_pos hu, if_neg e2, if_neg e]
          exact ⟨rfl, k2.2⟩
  · intro n i t hi h hw
    have k2 := rn_and3 _ (rn_v2 k i)
    have l2 := rn_v2 k i
    refine pk_le 3 i (fun z => absurd z (by omega)) (fun _ => ⟨pk_in i 8 (by omega), pk_in i 8 (by omega), ?_⟩)
    rw [nI_clamp (show i < 2 ^ 31 by omega)]
    have q : k / 2 ^ i ≤ k := Nat.div_le_self _ _
    refine nm_r (e' := upd t i (nI (2 ^ rn_v k i))) ?_ (nm_r (nI_1 i) (hw _ ⟨by omega, fun u hu => ?_⟩))
    · rw [h.2 i hi, if_neg (by omega), if_neg (by omega), rn_shr (by omega) (by omega), rn_a1 (by omega)]
      show upd t i (nI 3 &&& (1 : Int32) <<< (nI (rn_v k i) &&& 31)) = _
      rw [rn_one (by omega), rn_and, k2.1]
    · by_cases e : u = i
      · rw [e, pk_us, if_neg (by omega), if_pos (by omega)]
      · rw [pk_un e, h.2 u hu]
        by_cases e2 : u ≤ v
        · rw [if_pos e2, if_pos e2]
        · rw [if_neg e2, if_neg e2]
          by_cases e3 : u < i
          · rw [if_pos e3, if_pos (by omega)]
          · rw [if_neg e3, if_neg (by omega)]
theorem rn_xtB {w : Nat} {X : Nat → Bool} (hw : w < 2) : rn_xt w X < 9 := by
  unfold rn_xt
  have g2 : rn_g2 w X < 2 := rn_gd2 hw
  have g1 : rn_g1 w X < 2 := rn_gd2 hw
  have g0 : rn_g0 w X < 2 := rn_gd2 hw
  cases rn_any X
  · show 0 < 9
    omega
  · show 0 + rn_g2 w X * 2 ^ 2 + rn_g1 w X * 2 ^ 1 + rn_g0 w X * 2 ^ 0 + 1 < 9
    omega
theorem rn_oz {A B : Prop} (k : Nat) (hk : k < 9) (f : k = 0 → A) (g : ¬ k = 0 → B) : (rn_o k < 0 → A) ∧ (¬ rn_o k < 0 → B) := by
  cases k with
  | zero => exact br_t (by decide) (f rfl)
  | succ n => exact br_f (nI_pos (by omega)) (g (by omega))
/-- the answer at place v: nothing where the number's bit is 1 -/
def rn_nv (p : Nat → Bool) (k v : Nat) : Nat := if rn_v k v = 0 then rn_xt 0 (fun m => p m && rn_fit (rn_sD k v) m) else 0
def rn_nk (p : Nat → Bool) (k : Nat) : Nat := if rn_nv p k 0 = 0 then (if rn_nv p k 1 = 0 then rn_nv p k 2 else rn_nv p k 1) else rn_nv p k 0
theorem rn_n32 {post : Int32 → St2 → Prop} {sk fd : Int32} {a1 a2 a3 a4 a5 a6 a7 a8 a9 a10 a11 a12 a13 a14 : Nat → Int32} {V M : Nat → Nat} {s : Bool} {k v n : Nat} (hs : sk = rn_sk s) (K : rn_K V M a1 a2 a3 a4 a5 a6 a7 a8) (hk : k < 8) (hv : v < 3)
    (H1 : ¬ rn_nv (rn_p V s) k v = 0 → ∀ (fd' : Int32) (a9' a10' a11' a12' a13' a14' : Nat → Int32), post (rn_o (rn_nv (rn_p V s) k v)) (3, 2, sk, 0, fd', a1, a2, a3, a4, a5, a6, a7, a8, a9', a10', a11', a12', a13', a14'))
    (H0 : rn_nv (rn_p V s) k v = 0 → ∀ (fd' : Int32) (a9' a10' a11' a12' a13' a14' : Nat → Int32), wX_next_32 post (nI k) n (nI (v + 1)) 3 2 sk 0 fd' a1 a2 a3 a4 a5 a6 a7 a8 a9' a10' a11' a12' a13' a14') :
    wX_next_32 post (nI k) (n + 1) (nI v) 3 2 sk 0 fd a1 a2 a3 a4 a5 a6 a7 a8 a9 a10 a11 a12 a13 a14 := by
  have q : k / 2 ^ v ≤ k := Nat.div_le_self _ _
  have l2 := rn_v2 k v
  refine pk_le 3 v (fun z => absurd z (by omega)) (fun _ => pk_eq (rn_v k v) 0 (fun e => ?_) (fun e => nm_r (nI_1 v) (H0 (if_neg e) fd a9 a10 a11 a12 a13 a14)) (by rw [rn_shr (by omega) (by omega), rn_a1 (by omega)]; rfl) rfl (by omega) (by omega))
  have en : rn_nv (rn_p V s) k v = rn_xt 0 (rn_X V s (rn_sD k v)) := if_pos e
  rw [en] at H0 H1
  refine rn_setD K.2.2 (fun b9 hb => rn_share hk hv hb (fun c9 hc => rn_extreme (w := 0) hs K (by omega) hc (fun fd' a9' a10' a11' a12' a13' a14' => ?_)))
  exact rn_oz _ (rn_xtB (by omega)) (fun z => nm_r (nI_1 v) (H0 z fd' a9' a10' a11' a12' a13' a14')) (fun z => H1 z fd' a9' a10' a11' a12' a13' a14')
theorem rn_nextK {post : Int32 → St2 → Prop} {sk fd : Int32} {a1 a2 a3 a4 a5 a6 a7 a8 a9 a10 a11 a12 a13 a14 : Nat → Int32} {V M : Nat → Nat} {s : Bool} {k : Nat} (hs : sk = rn_sk s) (K : rn_K V M a1 a2 a3 a4 a5 a6 a7 a8) (hk : k < 7)
    (H : ∀ (fd' : Int32) (a9' a10' a11' a12' a13' a14' : Nat → Int32), post (rn_o (rn_nk (rn_p V s) k)) (3, 2, sk, 0, fd', a1, a2, a3, a4, a5, a6, a7, a8, a9', a10', a11', a12', a13', a14')) : wpX_next post (3, 2, sk, 0, fd, a1, a2, a3, a4, a5, a6, a7, a8, a9, a10, a11, a12, a13, a14) (nI k) := by
  refine pk_le 0 k (fun _ => nm_r (e' := nI 7) (by decide) (pk_lt k 7 (fun _ => ⟨4, ?_⟩) (fun z => absurd z (by omega)))) (fun z => absurd z (by omega))
  refine rn_n32 (v := 0) hs K (by omega) (by omega) (fun z => ?_) (fun z fd1 b9 b10 b11 b12 b13 b14 => ?_)
  · rw [show rn_nk (rn_p V s) k = rn_nv (rn_p V s) k 0 from if_neg z] at H
    exact H
  · rw [show rn_nk (rn_p V s) k = (if rn_nv (rn_p V s) k 1 = 0 then rn_nv (rn_p V s) k 2 else rn_nv (rn_p V s) k 1) from if_pos z] at H
    refine rn_n32 (v := 1) hs K (by omega) (by omega) (fun z => ?_) (fun z fd2 c9 c10 c11 c12 c13 c14 => ?_)
    · rw [if_neg z] at H
      exact H
    · rw [if_pos z] at H
      refine rn_n32 (v := 2) hs K (by omega) (by omega) (fun z => H) (fun z fd3 d9 d10 d11 d12 d13 d14 => ?_)
      rw [z] at H
      exact pk_le 3 3 (fun _ => H fd3 d9 d10 d11 d12 d13 d14) (fun z => absurd z (by omega))
theorem rn_nextN {post : Int32 → St2 → Prop} {sk fd x : Int32} {a1 a2 a3 a4 a5 a6 a7 a8 a9 a10 a11 a12 a13 a14 : Nat → Int32} {V M : Nat → Nat} {s : Bool} (hs : sk = rn_sk s) (K : rn_K V M a1 a2 a3 a4 a5 a6 a7 a8) (hx : ¬ 0 ≤ x)
    (H : ∀ (fd' : Int32) (a9' a10' a11' a12' a13' a14' : Nat → Int32), post (rn_o (rn_xt 0 (rn_p V s))) (3, 2, sk, 0, fd', a1, a2, a3, a4, a5, a6, a7, a8, a9', a10', a11', a12', a13', a14')) : wpX_next post (3, 2, sk, 0, fd, a1, a2, a3, a4, a5, a6, a7, a8, a9, a10, a11, a12, a13, a14) x := by
  refine br_f hx (rn_setD K.2.2 (fun b9 hb => rn_extreme (w := 0) hs K (by omega) hb (fun fd' a9' a10' a11' a12' a13' a14' => ?_)))
  rw [rn_xtC rn_X3]
  exact H fd' a9' a10' a11' a12' a13' a14'
theorem rn_nextB {post : Int32 → St2 → Prop} {sk fd x : Int32} {a1 a2 a3 a4 a5 a6 a7 a8 a9 a10 a11 a12 a13 a14 : Nat → Int32} (hx : 0 ≤ x) (h7 : ¬ x < 7) (H : post (-1) (3, 2, sk, 0, fd, a1, a2, a3, a4, a5, a6, a7, a8, a9, a10, a11, a12, a13, a14)) : wpX_next post (3, 2, sk, 0, fd, a1, a2, a3, a4, a5, a6, a7, a8, a9, a10, a11, a12, a13, a14) x :=
  br_t hx (nm_r (e' := 7) (by decide) (br_f h7 H))
/-! can, always, pairs -/
def rn_cc (p : Nat → Bool) (u a v b : Nat) : Bool := rn_any (fun m => p m && (decide (rn_v m u = a) && decide (rn_v m v = b)))
theorem rn_can {post : Int32 → St2 → Prop} {sk fd : Int32} {a1 a2 a3 a4 a5 a6 a7 a8 a9 a10 a11 a12 a13 a14 : Nat → Int32} {V M : Nat → Nat} {s : Bool} {u a v b : Nat} (hs : sk = rn_sk s) (K : rn_K V M a1 a2 a3 a4 a5 a6 a7 a8) (hu : u < 3) (ha : a < 2) (hv : v < 3) (hb : b < 2)
    (H : ∀ (fd' : Int32) (a9' a10' a11' a12' a13' a14' : Nat → Int32), post (rn_b (rn_cc (rn_p V s) u a v b)) (3, 2, sk, 0, fd', a1, a2, a3, a4, a5, a6, a7, a8, a9', a10', a11', a12', a13', a14')) : wpX_can post (3, 2, sk, 0, fd, a1, a2, a3, a4, a5, a6, a7, a8, a9, a10, a11, a12, a13, a14) (nI u) (nI a) (nI v) (nI b) := by
  refine rn_setD K.2.2 (fun b9 hb9 => ⟨pk_in u 8 (by omega), pk_in u 8 (by omega), ?_⟩)
  rw [nI_clamp (show u < 2 ^ 31 by omega), nI_clamp (show v < 2 ^ 31 by omega)]
  have l1 : (3 : Nat) &&& 2 ^ a ≤ 3 := Nat.and_le_left
  have D1 := rn_Du (v := u) (d := 3 &&& 2 ^ a) hb9 (by omega)
  have d1 := (D1 v hv).2
  have l2 : rn_up (fun _ => 3) u (3 &&& 2 ^ a) v &&& 2 ^ b ≤ rn_up (fun _ => 3) u (3 &&& 2 ^ a) v := Nat.and_le_left
  have D2 := rn_Du (v := v) (d := rn_up (fun _ => 3) u (3 &&& 2 ^ a) v &&& 2 ^ b) D1 (by omega)
  refine nm_r (e' := upd b9 u (nI (3 &&& 2 ^ a))) ?_ ⟨pk_in v 8 (by omega), pk_in v 8 (by omega), nm_r (e' := upd (upd b9 u (nI (3 &&& 2 ^ a))) v (nI (rn_up (fun _ => 3) u (3 &&& 2 ^ a) v &&& 2 ^ b))) ?_ (rn_decide hs K D2 (fun fd' a9' a10' a11' a12' a13' a14' _ => ?_))⟩
  · rw [(hb9 u hu).1, rn_one (by omega), rn_and]
  · rw [(D1 v hv).1, rn_one (by omega), rn_and]
  · have e : rn_any (rn_X V s (rn_up (rn_up (fun _ => 3) u (3 &&& 2 ^ a)) v (rn_up (fun _ => 3) u (3 &&& 2 ^ a) v &&& 2 ^ b))) = rn_cc (rn_p V s) u a v b := rn_anyC (fun m _ => by
      show (rn_p V s m && rn_fit (rn_up (rn_up (fun _ => 3) u (3 &&& 2 ^ a)) v (rn_up (fun _ => 3) u (3 &&& 2 ^ a) v &&& 2 ^ b)) m) = (rn_p V s m && (decide (rn_v m u = a) && decide (rn_v m v = b)))
      rw [rn_fitA hv, rn_fitA (D := fun _ => 3) hu, rn_f3, Bool.true_and])
    rw [e]
    refine ⟨?_, H fd' a9' a10' a11' a12' a13' a14'⟩
    cases rn_cc (rn_p V s) u a v b
    · rfl
    · rfl
def rn_as (w : Nat) (p : Nat → Bool) : Nat → Nat
  | 0 => 0
  | v + 1 => cond (rn_cc p v (1 - w) v (1 - w)) (rn_as w p v) (rn_as w p v + 2 ^ v)
def rn_aw (w : Nat) (p : Nat → Bool) : Nat := cond (rn_any p) (rn_as w p 3 + 1) 0
abbrev rn_Z : Type := Int32 × (Nat → Int32) × (Nat → Int32) × (Nat → Int32) × (Nat → Int32) × (Nat → Int32) × (Nat → Int32)
theorem rn_always {post : Int32 → St2 → Prop} {sk fd : Int32} {a1 a2 a3 a4 a5 a6 a7 a8 a9 a10 a11 a12 a13 a14 : Nat → Int32} {V M : Nat → Nat} {s : Bool} {w : Nat} (hs : sk = rn_sk s) (K : rn_K V M a1 a2 a3 a4 a5 a6 a7 a8) (hw : w < 2)
    (H : ∀ (fd' : Int32) (a9' a10' a11' a12' a13' a14' : Nat → Int32), post (rn_o (rn_aw w (rn_p V s))) (3, 2, sk, 0, fd', a1, a2, a3, a4, a5, a6, a7, a8, a9', a10', a11', a12', a13', a14')) : wpX_always post (3, 2, sk, 0, fd, a1, a2, a3, a4, a5, a6, a7, a8, a9, a10, a11, a12, a13, a14) (nI w) := by
  refine rn_setD K.2.2 (fun b9 hb => rn_decide hs K hb (fun fd1 c9 c10 c11 c12 c13 c14 _ => ?_))
  rw [rn_anyC rn_X3]
  refine rn_bz _ (fun e => ?_) (fun e => ?_)
  · unfold rn_aw at H
    rw [e] at H
    refine pk_loop (σ := rn_Z) (fun n v z => wX_always_17 post (nI w) n (nI (rn_as w (rn_p V s) v)) (nI v) 3 2 sk 0 z.1 a1 a2 a3 a4 a5 a6 a7 a8 z.2.1 z.2.2.1 z.2.2.2.1 z.2.2.2.2.1 z.2.2.2.2.2.1 z.2.2.2.2.2.2) (fun _ _ => True) 3 0 (fd1, c9, c10, c11, c12, c13, c14) (by omega) trivial ?_ ?_
    · intro n z _
      exact pk_le 3 3 (fun _ => H z.1 z.2.1 z.2.2.1 z.2.2.2.1 z.2.2.2.2.1 z.2.2.2.2.2.1 z.2.2.2.2.2.2) (fun z => absurd z (by omega))
    · intro n v z hv _ hw'
      have e1 : (1 : Int32) - nI w = nI (1 - w) := pk_sub (a := 1) (by omega)
      refine pk_le 3 v (fun z => absurd z (by omega)) (fun _ => ?_)
      rw [e1]
      refine rn_can hs K hv (by omega) hv (by omega) (fun fd' a9' a10' a11' a12' a13' a14' => ?_)
      have h : wX_always_17 post (nI w) n (nI (cond (rn_cc (rn_p V s) v (1 - w) v (1 - w)) (rn_as w (rn_p V s) v) (rn_as w (rn_p V s) v + 2 ^ v))) (nI (v + 1)) 3 2 sk 0 fd' a1 a2 a3 a4 a5 a6 a7 a8 a9' a10' a11' a12' a13' a14' := hw' (fd', a9', a10', a11', a12', a13', a14') trivial
      refine rn_bz _ (fun e => nm_r (nI_1 v) ?_) (fun e => nm_r (e' := nI (rn_as w (rn_p V s) v + 2 ^ v)) (by rw [rn_one (by omega), nI_add]) (nm_r (nI_1 v) ?_))
      · rw [e] at h
        exact h
      · rw [e] at h
        exact h
  · unfold rn_aw at H
    rw [e] at H
    exact H fd1 c9 c10 c11 c12 c13 c14
def rn_ps (p : Nat → Bool) : Nat → Nat
  | 0 => 0
  | k + 1 => cond (rn_cc p 2 (k / 2) 0 (k % 2)) (rn_ps p k + 2 ^ k) (rn_ps p k)
theorem rn_pairs {post : Int32 → St2 → Prop} {sk fd : Int32} {a1 a2 a3 a4 a5 a6 a7 a8 a9 a10 a11 a12 a13 a14 : Nat → Int32} {V M : Nat → Nat} {s : Bool} (hs : sk = rn_sk s) (K : rn_K V M a1 a2 a3 a4 a5 a6 a7 a8)
    (H : ∀ (fd' : Int32) (a9' a10' a11' a12' a13' a14' : Nat → Int32), post (nI (rn_ps (rn_p V s) 4)) (3, 2, sk, 0, fd', a1, a2, a3, a4, a5, a6, a7, a8, a9', a10', a11', a12', a13', a14')) : wpX_pairs post (3, 2, sk, 0, fd, a1, a2, a3, a4, a5, a6, a7, a8, a9, a10, a11, a12, a13, a14) 2 0 := by
  unfold wpX_pairs
  refine rn_isVar (v := 2) (by omega) (br_f (by decide) (rn_isVar (v := 0) (by omega) (br_f (by decide) ?_)))
  refine pk_loop (σ := rn_Z) (fun n k z => wX_pairs_23 post 2 0 n (nI (rn_ps (rn_p V s) k)) (nI k) 3 2 sk 0 z.1 a1 a2 a3 a4 a5 a6 a7 a8 z.2.1 z.2.2.1 z.2.2.2.1 z.2.2.2.2.1 z.2.2.2.2.2.1 z.2.2.2.2.2.2) (fun _ _ => True) 4 0 (fd, a9, a10, a11, a12, a13, a14) (by omega) trivial ?_ ?_
  · intro n z _
    exact pk_le 4 4 (fun _ => H z.1 z.2.1 z.2.2.1 z.2.2.2.1 z.2.2.2.2.1 z.2.2.2.2.2.1 z.2.2.2.2.2.2) (fun z => absurd z (by omega))
  · intro n k z hk _ hw'
    refine pk_le 4 k (fun z => absurd z (by omega)) (fun _ => ?_)
    rw [rn_s1 (by omega), rn_a1 (by omega)]
    refine rn_can (u := 2) (v := 0) hs K (by omega) (by omega) (by omega) (by omega) (fun fd' a9' a10' a11' a12' a13' a14' => ?_)
    have h : wX_pairs_23 post 2 0 n (nI (cond (rn_cc (rn_p V s) 2 (k / 2) 0 (k % 2)) (rn_ps (rn_p V s) k + 2 ^ k) (rn_ps (rn_p V s) k))) (nI (k + 1)) 3 2 sk 0 fd' a1 a2 a3 a4 a5 a6 a7 a8 a9' a10' a11' a12' a13' a14' := hw' (fd', a9', a10', a11', a12', a13', a14') trivial
    refine rn_bz _ (fun e => nm_r (e' := nI (rn_ps (rn_p V s) k + 2 ^ k)) (by rw [rn_one (by omega), nI_add]) (nm_r (nI_1 k) ?_)) (fun e => nm_r (nI_1 k) ?_)
    · rw [e] at h
      exact h
    · rw [e] at h
      exact h
/-! allWithin -/
def rn_c3 (p : Nat → Bool) (x y z t : Nat) : Bool := rn_any (fun m => p m && (decide (rn_v m x = t / 4) && (decide (rn_v m y = t / 2 % 2) && decide (rn_v m z = t % 2))))
theorem rn_within {post : Int32 → St2 → Prop} {sk fd : Int32} {a1 a2 a3 a4 a5 a6 a7 a8 a9 a10 a11 a12 a13 a14 : Nat → Int32} {V M : Nat → Nat} {s : Bool} {W x y z : Nat} (hs : sk = rn_sk s) (K : rn_K V M a1 a2 a3 a4 a5 a6 a7 a8) (hW : W < 256) (hx : x < 3) (hy : y < 3) (hz : z < 3)
    (H0 : (∃ t, t < 8 ∧ W.testBit t = false ∧ rn_c3 (rn_p V s) x y z t = true) → ∀ (fd' : Int32) (a9' a10' a11' a12' a13' a14' : Nat → Int32), post 0 (3, 2, sk, 0, fd', a1, a2, a3, a4, a5, a6, a7, a8, a9', a10', a11', a12', a13', a14'))
    (H1 : (∀ t, t < 8 → W.testBit t = false → rn_c3 (rn_p V s) x y z t = false) → ∀ (fd' : Int32) (a9' a10' a11' a12' a13' a14' : Nat → Int32), post 1 (3, 2, sk, 0, fd', a1, a2, a3, a4, a5, a6, a7, a8, a9', a10', a11', a12', a13', a14')) :
    wpX_allWithin post (3, 2, sk, 0, fd, a1, a2, a3, a4, a5, a6, a7, a8, a9, a10, a11, a12, a13, a14) (nI W) (nI x) (nI y) (nI z) := by
  refine pk_loop (σ := rn_Z) (fun n t q => wX_allWithin_3 post (nI W) (nI x) (nI y) (nI z) n (nI t) 3 2 sk 0 q.1 a1 a2 a3 a4 a5 a6 a7 a8 q.2.1 q.2.2.1 q.2.2.2.1 q.2.2.2.2.1 q.2.2.2.2.2.1 q.2.2.2.2.2.2) (fun t _ => ∀ j, j < t → W.testBit j = false → rn_c3 (rn_p V s) x y z j = false) 8 0 (fd, a9, a10, a11, a12, a13, a14) (by omega) lt_0 ?_ ?_
  · intro n q h
    exact pk_le 8 8 (fun _ => H1 h q.1 q.2.1 q.2.2.1 q.2.2.2.1 q.2.2.2.2.1 q.2.2.2.2.2.1 q.2.2.2.2.2.2) (fun z => absurd z (by omega))
  · intro n t q ht h hw'
    refine pk_le 8 t (fun z => absurd z (by omega)) (fun _ => rn_hs W t (fun g => nm_r (nI_1 t) (hw' q (lt_s h (fun z => absurd z (by rw [g]; decide))))) (fun g => rn_setD K.2.2 (fun b9 hb9 => And.intro (pk_in x 8 (by omega)) (And.intro (pk_in x 8 (by omega)) ?_))))
    rw [rn_s2 (by omega), rn_s1 (by omega), rn_a1 (by omega), rn_a1 (by omega), nI_clamp (show x < 2 ^ 31 by omega), nI_clamp (show y < 2 ^ 31 by omega), nI_clamp (show z < 2 ^ 31 by omega)]
    have l1 : (3 : Nat) &&& 2 ^ (t / 4) ≤ 3 := Nat.and_le_left
    have D1 := rn_Du (v := x) (d := 3 &&& 2 ^ (t / 4)) hb9 (by omega)
    have d1 := (D1 y hy).2
    have l2 : rn_up (fun _ => 3) x (3 &&& 2 ^ (t / 4)) y &&& 2 ^ (t / 2 % 2) ≤ rn_up (fun _ => 3) x (3 &&& 2 ^ (t / 4)) y := Nat.and_le_left
    have D2 := rn_Du (v := y) (d := rn_up (fun _ => 3) x (3 &&& 2 ^ (t / 4)) y &&& 2 ^ (t / 2 % 2)) D1 (by omega)
    have d2 := (D2 z hz).2
    have l3 : rn_up (rn_up (fun _ => 3) x (3 &&& 2 ^ (t / 4))) y (rn_up (fun _ => 3) x (3 &&& 2 ^ (t / 4)) y &&& 2 ^ (t / 2 % 2)) z &&& 2 ^ (t % 2) ≤ rn_up (rn_up (fun _ => 3) x (3 &&& 2 ^ (t / 4))) y (rn_up (fun _ => 3) x (3 &&& 2 ^ (t / 4)) y &&& 2 ^ (t / 2 % 2)) z := Nat.and_le_left
    have D3 := rn_Du (v := z) (d := rn_up (rn_up (fun _ => 3) x (3 &&& 2 ^ (t / 4))) y (rn_up (fun _ => 3) x (3 &&& 2 ^ (t / 4)) y &&& 2 ^ (t / 2 % 2)) z &&& 2 ^ (t % 2)) D2 (by omega)
    refine nm_r (e' := upd b9 x (nI (3 &&& 2 ^ (t / 4)))) ?_ ⟨pk_in y 8 (by omega), pk_in y 8 (by omega), nm_r (e' := upd (upd b9 x (nI (3 &&& 2 ^ (t / 4)))) y (nI (rn_up (fun _ => 3) x (3 &&& 2 ^ (t / 4)) y &&& 2 ^ (t / 2 % 2)))) ?_ ⟨pk_in z 8 (by omega), pk_in z 8 (by omega), nm_r (e' := upd (upd (upd b9 x (nI (3 &&& 2 ^ (t / 4)))) y (nI (rn_up (fun _ => 3) x (3 &&& 2 ^ (t / 4)) y &&& 2 ^ (t / 2 % 2)))) z (nI (rn_up (rn_up (fun _ => 3) x (3 &&& 2 ^ (t / 4))) y (rn_up (fun _ => 3) x (3 &&& 2 ^ (t / 4)) y &&& 2 ^ (t / 2 % 2)) z &&& 2 ^ (t % 2)))) ?_ (rn_decide hs K D3 (fun fd' a9' a10' a11' a12' a13' a14' _ => ?_))⟩⟩
    · rw [(hb9 x hx).1, rn_one (by omega), rn_and]
    · rw [(D1 y hy).1, rn_one (by omega), rn_and]
    · rw [(D2 z hz).1, rn_one (by omega), rn_and]
    · have e : rn_any (rn_X V s (rn_up (rn_up (rn_up (fun _ => 3) x (3 &&& 2 ^ (t / 4))) y (rn_up (fun _ => 3) x (3 &&& 2 ^ (t / 4)) y &&& 2 ^ (t / 2 % 2))) z (rn_up (rn_up (fun _ => 3) x (3 &&& 2 ^ (t / 4))) y (rn_up (fun _ => 3) x (3 &&& 2 ^ (t / 4)) y &&& 2 ^ (t / 2 % 2)) z &&& 2 ^ (t % 2)))) = rn_c3 (rn_p V s) x y z t := rn_anyC (fun m _ => by
        show (rn_p V s m && rn_fit (rn_up (rn_up (rn_up (fun _ => 3) x (3 &&& 2 ^ (t / 4))) y (rn_up (fun _ => 3) x (3 &&& 2 ^ (t / 4)) y &&& 2 ^ (t / 2 % 2))) z (rn_up (rn_up (fun _ => 3) x (3 &&& 2 ^ (t / 4))) y (rn_up (fun _ => 3) x (3 &&& 2 ^ (t / 4)) y &&& 2 ^ (t / 2 % 2)) z &&& 2 ^ (t % 2))) m) = (rn_p V s m && (decide (rn_v m x = t / 4) && (decide (rn_v m y = t / 2 % 2) && decide (rn_v m z = t % 2))))
        rw [rn_fitA hz, rn_fitA hy, rn_fitA (D := fun _ => 3) hx, rn_f3, Bool.true_and, Bool.and_assoc])
      rw [e]
      exact rn_bz _ (fun e1 => H0 ⟨t, ht, g, e1⟩ fd' a9' a10' a11' a12' a13' a14') (fun e1 => nm_r (nI_1 t) (hw' (fd', a9', a10', a11', a12', a13', a14') (lt_s h (fun _ => e1))))
theorem rn_redund {post : Int32 → St2 → Prop} {fd : Int32} {a1 a2 a3 a4 a5 a6 a7 a8 a9 a10 a11 a12 a13 a14 : Nat → Int32} {V M : Nat → Nat} (K : rn_K V M a1 a2 a3 a4 a5 a6 a7 a8)
    (H0 : (∃ t, t < 8 ∧ (V 1).testBit t = false ∧ rn_c3 (rn_p V true) 2 0 1 t = true) → ∀ (fd' : Int32) (a9' a10' a11' a12' a13' a14' : Nat → Int32), post 0 (3, 2, (-1), 0, fd', a1, a2, a3, a4, a5, a6, a7, a8, a9', a10', a11', a12', a13', a14'))
    (H1 : (∀ t, t < 8 → (V 1).testBit t = false → rn_c3 (rn_p V true) 2 0 1 t = false) → ∀ (fd' : Int32) (a9' a10' a11' a12' a13' a14' : Nat → Int32), post 1 (3, 2, (-1), 0, fd', a1, a2, a3, a4, a5, a6, a7, a8, a9', a10', a11', a12', a13', a14')) :
    wpX_redundant post (3, 2, (-1), 0, fd, a1, a2, a3, a4, a5, a6, a7, a8, a9, a10, a11, a12, a13, a14) 1 := by
  obtain ⟨hV, h1, _, _, _, h4, h5, h6, h7⟩ := K.1 1 (by omega)
  have c1 : (1 : Int32).toNatClampNeg = 1 := by decide
  have i20 : vp_in 1 20 := pk_in 1 20 (by omega)
  refine br_f (by decide) (br_t (by decide) ⟨i20, pk_in 1 6 (by omega) (by rw [c1]; exact h4), i20, i20, i20, ?_⟩)
  rw [c1, h4, nI_clamp (show 1 < 2 ^ 31 by omega), h1, h5, h6, h7]
  exact rn_within (s := true) (x := 2) (y := 0) (z := 1) rfl K hV (by omega) (by omega) (by omega) (fun h fd' a9' a10' a11' a12' a13' a14' => br_t rfl (H0 h fd' a9' a10' a11' a12' a13' a14')) (fun h fd' a9' a10' a11' a12' a13' a14' => br_f (by decide) (H1 h fd' a9' a10' a11' a12' a13' a14'))
theorem rn_entails {post : Int32 → St2 → Prop} {sk fd : Int32} {a1 a2 a3 a4 a5 a6 a7 a8 a9 a10 a11 a12 a13 a14 : Nat → Int32} {V M : Nat → Nat} {s : Bool} (hs : sk = rn_sk s) (K : rn_K V M a1 a2 a3 a4 a5 a6 a7 a8)
    (H0 : (∃ t, t < 8 ∧ (V 0).testBit t = false ∧ rn_c3 (rn_p V s) 0 0 0 t = true) → ∀ (fd' : Int32) (a9' a10' a11' a12' a13' a14' : Nat → Int32), post 0 (3, 2, sk, 0, fd', a1, a2, a3, a4, a5, a6, a7, a8, a9', a10', a11', a12', a13', a14'))
    (H1 : (∀ t, t < 8 → (V 0).testBit t = false → rn_c3 (rn_p V s) 0 0 0 t = false) → ∀ (fd' : Int32) (a9' a10' a11' a12' a13' a14' : Nat → Int32), post 1 (3, 2, sk, 0, fd', a1, a2, a3, a4, a5, a6, a7, a8, a9', a10', a11', a12', a13', a14')) : wpX_entails post (3, 2, sk, 0, fd, a1, a2, a3, a4, a5, a6, a7, a8, a9, a10, a11, a12, a13, a14) 0 0 0 0 := by
  obtain ⟨hV, h1, _⟩ := K.1 0 (by omega)
  refine br_f (by decide) (br_t (by decide) (rn_isVar (v := 0) (by omega) (br_f (by decide) (rn_isVar (v := 0) (by omega) (br_f (by decide) (rn_isVar (v := 0) (by omega) (br_f (by decide) ⟨pk_in 0 6 (by omega), ?_⟩)))))))
  rw [show (0 : Int32).toNatClampNeg = 0 from by decide, h1]
  exact rn_within (x := 0) (y := 0) (z := 0) hs K hV (by omega) (by omega) (by omega) (fun h fd' a9' a10' a11' a12' a13' a14' => br_t rfl (H0 h fd' a9' a10' a11' a12' a13' a14')) (fun h fd' a9' a10' a11' a12' a13' a14' => br_f (by decide) (H1 h fd' a9' a10' a11' a12' a13' a14'))
end
section
/-! the law's own loop -/
def rn_mb (M m : Nat) : Bool := M.testBit (m % 8)
def rn_ll (p : Nat → Bool) : Nat → Nat
  | 0 => 0
  | i + 1 => cond (p i) (if rn_ll p i = 0 then i + 1 else rn_ll p i) (rn_ll p i)
def rn_lg (p : Nat → Bool) : Nat → Nat
  | 0 => 0
  | i + 1 => cond (p i) (i + 1) (rn_lg p i)
def rn_ln (p q : Nat → Bool) : Nat → Nat
  | 0 => 0
  | i + 1 => cond (p i) (if rn_ln p q i = 0 then cond (q i) 0 (i + 1) else rn_ln p q i) (rn_ln p q i)
def rn_lc (p : Nat → Bool) : Nat → Nat
  | 0 => 0
  | i + 1 => cond (p i) (rn_lc p i + 1) (rn_lc p i)
def rn_l7 (p : Nat → Bool) : Nat → Nat
  | 0 => 7
  | i + 1 => cond (p i) (rn_l7 p i &&& i) (rn_l7 p i)
def rn_l0 (p : Nat → Bool) : Nat → Nat
  | 0 => 7
  | i + 1 => cond (p i) (rn_l0 p i &&& (7 - i)) (rn_l0 p i)
def rn_lp (p : Nat → Bool) : Nat → Nat
  | 0 => 0
  | i + 1 => cond (p i) (rn_lp p i ||| 2 ^ (2 * (i / 4 % 2) + i % 2)) (rn_lp p i)
theorem rn_m1 : ∀ M, M < 256 → rn_xt 0 (rn_mb M) = rn_ll (rn_mb M) 8 := by decide +kernel
theorem rn_m2 : ∀ M, M < 256 → rn_xt 1 (rn_mb M) = rn_lg (rn_mb M) 8 := by decide +kernel
theorem rn_m3 : ∀ M, M < 256 → rn_xt 0 (rn_mb M) = rn_ln (rn_mb M) (fun _ => false) 8 := by decide +kernel
theorem rn_m4 : ∀ M, M < 256 → ∀ k, k < 7 → rn_nk (rn_mb M) k = rn_ln (rn_mb M) (fun m => decide (m ≤ k)) 8 := by decide +kernel
theorem rn_m5 : ∀ M, M < 256 → rn_ln (rn_mb M) (fun _ => true) 8 = 0 := by decide +kernel
theorem rn_m6 : ∀ M, M < 256 → rn_aw 1 (rn_mb M) = cond (rn_any (rn_mb M)) (rn_l7 (rn_mb M) 8 + 1) 0 := by decide +kernel
theorem rn_m7 : ∀ M, M < 256 → rn_aw 0 (rn_mb M) = cond (rn_any (rn_mb M)) (rn_l0 (rn_mb M) 8 + 1) 0 := by decide +kernel
theorem rn_m8p : ∀ M, M < 256 → rn_ps (rn_mb M) 4 = rn_lp (rn_mb M) 8 := by decide +kernel
theorem rn_m9 : ∀ M, M < 256 → rn_cnt (rn_mb M) = rn_lc (rn_mb M) 8 := by decide +kernel
theorem rn_v8 (m v : Nat) (hv : v < 3) : rn_v m v = rn_v (m % 8) v := by
  unfold rn_v
  rcases rn_lt3 hv with e | e | e
  · subst e
    show m / 1 % 2 = m % 8 / 1 % 2
    omega
  · subst e
    show m / 2 % 2 = m % 8 / 2 % 2
    omega
  · subst e
    show m / 4 % 2 = m % 8 / 4 % 2
    omega
theorem rn_ti8 (c m : Nat) (hc : c < 2) : rn_ti c m = rn_ti c (m % 8) := by
  obtain ⟨hx, hy, hz, _⟩ := rn_xyz c hc
  unfold rn_ti
  rw [rn_v8 m _ hx, rn_v8 m _ hy, rn_v8 m _ hz]
theorem rn_pmb (V : Nat → Nat) (s : Bool) : ∃ M, M < 256 ∧ rn_p V s = rn_mb M := by
  obtain ⟨M, hM, h⟩ := rn_mask (rn_p V s)
  refine ⟨M, hM, funext (fun m => ?_)⟩
  unfold rn_mb
  rw [← h (m % 8) (Nat.mod_lt _ (by omega))]
  unfold rn_p
  rw [rn_ti8 0 m (by omega), rn_ti8 1 m (by omega)]
/-- meets -/
theorem rn_b1z {A B : Prop} (b : Bool) (f : b = true → A) (g : b = false → B) : (rn_b b = 1 → A) ∧ (¬ rn_b b = 1 → B) := by
  cases b
  · exact br_f (by decide) (g rfl)
  · exact br_t rfl (f rfl)
theorem rn_vs (m : Nat) : rn_v m 0 = m % 2 ∧ rn_v m 1 = m / 2 % 2 ∧ rn_v m 2 = m / 4 % 2 := by
  unfold rn_v
  refine ⟨?_, ?_, ?_⟩
  · show m / 1 % 2 = m % 2
    omega
  · rfl
  · rfl
theorem rn_421 (a b c : Nat) : (4 : Int32) * nI a + 2 * nI b + nI c = nI (4 * a + 2 * b + c) := by
  show nI 4 * nI a + nI 2 * nI b + nI c = _
  rw [pk_mul, pk_mul, nI_add, nI_add]
theorem rn_meets {post : Int32 → Prop} {T U m : Nat} (hT : T < 256) (hU : U < 256) (hm : m < 8) (h : post (rn_b (T.testBit (rn_ti 0 m) && U.testBit (rn_ti 1 m)))) : wpL_meets post () (nI T) (nI U) (nI m) := by
  obtain ⟨v0, v1, v2⟩ := rn_vs m
  have t0 := (rn_tiF 0 (by omega) m hm).1
  have t1 := (rn_tiF 1 (by omega) m hm).1
  have e0 : (4 : Int32) * nI (rn_v m 0) + 2 * nI (rn_v m 1) + nI (rn_v m 2) = nI (rn_ti 0 m) := rn_421 _ _ _
  have e1 : (4 : Int32) * nI (rn_v m 2) + 2 * nI (rn_v m 0) + nI (rn_v m 1) = nI (rn_ti 1 m) := rn_421 _ _ _
  refine nm_r (e' := nI (rn_v m 0)) (by rw [rn_a1 (by omega), v0]) (nm_r (e' := nI (rn_v m 1)) (by rw [rn_s1 (by omega), rn_a1 (by omega), v1]) (nm_r (e' := nI (rn_v m 2)) (by rw [rn_s2 (by omega), rn_a1 (by omega), v2]) ?_))
  rw [e0, e1, rn_bit (by omega) (by omega), rn_bit (by omega) (by omega)]
  refine rn_b1z _ (fun g => rn_b1z _ (fun g2 => ?_) (fun g2 => ?_)) (fun g => ?_)
  · rw [g, g2] at h
    exact h
  · rw [g, g2] at h
    exact h
  · rw [g] at h
    exact h
theorem rn_oge {A B : Prop} (k : Nat) (hk : k < 10) (f : ¬ k = 0 → A) (g : k = 0 → B) : (0 ≤ rn_o k → A) ∧ (¬ 0 ≤ rn_o k → B) := by
  cases k with
  | zero => exact br_f (by decide) (g rfl)
  | succ n => exact br_t (nI_pos' (by omega)) (f (by omega))
theorem rn_L204 {post : Int32 → St0 → Prop} {mc ms kc ks : Nat} {J : Int32 → Int32 → Int32 → Int32 → Int32 → Int32 → Int32 → Int32 → Int32 → Int32 → Prop} {x2 x6 x7 x8 x9 x10 x11 x12 x13 f1 f2 f3 f4 f5 : Int32} {a1 a2 a3 a4 a5 a6 a7 a8 a9 a10 a11 a12 a13 a14 : Nat → Int32} {T U m : Nat} {s : Bool} (hT : T < 256) (hU : U < 256) (hm : m < 8)
    (h : J x6 x7 x8 x9 x10 x11 x12 x13 (rn_b (s && ((T.testBit (rn_ti 0 m) && (255 : Nat).testBit (rn_ti 1 m)) == (T.testBit (rn_ti 0 m) && U.testBit (rn_ti 1 m))))) (nI (m + 1))) :
    wL_lawOf_204 post mc ms J x2 (nI T) (nI U) x6 x7 x8 x9 x10 x11 x12 x13 (rn_b s) (nI m) kc ks f1 f2 f3 f4 f5 a1 a2 a3 a4 a5 a6 a7 a8 a9 a10 a11 a12 a13 a14 := by
  refine rn_meets (U := 255) hT (by omega) hm (rn_meets hT hU hm (rn_bb _ _ (fun e => nm_r (nI_1 m) ?_) (fun e => nm_r (nI_1 m) ?_)))
  · rw [e, Bool.and_true] at h
    exact h
  · rw [e, Bool.and_false] at h
    exact h
theorem rn_Lst {post : Int32 → St0 → Prop} {mc ms kc ks : Nat} {x2 f1 f2 f3 f4 f5 : Int32} {a1 a2 a3 a4 a5 a6 a7 a8 a9 a10 a11 a12 a13 a14 : Nat → Int32} {T U m n c l g nx o z pr : Nat} {e s Q : Bool} (hT : T < 256) (hU : U < 256) (hm : m < 8) (hl : l < 10) (hn : nx < 10) (hQ : nI m ≤ x2 ↔ Q = true)
    (h : wL_lawOf_101 post mc ms x2 (nI T) (nI U) kc ks f1 f2 f3 f4 f5 a1 a2 a3 a4 a5 a6 a7 a8 a9 a10 a11 a12 a13 a14 n (nI (cond (T.testBit (rn_ti 0 m) && U.testBit (rn_ti 1 m)) (c + 1) c)) (rn_o (cond (T.testBit (rn_ti 0 m) && U.testBit (rn_ti 1 m)) (if l = 0 then m + 1 else l) l)) (rn_o (cond (T.testBit (rn_ti 0 m) && U.testBit (rn_ti 1 m)) (m + 1) g)) (rn_o (cond (T.testBit (rn_ti 0 m) && U.testBit (rn_ti 1 m)) (if nx = 0 then cond Q 0 (m + 1) else nx) nx)) (nI (cond (T.testBit (rn_ti 0 m) && U.testBit (rn_ti 1 m)) (o &&& m) o)) (nI (cond (T.testBit (rn_ti 0 m) && U.testBit (rn_ti 1 m)) (z &&& (7 - m)) z)) (nI (cond (T.testBit (rn_ti 0 m) && U.testBit (rn_ti 1 m)) (pr ||| 2 ^ (2 * (m / 4 % 2) + m % 2)) pr)) (rn_b (e && (!(T.testBit (rn_ti 0 m) && U.testBit (rn_ti 1 m)) || T.testBit (7 * (m % 2))))) (rn_b (s && ((T.testBit (rn_ti 0 m) && (255 : Nat).testBit (rn_ti 1 m)) == (T.testBit (rn_ti 0 m) && U.testBit (rn_ti 1 m))))) (nI (m + 1))) :
    wL_lawOf_101 post mc ms x2 (nI T) (nI U) kc ks f1 f2 f3 f4 f5 a1 a2 a3 a4 a5 a6 a7 a8 a9 a10 a11 a12 a13 a14 (n + 1) (nI c) (rn_o l) (rn_o g) (rn_o nx) (nI o) (nI z) (nI pr) (rn_b e) (rn_b s) (nI m) := by
  refine pk_le 8 m (fun z => absurd z (by omega)) (fun _ => rn_meets hT hU hm ?_)
  generalize eP : (T.testBit (rn_ti 0 m) && U.testBit (rn_ti 1 m)) = P at h
  refine rn_bz P (fun k => ?_) (fun k => ?_)
  · subst k
    have e7 : (7 : Int32) * nI (m % 2) = nI (7 * (m % 2)) := pk_mul 7 _
    have ep : (2 : Int32) * nI (m / 4 % 2) + nI (m % 2) = nI (2 * (m / 4 % 2) + m % 2) := rn_2v _ _
    have step : ∀ l' nx', l' = (if l = 0 then m + 1 else l) → nx' = (if nx = 0 then cond Q 0 (m + 1) else nx) → wL_lawOf_150 post mc ms (wL_lawOf_101 post mc ms x2 (nI T) (nI U) kc ks f1 f2 f3 f4 f5 a1 a2 a3 a4 a5 a6 a7 a8 a9 a10 a11 a12 a13 a14 n) x2 (nI T) (nI U) (nI (c + 1)) (rn_o l') (nI m) (rn_o nx') (nI o) (nI z) (nI pr) (rn_b e) (rn_b s) (nI m) kc ks f1 f2 f3 f4 f5 a1 a2 a3 a4 a5 a6 a7 a8 a9 a10 a11 a12 a13 a14 := by
      intro l' nx' el en
      rw [cond_true, cond_true, cond_true, cond_true, cond_true, cond_true, cond_true, ← el, ← en] at h
      refine nm_r (e' := nI (o &&& m)) (rn_and o m) (nm_r (e' := nI (z &&& (7 - m))) ?_ (nm_r (e' := nI (pr ||| 2 ^ (2 * (m / 4 % 2) + m % 2))) ?_ ?_))
      · rw [show (7 : Int32) - nI m = nI (7 - m) from pk_sub (a := 7) (by omega), rn_and]
      · rw [rn_s2 (by omega), rn_a1 (by omega), rn_a1 (by omega), ep, rn_one (by omega), rn_or]
      · rw [rn_a1 (by omega), e7, rn_bit (by omega) (by omega)]
        refine rn_bz _ (fun k => ?_) (fun k => ?_)
        · rw [k, Bool.or_true, Bool.and_true] at h
          have h' := h
          rw [← eP] at h'
          exact rn_L204 hT hU hm h'
        · rw [k, Bool.not_true, Bool.or_false, Bool.and_false] at h
          have h' := h
          rw [← eP] at h'
          exact rn_L204 hT hU hm h'
    have mid : ∀ l', l' = (if l = 0 then m + 1 else l) → wL_lawOf_131 post mc ms (wL_lawOf_101 post mc ms x2 (nI T) (nI U) kc ks f1 f2 f3 f4 f5 a1 a2 a3 a4 a5 a6 a7 a8 a9 a10 a11 a12 a13 a14 n) x2 (nI T) (nI U) (nI (c + 1)) (rn_o l') (rn_o nx) (nI o) (nI z) (nI pr) (rn_b e) (rn_b s) (nI m) kc ks f1 f2 f3 f4 f5 a1 a2 a3 a4 a5 a6 a7 a8 a9 a10 a11 a12 a13 a14 := by
      intro l' el
      refine rn_oge nx hn (fun k => step l' nx el (by rw [if_neg k])) (fun k => br_c (fun q => ?_) (fun q => ?_))
      · exact step l' nx el (by rw [if_pos k, hQ.mp q, k]; rfl)
      · have q' : Q = false := by
          cases Q
          · rfl
          · exact absurd (hQ.mpr rfl) q
        exact step l' (m + 1) el (by rw [if_pos k, q']; rfl)
    refine nm_r (nI_1 c) (rn_oge l hl (fun k => mid l (by rw [if_neg k])) (fun k => mid (m + 1) (by rw [if_pos k])))
  · subst k
    rw [Bool.not_false, Bool.true_or, Bool.and_true] at h
    have h' := h
    rw [← eP] at h'
    exact rn_L204 hT hU hm (by rw [eP] at h' ⊢; exact h')
end
section
/-! the answers against the law's own sums -/
def rn_eE (V : Nat → Nat) (m : Nat) : Bool := !(rn_p V false m) || (V 0).testBit (7 * (m % 2))
def rn_eS (V : Nat → Nat) (m : Nat) : Bool := ((V 0).testBit (rn_ti 0 m) && (255 : Nat).testBit (rn_ti 1 m)) == rn_p V false m
theorem rn_pf {V : Nat → Nat} {m : Nat} : rn_p V false m = ((V 0).testBit (rn_ti 0 m) && (V 1).testBit (rn_ti 1 m)) := rfl
theorem rn_pt {V : Nat → Nat} {m : Nat} : rn_p V true m = (V 0).testBit (rn_ti 0 m) := by
  unfold rn_p
  rw [Bool.true_or, Bool.and_true]
theorem rn_c3E {p : Nat → Bool} {x y z t : Nat} (h : rn_c3 p x y z t = true) : ∃ m, m < 8 ∧ p m = true ∧ rn_v m x = t / 4 ∧ rn_v m y = t / 2 % 2 ∧ rn_v m z = t % 2 := by
  obtain ⟨m, hm, h1⟩ := rn_anyE h
  have h2 : (p m && (decide (rn_v m x = t / 4) && (decide (rn_v m y = t / 2 % 2) && decide (rn_v m z = t % 2)))) = true := h1
  rw [Bool.and_eq_true, Bool.and_eq_true, Bool.and_eq_true, decide_eq_true_iff, decide_eq_true_iff, decide_eq_true_iff] at h2
  exact ⟨m, hm, h2⟩
theorem rn_c3I {p : Nat → Bool} {x y z t m : Nat} (hm : m < 8) (h : p m = true) (hx : rn_v m x = t / 4) (hy : rn_v m y = t / 2 % 2) (hz : rn_v m z = t % 2) : rn_c3 p x y z t = true := by
  refine rn_anyI hm ?_
  show (p m && (decide (rn_v m x = t / 4) && (decide (rn_v m y = t / 2 % 2) && decide (rn_v m z = t % 2)))) = true
  rw [h, decide_eq_true hx, decide_eq_true hy, decide_eq_true hz]
  rfl
theorem rn_bf {b : Bool} (h : ¬ b = true) : b = false := by
  cases b
  · rfl
  · exact absurd rfl h
theorem rn_255 : ∀ t, t < 8 → (255 : Nat).testBit t = true := by decide
theorem rn_7b : ∀ b, b < 2 → (b = 7 * b / 4 ∧ b = 7 * b / 2 % 2 ∧ b = 7 * b % 2) := by decide
theorem rn_ent1 {V : Nat → Nat} (h : ∀ t, t < 8 → (V 0).testBit t = false → rn_c3 (rn_p V false) 0 0 0 t = false) : rn_al (rn_eE V) 8 = true := by
  refine rn_alX (fun m hm => ?_)
  unfold rn_eE
  cases e : rn_p V false m
  · rfl
  · cases e2 : (V 0).testBit (7 * (m % 2))
    · have v0 := (rn_vs m).1
      have k := h (7 * (m % 2)) (by omega) e2
      obtain ⟨w4, w2, w1⟩ := rn_7b (m % 2) (by omega)
      rw [rn_c3I (p := rn_p V false) (x := 0) (y := 0) (z := 0) hm e (by rw [v0]; exact w4) (by rw [v0]; exact w2) (by rw [v0]; exact w1)] at k
      exact absurd k (by decide)
    · rfl
theorem rn_ent0 {V : Nat → Nat} (h : ∃ t, t < 8 ∧ (V 0).testBit t = false ∧ rn_c3 (rn_p V false) 0 0 0 t = true) : rn_al (rn_eE V) 8 = false := by
  obtain ⟨t, ht, h1, h2⟩ := h
  obtain ⟨m, hm, h3, e1, e2, e3⟩ := rn_c3E h2
  refine rn_bf (fun z => ?_)
  have k := rn_alI z m hm
  unfold rn_eE at k
  have v0 := (rn_vs m).1
  rw [h3, show 7 * (m % 2) = t by omega, h1] at k
  exact absurd k (by decide)
theorem rn_ti1 (m : Nat) : rn_ti 1 m = 4 * rn_v m 2 + 2 * rn_v m 0 + rn_v m 1 := rfl
theorem rn_red1 {V : Nat → Nat} (h : ∀ t, t < 8 → (V 1).testBit t = false → rn_c3 (rn_p V true) 2 0 1 t = false) : rn_al (rn_eS V) 8 = true := by
  refine rn_alX (fun m hm => ?_)
  obtain ⟨t8, tx, ty, tz⟩ := rn_tiF 1 (by omega) m hm
  unfold rn_eS
  rw [rn_255 _ t8, rn_pf, Bool.and_true]
  cases e : (V 0).testBit (rn_ti 0 m)
  · rfl
  · cases e2 : (V 1).testBit (rn_ti 1 m)
    · have k := h _ t8 e2
      have k2 : rn_c3 (rn_p V true) 2 0 1 (rn_ti 1 m) = true := rn_c3I hm (by rw [rn_pt]; exact e) tx.symm ty.symm tz.symm
      rw [k2] at k
      exact absurd k (by decide)
    · rfl
theorem rn_red0 {V : Nat → Nat} (h : ∃ t, t < 8 ∧ (V 1).testBit t = false ∧ rn_c3 (rn_p V true) 2 0 1 t = true) : rn_al (rn_eS V) 8 = false := by
  obtain ⟨t, ht, h1, h2⟩ := h
  obtain ⟨m, hm, h3, e1, e2, e3⟩ := rn_c3E h2
  refine rn_bf (fun z => ?_)
  have k := rn_alI z m hm
  have et : rn_ti 1 m = t := by
    rw [rn_ti1, e1, e2, e3]
    omega
  rw [rn_pt] at h3
  unfold rn_eS at k
  rw [rn_pf, et, h1, h3, rn_255 t ht] at k
  exact absurd k (by decide)
theorem rn_L333 {post : Int32 → St0 → Prop} {mc ms kc ks : Nat} {z0 z1 fd : Int32} {a1 a2 a3 a4 a5 a6 a7 a8 a9 a10 a11 a12 a13 a14 : Nat → Int32} {V M : Nat → Nat} (K : rn_K V M a1 a2 a3 a4 a5 a6 a7 a8) (hp : post 1 ()) (hz : z1 = z0) :
    wL_lawOf_333 post mc ms (nI (rn_lp (rn_p V false) 8)) (rn_b (rn_al (rn_eE V) 8)) (rn_b (rn_al (rn_eS V) 8)) z0 z1 kc ks 3 2 (-1) 0 fd a1 a2 a3 a4 a5 a6 a7 a8 a9 a10 a11 a12 a13 a14 := by
  obtain ⟨Mm, hM, ep⟩ := rn_pmb V false
  have q8 : rn_ps (rn_p V false) 4 = rn_lp (rn_p V false) 8 := by rw [ep]; exact rn_m8p Mm hM
  have ent : ∀ (fd' : Int32) (b9 b10 b11 b12 b13 b14 : Nat → Int32), wpX_entails (fun r u => match u with | (_, _, _, _, _, _, _, _, _, _, _, _, _, _, _, _, _, _, _) => (r = rn_b (rn_al (rn_eE V) 8) → post 1 ()) ∧ (¬ r = rn_b (rn_al (rn_eE V) 8) → post 0 ())) (3, 2, (-1), 0, fd', a1, a2, a3, a4, a5, a6, a7, a8, b9, b10, b11, b12, b13, b14) 0 0 0 0 := fun fd' b9 b10 b11 b12 b13 b14 =>
    rn_entails (s := false) rfl K (fun h _ _ _ _ _ _ _ => br_t (by rw [rn_ent0 h]; rfl) hp) (fun h _ _ _ _ _ _ _ => br_t (by rw [rn_ent1 h]; rfl) hp)
  refine br_t hz (rn_pairs (s := false) rfl K (fun fd' b9 b10 b11 b12 b13 b14 => br_t (by rw [q8]) (rn_redund K (fun h fd' c9 c10 c11 c12 c13 c14 => br_t (by rw [rn_red0 h]; rfl) ?_) (fun h fd' c9 c10 c11 c12 c13 c14 => br_t (by rw [rn_red1 h]; rfl) ?_))))
  · exact ent fd' c9 c10 c11 c12 c13 c14
  · exact ent fd' c9 c10 c11 c12 c13 c14
theorem rn_awZ {w : Nat} {p : Nat → Bool} {l : Nat} (h : rn_aw w p = cond (rn_any p) (l + 1) 0) : (rn_cnt p = 0 → rn_o (rn_aw w p) = -1) ∧ (0 < rn_cnt p → rn_o (rn_aw w p) = nI l) := by
  have c := rn_cntP (p := p)
  constructor
  · intro z
    rw [h, rn_bf (fun q => absurd (c.mp q) (by omega))]
    rfl
  · intro z
    rw [h, c.mpr z]
    rfl
theorem rn_L312 {post : Int32 → St0 → Prop} {mc ms kc ks : Nat} {z0 z1 fd : Int32} {a1 a2 a3 a4 a5 a6 a7 a8 a9 a10 a11 a12 a13 a14 : Nat → Int32} {V M : Nat → Nat} (K : rn_K V M a1 a2 a3 a4 a5 a6 a7 a8) (hp : post 1 ()) (hz : z1 = z0) :
    wL_lawOf_312 post mc ms (nI (rn_lc (rn_p V false) 8)) (nI (rn_l0 (rn_p V false) 8)) (nI (rn_lp (rn_p V false) 8)) (rn_b (rn_al (rn_eE V) 8)) (rn_b (rn_al (rn_eS V) 8)) z0 z1 kc ks 3 2 (-1) 0 fd a1 a2 a3 a4 a5 a6 a7 a8 a9 a10 a11 a12 a13 a14 := by
  obtain ⟨Mm, hM, ep⟩ := rn_pmb V false
  have q9 : rn_cnt (rn_p V false) = rn_lc (rn_p V false) 8 := by rw [ep]; exact rn_m9 Mm hM
  have q7 := rn_awZ (show rn_aw 0 (rn_p V false) = cond (rn_any (rn_p V false)) (rn_l0 (rn_p V false) 8 + 1) 0 by rw [ep]; exact rn_m7 Mm hM)
  have c8 := rn_cnt8 (rn_p V false)
  rw [← q9]
  refine br_t hz ?_
  unfold wpX_alwaysZero
  refine rn_always (w := 0) (s := false) rfl K (by omega) (fun fd' b9 b10 b11 b12 b13 b14 => pk_le (rn_cnt (rn_p V false)) 0 (fun z => ?_) (fun z => ?_))
  · exact rn_L333 K hp (q7.1 (by omega))
  · exact rn_L333 K hp (q7.2 z)
theorem rn_L248 {post : Int32 → St0 → Prop} {mc ms kc ks nx : Nat} {x2 z0 z1 fd : Int32} {a1 a2 a3 a4 a5 a6 a7 a8 a9 a10 a11 a12 a13 a14 : Nat → Int32} {V M : Nat → Nat} (K : rn_K V M a1 a2 a3 a4 a5 a6 a7 a8) (hp : post 1 ()) (hz : z1 = z0)
    (hnext : ∀ (post' : Int32 → St2 → Prop) (fd : Int32) (a9 a10 a11 a12 a13 a14 : Nat → Int32), (∀ (fd' : Int32) (a9' a10' a11' a12' a13' a14' : Nat → Int32), post' (rn_o nx) (3, 2, (-1), 0, fd', a1, a2, a3, a4, a5, a6, a7, a8, a9', a10', a11', a12', a13', a14')) → wpX_next post' (3, 2, (-1), 0, fd, a1, a2, a3, a4, a5, a6, a7, a8, a9, a10, a11, a12, a13, a14) x2) :
    wL_lawOf_248 post mc ms x2 (nI (rn_lc (rn_p V false) 8)) (rn_o (rn_ll (rn_p V false) 8)) (rn_o (rn_lg (rn_p V false) 8)) (rn_o nx) (nI (rn_l7 (rn_p V false) 8)) (nI (rn_l0 (rn_p V false) 8)) (nI (rn_lp (rn_p V false) 8)) (rn_b (rn_al (rn_eE V) 8)) (rn_b (rn_al (rn_eS V) 8)) z0 z1 kc ks 3 2 (-1) 0 fd a1 a2 a3 a4 a5 a6 a7 a8 a9 a10 a11 a12 a13 a14 := by
  obtain ⟨Mm, hM, ep⟩ := rn_pmb V false
  have q1 : rn_xt 0 (rn_p V false) = rn_ll (rn_p V false) 8 := by rw [ep]; exact rn_m1 Mm hM
  have q2 : rn_xt 1 (rn_p V false) = rn_lg (rn_p V false) 8 := by rw [ep]; exact rn_m2 Mm hM
  have q9 : rn_cnt (rn_p V false) = rn_lc (rn_p V false) 8 := by rw [ep]; exact rn_m9 Mm hM
  have q6 := rn_awZ (show rn_aw 1 (rn_p V false) = cond (rn_any (rn_p V false)) (rn_l7 (rn_p V false) 8 + 1) 0 by rw [ep]; exact rn_m6 Mm hM)
  have c8 := rn_cnt8 (rn_p V false)
  refine br_t hz (rn_solut (s := false) rfl K (fun fd1 b9 b10 b11 b12 b13 b14 => br_t (by rw [q9]) (rn_least (s := false) rfl K (fun fd2 c9 c10 c11 c12 c13 c14 => br_t (by rw [q1]) (rn_greatest (s := false) rfl K (fun fd3 d9 d10 d11 d12 d13 d14 => br_t (by rw [q2]) (hnext _ fd3 d9 d10 d11 d12 d13 d14 (fun fd4 e9 e10 e11 e12 e13 e14 => br_t rfl ?_))))))))
  unfold wpX_alwaysOne
  refine rn_always (w := 1) (s := false) rfl K (by omega) (fun fd' b9 b10 b11 b12 b13 b14 => pk_le (rn_cnt (rn_p V false)) 0 (fun z => ?_) (fun z => ?_) (by rw [q9]))
  · exact rn_L312 K hp (q6.1 (by omega))
  · exact rn_L312 K hp (q6.2 z)
theorem rn_llB {p : Nat → Bool} : ∀ i, rn_ll p i ≤ i
  | 0 => Nat.le_refl 0
  | i + 1 => by
    have ih := rn_llB (p := p) i
    show cond (p i) (if rn_ll p i = 0 then i + 1 else rn_ll p i) (rn_ll p i) ≤ i + 1
    cases p i
    · show rn_ll p i ≤ i + 1
      omega
    · show (if rn_ll p i = 0 then i + 1 else rn_ll p i) ≤ i + 1
      by_cases e : rn_ll p i = 0
      · rw [if_pos e]
        omega
      · rw [if_neg e]
        omega
theorem rn_lnB {p q : Nat → Bool} : ∀ i, rn_ln p q i ≤ i
  | 0 => Nat.le_refl 0
  | i + 1 => by
    have ih := rn_lnB (p := p) (q := q) i
    show cond (p i) (if rn_ln p q i = 0 then cond (q i) 0 (i + 1) else rn_ln p q i) (rn_ln p q i) ≤ i + 1
    cases p i
    · show rn_ln p q i ≤ i + 1
      omega
    · show (if rn_ln p q i = 0 then cond (q i) 0 (i + 1) else rn_ln p q i) ≤ i + 1
      by_cases e : rn_ln p q i = 0
      · rw [if_pos e]
        cases q i
        · exact Nat.le_refl _
        · exact Nat.zero_le _
      · rw [if_neg e]
        omega
theorem rn_loop {post : Int32 → St0 → Prop} {mc ms kc ks : Nat} {x2 fd : Int32} {a1 a2 a3 a4 a5 a6 a7 a8 a9 a10 a11 a12 a13 a14 : Nat → Int32} {V M : Nat → Nat} {Q : Nat → Bool} (K : rn_K V M a1 a2 a3 a4 a5 a6 a7 a8) (hp : post 1 ()) (hQ : ∀ m, m < 8 → (nI m ≤ x2 ↔ Q m = true))
    (hnext : ∀ (post' : Int32 → St2 → Prop) (fd : Int32) (a9 a10 a11 a12 a13 a14 : Nat → Int32), (∀ (fd' : Int32) (a9' a10' a11' a12' a13' a14' : Nat → Int32), post' (rn_o (rn_ln (rn_p V false) Q 8)) (3, 2, (-1), 0, fd', a1, a2, a3, a4, a5, a6, a7, a8, a9', a10', a11', a12', a13', a14')) → wpX_next post' (3, 2, (-1), 0, fd, a1, a2, a3, a4, a5, a6, a7, a8, a9, a10, a11, a12, a13, a14) x2) :
    ∃ n, wL_lawOf_101 post mc ms x2 (nI (V 0)) (nI (V 1)) kc ks 3 2 (-1) 0 fd a1 a2 a3 a4 a5 a6 a7 a8 a9 a10 a11 a12 a13 a14 n 0 (-1) (-1) (-1) 7 7 0 1 1 0 := by
  have hT := (K.1 0 (by omega)).1
  have hU := (K.1 1 (by omega)).1
  obtain ⟨Mm, hM, ep⟩ := rn_pmb V false
  have q9 : rn_cnt (rn_p V false) = rn_lc (rn_p V false) 8 := by rw [ep]; exact rn_m9 Mm hM
  have c8 := rn_cnt8 (rn_p V false)
  have c := rn_cntP (p := rn_p V false)
  refine pk_loop (σ := Unit) (fun n i _ => wL_lawOf_101 post mc ms x2 (nI (V 0)) (nI (V 1)) kc ks 3 2 (-1) 0 fd a1 a2 a3 a4 a5 a6 a7 a8 a9 a10 a11 a12 a13 a14 n (nI (rn_lc (rn_p V false) i)) (rn_o (rn_ll (rn_p V false) i)) (rn_o (rn_lg (rn_p V false) i)) (rn_o (rn_ln (rn_p V false) Q i)) (nI (rn_l7 (rn_p V false) i)) (nI (rn_l0 (rn_p V false) i)) (nI (rn_lp (rn_p V false) i)) (rn_b (rn_al (rn_eE V) i)) (rn_b (rn_al (rn_eS V) i)) (nI i)) (fun _ _ => True) 8 0 () (by omega) trivial ?_ ?_
  · intro n _ _
    refine pk_le 8 8 (fun _ => rn_satis (s := false) rfl K (fun fd1 b9 b10 b11 b12 b13 b14 => pk_le (rn_cnt (rn_p V false)) 0 (fun z => ?_) (fun z => ?_) (by rw [q9]))) (fun z => absurd z (by omega))
    · exact rn_L248 K hp (by rw [rn_bf (fun q => absurd (c.mp q) (by omega))]; rfl) hnext
    · exact rn_L248 K hp (by rw [c.mpr z]; rfl) hnext
  · intro n i _ hi _ hw
    have b1 := rn_llB (p := rn_p V false) i
    have b2 := rn_lnB (p := rn_p V false) (q := Q) i
    have h := hw () trivial
    exact rn_Lst hT hU hi (by omega) (by omega) (hQ i hi) h
end
section
/-! the law -/
theorem rn_cell {post : Int32 → Prop} {L k : Nat} {xs : Nat → Int32} (hL : L ≤ 3) (hk : k < 3) (h : ∀ x, post x) : wpL_cellAt post L xs () (nI k) :=
  pk_le L k (fun _ => h 0) (fun z => ⟨pk_in k L z rfl (by omega), h _⟩)
theorem rn_lawOf {post : Int32 → St0 → Prop} {p0 p1 x2 : Int32} (hp : post 1 ()) : wpL_lawOf post 150 2384 () p0 p1 x2 := by
  have lT : p0.toBitVec.toNat % 2 ^ 8 < 256 := Nat.mod_lt _ (by omega)
  have lU : p1.toBitVec.toNat % 2 ^ 8 < 256 := Nat.mod_lt _ (by omega)
  refine nm_r (pk_and p0 8 (by decide)) (nm_r (pk_and p1 8 (by decide)) ?_)
  generalize p0.toBitVec.toNat % 2 ^ 8 = T at lT
  generalize p1.toBitVec.toNat % 2 ^ 8 = U at lU
  refine ⟨by omega, by omega, 100, 2000, by omega, by omega, rn_init (fun a1 a2 a8 h8 => rn_define (r := 0) (by omega) lT rfl (fun _ mT kT => rn_define (r := 1) (by omega) lU rfl (fun _ mU kU => rn_require (l := 0) (r := 0) (x := 0) (y := 1) (z := 2) (by omega) (by omega) (by omega) (by omega) (by omega) (br_t rfl (rn_require (l := 1) (r := 1) (x := 2) (y := 0) (z := 1) (by omega) (by omega) (by omega) (by omega) (by omega) (br_t rfl ?_))))))⟩
  have K : rn_K (fun c => if c = 0 then T else U) (fun c => if c = 0 then mT else mU) (upd (upd a1 0 (nI T)) 1 (nI U)) (upd (upd a2 0 (nI mT)) 1 (nI mU)) (upd (upd (fun _ => 0) 0 (0 + 1)) 1 (0 + 1)) (upd (upd (fun _ => 0) 0 (nI 0)) 1 (nI 1)) (upd (upd (fun _ => 0) 0 (nI 0)) 1 (nI 2)) (upd (upd (fun _ => 0) 0 (nI 1)) 1 (nI 0)) (upd (upd (fun _ => 0) 0 (nI 2)) 1 (nI 1)) a8 := by
    refine ⟨fun c hc => ?_, fun j h2 h6 => ?_, fun j hj => h8 j (by omega)⟩
    · rcases rn_lt2 hc with e | e
      · subst e
        exact ⟨lT, rfl, rfl, kT, rfl, rfl, rfl, rfl, rfl⟩
      · subst e
        exact ⟨lU, rfl, rfl, kU, rfl, rfl, rfl, rfl, rfl⟩
    · rw [pk_un (by omega), pk_un (by omega)]
  obtain ⟨Mm, hM, ep⟩ := rn_pmb (fun c => if c = 0 then T else U) false
  by_cases h0 : 0 ≤ x2
  · obtain ⟨k, hk, ek⟩ := nI_of (x := x2) (by rw [Int32.not_lt]; exact h0)
    subst ek
    by_cases h7 : k < 7
    · refine rn_loop (Q := fun m => decide (m ≤ k)) K hp (fun m hm => ?_) (fun post' fd a9 a10 a11 a12 a13 a14 H => ?_)
      · rw [nI_leI (by omega) hk, decide_eq_true_iff]
      · have e : rn_nk (rn_p (fun c => if c = 0 then T else U) false) k = rn_ln (rn_p (fun c => if c = 0 then T else U) false) (fun m => decide (m ≤ k)) 8 := by rw [ep]; exact rn_m4 Mm hM k h7
        rw [← e] at H
        exact rn_nextK (s := false) rfl K h7 H
    · refine rn_loop (Q := fun _ => true) K hp (fun m hm => ?_) (fun post' fd a9 a10 a11 a12 a13 a14 H => ?_)
      · rw [nI_leI (by omega) hk]
        exact ⟨fun _ => rfl, fun _ => by omega⟩
      · have e : rn_ln (rn_p (fun c => if c = 0 then T else U) false) (fun _ => true) 8 = 0 := by rw [ep]; exact rn_m5 Mm hM
        rw [e] at H
        exact rn_nextB h0 (nI_nlt (b := 7) (by omega) hk) (H fd a9 a10 a11 a12 a13 a14)
  · refine rn_loop (Q := fun _ => false) K hp (fun m hm => ?_) (fun post' fd a9 a10 a11 a12 a13 a14 H => ?_)
    · refine ⟨fun z => absurd (Int32.le_trans (nI_pos' (by omega)) z) h0, fun z => absurd z (by decide)⟩
    · have e : rn_xt 0 (rn_p (fun c => if c = 0 then T else U) false) = rn_ln (rn_p (fun c => if c = 0 then T else U) false) (fun _ => false) 8 := by rw [ep]; exact rn_m3 Mm hM
      rw [← e] at H
      exact rn_nextN (s := false) rfl K h0 H
theorem i_vc (xs : Nat → Int32) (L : Nat) (hL : L ≤ 3) : wpL_law (fun r => r = 1) L xs :=
  rn_cell (k := 0) hL (by omega) (fun _ => rn_cell (k := 1) hL (by omega) (fun _ => rn_cell (k := 2) hL (by omega) (fun _ => ⟨150, 2384, by omega, by omega, rn_lawOf rfl⟩)))
end
