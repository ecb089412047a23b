section
def bt (x : Int32) (i : Nat) : Bool := x.toBitVec.getLsbD i
theorem b_ext {x y : Int32} (h : ∀ i, i < 32 → bt x i = bt y i) : x = y := Int32.toBitVec_inj.mp (BitVec.eq_of_getLsbD_eq (fun i hi => h i hi))
theorem b_or (x y : Int32) (i : Nat) : bt (x ||| y) i = (bt x i || bt y i) := by unfold bt; rw [Int32.toBitVec_or, BitVec.getLsbD_or]
theorem b_and (x y : Int32) (i : Nat) : bt (x &&& y) i = (bt x i && bt y i) := by unfold bt; rw [Int32.toBitVec_and, BitVec.getLsbD_and]
theorem b_xor (x y : Int32) (i : Nat) : bt (x ^^^ y) i = (bt x i ^^ bt y i) := by unfold bt; rw [Int32.toBitVec_xor, BitVec.getLsbD_xor]
theorem b_big {x : Int32} {i : Nat} (h : 32 ≤ i) : bt x i = false := BitVec.getLsbD_of_ge _ _ h
theorem b_m1 : ∀ i, i < 32 → bt (-1) i = true := by decide +kernel
theorem b_0 (i : Nat) : bt 0 i = false := BitVec.getLsbD_zero
theorem s_l : ∀ n, n < 32 → ((nI n &&& 31).toBitVec.smod 32).toNat = n := by decide +kernel
theorem s_u : ∀ n, n < 32 → (((nI n).toUInt32 &&& Int32.toUInt32 31).toBitVec % 32).toNat = n := by decide +kernel
theorem b_shl (n : Nat) (hn : n < 32) (x : Int32) {i : Nat} (hi : i < 32) : bt (x <<< (nI n &&& 31)) i = (decide (n ≤ i) && bt x (i - n)) := by
  unfold bt
  rw [Int32.toBitVec_shiftLeft]
  show (x.toBitVec <<< ((nI n &&& 31).toBitVec.smod 32).toNat).getLsbD i = _
  rw [s_l n hn, BitVec.getLsbD_shiftLeft]
  rcases Nat.lt_or_ge i n with h | h
  · simp [h, Nat.not_le.mpr h]
  · simp [hi, h, Nat.not_lt.mpr h]
theorem b_ushr (n : Nat) (hn : n < 32) (x : Int32) (i : Nat) : bt ((x.toUInt32 >>> ((nI n).toUInt32 &&& Int32.toUInt32 31)).toInt32) i = bt x (n + i) := by
  show (x.toUInt32 >>> ((nI n).toUInt32 &&& Int32.toUInt32 31)).toBitVec.getLsbD i = x.toUInt32.toBitVec.getLsbD (n + i)
  rw [UInt32.toBitVec_shiftRight]
  show (x.toUInt32.toBitVec >>> (((nI n).toUInt32 &&& Int32.toUInt32 31).toBitVec % 32).toNat).getLsbD i = _
  rw [s_u n hn, BitVec.getLsbD_ushiftRight]
theorem pk_us {f : Nat → Int32} {k : Nat} {x : Int32} : upd f k x k = x := if_pos rfl
theorem pk_un {f : Nat → Int32} {k j : Nat} {x : Int32} (h : j ≠ k) : upd f k x j = f j := if_neg h
theorem pk_sub {a b : Nat} (h : b ≤ a) : nI a - nI b = nI (a - b) := by
  obtain ⟨c, rfl⟩ : ∃ c, a = c + b := ⟨a - b, by omega⟩
  rw [← nI_add, Int32.add_sub_cancel, Nat.add_sub_cancel]
theorem pk_m1 (n : Nat) : nI (n + 1) + (-1) = nI n := by
  rw [← nI_1, Int32.add_assoc, show (1 : Int32) + (-1) = 0 from rfl, Int32.add_zero]
theorem pk_mul (a b : Nat) : nI a * nI b = nI (a * b) := (Int32.ofNat_mul a b).symm
theorem pk_sub_toInt {a b : Nat} (ha : a < 2 ^ 30) (hb : b < 2 ^ 30) : (nI a - nI b).toInt = (a : Int) - b := by
  rw [Int32.toInt_sub, nI_toInt (by omega), nI_toInt (by omega)]
  exact Int.bmod_eq_of_le (by omega) (by omega)
theorem pk_ix (x : Int32) {n : Nat} (hn : n < 2 ^ 31) : x < 0 ∨ nI n ≤ x ∨ ∃ j : Nat, j < n ∧ x = nI j := by
  by_cases h : x < 0
  · exact Or.inl h
  · obtain ⟨j, hj, rfl⟩ := nI_of h
    by_cases h2 : j < n
    · exact Or.inr (Or.inr ⟨j, h2, rfl⟩)
    · exact Or.inr (Or.inl (nI_le (by omega) hj))
theorem pk_le {x y : Int32} {A B : Prop} (a b : Nat) (f : a ≤ b → A) (g : b < a → B) (hx : x = nI a := by rfl) (hy : y = nI b := by rfl) (ha : a < 2 ^ 31 := by omega) (hb : b < 2 ^ 31 := by omega) : (x ≤ y → A) ∧ (¬ x ≤ y → B) := by
  subst hx hy
  rw [nI_leI ha hb]
  exact ⟨f, fun z => g (by omega)⟩
theorem pk_lt {x y : Int32} {A B : Prop} (a b : Nat) (f : a < b → A) (g : b ≤ a → B) (hx : x = nI a := by rfl) (hy : y = nI b := by rfl) (ha : a < 2 ^ 31 := by omega) (hb : b < 2 ^ 31 := by omega) : (x < y → A) ∧ (¬ x < y → B) := by
  subst hx hy
  rw [nI_ltI ha hb]
  exact ⟨f, fun z => g (by omega)⟩
theorem pk_eq {x y : Int32} {A B : Prop} (a b : Nat) (f : a = b → A) (g : a ≠ b → B) (hx : x = nI a := by rfl) (hy : y = nI b := by rfl) (ha : a < 2 ^ 31 := by omega) (hb : b < 2 ^ 31 := by omega) : (x = y → A) ∧ (¬ x = y → B) := by
  subst hx hy
  rw [nI_eq ha hb]
  exact ⟨f, g⟩
theorem pk_in {x : Int32} (n N : Nat) (h : n < N) (hx : x = nI n := by rfl) (hN : N < 2 ^ 31 := by omega) : vp_in x N := by
  subst hx
  exact vp_in_nI h hN
theorem pk_cl {x : Int32} (n : Nat) (hx : x = nI n := by rfl) (h : n < 2 ^ 31 := by omega) : x.toNatClampNeg = n := by
  subst hx
  exact nI_clamp h
theorem pk_tn {n : Nat} (h : n < 2 ^ 32) : (nI n).toBitVec.toNat = n := Nat.mod_eq_of_lt h
theorem pk_and (x : Int32) {m : Int32} (k : Nat) (hm : m.toBitVec.toNat = 2 ^ k - 1) : x &&& m = nI (x.toBitVec.toNat % 2 ^ k) := by
  apply Int32.toBitVec_inj.mp
  apply BitVec.eq_of_toNat_eq
  rw [Int32.toBitVec_and, BitVec.toNat_and, hm, Nat.and_two_pow_sub_one_eq_mod]
  show _ = (BitVec.ofNat 32 _).toNat
  rw [BitVec.toNat_ofNat]
  exact (Nat.mod_eq_of_lt (Nat.lt_of_le_of_lt (Nat.mod_le _ _) x.toBitVec.isLt)).symm
theorem pk_andN {n : Nat} (h : n < 2 ^ 32) {m : Int32} (k : Nat) (hm : m.toBitVec.toNat = 2 ^ k - 1) : nI n &&& m = nI (n % 2 ^ k) := by
  rw [pk_and _ k hm, pk_tn h]
end
section
/-! bits, counts, loops: own rows -/
theorem qa_1 : ∀ j, j < 32 → bt 1 j = decide (j = 0) := by decide +kernel
theorem qa_hb (x : Int32) (i : Nat) (hi : i < 32) : (((x.toUInt32 >>> ((nI i).toUInt32 &&& Int32.toUInt32 31)).toInt32) &&& 1) = 0 ↔ bt x i = false := by
  constructor
  · intro h
    have e := b_and ((x.toUInt32 >>> ((nI i).toUInt32 &&& Int32.toUInt32 31)).toInt32) 1 0
    rw [h, b_0, b_ushr i hi, Nat.add_zero, show bt 1 0 = true from by decide, Bool.and_true] at e
    exact e.symm
  · intro h
    apply b_ext
    intro j hj
    rw [b_and, b_ushr i hi, b_0]
    cases j with
    | zero => rw [Nat.add_zero, h]; rfl
    | succ j => rw [qa_1 (j+1) hj]; simp
theorem qa_sh0 : ∀ i, i < 32 → ∀ j, j < 32 → bt ((1 : Int32) <<< (nI i &&& 31)) j = decide (j = i) := by decide +kernel
theorem qa_sh {i j : Nat} (hi : i < 32) (hj : j < 32) : bt ((1 : Int32) <<< (nI i &&& 31)) j = decide (j = i) := qa_sh0 i hi j hj
theorem qa_not (x : Int32) {j : Nat} (hj : j < 32) : bt (x ^^^ (-1)) j = !bt x j := by rw [b_xor, b_m1 j hj]; simp
theorem qa_z {x : Int32} (h : ∀ i, i < 32 → bt x i = false) : x = 0 := b_ext fun i hi => by rw [h i hi, b_0]
theorem qa_nz {x : Int32} (h : ¬ x = 0) : ∃ i, i < 32 ∧ bt x i = true := by
  by_cases z : ∃ i, i < 32 ∧ bt x i = true
  · exact z
  · refine absurd (qa_z fun i hi => ?_) h
    cases e : bt x i with
    | false => rfl
    | true => exact absurd ⟨i, hi, e⟩ z
theorem qa_full0 : ∀ b, b < 32 → ∀ j, j < 32 → bt (((1 : Int32) <<< (nI b &&& 31)) - 1) j = decide (j < b) := by decide +kernel
theorem qa_lown (m i : Nat) (h : m.testBit i = true) (hl : ∀ j, j < i → m.testBit j = false) : m % 2 ^ (i + 1) = 2 ^ i := by
  apply Nat.eq_of_testBit_eq
  intro j
  rw [Nat.testBit_mod_two_pow, Nat.testBit_two_pow]
  rcases Nat.lt_trichotomy j i with a | a | a
  · rw [hl j a]; simp; omega
  · subst a; rw [h]; simp
  · rw [decide_eq_false (by omega), decide_eq_false (by omega)]; rfl
theorem qa_lown2 (m i : Nat) (h : m % 2 ^ (i + 1) = 2 ^ i) : (m - 1).testBit i = false ∧ ∀ j, i < j → (m - 1).testBit j = m.testBit j := by
  have e : m = 2 ^ (i + 1) * (m / 2 ^ (i + 1)) + 2 ^ i := by have := Nat.div_add_mod m (2 ^ (i + 1)); omega
  have hp : 0 < 2 ^ i := Nat.two_pow_pos i
  have hs : 2 ^ (i + 1) = 2 ^ i + 2 ^ i := by rw [Nat.pow_succ]; omega
  generalize m / 2 ^ (i + 1) = q at e
  have e1 : m - 1 = 2 ^ (i + 1) * q + (2 ^ i - 1) := by omega
  have t1 : ∀ j, (m - 1).testBit j = if j < i + 1 then (2 ^ i - 1).testBit j else q.testBit (j - (i + 1)) := fun j => by
    rw [e1]; exact Nat.testBit_two_pow_mul_add q (by omega) j
  have t2 : ∀ j, m.testBit j = if j < i + 1 then (2 ^ i).testBit j else q.testBit (j - (i + 1)) := fun j => by
    rw [e]; exact Nat.testBit_two_pow_mul_add q (by omega) j
  constructor
  · rw [t1, if_pos (by omega), Nat.testBit_two_pow_sub_one]; simp
  · intro j hj
    rw [t1, t2, if_neg (by omega), if_neg (by omega)]
theorem qa_bn (x : Int32) (i : Nat) : bt x i = x.toBitVec.toNat.testBit i := rfl
theorem qa_low {x : Int32} {i : Nat} (hi : i < 32) (h : bt x i = true) (hl : ∀ j, j < i → bt x j = false) {j : Nat} (hj : j < 32) : bt (x &&& (x - 1)) j = (bt x j && !decide (j = i)) := by
  have m1 : (x - 1).toBitVec.toNat = x.toBitVec.toNat - 1 := by
    have hp : 0 < x.toBitVec.toNat := by
      rcases Nat.eq_zero_or_pos x.toBitVec.toNat with z | z
      · rw [qa_bn, z, Nat.zero_testBit] at h; cases h
      · exact z
    rw [Int32.toBitVec_sub, BitVec.toNat_sub]
    show (2 ^ 32 - 1 + x.toBitVec.toNat) % 2 ^ 32 = _
    have := x.toBitVec.isLt
    omega
  obtain ⟨a, b⟩ := qa_lown2 _ i (qa_lown x.toBitVec.toNat i h hl)
  rw [b_and, qa_bn (x - 1), m1]
  rcases Nat.lt_trichotomy j i with c | c | c
  · rw [hl j c]; rfl
  · subst c; rw [a]; simp
  · rw [b j c, ← qa_bn, decide_eq_false (by omega)]; simp
/-! counts -/
def qc_n (f : Nat → Bool) : Nat → Nat
  | 0 => 0
  | n + 1 => qc_n f n + (if f n = true then 1 else 0)
theorem qc_le (f : Nat → Bool) (n : Nat) : qc_n f n ≤ n := by
  induction n with
  | zero => exact Nat.le_refl _
  | succ n ih => unfold qc_n; split <;> omega
theorem qc_mono {f g : Nat → Bool} (n : Nat) (h : ∀ i, i < n → f i = true → g i = true) : qc_n f n ≤ qc_n g n := by
  induction n with
  | zero => exact Nat.le_refl _
  | succ n ih =>
    have := ih fun i hi => h i (by omega)
    unfold qc_n
    by_cases z : f n = true
    · rw [if_pos z, if_pos (h n (by omega) z)]; omega
    · rw [if_neg z]; omega
theorem qc_lt {f g : Nat → Bool} (n k : Nat) (hk : k < n) (h : ∀ i, i < n → f i = true → g i = true) (hf : f k = false) (hg : g k = true) : qc_n f n < qc_n g n := by
  induction n with
  | zero => omega
  | succ n ih =>
    unfold qc_n
    by_cases e : k = n
    · subst e
      have := qc_mono k fun i hi => h i (by omega)
      rw [if_pos hg, hf, if_neg (by decide)]; omega
    · have := ih (by omega) fun i hi => h i (by omega)
      by_cases z : f n = true
      · rw [if_pos z, if_pos (h n (by omega) z)]; omega
      · rw [if_neg z]; omega
theorem qc_all {f : Nat → Bool} (n : Nat) (h : n ≤ qc_n f n) : ∀ i, i < n → f i = true := by
  intro i hi
  cases e : f i with
  | true => rfl
  | false =>
    have a := qc_lt (f := f) (g := fun _ => true) n i hi (fun _ _ _ => rfl) e rfl
    have b := qc_le (fun _ => true) n
    omega
theorem qc_two {f : Nat → Bool} {a b : Nat} (h : ∀ i, f i = true → i = a ∨ i = b) (n : Nat) : qc_n f n ≤ (if a < n then 1 else 0) + (if b < n then 1 else 0) := by
  induction n with
  | zero => exact Nat.zero_le _
  | succ n ih =>
    unfold qc_n
    by_cases z : f n = true
    · rw [if_pos z]
      rcases h n z with e | e
      · subst e
        rw [if_neg (Nat.lt_irrefl n)] at ih
        rw [if_pos (Nat.lt_succ_self n)]
        by_cases y : b < n
        · rw [if_pos y] at ih; rw [if_pos (by omega)]; omega
        · rw [if_neg y] at ih; omega
      · subst e
        rw [if_neg (Nat.lt_irrefl n)] at ih
        rw [if_pos (Nat.lt_succ_self n)]
        by_cases y : a < n
        · rw [if_pos y] at ih; rw [if_pos (by omega)]; omega
        · rw [if_neg y] at ih; omega
    · rw [if_neg z]
      by_cases y : a < n
      · rw [if_pos y] at ih; rw [if_pos (by omega)]
        by_cases y' : b < n
        · rw [if_pos y'] at ih; rw [if_pos (by omega)]; omega
        · rw [if_neg y'] at ih; omega
      · rw [if_neg y] at ih
        by_cases y' : b < n
        · rw [if_pos y'] at ih; rw [if_pos (c := b < n + 1) (by omega)]; omega
        · rw [if_neg y'] at ih; omega
def qm_s (f : Nat → Nat) : Nat → Nat
  | 0 => 0
  | n + 1 => qm_s f n + f n
theorem qm_le {f g : Nat → Nat} (n : Nat) (h : ∀ i, i < n → f i ≤ g i) : qm_s f n ≤ qm_s g n := by
  induction n with
  | zero => exact Nat.le_refl _
  | succ n ih =>
    have := ih fun i hi => h i (by omega)
    have := h n (by omega)
    unfold qm_s; omega
theorem qm_lt {f g : Nat → Nat} (n k : Nat) (hk : k < n) (h : ∀ i, i < n → f i ≤ g i) (hl : f k < g k) : qm_s f n < qm_s g n := by
  induction n with
  | zero => omega
  | succ n ih =>
    unfold qm_s
    by_cases e : k = n
    · subst e
      have := qm_le k fun i hi => h i (by omega)
      omega
    · have := ih (by omega) fun i hi => h i (by omega)
      have := h n (by omega)
      omega
theorem qm_bd {f : Nat → Nat} {c : Nat} (n : Nat) (h : ∀ i, i < n → f i ≤ c) : qm_s f n ≤ c * n := by
  induction n with
  | zero => exact Nat.zero_le _
  | succ n ih =>
    have := ih fun i hi => h i (by omega)
    have := h n (by omega)
    unfold qm_s
    rw [Nat.mul_succ]; omega
theorem qm_cg {f g : Nat → Nat} (n : Nat) (h : ∀ i, i < n → f i = g i) : qm_s f n = qm_s g n :=
  Nat.le_antisymm (qm_le n fun i hi => Nat.le_of_eq (h i hi)) (qm_le n fun i hi => Nat.le_of_eq (h i hi).symm)
/-! the counted loop, for every fuel that is enough -/
theorem ql_up {σ : Type} (W : Nat → Nat → σ → Prop) (I : Nat → σ → Prop) (e : Nat) (hx : ∀ n s, I e s → W (n + 1) e s) (hs : ∀ n i s, i < e → I i s → (∀ s', I (i + 1) s' → W n (i + 1) s') → W (n + 1) i s) : ∀ n i s, i ≤ e → e - i < n → I i s → W n i s := by
  intro n
  induction n with
  | zero => intro i s _ h; omega
  | succ n ih =>
    intro i s hi hn h
    by_cases z : i = e
    · subst z; exact hx n s h
    · exact hs n i s (by omega) h fun s' h' => ih (i + 1) s' (by omega) (by omega) h'
theorem ql_0 {σ : Type} (W : Nat → Nat → σ → Prop) (I : Nat → σ → Prop) (e : Nat) (s : σ) (h0 : I 0 s) (hx : ∀ n s, I e s → W (n + 1) e s) (hs : ∀ n i s, i < e → I i s → (∀ s', I (i + 1) s' → W n (i + 1) s') → W (n + 1) i s) : ∃ n, W n 0 s :=
  ⟨e + 1, ql_up W I e hx hs (e + 1) 0 s (Nat.zero_le _) (by omega) h0⟩
/-! numbers -/
theorem qn_in {x : Int32} {B C : Nat} (h : vp_in x B) (hC : B ≤ C) : vp_in x C := by
  rw [vp_in_iff] at h ⊢; omega
theorem qn_cl {x : Int32} {B : Nat} (h : vp_in x B) (hB : B < 2 ^ 31) : x = nI x.toNatClampNeg ∧ x.toNatClampNeg < B := by
  obtain ⟨j, hj, rfl⟩ := vp_in_of h hB
  rw [nI_clamp (by omega)]
  exact ⟨rfl, hj⟩
theorem qn_nin {x : Int32} {B : Nat} (hB : B < 2 ^ 31) : ¬ vp_in x B ↔ (x < 0 ∨ nI B ≤ x) := by
  constructor
  · intro h
    rcases pk_ix x hB with a | a | ⟨j, hj, rfl⟩
    · exact Or.inl a
    · exact Or.inr a
    · exact absurd (vp_in_nI hj hB) h
  · rintro (h | h) z
    · obtain ⟨j, hj, rfl⟩ := vp_in_of z hB
      exact nI_pos (by omega) h
    · obtain ⟨j, hj, rfl⟩ := vp_in_of z hB
      exact nI_ge hj hB h
theorem qn_m1 : ∀ {n : Nat}, n < 2 ^ 31 → nI n ≠ -1 := by
  intro n h e
  have := nI_pos h
  rw [e] at this
  exact this (by decide)
theorem qn_m2 : ∀ {n : Nat}, n < 2 ^ 31 → nI n ≠ -2 := by
  intro n h e
  have := nI_pos h
  rw [e] at this
  exact this (by decide)
theorem qn_upd_id {f : Nat → Int32} {k : Nat} : upd f k (f k) = f := by
  funext j
  unfold upd
  split
  · rename_i h; rw [h]
  · rfl
theorem qn_x24 {n p : Nat} (hn : n < 32) (hp : p < 24) : nI n * 24 + nI p = nI (n * 24 + p) ∧ n * 24 + p < 768 := by
  refine ⟨?_, by omega⟩
  show nI n * nI 24 + nI p = _
  rw [pk_mul, nI_add]
theorem qn_24i {n p n' p' : Nat} (hp : p < 24) (hp' : p' < 24) (h : n * 24 + p = n' * 24 + p') : n = n' ∧ p = p' := by omega
theorem qn_tf {b : Bool} (h : ¬ b = true) : b = false := by cases b <;> simp_all
theorem qn_ft {b : Bool} (h : ¬ b = false) : b = true := by cases b <;> simp_all
end
section
/-! the lattice of facts: (0, _) nothing known, (1, v) the constant v, (2, _) varying -/
def qp_le (s v s' v' : Int32) : Prop := s = 0 ∨ s' = 2 ∨ (s = 1 ∧ s' = 1 ∧ v = v')
def qp_3 (s : Int32) : Prop := s = 0 ∨ s = 1 ∨ s = 2
def qp_nf (s v : Int32) : Prop := s ≠ 1 → v = 0
theorem qp_01 : ¬ (0 : Int32) = 1 := by decide
theorem qp_02 : ¬ (0 : Int32) = 2 := by decide
theorem qp_10 : ¬ (1 : Int32) = 0 := by decide
theorem qp_12 : ¬ (1 : Int32) = 2 := by decide
theorem qp_20 : ¬ (2 : Int32) = 0 := by decide
theorem qp_21 : ¬ (2 : Int32) = 1 := by decide
theorem qp_le_rf {s v : Int32} (h : qp_3 s) : qp_le s v s v := by
  rcases h with h | h | h
  · exact Or.inl h
  · exact Or.inr (Or.inr ⟨h, h, rfl⟩)
  · exact Or.inr (Or.inl h)
theorem qp_le_tr {s v s' v' s'' v'' : Int32} (h : qp_le s v s' v') (h' : qp_le s' v' s'' v'') : qp_le s v s'' v'' := by
  rcases h with h | h | ⟨a, b, c⟩
  · exact Or.inl h
  · rcases h' with h1 | h1 | ⟨h1, _⟩
    · exact absurd (h.symm.trans h1) qp_20
    · exact Or.inr (Or.inl h1)
    · exact absurd (h.symm.trans h1) qp_21
  · rcases h' with h1 | h1 | ⟨h1, h2, h3⟩
    · exact absurd (b.symm.trans h1) qp_10
    · exact Or.inr (Or.inl h1)
    · exact Or.inr (Or.inr ⟨a, h2, c.trans h3⟩)
theorem qp_le_as {s v s' v' : Int32} (hn : qp_nf s v) (hn' : qp_nf s' v') (h : qp_le s v s' v') (h' : qp_le s' v' s v) : s = s' ∧ v = v' := by
  rcases h with a | a | ⟨a, b, c⟩
  · rcases h' with b | b | ⟨b, c, _⟩
    · exact ⟨a.trans b.symm, (hn (by rw [a]; decide)).trans (hn' (by rw [b]; decide)).symm⟩
    · exact absurd (a.symm.trans b) qp_02
    · exact absurd (a.symm.trans c) qp_01
  · rcases h' with b | b | ⟨b, c, _⟩
    · exact absurd (a.symm.trans b) qp_20
    · exact ⟨b.trans a.symm, (hn (by rw [b]; decide)).trans (hn' (by rw [a]; decide)).symm⟩
    · exact absurd (a.symm.trans b) qp_21
  · exact ⟨a.trans b.symm, c⟩
/-- the stored value: 0 unless constant -/
def qp_w (s v : Int32) : Int32 := if s = 1 then v else 0
theorem qp_w_nf (s v : Int32) : qp_nf s (qp_w s v) := fun h => if_neg h
theorem qp_le_w {a b s v : Int32} (h : qp_le a b s v) : qp_le a b s (qp_w s v) := by
  rcases h with h | h | ⟨h1, h2, h3⟩
  · exact Or.inl h
  · exact Or.inr (Or.inl h)
  · exact Or.inr (Or.inr ⟨h1, h2, by rw [h3]; exact (if_pos h2).symm⟩)
theorem qp_w_le {a b s v : Int32} (h : qp_le s v a b) : qp_le s (qp_w s v) a b := by
  rcases h with h | h | ⟨h1, h2, h3⟩
  · exact Or.inl h
  · exact Or.inr (Or.inl h)
  · exact Or.inr (Or.inr ⟨h1, h2, (if_pos h1).trans h3⟩)
/-- (fs', fv') is the join of (fs, fv) and (s, v) -/
def qp_J (fs fv s v fs' fv' : Int32) : Prop := qp_3 fs' ∧ qp_le fs fv fs' fv' ∧ qp_le s v fs' fv' ∧ ∀ a b, qp_le fs fv a b → qp_le s v a b → qp_le fs' fv' a b
theorem qp_J_0 {fv s v : Int32} (h : qp_3 s) : qp_J 0 fv s v s v := ⟨h, Or.inl rfl, qp_le_rf h, fun _ _ _ h => h⟩
theorem qp_J_2 {fs fv v : Int32} (x : Int32) : qp_J fs fv 2 v 2 x := by
  refine ⟨Or.inr (Or.inr rfl), Or.inr (Or.inl rfl), Or.inr (Or.inl rfl), fun a b _ h => ?_⟩
  rcases h with h | h | ⟨h, _⟩
  · exact absurd h qp_20
  · exact Or.inr (Or.inl h)
  · exact absurd h qp_21
theorem qp_J_f2 {fv s v : Int32} (x : Int32) : qp_J 2 fv s v 2 x := by
  refine ⟨Or.inr (Or.inr rfl), Or.inr (Or.inl rfl), Or.inr (Or.inl rfl), fun a b h _ => ?_⟩
  rcases h with h | h | ⟨h, _⟩
  · exact absurd h qp_20
  · exact Or.inr (Or.inl h)
  · exact absurd h qp_21
theorem qp_J_n {fs fv v : Int32} (h : qp_3 fs) : qp_J fs fv 0 v fs fv := ⟨h, qp_le_rf h, Or.inl rfl, fun _ _ h _ => h⟩
theorem qp_J_11 {v : Int32} : qp_J 1 v 1 v 1 v := ⟨Or.inr (Or.inl rfl), Or.inr (Or.inr ⟨rfl, rfl, rfl⟩), Or.inr (Or.inr ⟨rfl, rfl, rfl⟩), fun _ _ h _ => h⟩
theorem qp_J_1n {v v' : Int32} (x : Int32) (h : ¬ v = v') : qp_J 1 v 1 v' 2 x := by
  refine ⟨Or.inr (Or.inr rfl), Or.inr (Or.inl rfl), Or.inr (Or.inl rfl), fun a b h1 h2 => ?_⟩
  rcases h1 with h1 | h1 | ⟨_, _, h1⟩
  · exact absurd h1 qp_10
  · exact Or.inr (Or.inl h1)
  · rcases h2 with h2 | h2 | ⟨_, _, h2⟩
    · exact absurd h2 qp_10
    · exact Or.inr (Or.inl h2)
    · exact absurd (h1.trans h2.symm) h
/-- the operations -/
def qp_cp (k x y : Int32) : Int32 := if k = 3 then x + y else if k = 4 then x - y else if k = 5 then x * y else if k = 6 then (if y ≤ x then 0 else 1) else (if x = y then 1 else 0)
def qp_os (k sa va sb vb : Int32) : Int32 := if sa = 0 ∨ sb = 0 then 0 else if sa = 1 ∧ sb = 1 then 1 else if k = 5 ∧ ((sa = 1 ∧ va = 0) ∨ (sb = 1 ∧ vb = 0)) then 1 else 2
def qp_ov (k sa va sb vb : Int32) : Int32 := if sa = 1 ∧ sb = 1 then qp_cp k va vb else 0
theorem qp_cp5 (x y : Int32) : qp_cp 5 x y = x * y := by
  unfold qp_cp
  rw [if_neg (by decide), if_neg (by decide), if_pos rfl]
theorem qp_os3 (k sa va sb vb : Int32) : qp_3 (qp_os k sa va sb vb) := by
  unfold qp_os
  split
  · exact Or.inl rfl
  · split
    · exact Or.inr (Or.inl rfl)
    · split
      · exact Or.inr (Or.inl rfl)
      · exact Or.inr (Or.inr rfl)
theorem qp_os_nf (k sa va sb vb : Int32) : qp_nf (qp_os k sa va sb vb) (qp_ov k sa va sb vb) := by
  intro h
  unfold qp_ov
  apply if_neg
  rintro ⟨rfl, rfl⟩
  apply h
  unfold qp_os
  rw [if_neg (by decide), if_pos ⟨rfl, rfl⟩]
theorem qp_os_0a (k va sb vb : Int32) : qp_os k 0 va sb vb = 0 := if_pos (Or.inl rfl)
theorem qp_os_0b (k sa va vb : Int32) : qp_os k sa va 0 vb = 0 := if_pos (Or.inr rfl)
theorem qp_os_11 (k va vb : Int32) : qp_os k 1 va 1 vb = 1 := by unfold qp_os; rw [if_neg (by decide), if_pos ⟨rfl, rfl⟩]
theorem qp_ov_11 (k va vb : Int32) : qp_ov k 1 va 1 vb = qp_cp k va vb := if_pos ⟨rfl, rfl⟩
theorem qp_os_22 (k va vb : Int32) : qp_os k 2 va 2 vb = 2 := by
  unfold qp_os; rw [if_neg (by decide), if_neg (by decide), if_neg]
  rintro ⟨_, ⟨h, _⟩ | ⟨h, _⟩⟩ <;> exact qp_21 h
theorem qp_os_12 (k va vb : Int32) : qp_os k 1 va 2 vb = if k = 5 ∧ va = 0 then 1 else 2 := by
  unfold qp_os; rw [if_neg (by decide), if_neg (by decide)]
  by_cases h : k = 5 ∧ va = 0
  · rw [if_pos h, if_pos ⟨h.1, Or.inl ⟨rfl, h.2⟩⟩]
  · rw [if_neg h, if_neg]
    rintro ⟨a, ⟨_, b⟩ | ⟨b, _⟩⟩
    · exact h ⟨a, b⟩
    · exact qp_21 b
theorem qp_os_21 (k va vb : Int32) : qp_os k 2 va 1 vb = if k = 5 ∧ vb = 0 then 1 else 2 := by
  unfold qp_os; rw [if_neg (by decide), if_neg (by decide)]
  by_cases h : k = 5 ∧ vb = 0
  · rw [if_pos h, if_pos ⟨h.1, Or.inr ⟨rfl, h.2⟩⟩]
  · rw [if_neg h, if_neg]
    rintro ⟨a, ⟨b, _⟩ | ⟨_, b⟩⟩
    · exact qp_21 b
    · exact h ⟨a, b⟩
theorem qp_ov_12 (k va vb : Int32) : qp_ov k 1 va 2 vb = 0 := if_neg (by decide)
theorem qp_ov_21 (k va vb : Int32) : qp_ov k 2 va 1 vb = 0 := if_neg (by decide)
theorem qp_op_mono {k sa va sb vb sa' va' sb' vb' : Int32} (h3a : qp_3 sa) (h3b : qp_3 sb) (ha : qp_le sa va sa' va') (hb : qp_le sb vb sb' vb') : qp_le (qp_os k sa va sb vb) (qp_ov k sa va sb vb) (qp_os k sa' va' sb' vb') (qp_ov k sa' va' sb' vb') := by
  rcases ha with rfl | rfl | ⟨rfl, rfl, rfl⟩
  · exact Or.inl (qp_os_0a _ _ _ _)
  · rcases hb with rfl | rfl | ⟨rfl, rfl, rfl⟩
    · exact Or.inl (qp_os_0b _ _ _ _)
    · exact Or.inr (Or.inl (qp_os_22 _ _ _))
    · by_cases z : k = 5 ∧ vb = 0
      · obtain ⟨rfl, rfl⟩ := z
        rw [qp_os_21, qp_ov_21, if_pos ⟨rfl, rfl⟩]
        rcases h3a with rfl | rfl | rfl
        · exact Or.inl (qp_os_0a _ _ _ _)
        · rw [qp_os_11, qp_ov_11, qp_cp5, Int32.mul_zero]; exact Or.inr (Or.inr ⟨rfl, rfl, rfl⟩)
        · rw [qp_os_21, qp_ov_21, if_pos ⟨rfl, rfl⟩]; exact Or.inr (Or.inr ⟨rfl, rfl, rfl⟩)
      · rw [qp_os_21 k va', if_neg z]; exact Or.inr (Or.inl rfl)
  · rcases hb with rfl | rfl | ⟨rfl, rfl, rfl⟩
    · exact Or.inl (qp_os_0b _ _ _ _)
    · by_cases z : k = 5 ∧ va = 0
      · obtain ⟨rfl, rfl⟩ := z
        rw [qp_os_12 5 0 vb', qp_ov_12 5 0 vb', if_pos ⟨rfl, rfl⟩]
        rcases h3b with rfl | rfl | rfl
        · exact Or.inl (qp_os_0b _ _ _ _)
        · rw [qp_os_11, qp_ov_11, qp_cp5, Int32.zero_mul]; exact Or.inr (Or.inr ⟨rfl, rfl, rfl⟩)
        · rw [qp_os_12, qp_ov_12, if_pos ⟨rfl, rfl⟩]; exact Or.inr (Or.inr ⟨rfl, rfl, rfl⟩)
      · rw [qp_os_12 k va vb', if_neg z]; exact Or.inr (Or.inl rfl)
    · exact qp_le_rf (qp_os3 _ _ _ _ _)
/-- the fact allows the value x -/
def qp_al (s v x : Int32) : Prop := s = 2 ∨ (s = 1 ∧ x = v)
theorem qp_al_le {s v x s' v' : Int32} (h : qp_al s v x) (l : qp_le s v s' v') : qp_al s' v' x := by
  rcases h with a | ⟨a, b⟩
  · rcases l with l | l | ⟨l, _⟩
    · exact absurd (a.symm.trans l) qp_20
    · exact Or.inl l
    · exact absurd (a.symm.trans l) qp_21
  · rcases l with l | l | ⟨_, l, e⟩
    · exact absurd (a.symm.trans l) qp_10
    · exact Or.inl l
    · exact Or.inr ⟨l, b.trans e⟩
theorem qp_al_op {k sa va sb vb x y : Int32} (ha : qp_al sa va x) (hb : qp_al sb vb y) : qp_al (qp_os k sa va sb vb) (qp_ov k sa va sb vb) (qp_cp k x y) := by
  rcases ha with rfl | ⟨rfl, rfl⟩
  · rcases hb with rfl | ⟨rfl, rfl⟩
    · exact Or.inl (qp_os_22 _ _ _)
    · rw [qp_os_21, qp_ov_21]
      by_cases z : k = 5 ∧ y = 0
      · rw [if_pos z]; obtain ⟨rfl, rfl⟩ := z
        exact Or.inr ⟨rfl, by rw [qp_cp5, Int32.mul_zero]⟩
      · rw [if_neg z]; exact Or.inl rfl
  · rcases hb with rfl | ⟨rfl, rfl⟩
    · rw [qp_os_12, qp_ov_12]
      by_cases z : k = 5 ∧ x = 0
      · rw [if_pos z]; obtain ⟨rfl, rfl⟩ := z
        exact Or.inr ⟨rfl, by rw [qp_cp5, Int32.zero_mul]⟩
      · rw [if_neg z]; exact Or.inl rfl
    · rw [qp_os_11, qp_ov_11]; exact Or.inr ⟨rfl, rfl⟩
theorem qp_kc {k : Int32} (h0 : ¬ k < 0) (h8 : k ≤ 8) : k = 0 ∨ k = 1 ∨ k = 2 ∨ k = 8 ∨ (¬ k < 3 ∧ ¬ 7 < k) := by
  obtain ⟨j, hj, rfl⟩ := nI_of2 (M := 8) (n := 8) (by decide) h0 h8
  have : j = 0 ∨ j = 1 ∨ j = 2 ∨ j = 8 ∨ (3 ≤ j ∧ j ≤ 7) := by omega
  rcases this with rfl | rfl | rfl | rfl | ⟨a, b⟩
  · exact Or.inl rfl
  · exact Or.inr (Or.inl rfl)
  · exact Or.inr (Or.inr (Or.inl rfl))
  · exact Or.inr (Or.inr (Or.inr (Or.inl rfl)))
  · exact Or.inr (Or.inr (Or.inr (Or.inr ⟨nI_nlt (b := 3) a (by omega), nI_nlt (a := 7) b (by decide)⟩)))
end
section
/-! the graph as fed: edges, live edges by facts, the rules -/
section
variable (B N R : Nat) (hm kd fa fb rp rq rv ro ec ey en : Nat → Int32)
def qg_E (p t : Nat) : Prop := ¬ ec p = -2 ∧ ((ey p).toNatClampNeg = t ∨ (¬ ec p < 0 ∧ (en p).toNatClampNeg = t))
def qg_L (st cv : Nat → Int32) (p t : Nat) : Prop :=
  (ec p = -1 ∧ (ey p).toNatClampNeg = t) ∨
  (¬ ec p < 0 ∧ ((st (ec p).toNatClampNeg = 2 ∧ ((ey p).toNatClampNeg = t ∨ (en p).toNatClampNeg = t)) ∨
    (st (ec p).toNatClampNeg = 1 ∧ ((cv (ec p).toNatClampNeg = 0 ∧ (en p).toNatClampNeg = t) ∨ (¬ cv (ec p).toNatClampNeg = 0 ∧ (ey p).toNatClampNeg = t)))))
def qg_We : Prop := ∀ p, p < B → ec p = -2 ∨ (ec p = -1 ∧ ∃ t, 0 < t ∧ t < B ∧ ey p = nI t) ∨ (∃ c t s, c < N ∧ 0 < t ∧ t < B ∧ 0 < s ∧ s < B ∧ ec p = nI c ∧ ey p = nI t ∧ en p = nI s)
def qg_Wn : Prop := ∀ n, n < N → ¬ kd n < 0 ∧ kd n ≤ 8 ∧ (∃ h, h < B ∧ hm n = nI h ∧ (kd n = 0 → 0 < h)) ∧ (¬ kd n < 3 → ∃ a, a < n ∧ fa n = nI a) ∧ (¬ kd n < 3 → ¬ 7 < kd n → ∃ b, b < n ∧ fb n = nI b)
def qg_Wr : Prop := (∀ r, r < R → ∃ n p v, n < N ∧ p < B ∧ v < N ∧ rp r = nI n ∧ rq r = nI p ∧ rv r = nI v ∧ kd n = 0 ∧ ro (n * 24 + p) = nI (r + 1)) ∧ (∀ n p, n < 32 → p < 24 → ro (n * 24 + p) = 0 ∨ ∃ r, r < R ∧ ro (n * 24 + p) = nI (r + 1) ∧ rp r = nI n ∧ rq r = nI p)
def qg_Wu (us : Nat → Int32) : Prop := (∀ n, n < N → (¬ kd n < 3 → bt (us (fa n).toNatClampNeg) n = true) ∧ (¬ kd n < 3 → ¬ 7 < kd n → bt (us (fb n).toNatClampNeg) n = true)) ∧ (∀ r, r < R → bt (us (rv r).toNatClampNeg) (rp r).toNatClampNeg = true) ∧ (∀ m i, i < 32 → bt (us m) i = true → i < N)
def qg_Wi (ni : Nat → Int32) : Prop := ∀ b i, b < B → i < 32 → (bt (ni b) i = true ↔ i < N ∧ hm i = nI b)
def qg_Wp (pm : Int32) : Prop := ∀ i, i < 32 → (bt pm i = true ↔ i < N ∧ kd i = 0)
def qg_Wb (br : Nat → Int32) : Prop := ∀ p, p < B → ¬ ec p < 0 → bt (br (ec p).toNatClampNeg) p = true
def qg_Wd (nd : Nat → Int32) : Prop := (∀ n b, n < N → b < 32 → (bt (nd n) b = true ↔ (¬ kd n < 3 ∧ (hm (fa n).toNatClampNeg).toNatClampNeg = b) ∨ (¬ kd n < 3 ∧ ¬ 7 < kd n ∧ (hm (fb n).toNatClampNeg).toNatClampNeg = b))) ∧ (∀ n, N ≤ n → nd n = 0)
/-- (s, v) is above what the rule of node n asks -/
def qg_R (lv : Nat → Nat → Prop) (st cv : Nat → Int32) (n : Nat) (s v : Int32) : Prop :=
  (kd n = 0 → ∀ p r, p < B → r < R → ro (n * 24 + p) = nI (r + 1) → lv p (hm n).toNatClampNeg → qp_le (st (rv r).toNatClampNeg) (cv (rv r).toNatClampNeg) s v) ∧
  (kd n = 1 → qp_le 1 (fa n) s v) ∧ (kd n = 2 → qp_le 2 0 s v) ∧
  (kd n = 8 → qp_le (st (fa n).toNatClampNeg) (cv (fa n).toNatClampNeg) s v) ∧
  (¬ kd n < 3 → ¬ 7 < kd n → qp_le (qp_os (kd n) (st (fa n).toNatClampNeg) (cv (fa n).toNatClampNeg) (st (fb n).toNatClampNeg) (cv (fb n).toNatClampNeg)) (qp_ov (kd n) (st (fa n).toNatClampNeg) (cv (fa n).toNatClampNeg) (st (fb n).toNatClampNeg) (cv (fb n).toNatClampNeg)) s v)
/-- a solution -/
def qg_C (rt : Nat → Prop) (st cv : Nat → Int32) : Prop :=
  rt 0 ∧ (∀ p, p < B → rt p → ∀ t, qg_L ec ey en st cv p t → rt t) ∧
  ∀ n, n < N → rt (hm n).toNatClampNeg → qg_R B R hm kd fa fb rv ro (fun p t => rt p ∧ qg_L ec ey en st cv p t) st cv n (st n) (cv n)
end
section
variable {B N R : Nat} {hm kd fa fb rp rq rv ro ec ey en : Nat → Int32}
theorem qg_L_E {st cv : Nat → Int32} {p t : Nat} (h : qg_L ec ey en st cv p t) : qg_E ec ey en p t := by
  rcases h with ⟨a, b⟩ | ⟨a, ⟨_, b⟩ | ⟨_, ⟨_, b⟩ | ⟨_, b⟩⟩⟩
  · exact ⟨by rw [a]; decide, Or.inl b⟩
  · refine ⟨fun z => a (by rw [z]; decide), ?_⟩
    rcases b with b | b
    · exact Or.inl b
    · exact Or.inr ⟨a, b⟩
  · exact ⟨fun z => a (by rw [z]; decide), Or.inr ⟨a, b⟩⟩
  · exact ⟨fun z => a (by rw [z]; decide), Or.inl b⟩
theorem qg_E_in (W : qg_We B N ec ey en) (hB : B ≤ 24) {p t : Nat} (hp : p < B) (h : qg_E ec ey en p t) : 0 < t ∧ t < B := by
  rcases W p hp with a | ⟨a, x, hx, hx', b⟩ | ⟨c, x, y, _, hx, hx', hy, hy', a, b, d⟩
  · exact absurd a h.1
  · rcases h.2 with e | ⟨e, _⟩
    · rw [b, nI_clamp (by omega)] at e; omega
    · exact absurd (by rw [a]; decide) e
  · rcases h.2 with e | ⟨_, e⟩
    · rw [b, nI_clamp (by omega)] at e; omega
    · rw [d, nI_clamp (by omega)] at e; omega
theorem qg_cond (W : qg_We B N ec ey en) {p : Nat} (hN : N ≤ 32) (hp : p < B) (h : ¬ ec p < 0) : ∃ c, c < N ∧ ec p = nI c ∧ (ec p).toNatClampNeg = c := by
  rcases W p hp with a | ⟨a, _⟩ | ⟨c, x, y, hc, _, _, _, _, a, _⟩
  · exact absurd (by rw [a]; decide) h
  · exact absurd (by rw [a]; decide) h
  · exact ⟨c, hc, a, by rw [a, nI_clamp (by omega)]⟩
theorem qg_L_mono (W : qg_We B N ec ey en) (hN : N ≤ 32) {st cv st' cv' : Nat → Int32} (h : ∀ m, m < N → qp_le (st m) (cv m) (st' m) (cv' m)) {p t : Nat} (hp : p < B) (l : qg_L ec ey en st cv p t) : qg_L ec ey en st' cv' p t := by
  rcases l with l | ⟨a, b⟩
  · exact Or.inl l
  · obtain ⟨c, hc, _, e⟩ := qg_cond W hN hp a
    have hl := h c hc
    rw [e] at b
    refine Or.inr ⟨a, ?_⟩
    rw [e]
    rcases hl with hl | hl | ⟨h1, h2, h3⟩
    · rcases b with ⟨b, _⟩ | ⟨b, _⟩
      · exact absurd (hl.symm.trans b) qp_02
      · exact absurd (hl.symm.trans b) qp_01
    · refine Or.inl ⟨hl, ?_⟩
      rcases b with ⟨_, b⟩ | ⟨_, ⟨_, b⟩ | ⟨_, b⟩⟩
      · exact b
      · exact Or.inr b
      · exact Or.inl b
    · rcases b with ⟨b, _⟩ | ⟨_, b⟩
      · exact absurd (h1.symm.trans b) qp_12
      · exact Or.inr ⟨h2, by rw [← h3]; exact b⟩
theorem qg_L_cg {st cv st' cv' : Nat → Int32} {p t : Nat} (h : ¬ ec p < 0 → st' (ec p).toNatClampNeg = st (ec p).toNatClampNeg ∧ cv' (ec p).toNatClampNeg = cv (ec p).toNatClampNeg) (l : qg_L ec ey en st' cv' p t) : qg_L ec ey en st cv p t := by
  rcases l with l | ⟨a, b⟩
  · exact Or.inl l
  · obtain ⟨h1, h2⟩ := h a
    rw [h1, h2] at b
    exact Or.inr ⟨a, b⟩
theorem qg_R_mono (Wn : qg_Wn B N hm kd fa fb) (Wr : qg_Wr B N R kd rp rq rv ro) (hN : N ≤ 32) {lv lv' : Nat → Nat → Prop} {st cv st' cv' : Nat → Int32} (hl : ∀ p t, p < B → lv p t → lv' p t) (h3 : ∀ m, m < N → qp_3 (st m)) (h : ∀ m, m < N → qp_le (st m) (cv m) (st' m) (cv' m)) {n : Nat} (hn : n < N) {s v : Int32} (r : qg_R B R hm kd fa fb rv ro lv' st' cv' n s v) : qg_R B R hm kd fa fb rv ro lv st cv n s v := by
  obtain ⟨r0, r1, r2, r8, ro'⟩ := r
  obtain ⟨_, _, _, wa, wb⟩ := Wn n hn
  refine ⟨fun k p q hp hq e l => ?_, r1, r2, fun k => ?_, fun k3 k7 => ?_⟩
  · obtain ⟨_, _, x, _, _, hx, _, _, ex, _⟩ := Wr.1 q hq
    refine qp_le_tr (h _ ?_) (r0 k p q hp hq e (hl _ _ hp l))
    rw [ex, nI_clamp (by omega)]; exact hx
  · obtain ⟨a, ha, ea⟩ := wa (by rw [k]; decide)
    refine qp_le_tr (h _ ?_) (r8 k)
    rw [ea, nI_clamp (by omega)]; omega
  · obtain ⟨a, ha, ea⟩ := wa k3
    obtain ⟨b, hb, eb⟩ := wb k3 k7
    have a1 : (fa n).toNatClampNeg < N := by rw [ea, nI_clamp (by omega)]; omega
    have b1 : (fb n).toNatClampNeg < N := by rw [eb, nI_clamp (by omega)]; omega
    exact qp_le_tr (qp_op_mono (h3 _ a1) (h3 _ b1) (h _ a1) (h _ b1)) (ro' k3 k7)
/-- the rule of m doesn't read n -/
theorem qg_R_cg {lv : Nat → Nat → Prop} {st cv st' cv' : Nat → Int32} {m : Nat} (h0 : kd m = 0 → ∀ p r, p < B → r < R → ro (m * 24 + p) = nI (r + 1) → st' (rv r).toNatClampNeg = st (rv r).toNatClampNeg ∧ cv' (rv r).toNatClampNeg = cv (rv r).toNatClampNeg) (ha : ¬ kd m < 3 → st' (fa m).toNatClampNeg = st (fa m).toNatClampNeg ∧ cv' (fa m).toNatClampNeg = cv (fa m).toNatClampNeg) (hb : ¬ kd m < 3 → ¬ 7 < kd m → st' (fb m).toNatClampNeg = st (fb m).toNatClampNeg ∧ cv' (fb m).toNatClampNeg = cv (fb m).toNatClampNeg) {s v : Int32} (r : qg_R B R hm kd fa fb rv ro lv st cv m s v) : qg_R B R hm kd fa fb rv ro lv st' cv' m s v := by
  obtain ⟨r0, r1, r2, r8, ro'⟩ := r
  refine ⟨fun k p q hp hq e l => ?_, r1, r2, fun k => ?_, fun k3 k7 => ?_⟩
  · obtain ⟨a, b⟩ := h0 k p q hp hq e
    rw [a, b]; exact r0 k p q hp hq e l
  · obtain ⟨a, b⟩ := ha (by rw [k]; decide)
    rw [a, b]; exact r8 k
  · obtain ⟨a, b⟩ := ha k3
    obtain ⟨c, d⟩ := hb k3 k7
    rw [a, b, c, d]; exact ro' k3 k7
theorem qg_R_le {lv : Nat → Nat → Prop} {st cv : Nat → Int32} {n : Nat} {s v s' v' : Int32} (h : ∀ a b, qp_le a b s v → qp_le a b s' v') (r : qg_R B R hm kd fa fb rv ro lv st cv n s v) : qg_R B R hm kd fa fb rv ro lv st cv n s' v' := by
  obtain ⟨r0, r1, r2, r8, ro'⟩ := r
  exact ⟨fun k p q hp hq e l => h _ _ (r0 k p q hp hq e l), fun k => h _ _ (r1 k), fun k => h _ _ (r2 k), fun k => h _ _ (r8 k), fun k3 k7 => h _ _ (ro' k3 k7)⟩
theorem qg_R_lv {lv lv' : Nat → Nat → Prop} {st cv : Nat → Int32} {n : Nat} {s v : Int32} (h : kd n = 0 → ∀ p, p < B → lv' p (hm n).toNatClampNeg → lv p (hm n).toNatClampNeg) (r : qg_R B R hm kd fa fb rv ro lv st cv n s v) : qg_R B R hm kd fa fb rv ro lv' st cv n s v := by
  obtain ⟨r0, r1, r2, r8, ro'⟩ := r
  exact ⟨fun k p q hp hq e l => r0 k p q hp hq e (h k p hp l), r1, r2, r8, ro'⟩
theorem qg_row (Wr : qg_Wr B N R kd rp rq rv ro) (hR : R ≤ 48) {n p q : Nat} (hn : n < 32) (hp : p < 24) (hq : q < R) (e : ro (n * 24 + p) = nI (q + 1)) : rp q = nI n ∧ rq q = nI p := by
  rcases Wr.2 n p hn hp with z | ⟨q', hq', a, b, c⟩
  · rw [e] at z; exact absurd z (nI_ne0 (by omega) (by omega))
  · rw [e, nI_eq (by omega) (by omega)] at a
    have : q = q' := by omega
    subst this; exact ⟨b, c⟩
theorem qg_row' (Wr : qg_Wr B N R kd rp rq rv ro) (hN : N ≤ 32) (hB : B ≤ 24) {n p q : Nat} (hn : n < 32) (hp : p < 24) (hq : q < R) (e1 : rp q = nI n) (e2 : rq q = nI p) : ro (n * 24 + p) = nI (q + 1) := by
  obtain ⟨n', p', _, h1, h2, _, a, b, _, _, c⟩ := Wr.1 q hq
  rw [e1, nI_eq (by omega) (by omega)] at a
  rw [e2, nI_eq (by omega) (by omega)] at b
  subst a; subst b; exact c
theorem qg_row0 (Wr : qg_Wr B N R kd rp rq rv ro) (hN : N ≤ 32) (hB : B ≤ 24) (hR : R ≤ 48) {n p : Nat} (hn : n < 32) (hp : p < 24) (h : ¬ ro (n * 24 + p) = 0) : ∃ q, q < R ∧ ro (n * 24 + p) = nI (q + 1) ∧ rp q = nI n ∧ rq q = nI p := by
  rcases Wr.2 n p hn hp with z | z
  · exact absurd z h
  · exact z
end
end
section
/-! the solver of the component, without its program: the invariant of the lists -/
section
variable (B N R : Nat) (hm kd fa fb rp rq rv ro ec ey en : Nat → Int32)
def qs_lv (lo : Nat → Int32) (p t : Nat) : Prop := bt (lo p) t = true
/-- below every solution -/
def qs_J (rm : Nat → Prop) (st cv : Nat → Int32) : Prop := ∀ rt st' cv', qg_C B N R hm kd fa fb rv ro ec ey en rt st' cv' → (∀ t, t < B → rm t → rt t) ∧ (∀ n, n < N → qp_le (st n) (cv n) (st' n) (cv' n))
/-- the shape of facts -/
def qs_F (st cv : Nat → Int32) : Prop := (∀ n, N ≤ n → st n = 0 ∧ cv n = 0) ∧ (∀ n, n < N → qp_3 (st n) ∧ qp_nf (st n) (cv n))
def qs_I (rm pn pe : Int32) (lo st cv : Nat → Int32) : Prop :=
  qs_F N st cv ∧
  (bt rm 0 = true ∧ ∀ t, t < 32 → bt rm t = true → t < B) ∧
  (∀ p t, p < B → t < 32 → bt (lo p) t = true → bt rm p = true ∧ bt rm t = true ∧ qg_L ec ey en st cv p t) ∧
  (∀ p, p < B → bt rm p = true → bt pe p = false → ∀ t, qg_L ec ey en st cv p t → bt (lo p) t = true) ∧
  (∀ p, p < 32 → bt pe p = true → bt rm p = true) ∧
  (∀ n, n < 32 → bt pn n = true → n < N) ∧
  (∀ n, n < N → bt rm (hm n).toNatClampNeg = true → bt pn n = false → qg_R B R hm kd fa fb rv ro (qs_lv lo) st cv n (st n) (cv n)) ∧
  (∀ n, n < N → ∀ s v, qg_R B R hm kd fa fb rv ro (qs_lv lo) st cv n s v → qp_le (st n) (cv n) s v) ∧
  qs_J B N R hm kd fa fb rv ro ec ey en (fun t => bt rm t = true) st cv
end
section
variable {B N R : Nat} {hm kd fa fb rp rq rv ro ec ey en : Nat → Int32}
theorem qs_F_upd {st cv : Nat → Int32} (F : qs_F N st cv) {n : Nat} (hn : n < N) {s v : Int32} (h3 : qp_3 s) (hf : qp_nf s v) : qs_F N (upd st n s) (upd cv n v) := by
  refine ⟨fun m hm' => ?_, fun m hm' => ?_⟩
  · rw [pk_un (by omega), pk_un (by omega)]; exact F.1 m hm'
  · by_cases e : m = n
    · subst e; rw [pk_us, pk_us]; exact ⟨h3, hf⟩
    · rw [pk_un e, pk_un e]; exact F.2 m hm'
theorem qs_up {st cv : Nat → Int32} (F : qs_F N st cv) {n : Nat} {s v : Int32} (h : qp_le (st n) (cv n) s v) : ∀ m, m < N → qp_le (st m) (cv m) (upd st n s m) (upd cv n v m) := by
  intro m hm'
  by_cases e : m = n
  · subst e; rw [pk_us, pk_us]; exact h
  · rw [pk_un e, pk_un e]; exact qp_le_rf (F.2 m hm').1
/-- the first entry -/
theorem qs_I0 (hB : B ≤ 24) (hB0 : 0 < B) (hN : N ≤ 32) (Wn : qg_Wn B N hm kd fa fb) {ni : Nat → Int32} (Wi : qg_Wi B N hm ni) {rm pn pe : Int32} (hrm : ∀ i, i < 32 → bt rm i = decide (i = 0)) (hpn : ∀ i, i < 32 → bt pn i = bt (ni 0) i) (hpe : ∀ i, i < 32 → bt pe i = decide (i = 0)) : qs_I B N R hm kd fa fb rv ro ec ey en rm pn pe (fun _ => 0) (fun _ => 0) (fun _ => 0) := by
  have z : ∀ t, bt 0 t = true → False := fun t h => by rw [b_0] at h; cases h
  have r0 : bt rm 0 = true := by rw [hrm 0 (by omega)]; rfl
  refine ⟨⟨fun _ _ => ⟨rfl, rfl⟩, fun _ _ => ⟨Or.inl rfl, fun _ => rfl⟩⟩, ⟨r0, fun t ht h => ?_⟩, fun p t _ _ h => (z _ h).elim, fun p hp h1 h2 => ?_, fun p hp h => ?_, fun n hn h => ?_, fun n hn h1 h2 => ?_, fun n hn s v _ => Or.inl rfl, fun rt st' cv' C => ⟨fun t ht h => ?_, fun n hn => Or.inl rfl⟩⟩
  · rw [hrm t ht] at h; have := of_decide_eq_true h; omega
  · rw [hrm p (by omega)] at h1; rw [hpe p (by omega)] at h2; rw [h1] at h2; cases h2
  · rw [hpe p hp] at h; rw [hrm p hp]; exact h
  · rw [hpn n hn] at h; exact ((Wi 0 n hB0 hn).mp h).1
  · obtain ⟨_, _, ⟨b, hb, eb, _⟩, _⟩ := Wn n hn
    have e : (hm n).toNatClampNeg = b := by rw [eb, nI_clamp (by omega)]
    rw [e, hrm b (by omega)] at h1
    have b0 := of_decide_eq_true h1
    subst b0
    rw [hpn n (by omega), (Wi 0 n hB0 (by omega)).mpr ⟨hn, eb⟩] at h2
    cases h2
  · have h : bt rm t = true := h
    rw [hrm t (by omega)] at h
    have := of_decide_eq_true h
    subst this; exact C.1
/-- below a solution: its rules hold of what is below it -/
theorem qs_under (hB : B ≤ 24) (hN : N ≤ 32) (We : qg_We B N ec ey en) (Wn : qg_Wn B N hm kd fa fb) (Wr : qg_Wr B N R kd rp rq rv ro) {rm : Nat → Prop} {lv : Nat → Nat → Prop} {st cv : Nat → Int32} (F : qs_F N st cv) (hl : ∀ p t, p < B → lv p t → rm p ∧ qg_L ec ey en st cv p t) (J : qs_J B N R hm kd fa fb rv ro ec ey en rm st cv) {rt : Nat → Prop} {st' cv' : Nat → Int32} (C : qg_C B N R hm kd fa fb rv ro ec ey en rt st' cv') {n : Nat} (hn : n < N) (hr : rm (hm n).toNatClampNeg) : qg_R B R hm kd fa fb rv ro lv st cv n (st' n) (cv' n) := by
  obtain ⟨J1, J2⟩ := J rt st' cv' C
  have hh : (hm n).toNatClampNeg < B := by
    obtain ⟨_, _, ⟨b, hb, eb, _⟩, _⟩ := Wn n hn
    rw [eb, nI_clamp (by omega)]; exact hb
  refine qg_R_mono Wn Wr hN (fun p t hp l => ?_) (fun m hm' => (F.2 m hm').1) J2 hn (C.2.2 n hn (J1 _ hh hr))
  obtain ⟨a, b⟩ := hl p t hp l
  exact ⟨J1 p hp a, qg_L_mono We hN J2 hp b⟩
/-- a node's fact is raised -/
theorem qs_node (hB : B ≤ 24) (hN : N ≤ 32) (hR48 : R ≤ 48) (We : qg_We B N ec ey en) (Wn : qg_Wn B N hm kd fa fb) (Wr : qg_Wr B N R kd rp rq rv ro) {us br : Nat → Int32} (Wu : qg_Wu N R kd fa fb rp rv us) (Wb : qg_Wb B ec br) {rm pn pe : Int32} {lo st cv : Nat → Int32} (I : qs_I B N R hm kd fa fb rv ro ec ey en rm pn pe lo st cv) {n : Nat} (hn : n < N) (hr : bt rm (hm n).toNatClampNeg = true) {s v : Int32} (h3 : qp_3 s) (hR : qg_R B R hm kd fa fb rv ro (qs_lv lo) st cv n s v) (hL : ∀ s' v', qg_R B R hm kd fa fb rv ro (qs_lv lo) st cv n s' v' → qp_le s v s' v') {pn' pe' : Int32} (hpn : ∀ i, i < 32 → bt pn' i = ((bt pn i && !decide (i = n)) || bt (us n) i)) (hpe : ∀ i, i < 32 → bt pe' i = (bt pe i || (bt (br n) i && bt rm i))) : qs_I B N R hm kd fa fb rv ro ec ey en rm pn' pe' lo (upd st n s) (upd cv n (qp_w s v)) := by
  obtain ⟨F, ⟨I0, I1⟩, Id, Ie, If, Ig, Ih, Ii, Ij⟩ := I
  have up := qs_up F (qp_le_w (Ii n hn s v hR))
  have hlv : ∀ p t, p < B → qs_lv lo p t → bt rm p = true ∧ qg_L ec ey en st cv p t := fun p t hp h => by
    have ht : t < 32 := by
      rcases Nat.lt_or_ge t 32 with a | a
      · exact a
      · unfold qs_lv at h; rw [b_big a] at h; cases h
    exact ⟨(Id p t hp ht h).1, (Id p t hp ht h).2.2⟩
  refine ⟨qs_F_upd F hn h3 (qp_w_nf s v), ⟨I0, I1⟩, fun p t hp ht h => ?_, fun p hp h1 h2 t l => ?_, fun p hp h => ?_, fun m hm' h => ?_, fun m hm' h1 h2 => ?_, fun m hm' s' v' r => ?_, fun rt st' cv' C => ⟨fun t ht h => (Ij rt st' cv' C).1 t ht h, fun m hm' => ?_⟩⟩
  · obtain ⟨a, b, c⟩ := Id p t hp ht h
    exact ⟨a, b, qg_L_mono We hN up hp c⟩
  · rw [hpe p (by omega), h1, Bool.and_true] at h2
    have h2a : bt pe p = false := by cases e : bt pe p <;> simp_all
    have h2b : bt (br n) p = false := by cases e : bt (br n) p <;> simp_all
    refine Ie p hp h1 h2a t (qg_L_cg (fun z => ?_) l)
    have ne : ¬ (ec p).toNatClampNeg = n := fun e => by
      have := Wb p hp z
      rw [e, h2b] at this; cases this
    rw [pk_un ne, pk_un ne]; exact ⟨rfl, rfl⟩
  · rw [hpe p hp] at h
    cases e : bt pe p
    · rw [e] at h; simp at h; exact h.2
    · exact If p hp e
  · rw [hpn m hm'] at h
    cases e : bt (us n) m
    · rw [e] at h; simp at h; exact Ig m hm' h.1
    · exact Wu.2.2 n m hm' e
  · rw [hpn m (by omega)] at h2
    have h2b : bt (us n) m = false := by cases e : bt (us n) m <;> simp_all
    have r : qg_R B R hm kd fa fb rv ro (qs_lv lo) st cv m (upd st n s m) (upd cv n (qp_w s v) m) := by
      by_cases e : m = n
      · subst e; rw [pk_us, pk_us]; exact qg_R_le (fun a b h => qp_le_w h) hR
      · rw [pk_un e, pk_un e]
        refine Ih m hm' h1 ?_
        cases e' : bt pn m
        · rfl
        · rw [e', h2b, decide_eq_false e] at h2; cases h2
    refine qg_R_cg (fun k p q hp hq e => ?_) (fun k => ?_) (fun k3 k7 => ?_) r
    · have ne : ¬ (rv q).toNatClampNeg = n := fun z => by
        have w := Wu.2.1 q hq
        rw [z, (qg_row Wr hR48 (by omega) (by omega) hq e).1, nI_clamp (by omega), h2b] at w
        cases w
      rw [pk_un ne, pk_un ne]; exact ⟨rfl, rfl⟩
    · have ne : ¬ (fa m).toNatClampNeg = n := fun z => by
        have w := (Wu.1 m hm').1 k
        rw [z, h2b] at w; cases w
      rw [pk_un ne, pk_un ne]; exact ⟨rfl, rfl⟩
    · have ne : ¬ (fb m).toNatClampNeg = n := fun z => by
        have w := (Wu.1 m hm').2 k3 k7
        rw [z, h2b] at w; cases w
      rw [pk_un ne, pk_un ne]; exact ⟨rfl, rfl⟩
  · have r' := qg_R_mono Wn Wr hN (lv := qs_lv lo) (fun _ _ _ l => l) (fun m hm' => (F.2 m hm').1) up hm' r
    by_cases e : m = n
    · subst e; rw [pk_us, pk_us]; exact qp_w_le (hL s' v' r')
    · rw [pk_un e, pk_un e]; exact Ii m hm' s' v' r'
  · by_cases e : m = n
    · subst e; rw [pk_us, pk_us]
      exact qp_w_le (hL _ _ (qs_under hB hN We Wn Wr F hlv Ij C hm' hr))
    · rw [pk_un e, pk_un e]; exact (Ij rt st' cv' C).2 m hm'
/-- a block's end is looked at: fr are its live edges that were not live before -/
theorem qs_end (hB : B ≤ 24) (hN : N ≤ 32) (We : qg_We B N ec ey en) (Wn : qg_Wn B N hm kd fa fb) {rm pn pe : Int32} {lo st cv : Nat → Int32} (I : qs_I B N R hm kd fa fb rv ro ec ey en rm pn pe lo st cv) {p : Nat} (hp : p < B) (hr : bt rm p = true) {fr : Int32} (hfr : ∀ t, t < 32 → (bt fr t = true ↔ qg_L ec ey en st cv p t ∧ bt (lo p) t = false)) {rm' pn' pe' : Int32} (hrm : ∀ i, i < 32 → bt rm' i = (bt rm i || bt fr i)) (hpe : ∀ i, i < 32 → bt pe' i = ((bt pe i && !decide (i = p)) || (bt fr i && !bt rm i))) (hpn : ∀ i, i < 32 → bt pn' i = (bt pn i || (decide (i < N) && bt fr (hm i).toNatClampNeg && (!bt rm (hm i).toNatClampNeg || decide (kd i = 0))))) : qs_I B N R hm kd fa fb rv ro ec ey en rm' pn' pe' (upd lo p (lo p ||| fr)) st cv := by
  obtain ⟨F, ⟨I0, I1⟩, Id, Ie, If, Ig, Ih, Ii, Ij⟩ := I
  have hfB : ∀ t, t < 32 → bt fr t = true → t < B := fun t ht h => (qg_E_in We hB hp (qg_L_E ((hfr t ht).mp h).1)).2
  have hL32 : ∀ q t, q < B → qg_L ec ey en st cv q t → t < 32 := fun q t hq l => by
    have := (qg_E_in We hB hq (qg_L_E l)).2; omega
  have hrm' : ∀ i, i < 32 → bt rm i = true → bt rm' i = true := fun i hi h => by rw [hrm i hi, h]; rfl
  refine ⟨F, ⟨hrm' 0 (by omega) I0, fun t ht h => ?_⟩, fun q t hq ht h => ?_, fun q hq h1 h2 t l => ?_, fun q hq h => ?_, fun n hn h => ?_, fun n hn h1 h2 => ?_, fun n hn s v r => ?_, fun rt st' cv' C => ⟨fun t ht h => ?_, (Ij rt st' cv' C).2⟩⟩
  · rw [hrm t ht] at h
    cases e : bt rm t
    · rw [e] at h; exact hfB t ht h
    · exact I1 t ht e
  · by_cases e : q = p
    · subst e
      rw [pk_us, b_or] at h
      cases e : bt (lo q) t
      · rw [e] at h
        have h : bt fr t = true := h
        exact ⟨hrm' q (by omega) hr, by rw [hrm t ht, h]; simp, ((hfr t ht).mp h).1⟩
      · obtain ⟨a, b, c⟩ := Id q t hq ht e
        exact ⟨hrm' q (by omega) a, hrm' t ht b, c⟩
    · rw [pk_un e] at h
      obtain ⟨a, b, c⟩ := Id q t hq ht h
      exact ⟨hrm' q (by omega) a, hrm' t ht b, c⟩
  · have ht := hL32 q t hq l
    by_cases e : q = p
    · subst e
      rw [pk_us, b_or]
      cases e : bt (lo q) t
      · rw [(hfr t ht).mpr ⟨l, e⟩]; rfl
      · rfl
    · rw [pk_un e]
      rw [hpe q (by omega), decide_eq_false e] at h2
      cases e' : bt rm q
      · rw [hrm q (by omega), e'] at h1
        rw [e'] at h2
        have h1 : bt fr q = true := h1
        rw [h1] at h2
        simp at h2
      · refine Ie q hq e' ?_ t l
        cases e2 : bt pe q
        · rfl
        · rw [e2] at h2; simp at h2
  · rw [hpe q hq] at h
    cases e : bt pe q
    · rw [e] at h
      have h : (bt fr q && !bt rm q) = true := h
      rw [hrm q hq]
      cases e2 : bt fr q
      · rw [e2] at h; cases h
      · simp
    · exact hrm' q hq (If q hq e)
  · rw [hpn n hn] at h
    cases e : bt pn n
    · rw [e] at h
      simp at h
      exact h.1.1
    · exact Ig n hn e
  · obtain ⟨_, _, ⟨b, hb, eb, _⟩, _⟩ := Wn n hn
    have eh : (hm n).toNatClampNeg = b := by rw [eb, nI_clamp (by omega)]
    rw [hpn n (by omega), decide_eq_true hn] at h2
    rw [eh] at h1 h2
    have pn0 : bt pn n = false := by cases e : bt pn n <;> simp_all
    cases e' : bt rm b
    · rw [hrm b (by omega), e'] at h1
      have h1 : bt fr b = true := h1
      rw [h1, e'] at h2; simp at h2
    · refine qg_R_lv (fun k q hq l => ?_) (Ih n hn (by rw [eh]; exact e') pn0)
      rw [eh] at l ⊢
      unfold qs_lv at l ⊢
      by_cases e : q = p
      · subst e
        rw [pk_us, b_or] at l
        have : bt fr b = false := by
          cases e3 : bt fr b
          · rfl
          · rw [e3, k] at h2; simp at h2
        rw [this, Bool.or_false] at l
        exact l
      · rw [pk_un e] at l; exact l
  · refine Ii n hn s v (qg_R_lv (fun k q hq l => ?_) r)
    unfold qs_lv at l ⊢
    by_cases e : q = p
    · subst e; rw [pk_us, b_or, l]; rfl
    · rw [pk_un e]; exact l
  · have h : bt rm' t = true := h
    rw [hrm t (by omega)] at h
    obtain ⟨J1, J2⟩ := Ij rt st' cv' C
    cases e : bt rm t
    · rw [e] at h
      exact C.2.1 p hp (J1 p hp hr) t (qg_L_mono We hN J2 hp ((hfr t (by omega)).mp h).1)
    · exact J1 t ht e
/-- a node that is taken from the list without a change -/
theorem qs_pop {rm pn pe : Int32} {lo st cv : Nat → Int32} (hN : N ≤ 32) (I : qs_I B N R hm kd fa fb rv ro ec ey en rm pn pe lo st cv) {n : Nat} {pn' : Int32} (hpn : ∀ i, i < 32 → bt pn' i = (bt pn i && !decide (i = n))) (h : n < N → bt rm (hm n).toNatClampNeg = true → qg_R B R hm kd fa fb rv ro (qs_lv lo) st cv n (st n) (cv n)) : qs_I B N R hm kd fa fb rv ro ec ey en rm pn' pe lo st cv := by
  obtain ⟨F, I1, Id, Ie, If, Ig, Ih, Ii, Ij⟩ := I
  refine ⟨F, I1, Id, Ie, If, fun m hm' h => ?_, fun m hm' h1 h2 => ?_, Ii, Ij⟩
  · rw [hpn m hm'] at h
    cases e : bt pn m
    · rw [e] at h; cases h
    · exact Ig m hm' e
  · by_cases e : m = n
    · subst e; exact h hm' h1
    · rw [hpn m (by omega), decide_eq_false e] at h2
      refine Ih m hm' h1 ?_
      cases e' : bt pn m
      · rfl
      · rw [e'] at h2; cases h2
theorem qs_fin (hB : B ≤ 24) (hN : N ≤ 32) (We : qg_We B N ec ey en) {rm : Int32} {lo st cv : Nat → Int32} (I : qs_I B N R hm kd fa fb rv ro ec ey en rm 0 0 lo st cv) : qg_C B N R hm kd fa fb rv ro ec ey en (fun t => bt rm t = true) st cv ∧ ∀ p t, p < B → t < 32 → (bt (lo p) t = true ↔ bt rm p = true ∧ qg_L ec ey en st cv p t) := by
  obtain ⟨F, ⟨I0, I1⟩, Id, Ie, If, Ig, Ih, Ii, Ij⟩ := I
  have hl : ∀ p t, p < B → bt rm p = true → qg_L ec ey en st cv p t → bt (lo p) t = true ∧ t < 32 := fun p t hp h l => ⟨Ie p hp h (b_0 p) t l, by
    have := (qg_E_in We hB hp (qg_L_E l)).2; omega⟩
  refine ⟨⟨I0, fun p hp h t l => ?_, fun n hn h => ?_⟩, fun p t hp ht => ⟨fun h => ?_, fun h => (hl p t hp h.1 h.2).1⟩⟩
  · obtain ⟨a, b⟩ := hl p t hp h l
    exact (Id p t hp b a).2.1
  · exact qg_R_lv (fun k p hp l => (hl p _ hp l.1 l.2).1) (Ih n hn h (b_0 n))
  · exact ⟨(Id p t hp ht h).1, (Id p t hp ht h).2.2⟩
end
end
section
/-! the measure of the component's lists; the reference's sweeps; the least solution is one -/
def qw_t (s : Int32) : Nat := if s = 0 then 2 else if s = 1 then 1 else 0
theorem qw_le (s : Int32) : qw_t s ≤ 2 := by unfold qw_t; split; omega; split <;> omega
theorem qw_lt {a b s v : Int32} (h3 : qp_3 a) (h3' : qp_3 s) (h : qp_le a b s v) (hn : ¬ s = a) : qw_t s < qw_t a := by
  rcases h3 with rfl | rfl | rfl
  · rcases h3' with rfl | rfl | rfl
    · exact absurd rfl hn
    · decide
    · decide
  · rcases h with h | rfl | ⟨_, h, _⟩
    · exact absurd h qp_10
    · decide
    · exact absurd h hn
  · rcases h with h | rfl | ⟨h, _⟩
    · exact absurd h qp_20
    · exact absurd rfl hn
    · exact absurd h qp_21
def qw_M (N B : Nat) (pn pe : Int32) (lo st : Nat → Int32) : Nat := 57 * (qm_s (fun n => qw_t (st n)) N + qm_s (fun p => 2 - qc_n (bt (lo p)) 32) B) + (qc_n (bt pn) 32 + qc_n (bt pe) 24)
theorem qw_M_bd {N B : Nat} (hN : N ≤ 32) (hB : B ≤ 24) (pn pe : Int32) (lo st : Nat → Int32) : qw_M N B pn pe lo st ≤ 6440 := by
  unfold qw_M
  have a := qm_bd (f := fun n => qw_t (st n)) (c := 2) N fun i _ => qw_le _
  have b := qm_bd (f := fun p => 2 - qc_n (bt (lo p)) 32) (c := 2) B fun i _ => Nat.sub_le _ _
  have c := qc_le (bt pn) 32
  have d := qc_le (bt pe) 24
  omega
theorem qw_M_pop {N B : Nat} {pn pe pn' : Int32} {lo st : Nat → Int32} {n : Nat} (hn : n < 32) (h : bt pn n = true) (hpn : ∀ i, i < 32 → bt pn' i = (bt pn i && !decide (i = n))) : qw_M N B pn' pe lo st < qw_M N B pn pe lo st := by
  unfold qw_M
  have := qc_lt (f := bt pn') (g := bt pn) 32 n hn (fun i hi z => by rw [hpn i hi] at z; cases e : bt pn i <;> simp_all) (by rw [hpn n hn]; simp) h
  omega
theorem qw_M_node {N B : Nat} {pn pe pn' pe' : Int32} {lo st cv : Nat → Int32} {n : Nat} (F : qs_F N st cv) (hn : n < N) {s v : Int32} (h3 : qp_3 s) (h : qp_le (st n) (cv n) s v) (hne : ¬ s = st n) : qw_M N B pn' pe' lo (upd st n s) < qw_M N B pn pe lo st := by
  unfold qw_M
  have := qm_lt (f := fun m => qw_t (upd st n s m)) (g := fun m => qw_t (st m)) N n hn (fun i hi => by
    show qw_t (upd st n s i) ≤ qw_t (st i)
    by_cases e : i = n
    · subst e; rw [pk_us]; exact Nat.le_of_lt (qw_lt (F.2 i hi).1 h3 h hne)
    · rw [pk_un e]; exact Nat.le_refl _) (by
    show qw_t (upd st n s n) < qw_t (st n)
    rw [pk_us]; exact qw_lt (F.2 n hn).1 h3 h hne)
  have c := qc_le (bt pn') 32
  have d := qc_le (bt pe') 24
  omega
section
variable {B N R : Nat} {hm kd fa fb rp rq rv ro ec ey en : Nat → Int32}
theorem qw_M_end (hB : B ≤ 24) {pn pe : Int32} {lo st cv : Nat → Int32} {p : Nat} (hp : p < B) (hpp : bt pe p = true) (hlo : ∀ t, t < 32 → bt (lo p) t = true → qg_L ec ey en st cv p t) {rm fr : Int32} (hfr : ∀ t, t < 32 → (bt fr t = true ↔ qg_L ec ey en st cv p t ∧ bt (lo p) t = false)) {pn' pe' : Int32} (hpe : ∀ i, i < 32 → bt pe' i = ((bt pe i && !decide (i = p)) || (bt fr i && !bt rm i))) (hpn : ∀ i, i < 32 → bt pn' i = (bt pn i || (decide (i < N) && bt fr (hm i).toNatClampNeg && (!bt rm (hm i).toNatClampNeg || decide (kd i = 0))))) : qw_M N B pn' pe' (upd lo p (lo p ||| fr)) st < qw_M N B pn pe lo st := by
  have hle : ∀ i, i < B → 2 - qc_n (bt (upd lo p (lo p ||| fr) i)) 32 ≤ 2 - qc_n (bt (lo i)) 32 := fun i hi => by
    by_cases e : i = p
    · subst e; rw [pk_us]
      have := qc_mono (f := bt (lo i)) (g := bt (lo i ||| fr)) 32 fun j _ z => by rw [b_or, z]; rfl
      omega
    · rw [pk_un e]; exact Nat.le_refl _
  by_cases z : ∃ t, t < 32 ∧ bt fr t = true
  · obtain ⟨t, ht, h⟩ := z
    obtain ⟨_, hn⟩ := (hfr t ht).mp h
    have a := qc_lt (f := bt (lo p)) (g := bt (lo p ||| fr)) 32 t ht (fun j _ z => by rw [b_or, z]; rfl) hn (by rw [b_or, h]; simp)
    have b := qc_two (f := bt (lo p ||| fr)) (a := (ey p).toNatClampNeg) (b := (en p).toNatClampNeg) (fun i hi => by
      have h32 : i < 32 := by
        rcases Nat.lt_or_ge i 32 with c | c
        · exact c
        · rw [b_big c] at hi; cases hi
      have l : qg_L ec ey en st cv p i := by
        rw [b_or] at hi
        cases e : bt (lo p) i
        · rw [e] at hi; exact ((hfr i h32).mp hi).1
        · exact hlo i h32 e
      rcases (qg_L_E l).2 with c | ⟨_, c⟩
      · exact Or.inl c.symm
      · exact Or.inr c.symm) 32
    have b2 : qc_n (bt (lo p ||| fr)) 32 ≤ 2 := by
      refine Nat.le_trans b ?_
      split <;> split <;> omega
    have c := qm_lt (f := fun i => 2 - qc_n (bt (upd lo p (lo p ||| fr) i)) 32) (g := fun i => 2 - qc_n (bt (lo i)) 32) B p hp hle (by
      show 2 - qc_n (bt (upd lo p (lo p ||| fr) p)) 32 < _
      rw [pk_us]; omega)
    unfold qw_M
    have d := qc_le (bt pn') 32
    have e := qc_le (bt pe') 24
    omega
  · have z' : ∀ t, t < 32 → bt fr t = false := fun t ht => qn_tf fun h => z ⟨t, ht, h⟩
    have zb : ∀ t, bt fr t = false := fun t => by
      rcases Nat.lt_or_ge t 32 with c | c
      · exact z' t c
      · exact b_big c
    have a := qm_le (f := fun i => 2 - qc_n (bt (upd lo p (lo p ||| fr) i)) 32) (g := fun i => 2 - qc_n (bt (lo i)) 32) B hle
    have b := qc_mono (f := bt pn') (g := bt pn) 32 fun i hi h => by
      rw [hpn i hi, zb] at h; cases e : bt pn i <;> simp_all
    have c := qc_lt (f := bt pe') (g := bt pe) 24 p (by omega) (fun i hi h => by
      rw [hpe i (by omega), zb] at h; cases e : bt pe i <;> simp_all) (by rw [hpe p (by omega), zb]; simp) hpp
    unfold qw_M
    omega
end
/-! the reference -/
section
variable (B N R : Nat) (hm kd fa fb rp rq rv ro ec ey en : Nat → Int32)
def qy_lv (rc st cv : Nat → Int32) (p t : Nat) : Prop := ¬ rc p = 0 ∧ qg_L ec ey en st cv p t
def qy_I (rc st cv : Nat → Int32) : Prop := qs_F N st cv ∧ (¬ rc 0 = 0 ∧ ∀ p, p < B → rc p = 0 ∨ rc p = 1) ∧ (∀ n, n < N → ∀ s v, qg_R B R hm kd fa fb rv ro (qy_lv ec ey en rc st cv) st cv n s v → qp_le (st n) (cv n) s v) ∧ qs_J B N R hm kd fa fb rv ro ec ey en (fun t => ¬ rc t = 0) st cv
def qy_M (rc st : Nat → Int32) : Nat := qm_s (fun n => qw_t (st n)) N + qm_s (fun p => if rc p = 0 then 1 else 0) B
end
section
variable {B N R : Nat} {hm kd fa fb rp rq rv ro ec ey en : Nat → Int32}
theorem qy_M_bd (hN : N ≤ 32) (hB : B ≤ 24) (rc st : Nat → Int32) : qy_M B N rc st ≤ 88 := by
  unfold qy_M
  have a := qm_bd (f := fun n => qw_t (st n)) (c := 2) N fun i _ => qw_le _
  have b := qm_bd (f := fun p => if rc p = 0 then 1 else 0) (c := 1) B fun i _ => by
    show (if rc i = 0 then 1 else 0) ≤ 1
    split <;> omega
  omega
theorem qy_I0 (hB : B ≤ 24) : qy_I B N R hm kd fa fb rv ro ec ey en (upd (fun _ => 0) 0 1) (fun _ => 0) (fun _ => 0) := by
  refine ⟨⟨fun _ _ => ⟨rfl, rfl⟩, fun _ _ => ⟨Or.inl rfl, fun _ => rfl⟩⟩, ⟨by rw [pk_us]; decide, fun p hp => ?_⟩, fun n hn s v _ => Or.inl rfl, fun rt st' cv' C => ⟨fun t ht h => ?_, fun n hn => Or.inl rfl⟩⟩
  · by_cases e : p = 0
    · subst e; rw [pk_us]; exact Or.inr rfl
    · rw [pk_un e]; exact Or.inl rfl
  · by_cases e : t = 0
    · subst e; exact C.1
    · exact absurd (pk_un e) h
theorem qy_reach (hN : N ≤ 32) (We : qg_We B N ec ey en) {rc st cv : Nat → Int32} (I : qy_I B N R hm kd fa fb rv ro ec ey en rc st cv) {p t : Nat} (hp : p < B) (h : qy_lv ec ey en rc st cv p t) : qy_I B N R hm kd fa fb rv ro ec ey en (upd rc t 1) st cv := by
  obtain ⟨F, ⟨I0, I1⟩, Ii, Ij⟩ := I
  have ne : ∀ q, ¬ rc q = 0 → ¬ upd rc t 1 q = 0 := fun q hq => by
    by_cases e : q = t
    · subst e; rw [pk_us]; decide
    · rw [pk_un e]; exact hq
  refine ⟨F, ⟨ne 0 I0, fun q hq => ?_⟩, fun n hn s v r => ?_, fun rt st' cv' C => ⟨fun q hq z => ?_, (Ij rt st' cv' C).2⟩⟩
  · by_cases e : q = t
    · subst e; rw [pk_us]; exact Or.inr rfl
    · rw [pk_un e]; exact I1 q hq
  · exact Ii n hn s v (qg_R_lv (fun _ q _ l => ⟨ne q l.1, l.2⟩) r)
  · obtain ⟨J1, J2⟩ := Ij rt st' cv' C
    by_cases e : q = t
    · subst e; exact C.2.1 p hp (J1 p hp h.1) q (qg_L_mono We hN J2 hp h.2)
    · exact J1 q hq (fun z0 => z (by rw [pk_un e]; exact z0))
theorem qy_M_reach {rc st : Nat → Int32} {t : Nat} (ht : t < B) (h : rc t = 0) : qy_M B N (upd rc t 1) st < qy_M B N rc st := by
  unfold qy_M
  have := qm_lt (f := fun p => if upd rc t 1 p = 0 then 1 else 0) (g := fun p => if rc p = 0 then 1 else 0) B t ht (fun i hi => by
    show (if upd rc t 1 i = 0 then 1 else 0) ≤ (if rc i = 0 then 1 else 0)
    by_cases e : i = t
    · subst e; rw [pk_us, if_neg (by decide)]; exact Nat.zero_le _
    · rw [pk_un e]; exact Nat.le_refl _) (by
    show (if upd rc t 1 t = 0 then 1 else 0) < (if rc t = 0 then 1 else 0)
    rw [pk_us, if_neg (by decide), if_pos h]; omega)
  omega
theorem qy_node (hB : B ≤ 24) (hN : N ≤ 32) (We : qg_We B N ec ey en) (Wn : qg_Wn B N hm kd fa fb) (Wr : qg_Wr B N R kd rp rq rv ro) {rc st cv : Nat → Int32} (I : qy_I B N R hm kd fa fb rv ro ec ey en rc st cv) {n : Nat} (hn : n < N) (hr : ¬ rc (hm n).toNatClampNeg = 0) {s v : Int32} (h3 : qp_3 s) (hf : qp_nf s v) (hR : qg_R B R hm kd fa fb rv ro (qy_lv ec ey en rc st cv) st cv n s v) (hL : ∀ s' v', qg_R B R hm kd fa fb rv ro (qy_lv ec ey en rc st cv) st cv n s' v' → qp_le s v s' v') : qy_I B N R hm kd fa fb rv ro ec ey en rc (upd st n s) (upd cv n v) := by
  obtain ⟨F, I1, Ii, Ij⟩ := I
  have up := qs_up F (Ii n hn s v hR)
  refine ⟨qs_F_upd F hn h3 hf, I1, fun m hm' s' v' r => ?_, fun rt st' cv' C => ⟨(Ij rt st' cv' C).1, fun m hm' => ?_⟩⟩
  · have r' := qg_R_mono Wn Wr hN (lv := qy_lv ec ey en rc st cv) (fun p t hp l => ⟨l.1, qg_L_mono We hN up hp l.2⟩) (fun m hm' => (F.2 m hm').1) up hm' r
    by_cases e : m = n
    · subst e; rw [pk_us, pk_us]; exact hL s' v' r'
    · rw [pk_un e, pk_un e]; exact Ii m hm' s' v' r'
  · by_cases e : m = n
    · subst e; rw [pk_us, pk_us]
      exact hL _ _ (qs_under hB hN We Wn Wr F (rm := fun t => ¬ rc t = 0) (fun p t _ l => l) Ij C hm' hr)
    · rw [pk_un e, pk_un e]; exact (Ij rt st' cv' C).2 m hm'
theorem qy_M_node {rc st cv : Nat → Int32} (F : qs_F N st cv) {n : Nat} (hn : n < N) {s v : Int32} (h3 : qp_3 s) (h : qp_le (st n) (cv n) s v) (hne : ¬ s = st n) : qy_M B N rc (upd st n s) < qy_M B N rc st := by
  unfold qy_M
  have := qm_lt (f := fun m => qw_t (upd st n s m)) (g := fun m => qw_t (st m)) N n hn (fun i hi => by
    show qw_t (upd st n s i) ≤ qw_t (st i)
    by_cases e : i = n
    · subst e; rw [pk_us]; exact Nat.le_of_lt (qw_lt (F.2 i hi).1 h3 h hne)
    · rw [pk_un e]; exact Nat.le_refl _) (by
    show qw_t (upd st n s n) < qw_t (st n)
    rw [pk_us]; exact qw_lt (F.2 n hn).1 h3 h hne)
  omega
/-- both sides end in one solution -/
theorem qy_same (hB : B ≤ 24) {rm : Int32} {st cv rc st' cv' : Nat → Int32} (F : qs_F N st cv) (F' : qs_F N st' cv') (J : qs_J B N R hm kd fa fb rv ro ec ey en (fun t => bt rm t = true) st cv) (J' : qs_J B N R hm kd fa fb rv ro ec ey en (fun t => ¬ rc t = 0) st' cv') (C : qg_C B N R hm kd fa fb rv ro ec ey en (fun t => bt rm t = true) st cv) (C' : qg_C B N R hm kd fa fb rv ro ec ey en (fun t => ¬ rc t = 0) st' cv') : st' = st ∧ cv' = cv ∧ ∀ t, t < B → (bt rm t = true ↔ ¬ rc t = 0) := by
  obtain ⟨a, b⟩ := J _ _ _ C'
  obtain ⟨a', b'⟩ := J' _ _ _ C
  have e : ∀ n, st' n = st n ∧ cv' n = cv n := fun n => by
    rcases Nat.lt_or_ge n N with h | h
    · exact qp_le_as (F'.2 n h).2 (F.2 n h).2 (b' n h) (b n h)
    · rw [(F.1 n h).1, (F.1 n h).2, (F'.1 n h).1, (F'.1 n h).2]; exact ⟨rfl, rfl⟩
  exact ⟨funext fun n => (e n).1, funext fun n => (e n).2, fun t ht => ⟨a t ht, a' t ht⟩⟩
end
end
section
/-! blocks reached from block 0 past a forbidden one -/
section
variable (B N R : Nat) (hm kd fa fb rp rq rv ro ec ey en : Nat → Int32)
def qd_A (x y : Nat) : Prop := ∀ S : Nat → Prop, (¬ x = 0 → S 0) → (∀ p t, p < B → S p → qg_E ec ey en p t → ¬ t = x → S t) → S y
def qd_N (x : Nat) : Nat → Nat → Prop
  | 0, y => y = 0 ∧ ¬ x = 0
  | r + 1, y => qd_N x r y ∨ (¬ y = x ∧ ∃ p, p < B ∧ qd_N x r p ∧ qg_E ec ey en p y)
def qd_D : Prop := (∀ n, n < N → (¬ kd n < 3 → ¬ qd_A B ec ey en (hm (fa n).toNatClampNeg).toNatClampNeg (hm n).toNatClampNeg) ∧ (¬ kd n < 3 → ¬ 7 < kd n → ¬ qd_A B ec ey en (hm (fb n).toNatClampNeg).toNatClampNeg (hm n).toNatClampNeg)) ∧ (∀ r, r < R → ¬ qd_A B ec ey en (hm (rv r).toNatClampNeg).toNatClampNeg (rq r).toNatClampNeg) ∧ (∀ p, p < B → ¬ ec p < 0 → ¬ qd_A B ec ey en (hm (ec p).toNatClampNeg).toNatClampNeg p)
def qd_P : Prop := ∀ n p, n < N → p < B → kd n = 0 → (qg_E ec ey en p (hm n).toNatClampNeg ↔ ¬ ro (n * 24 + p) = 0)
/-- the component's dominators: sound, reflexive, complete after r rounds -/
def qd_S (dm : Nat → Int32) : Prop := (∀ y x, y < B → x < B → bt (dm y) x = false → qd_A B ec ey en x y) ∧ (∀ y, y < B → bt (dm y) y = true)
def qd_C (dm : Nat → Int32) (r : Nat) (b : Nat) : Prop := ∀ y x, y < b → x < B → qd_N B ec ey en x r y → bt (dm y) x = false
def qd_F (dm : Nat → Int32) (b : Nat) : Prop := ∀ y x p, y < b → x < B → p < B → qg_E ec ey en p y → ¬ x = y → bt (dm p) x = false → bt (dm y) x = false
end
section
variable {B N R : Nat} {hm kd fa fb rp rq rv ro ec ey en : Nat → Int32}
theorem qd_A0 {x : Nat} (h : ¬ x = 0) : qd_A B ec ey en x 0 := fun _ h0 _ => h0 h
theorem qd_As {x p t : Nat} (hp : p < B) (h : qd_A B ec ey en x p) (e : qg_E ec ey en p t) (ne : ¬ t = x) : qd_A B ec ey en x t := fun S h0 hs => hs p t hp (h S h0 hs) e ne
theorem qd_Ane {x y : Nat} (h : qd_A B ec ey en x y) : ¬ y = x := h (fun y => ¬ y = x) (fun h e => h e.symm) (fun _ _ _ _ _ h => h)
theorem qd_AB (hB0 : 0 < B) (hB : B ≤ 24) (We : qg_We B N ec ey en) {x y : Nat} (h : qd_A B ec ey en x y) : y < B := h (fun y => y < B) (fun _ => hB0) (fun _ _ hp _ e _ => (qg_E_in We hB hp e).2)
theorem qd_NA {x : Nat} : ∀ r y, qd_N B ec ey en x r y → qd_A B ec ey en x y := by
  intro r
  induction r with
  | zero =>
    intro y h
    obtain ⟨a, b⟩ := h
    subst a; exact qd_A0 b
  | succ r ih =>
    intro y h
    rcases h with h | ⟨ne, p, hp, h, e⟩
    · exact ih y h
    · exact qd_As hp (ih p h) e ne
theorem qd_Nm {x : Nat} {r y : Nat} (d : Nat) (h : qd_N B ec ey en x r y) : qd_N B ec ey en x (r + d) y := by
  induction d with
  | zero => exact h
  | succ d ih => exact Or.inl ih
theorem qd_N0 {x : Nat} (r : Nat) (h : ¬ x = 0) : qd_N B ec ey en x r 0 := by
  induction r with
  | zero => exact ⟨rfl, h⟩
  | succ r ih => exact Or.inl ih
theorem qd_cnt (hB0 : 0 < B) (hB : B ≤ 24) (We : qg_We B N ec ey en) (x : Nat) : ∀ r, (∃ q, q < r ∧ ∀ y, qd_N B ec ey en x (q + 1) y → qd_N B ec ey en x q y) ∨ r ≤ qc_n (fun i => @decide (qd_N B ec ey en x r i) (Classical.propDecidable _)) B := by
  intro r
  induction r with
  | zero => exact Or.inr (Nat.zero_le _)
  | succ r ih =>
    rcases ih with ⟨q, hq, h⟩ | ih
    · exact Or.inl ⟨q, by omega, h⟩
    · by_cases z : ∀ y, qd_N B ec ey en x (r + 1) y → qd_N B ec ey en x r y
      · exact Or.inl ⟨r, by omega, z⟩
      · refine Or.inr ?_
        have : ∃ y, qd_N B ec ey en x (r + 1) y ∧ ¬ qd_N B ec ey en x r y := by
          apply Classical.byContradiction
          intro c
          apply z
          intro y hy
          apply Classical.byContradiction
          intro hn
          exact c ⟨y, hy, hn⟩
        obtain ⟨y, h1, h2⟩ := this
        have hy : y < B := qd_AB hB0 hB We (qd_NA _ _ h1)
        have := qc_lt (f := fun i => @decide (qd_N B ec ey en x r i) (Classical.propDecidable _)) (g := fun i => @decide (qd_N B ec ey en x (r + 1) i) (Classical.propDecidable _)) B y hy (fun i hi h => by
          have h := @of_decide_eq_true _ (Classical.propDecidable _) h
          exact @decide_eq_true _ (Classical.propDecidable _) (Or.inl h)) (@decide_eq_false _ (Classical.propDecidable _) h2) (@decide_eq_true _ (Classical.propDecidable _) h1)
        omega
theorem qd_fin (hB0 : 0 < B) (hB : B ≤ 24) (We : qg_We B N ec ey en) {x y : Nat} (h : qd_A B ec ey en x y) : qd_N B ec ey en x B y := by
  rcases qd_cnt hB0 hB We x B with ⟨q, hq, c⟩ | c
  · have a : qd_N B ec ey en x q y := h (fun y => qd_N B ec ey en x q y) (fun z => qd_N0 q z) (fun p t hp hs e ne => c t (Or.inr ⟨ne, p, hp, hs, e⟩))
    have := qd_Nm (B - q) a
    rw [show q + (B - q) = B by omega] at this
    exact this
  · exact @of_decide_eq_true _ (Classical.propDecidable _) (qc_all B c y (qd_AB hB0 hB We h))
/-- what the component's dominators are in the end -/
theorem qd_end (hB0 : 0 < B) (hB : B ≤ 24) (We : qg_We B N ec ey en) {dm : Nat → Int32} (S : qd_S B ec ey en dm) {r : Nat} (C : qd_C B ec ey en dm r B) (h : r = B ∨ qd_F B ec ey en dm B) : ∀ y x, y < B → x < B → (bt (dm y) x = true ↔ ¬ qd_A B ec ey en x y) := by
  intro y x hy hx
  constructor
  · intro hb a
    have : bt (dm y) x = false := by
      rcases h with rfl | h
      · exact C y x hy hx (qd_fin hB0 hB We a)
      · exact (a (fun y => y < B ∧ bt (dm y) x = false) (fun z => ⟨hB0, C 0 x hB0 hx (qd_N0 r z)⟩) (fun p t hp hs e ne => ⟨(qg_E_in We hB hp e).2, h t x p (qg_E_in We hB hp e).2 hx hp e (fun z => ne z.symm) hs.2⟩)).2
    rw [this] at hb; cases hb
  · intro na
    exact qn_ft fun z => na (S.1 y x hy hx z)
theorem qd_init (hB : B ≤ 24) (hB0 : 0 < B) {dm : Nat → Int32} (h0 : dm 0 = 1) (h : ∀ b, 0 < b → b < B → ∀ j, j < 32 → bt (dm b) j = decide (j < B)) : qd_S B ec ey en dm ∧ qd_C B ec ey en dm 0 B := by
  refine ⟨⟨fun y x hy hx e => ?_, fun y hy => ?_⟩, fun y x hy hx e => ?_⟩
  · by_cases z : y = 0
    · subst z
      rw [h0, qa_1 x (by omega)] at e
      exact qd_A0 (of_decide_eq_false e)
    · rw [h y (by omega) hy x (by omega), decide_eq_true hx] at e; cases e
  · by_cases z : y = 0
    · subst z; rw [h0]; decide
    · rw [h y (by omega) hy y (by omega)]; exact decide_eq_true hy
  · obtain ⟨a, b⟩ := e
    subst a
    rw [h0, qa_1 x (by omega)]
    exact decide_eq_false b
/-- one block of a sweep: m is the meet over the blocks before it -/
theorem qd_step (hB : B ≤ 24) {dm : Nat → Int32} {r b : Nat} (hb : b < B) (S : qd_S B ec ey en dm) (C : qd_C B ec ey en dm r B) (C' : qd_C B ec ey en dm (r + 1) b) {m : Int32} (hm' : ∀ x, x < 32 → (bt m x = true ↔ x = b ∨ (bt (dm b) x = true ∧ ∀ p, p < B → qg_E ec ey en p b → bt (dm p) x = true))) : qd_S B ec ey en (upd dm b m) ∧ qd_C B ec ey en (upd dm b m) r B ∧ qd_C B ec ey en (upd dm b m) (r + 1) (b + 1) := by
  have keep : ∀ y x, y < B → x < B → bt (dm y) x = false → bt (upd dm b m y) x = false := fun y x hy hx h => by
    by_cases e : y = b
    · subst e
      rw [pk_us]
      refine qn_tf fun z => ?_
      rcases (hm' x (by omega)).mp z with z | ⟨z, _⟩
      · subst z; rw [S.2 x hx] at h; cases h
      · rw [h] at z; cases z
    · rw [pk_un e]; exact h
  refine ⟨⟨fun y x hy hx h => ?_, fun y hy => ?_⟩, fun y x hy hx h => keep y x hy hx (C y x hy hx h), fun y x hy hx h => ?_⟩
  · by_cases e : y = b
    · subst e
      rw [pk_us] at h
      have ne : ¬ x = y := fun z => by
        rw [(hm' x (by omega)).mpr (Or.inl z)] at h; cases h
      apply Classical.byContradiction
      intro na
      have : bt m x = true := (hm' x (by omega)).mpr (Or.inr ⟨qn_ft fun z => na (S.1 y x hy hx z), fun p hp e => qn_ft fun z => na (qd_As hp (S.1 p x hp hx z) e fun z => ne z.symm)⟩)
      rw [h] at this; cases this
    · rw [pk_un e] at h; exact S.1 y x hy hx h
  · by_cases e : y = b
    · subst e; rw [pk_us]; exact (hm' y (by omega)).mpr (Or.inl rfl)
    · rw [pk_un e]; exact S.2 y hy
  · by_cases e : y = b
    · subst e
      rcases h with h | ⟨ne, p, hp, h, e⟩
      · exact keep y x hb hx (C y x hb hx h)
      · rw [pk_us]
        refine qn_tf fun z => ?_
        rcases (hm' x (by omega)).mp z with z | ⟨_, z⟩
        · exact ne z.symm
        · have := C p x hp hx h
          rw [z p hp e] at this; cases this
    · exact keep y x (by omega) hx (C' y x (by omega) hx h)
end
end
section
/-! the component's walks: tests of bits and numbers, edges, the rows of phis -/
theorem xa_hb {post : Int32 → Prop} {u : SX} {x : Int32} {i : Nat} (hi : i < 32) (h0 : bt x i = false → post 0) (h1 : bt x i = true → post 1) : wpX_hasBit post u x (nI i) := by
  obtain ⟨f_blockCount, f_nodeLimit, f_rowLimit, f_heldLimit, f_isSealed, f_nodeCount, f_rowCount, f_phiMask, f_reachedMask, f_pendingNodes, f_pendingEnds, f_foundState, f_foundValue, f_heldCount, f_taken, f_prints, f_nextBlock, f_leftBlock, a_home, a_kinds, a_fieldA, a_fieldB, a_rowPhi, a_rowPred, a_rowValue, a_rowOf, a_endCond, a_endYes, a_endNo, a_nodesIn, a_edges, a_dom, a_liveOut, a_users, a_branchers, a_needs, a_states, a_constants, a_held, a_paper, a_lastValue, a_incoming, a_visitCount⟩ := u
  exact br_c (fun h => h0 ((qa_hb x i hi).mp h)) (fun h => h1 (qn_ft fun z => h ((qa_hb x i hi).mpr z)))
theorem xa_hbv {post : Int32 → Prop} {u : SX} {x y : Int32} (hy : vp_in y 32) (h0 : bt x y.toNatClampNeg = false → post 0) (h1 : bt x y.toNatClampNeg = true → post 1) : wpX_hasBit post u x y := by
  obtain ⟨j, hj, rfl⟩ := vp_in_of hy (by omega)
  rw [nI_clamp (by omega)] at h0 h1
  exact xa_hb hj h0 h1
section
variable {B N R : Nat} {f_nodeLimit f_rowLimit f_heldLimit f_isSealed f_phiMask f_reachedMask f_pendingNodes f_pendingEnds f_foundState f_foundValue f_heldCount f_taken f_prints f_nextBlock f_leftBlock : Int32} {a_home a_kinds a_fieldA a_fieldB a_rowPhi a_rowPred a_rowValue a_rowOf a_endCond a_endYes a_endNo a_nodesIn a_edges a_dom a_liveOut a_users a_branchers a_needs a_states a_constants a_held a_paper a_lastValue a_incoming a_visitCount : Nat → Int32}
theorem xa_isB {post : Int32 → Prop} {x : Int32} (hB : B ≤ 24) (h0 : ¬ vp_in x B → post 0) (h1 : vp_in x B → post 1) : wpX_isBlock post (nI B, f_nodeLimit, f_rowLimit, f_heldLimit, f_isSealed, nI N, nI R, f_phiMask, f_reachedMask, f_pendingNodes, f_pendingEnds, f_foundState, f_foundValue, f_heldCount, f_taken, f_prints, f_nextBlock, f_leftBlock, a_home, a_kinds, a_fieldA, a_fieldB, a_rowPhi, a_rowPred, a_rowValue, a_rowOf, a_endCond, a_endYes, a_endNo, a_nodesIn, a_edges, a_dom, a_liveOut, a_users, a_branchers, a_needs, a_states, a_constants, a_held, a_paper, a_lastValue, a_incoming, a_visitCount) x := by
  refine br_c (fun h => h0 ((qn_nin (by omega)).mpr (Or.inl h))) (fun h => br_c (fun h' => h0 ((qn_nin (by omega)).mpr (Or.inr h'))) (fun h' => h1 ?_))
  exact Classical.byContradiction fun z => ((qn_nin (by omega)).mp z).elim h h'
theorem xa_isN {post : Int32 → Prop} {x : Int32} (hN : N ≤ 32) (h0 : ¬ vp_in x N → post 0) (h1 : vp_in x N → post 1) : wpX_isNode post (nI B, f_nodeLimit, f_rowLimit, f_heldLimit, f_isSealed, nI N, nI R, f_phiMask, f_reachedMask, f_pendingNodes, f_pendingEnds, f_foundState, f_foundValue, f_heldCount, f_taken, f_prints, f_nextBlock, f_leftBlock, a_home, a_kinds, a_fieldA, a_fieldB, a_rowPhi, a_rowPred, a_rowValue, a_rowOf, a_endCond, a_endYes, a_endNo, a_nodesIn, a_edges, a_dom, a_liveOut, a_users, a_branchers, a_needs, a_states, a_constants, a_held, a_paper, a_lastValue, a_incoming, a_visitCount) x := by
  refine br_c (fun h => h0 ((qn_nin (by omega)).mpr (Or.inl h))) (fun h => br_c (fun h' => h0 ((qn_nin (by omega)).mpr (Or.inr h'))) (fun h' => h1 ?_))
  exact Classical.byContradiction fun z => ((qn_nin (by omega)).mp z).elim h h'
theorem xa_findEdges {post : SX → Prop} (hB : B ≤ 24) (hN : N ≤ 32) (We : qg_We B N a_endCond a_endYes a_endNo) (K : ∀ e, (∀ p t, p < B → t < 32 → (bt (e p) t = true ↔ qg_E a_endCond a_endYes a_endNo p t)) → post (nI B, f_nodeLimit, f_rowLimit, f_heldLimit, f_isSealed, nI N, nI R, f_phiMask, f_reachedMask, f_pendingNodes, f_pendingEnds, f_foundState, f_foundValue, f_heldCount, f_taken, f_prints, f_nextBlock, f_leftBlock, a_home, a_kinds, a_fieldA, a_fieldB, a_rowPhi, a_rowPred, a_rowValue, a_rowOf, a_endCond, a_endYes, a_endNo, a_nodesIn, e, a_dom, a_liveOut, a_users, a_branchers, a_needs, a_states, a_constants, a_held, a_paper, a_lastValue, a_incoming, a_visitCount)) : wpX_findEdges post (nI B, f_nodeLimit, f_rowLimit, f_heldLimit, f_isSealed, nI N, nI R, f_phiMask, f_reachedMask, f_pendingNodes, f_pendingEnds, f_foundState, f_foundValue, f_heldCount, f_taken, f_prints, f_nextBlock, f_leftBlock, a_home, a_kinds, a_fieldA, a_fieldB, a_rowPhi, a_rowPred, a_rowValue, a_rowOf, a_endCond, a_endYes, a_endNo, a_nodesIn, a_edges, a_dom, a_liveOut, a_users, a_branchers, a_needs, a_states, a_constants, a_held, a_paper, a_lastValue, a_incoming, a_visitCount) := by
  refine ql_0 (fun n i e => wX_findEdges_2 post (nI B) f_nodeLimit f_rowLimit f_heldLimit f_isSealed (nI N) (nI R) f_phiMask f_reachedMask f_pendingNodes f_pendingEnds f_foundState f_foundValue f_heldCount f_taken f_prints f_nextBlock f_leftBlock n (nI i) a_home a_kinds a_fieldA a_fieldB a_rowPhi a_rowPred a_rowValue a_rowOf a_endCond a_endYes a_endNo a_nodesIn e a_dom a_liveOut a_users a_branchers a_needs a_states a_constants a_held a_paper a_lastValue a_incoming a_visitCount) (fun i e => ∀ p t, p < i → t < 32 → (bt (e p) t = true ↔ qg_E a_endCond a_endYes a_endNo p t)) B a_edges (fun p t h => absurd h (Nat.not_lt_zero _)) (fun n e I => ?_) (fun n i e hi I next => ?_)
  · exact pk_le B B (fun _ => K e I) (fun h => absurd h (Nat.lt_irrefl _))
  · have hi24 : vp_in (nI i) 24 := vp_in_nI (by omega) (by omega)
    have fin : ∀ e' : Nat → Int32, (∀ t, t < 32 → (bt (e' i) t = true ↔ qg_E a_endCond a_endYes a_endNo i t)) → (∀ j, ¬ j = i → e' j = e j) → wX_findEdges_2 post (nI B) f_nodeLimit f_rowLimit f_heldLimit f_isSealed (nI N) (nI R) f_phiMask f_reachedMask f_pendingNodes f_pendingEnds f_foundState f_foundValue f_heldCount f_taken f_prints f_nextBlock f_leftBlock n (nI i + 1) a_home a_kinds a_fieldA a_fieldB a_rowPhi a_rowPred a_rowValue a_rowOf a_endCond a_endYes a_endNo a_nodesIn e' a_dom a_liveOut a_users a_branchers a_needs a_states a_constants a_held a_paper a_lastValue a_incoming a_visitCount := fun e' h1 h2 => by
      rw [nI_1]
      refine next e' (fun p t hp ht => ?_)
      by_cases z : p = i
      · subst z; exact h1 t ht
      · rw [h2 p z]; exact I p t (by omega) ht
    refine pk_le B i (fun h => by omega) (fun _ => ⟨hi24, ?_⟩)
    rw [nI_clamp (show i < 2 ^ 31 by omega)]
    rcases We i hi with a | ⟨a, x, hx, hx', b⟩ | ⟨c, x, y, hc, hx, hx', hy, hy', a, b, d⟩
    · refine br_t a ⟨hi24, fun e6 he6 => ⟨hi24, ?_⟩⟩
      rw [nI_clamp (show i < 2 ^ 31 by omega)] at he6 ⊢
      refine br_t (by rw [a]; decide) fun y hy => ?_
      subst hy he6
      refine fin _ (fun t ht => ?_) (fun j hj => pk_un hj)
      rw [pk_us, b_0]
      exact ⟨fun h => (by cases h), fun h => absurd a h.1⟩
    · refine br_f (by rw [a]; decide) ⟨hi24, hi24, fun e6 he6 => ⟨hi24, ?_⟩⟩
      rw [nI_clamp (show i < 2 ^ 31 by omega)] at he6 ⊢
      refine br_t (by rw [a]; decide) fun y hy => ?_
      subst hy he6
      refine fin _ (fun t ht => ?_) (fun j hj => pk_un hj)
      rw [pk_us, b, qa_sh (by omega) ht]
      unfold qg_E
      rw [b, nI_clamp (by omega), a]
      constructor
      · intro h; exact ⟨by decide, Or.inl (of_decide_eq_true h).symm⟩
      · rintro ⟨_, h | ⟨h, _⟩⟩
        · exact decide_eq_true h.symm
        · exact absurd (by decide) h
    · have c0 : ¬ a_endCond i < 0 := by rw [a]; exact nI_pos (by omega)
      refine br_f (by rw [a]; exact qn_m2 (by omega)) ⟨hi24, hi24, fun e6 he6 => ⟨hi24, ?_⟩⟩
      rw [nI_clamp (show i < 2 ^ 31 by omega)] at he6 ⊢
      refine br_f c0 ⟨hi24, hi24, hi24, fun e13 he13 y' hy' => ?_⟩
      subst hy' he13 he6
      refine fin _ (fun t ht => ?_) (fun j hj => by rw [pk_un hj, pk_un hj])
      rw [pk_us, pk_us, b_or, b, d, qa_sh (by omega) ht, qa_sh (by omega) ht]
      unfold qg_E
      rw [b, d, nI_clamp (by omega), nI_clamp (by omega), Bool.or_eq_true, decide_eq_true_eq, decide_eq_true_eq]
      constructor
      · rintro (h | h)
        · exact ⟨by rw [a]; exact qn_m2 (by omega), Or.inl h.symm⟩
        · exact ⟨by rw [a]; exact qn_m2 (by omega), Or.inr ⟨c0, h.symm⟩⟩
      · rintro ⟨_, h | ⟨_, h⟩⟩
        · exact Or.inl h.symm
        · exact Or.inr h.symm
theorem xa_phisMatch {post : Int32 → Prop} (hB : B ≤ 24) (hN : N ≤ 32) (Wn : qg_Wn B N a_home a_kinds a_fieldA a_fieldB) (he : ∀ p t, p < B → t < 32 → (bt (a_edges p) t = true ↔ qg_E a_endCond a_endYes a_endNo p t)) (h1 : qd_P B N a_home a_kinds a_rowOf a_endCond a_endYes a_endNo → post 1) (h0 : ¬ qd_P B N a_home a_kinds a_rowOf a_endCond a_endYes a_endNo → post 0) : wpX_phisMatch post (nI B, f_nodeLimit, f_rowLimit, f_heldLimit, f_isSealed, nI N, nI R, f_phiMask, f_reachedMask, f_pendingNodes, f_pendingEnds, f_foundState, f_foundValue, f_heldCount, f_taken, f_prints, f_nextBlock, f_leftBlock, a_home, a_kinds, a_fieldA, a_fieldB, a_rowPhi, a_rowPred, a_rowValue, a_rowOf, a_endCond, a_endYes, a_endNo, a_nodesIn, a_edges, a_dom, a_liveOut, a_users, a_branchers, a_needs, a_states, a_constants, a_held, a_paper, a_lastValue, a_incoming, a_visitCount) := by
  refine ql_0 (fun n i (_ : Unit) => wX_phisMatch_2 post (nI B) f_nodeLimit f_rowLimit f_heldLimit f_isSealed (nI N) (nI R) f_phiMask f_reachedMask f_pendingNodes f_pendingEnds f_foundState f_foundValue f_heldCount f_taken f_prints f_nextBlock f_leftBlock a_home a_kinds a_fieldA a_fieldB a_rowPhi a_rowPred a_rowValue a_rowOf a_endCond a_endYes a_endNo a_nodesIn a_edges a_dom a_liveOut a_users a_branchers a_needs a_states a_constants a_held a_paper a_lastValue a_incoming a_visitCount n (nI i)) (fun i _ => ∀ n p, n < i → p < B → a_kinds n = 0 → (qg_E a_endCond a_endYes a_endNo p (a_home n).toNatClampNeg ↔ ¬ a_rowOf (n * 24 + p) = 0)) N () (fun n p h => absurd h (Nat.not_lt_zero _)) (fun n _ I => ?_) (fun n i _ hi I next => ?_)
  · exact pk_le N N (fun _ => h1 I) (fun h => absurd h (Nat.lt_irrefl _))
  · obtain ⟨_, _, ⟨b, hb, eb, _⟩, _⟩ := Wn i hi
    have ebc : (a_home i).toNatClampNeg = b := by rw [eb, nI_clamp (by omega)]
    refine pk_le N i (fun h => by omega) (fun _ => ?_)
    refine ql_0 (fun n' j (_ : Unit) => wX_phisMatch_12 post (wX_phisMatch_2 post (nI B) f_nodeLimit f_rowLimit f_heldLimit f_isSealed (nI N) (nI R) f_phiMask f_reachedMask f_pendingNodes f_pendingEnds f_foundState f_foundValue f_heldCount f_taken f_prints f_nextBlock f_leftBlock a_home a_kinds a_fieldA a_fieldB a_rowPhi a_rowPred a_rowValue a_rowOf a_endCond a_endYes a_endNo a_nodesIn a_edges a_dom a_liveOut a_users a_branchers a_needs a_states a_constants a_held a_paper a_lastValue a_incoming a_visitCount n) (nI i) (nI B) f_nodeLimit f_rowLimit f_heldLimit f_isSealed (nI N) (nI R) f_phiMask f_reachedMask f_pendingNodes f_pendingEnds f_foundState f_foundValue f_heldCount f_taken f_prints f_nextBlock f_leftBlock a_home a_kinds a_fieldA a_fieldB a_rowPhi a_rowPred a_rowValue a_rowOf a_endCond a_endYes a_endNo a_nodesIn a_edges a_dom a_liveOut a_users a_branchers a_needs a_states a_constants a_held a_paper a_lastValue a_incoming a_visitCount n' (nI j)) (fun j _ => ∀ p, p < j → a_kinds i = 0 → (qg_E a_endCond a_endYes a_endNo p (a_home i).toNatClampNeg ↔ ¬ a_rowOf (i * 24 + p) = 0)) B () (fun p h => absurd h (Nat.not_lt_zero _)) (fun n' _ I' => ?_) (fun n' j _ hj I' next' => ?_)
    · refine pk_le B B (fun _ y hy => ?_) (fun h => absurd h (Nat.lt_irrefl _))
      subst hy
      rw [nI_1]
      refine next () (fun m p hm hp => ?_)
      by_cases z : m = i
      · subst z; exact I' p hp
      · exact I m p (by omega) hp
    · have hi32 : vp_in (nI i) 32 := vp_in_nI (by omega) (by omega)
      have hj24 : vp_in (nI j) 24 := vp_in_nI (by omega) (by omega)
      obtain ⟨x1, x2⟩ := qn_x24 (n := i) (p := j) (by omega) (by omega)
      have go : (a_kinds i = 0 → (qg_E a_endCond a_endYes a_endNo j (a_home i).toNatClampNeg ↔ ¬ a_rowOf (i * 24 + j) = 0)) → wX_phisMatch_12 post (wX_phisMatch_2 post (nI B) f_nodeLimit f_rowLimit f_heldLimit f_isSealed (nI N) (nI R) f_phiMask f_reachedMask f_pendingNodes f_pendingEnds f_foundState f_foundValue f_heldCount f_taken f_prints f_nextBlock f_leftBlock a_home a_kinds a_fieldA a_fieldB a_rowPhi a_rowPred a_rowValue a_rowOf a_endCond a_endYes a_endNo a_nodesIn a_edges a_dom a_liveOut a_users a_branchers a_needs a_states a_constants a_held a_paper a_lastValue a_incoming a_visitCount n) (nI i) (nI B) f_nodeLimit f_rowLimit f_heldLimit f_isSealed (nI N) (nI R) f_phiMask f_reachedMask f_pendingNodes f_pendingEnds f_foundState f_foundValue f_heldCount f_taken f_prints f_nextBlock f_leftBlock a_home a_kinds a_fieldA a_fieldB a_rowPhi a_rowPred a_rowValue a_rowOf a_endCond a_endYes a_endNo a_nodesIn a_edges a_dom a_liveOut a_users a_branchers a_needs a_states a_constants a_held a_paper a_lastValue a_incoming a_visitCount n' (nI j + 1) := fun h => by
        rw [nI_1]
        refine next' () (fun p hp k => ?_)
        by_cases z : p = j
        · subst z; exact h k
        · exact I' p (by omega) k
      refine pk_le B j (fun h => by omega) (fun _ => ⟨hi32, ?_⟩)
      rw [nI_clamp (show i < 2 ^ 31 by omega), nI_clamp (show j < 2 ^ 31 by omega)]
      refine br_c (fun k => ⟨hj24, hi32, ?_⟩) (fun k y hy => ?_)
      · rw [eb]
        have ee := he j b hj (by omega)
        have bad : ¬ (qg_E a_endCond a_endYes a_endNo j b ↔ ¬ a_rowOf (i * 24 + j) = 0) → post 0 := fun h => h0 fun P => h (by
          have := P i j hi hj k
          rw [ebc] at this; exact this)
        refine xa_hb (by omega) (fun hb0 => ?_) (fun hb1 => ?_)
        · have nE : ¬ qg_E a_endCond a_endYes a_endNo j b := fun z => by rw [ee.mpr z] at hb0; cases hb0
          rw [x1, nI_clamp (by omega)]
          refine ⟨vp_in_nI x2 (by omega), br_c (fun z => ?_) (fun z => ?_)⟩
          · exact br_f (by decide) fun y hy => by
              subst hy
              exact go fun _ => by rw [ebc]; exact ⟨fun h => absurd h nE, fun h => absurd z h⟩
          · exact br_t rfl (bad fun h => nE (h.mpr z))
        · have yE : qg_E a_endCond a_endYes a_endNo j b := ee.mp hb1
          rw [x1, nI_clamp (by omega)]
          refine ⟨vp_in_nI x2 (by omega), br_c (fun z => ?_) (fun z => ?_)⟩
          · exact br_t rfl (bad fun h => h.mp yE z)
          · exact br_f (by decide) fun y hy => by
              subst hy
              exact go fun _ => by rw [ebc]; exact ⟨fun _ => z, fun _ => yE⟩
      · subst hy
        exact go fun k' => absurd k' k
end
end
section
/-! the component's walks: dominators -/
theorem xb_sub {x y : Int32} : (x &&& (y ^^^ (-1))) = 0 ↔ ∀ b, b < 32 → bt x b = true → bt y b = true := by
  constructor
  · intro h b hb hx
    have e := b_and x (y ^^^ (-1)) b
    rw [h, b_0, hx, qa_not y hb] at e
    cases e2 : bt y b
    · rw [e2] at e; cases e
    · rfl
  · intro h
    apply qa_z
    intro b hb
    rw [b_and, qa_not y hb]
    cases e : bt x b
    · rfl
    · rw [h b hb e]; rfl
section
variable {B N R : Nat} {f_nodeLimit f_rowLimit f_heldLimit f_isSealed f_phiMask f_reachedMask f_pendingNodes f_pendingEnds f_foundState f_foundValue f_heldCount f_taken f_prints f_nextBlock f_leftBlock : Int32} {a_home a_kinds a_fieldA a_fieldB a_rowPhi a_rowPred a_rowValue a_rowOf a_endCond a_endYes a_endNo a_nodesIn a_edges a_dom a_liveOut a_users a_branchers a_needs a_states a_constants a_held a_paper a_lastValue a_incoming a_visitCount : Nat → Int32}
theorem xb_sweep {post : Int32 → SX → Prop} (hB : B ≤ 24) (hB0 : 0 < B) (We : qg_We B N a_endCond a_endYes a_endNo) (he : ∀ p t, p < B → t < 32 → (bt (a_edges p) t = true ↔ qg_E a_endCond a_endYes a_endNo p t)) {r : Nat} (S : qd_S B a_endCond a_endYes a_endNo a_dom) (C : qd_C B a_endCond a_endYes a_endNo a_dom r B) (K : ∀ (c : Int32) (dm : Nat → Int32), (c = 0 ∨ c = 1) → qd_S B a_endCond a_endYes a_endNo dm → qd_C B a_endCond a_endYes a_endNo dm (r + 1) B → (c = 0 → qd_F B a_endCond a_endYes a_endNo dm B) → post c (nI B, f_nodeLimit, f_rowLimit, f_heldLimit, f_isSealed, nI N, nI R, f_phiMask, f_reachedMask, f_pendingNodes, f_pendingEnds, f_foundState, f_foundValue, f_heldCount, f_taken, f_prints, f_nextBlock, f_leftBlock, a_home, a_kinds, a_fieldA, a_fieldB, a_rowPhi, a_rowPred, a_rowValue, a_rowOf, a_endCond, a_endYes, a_endNo, a_nodesIn, a_edges, dm, a_liveOut, a_users, a_branchers, a_needs, a_states, a_constants, a_held, a_paper, a_lastValue, a_incoming, a_visitCount)) : wpX_sweepDominators post (nI B, f_nodeLimit, f_rowLimit, f_heldLimit, f_isSealed, nI N, nI R, f_phiMask, f_reachedMask, f_pendingNodes, f_pendingEnds, f_foundState, f_foundValue, f_heldCount, f_taken, f_prints, f_nextBlock, f_leftBlock, a_home, a_kinds, a_fieldA, a_fieldB, a_rowPhi, a_rowPred, a_rowValue, a_rowOf, a_endCond, a_endYes, a_endNo, a_nodesIn, a_edges, a_dom, a_liveOut, a_users, a_branchers, a_needs, a_states, a_constants, a_held, a_paper, a_lastValue, a_incoming, a_visitCount) := by
  have noE0 : ∀ p, p < B → ¬ qg_E a_endCond a_endYes a_endNo p 0 := fun p hp h => absurd (qg_E_in We hB hp h).1 (Nat.lt_irrefl _)
  refine ⟨B, ql_up (fun n i (s : Int32 × (Nat → Int32)) => wX_sweepDominators_4 post (nI B) f_nodeLimit f_rowLimit f_heldLimit f_isSealed (nI N) (nI R) f_phiMask f_reachedMask f_pendingNodes f_pendingEnds f_foundState f_foundValue f_heldCount f_taken f_prints f_nextBlock f_leftBlock n s.1 (nI i) a_home a_kinds a_fieldA a_fieldB a_rowPhi a_rowPred a_rowValue a_rowOf a_endCond a_endYes a_endNo a_nodesIn a_edges s.2 a_liveOut a_users a_branchers a_needs a_states a_constants a_held a_paper a_lastValue a_incoming a_visitCount) (fun i s => (s.1 = 0 ∨ s.1 = 1) ∧ qd_S B a_endCond a_endYes a_endNo s.2 ∧ qd_C B a_endCond a_endYes a_endNo s.2 r B ∧ qd_C B a_endCond a_endYes a_endNo s.2 (r + 1) i ∧ (s.1 = 0 → qd_F B a_endCond a_endYes a_endNo s.2 i)) B (fun n s I => ?_) (fun n i s hi I next => ?_) B 1 (0, a_dom) (by omega) (by omega) ⟨Or.inl rfl, S, C, fun y x hy hx h => ?_, fun _ y x p hy hx hp h => ?_⟩⟩
  · obtain ⟨c, dm⟩ := s
    obtain ⟨I1, I2, I3, I4, I5⟩ := I
    have I1 : c = 0 ∨ c = 1 := I1
    refine pk_le B B (fun _ => ?_) (fun h => absurd h (Nat.lt_irrefl _))
    refine ⟨?_, K c dm I1 I2 I4 I5⟩
    rcases I1 with rfl | rfl
    · exact narrow_b0
    · exact narrow_b1
  · obtain ⟨c, dm⟩ := s
    obtain ⟨I1, I2, I3, I4, I5⟩ := I
    have I1 : c = 0 ∨ c = 1 := I1
    have hi24 : vp_in (nI i) 24 := vp_in_nI (by omega) (by omega)
    refine pk_le B i (fun h => by omega) (fun _ => ⟨hi24, fun m0 em0 => ?_⟩)
    have em0 : m0 = dm i := by rw [em0]; show dm _ = _; rw [nI_clamp (by omega)]
    subst em0
    refine ql_0 (fun n' j m => wX_sweepDominators_22 post (wX_sweepDominators_4 post (nI B) f_nodeLimit f_rowLimit f_heldLimit f_isSealed (nI N) (nI R) f_phiMask f_reachedMask f_pendingNodes f_pendingEnds f_foundState f_foundValue f_heldCount f_taken f_prints f_nextBlock f_leftBlock n) c (nI i) (nI B) f_nodeLimit f_rowLimit f_heldLimit f_isSealed (nI N) (nI R) f_phiMask f_reachedMask f_pendingNodes f_pendingEnds f_foundState f_foundValue f_heldCount f_taken f_prints f_nextBlock f_leftBlock a_home a_kinds a_fieldA a_fieldB a_rowPhi a_rowPred a_rowValue a_rowOf a_endCond a_endYes a_endNo a_nodesIn a_edges dm a_liveOut a_users a_branchers a_needs a_states a_constants a_held a_paper a_lastValue a_incoming a_visitCount n' m (nI j)) (fun j m => ∀ x, x < 32 → (bt m x = true ↔ bt (dm i) x = true ∧ ∀ p, p < j → qg_E a_endCond a_endYes a_endNo p i → bt (dm p) x = true)) B (dm i) (fun x hx => ⟨fun h => ⟨h, fun p hp => absurd hp (Nat.not_lt_zero _)⟩, fun h => h.1⟩) (fun n' m I' => ?_) (fun n' j m hj I' next' => ?_)
    · refine pk_le B B (fun _ m' em' => ⟨hi24, ?_⟩) (fun h => absurd h (Nat.lt_irrefl _))
      have hm' : ∀ x, x < 32 → (bt m' x = true ↔ x = i ∨ (bt (dm i) x = true ∧ ∀ p, p < B → qg_E a_endCond a_endYes a_endNo p i → bt (dm p) x = true)) := fun x hx => by
        rw [em', b_or, qa_sh (by omega) hx, Bool.or_eq_true, decide_eq_true_eq, I' x hx]
        exact Or.comm
      obtain ⟨S1, S2, S3⟩ := qd_step hB hi I2 I3 I4 hm'
      rw [nI_clamp (show i < 2 ^ 31 by omega)]
      refine br_c (fun z => ⟨hi24, fun dm' edm y ey => ?_⟩) (fun z => ⟨hi24, fun dm' edm y ey => ?_⟩)
      · subst ey edm
        rw [nI_1]
        refine next (c, upd dm i m') ⟨I1, S1, S2, S3, fun hc => ?_⟩
        have F := I5 hc
        show qd_F B a_endCond a_endYes a_endNo (upd dm i m') (i + 1)
        rw [z, qn_upd_id]
        intro y x p hy hx hp e ne h
        by_cases q : y = i
        · subst q
          refine qn_tf fun w => ?_
          rw [← z] at w
          rcases (hm' x (by omega)).mp w with w | ⟨_, w⟩
          · exact ne w
          · rw [w p hp e] at h; cases h
        · exact F y x p (by omega) hx hp e ne h
      · subst ey edm
        rw [nI_1]
        exact next (1, upd dm i m') ⟨Or.inr rfl, S1, S2, S3, fun hc => absurd hc qp_10⟩
    · have hj24 : vp_in (nI j) 24 := vp_in_nI (by omega) (by omega)
      refine pk_le B j (fun h => by omega) (fun _ => ⟨hj24, ?_⟩)
      rw [nI_clamp (show j < 2 ^ 31 by omega)]
      refine xa_hb (by omega) (fun hb => br_t rfl fun y ey => ?_) (fun hb => br_f (by decide) ⟨hj24, fun y ey y' ey' => ?_⟩)
      · subst ey
        rw [nI_1]
        refine next' m (fun x hx => ?_)
        rw [I' x hx]
        refine and_congr_right fun _ => ⟨fun h p hp e => ?_, fun h p hp e => h p (by omega) e⟩
        by_cases z : p = j
        · subst z
          rw [(he p i hj (by omega)).mpr e] at hb; cases hb
        · exact h p (by omega) e
      · subst ey ey'
        rw [nI_1]
        refine next' _ (fun x hx => ?_)
        rw [b_and, Bool.and_eq_true, I' x hx]
        have ej := (he j i hj (by omega)).mp hb
        constructor
        · rintro ⟨⟨a, b⟩, c⟩
          refine ⟨a, fun p hp e => ?_⟩
          by_cases z : p = j
          · subst z; exact c
          · exact b p (by omega) e
        · rintro ⟨a, b⟩
          exact ⟨⟨a, fun p hp e => b p (by omega) e⟩, b j (by omega) ej⟩
  · have y0 : y = 0 := by omega
    subst y0
    rcases h with h | ⟨_, p, hp, _, e⟩
    · exact C 0 x hB0 hx h
    · exact absurd e (noE0 p hp)
  · have y0 : y = 0 := by omega
    subst y0
    exact absurd h (noE0 p hp)
theorem xb_findDom {post : SX → Prop} (hB : B ≤ 24) (hB0 : 0 < B) (We : qg_We B N a_endCond a_endYes a_endNo) (he : ∀ p t, p < B → t < 32 → (bt (a_edges p) t = true ↔ qg_E a_endCond a_endYes a_endNo p t)) (K : ∀ dm : Nat → Int32, (∀ y x, y < B → x < B → (bt (dm y) x = true ↔ ¬ qd_A B a_endCond a_endYes a_endNo x y)) → post (nI B, f_nodeLimit, f_rowLimit, f_heldLimit, f_isSealed, nI N, nI R, f_phiMask, f_reachedMask, f_pendingNodes, f_pendingEnds, f_foundState, f_foundValue, f_heldCount, f_taken, f_prints, f_nextBlock, f_leftBlock, a_home, a_kinds, a_fieldA, a_fieldB, a_rowPhi, a_rowPred, a_rowValue, a_rowOf, a_endCond, a_endYes, a_endNo, a_nodesIn, a_edges, dm, a_liveOut, a_users, a_branchers, a_needs, a_states, a_constants, a_held, a_paper, a_lastValue, a_incoming, a_visitCount)) : wpX_findDominators post (nI B, f_nodeLimit, f_rowLimit, f_heldLimit, f_isSealed, nI N, nI R, f_phiMask, f_reachedMask, f_pendingNodes, f_pendingEnds, f_foundState, f_foundValue, f_heldCount, f_taken, f_prints, f_nextBlock, f_leftBlock, a_home, a_kinds, a_fieldA, a_fieldB, a_rowPhi, a_rowPred, a_rowValue, a_rowOf, a_endCond, a_endYes, a_endNo, a_nodesIn, a_edges, a_dom, a_liveOut, a_users, a_branchers, a_needs, a_states, a_constants, a_held, a_paper, a_lastValue, a_incoming, a_visitCount) := by
  refine ql_0 (fun n i dm => wX_findDominators_2 post (nI B) f_nodeLimit f_rowLimit f_heldLimit f_isSealed (nI N) (nI R) f_phiMask f_reachedMask f_pendingNodes f_pendingEnds f_foundState f_foundValue f_heldCount f_taken f_prints f_nextBlock f_leftBlock n (nI i) a_home a_kinds a_fieldA a_fieldB a_rowPhi a_rowPred a_rowValue a_rowOf a_endCond a_endYes a_endNo a_nodesIn a_edges dm a_liveOut a_users a_branchers a_needs a_states a_constants a_held a_paper a_lastValue a_incoming a_visitCount) (fun i dm => ∀ b, b < i → ∀ j, j < 32 → bt (dm b) j = decide (j < B)) B a_dom (fun b hb => absurd hb (Nat.not_lt_zero _)) (fun n dm I => ?_) (fun n i dm hi I next => ?_)
  · refine pk_le B B (fun _ dm' edm => ?_) (fun h => absurd h (Nat.lt_irrefl _))
    have h0 := qd_init (B := B) (ec := a_endCond) (ey := a_endYes) (en := a_endNo) hB hB0 (dm := dm') (by rw [edm]; exact pk_us) (fun b hb hb' j hj => by rw [edm, pk_un (by omega)]; exact I b hb' j hj)
    refine ql_0 (fun n' i (s : Int32 × (Nat → Int32)) => wX_findDominators_41 post n' s.1 (nI i) (nI B) f_nodeLimit f_rowLimit f_heldLimit f_isSealed (nI N) (nI R) f_phiMask f_reachedMask f_pendingNodes f_pendingEnds f_foundState f_foundValue f_heldCount f_taken f_prints f_nextBlock f_leftBlock a_home a_kinds a_fieldA a_fieldB a_rowPhi a_rowPred a_rowValue a_rowOf a_endCond a_endYes a_endNo a_nodesIn a_edges s.2 a_liveOut a_users a_branchers a_needs a_states a_constants a_held a_paper a_lastValue a_incoming a_visitCount) (fun i s => qd_S B a_endCond a_endYes a_endNo s.2 ∧ qd_C B a_endCond a_endYes a_endNo s.2 i B ∧ (s.1 = 0 → qd_F B a_endCond a_endYes a_endNo s.2 B)) B (1, dm') ⟨h0.1, h0.2, fun z => absurd z qp_10⟩ (fun n' s I' => ?_) (fun n' i s hi I' next' => ?_)
    · exact pk_le B B (fun _ => K s.2 (qd_end hB0 hB We I'.1 I'.2.1 (Or.inl rfl))) (fun h => absurd h (Nat.lt_irrefl _))
    · refine pk_le B i (fun h => by omega) (fun _ => br_c (fun z => K s.2 (qd_end hB0 hB We I'.1 I'.2.1 (Or.inr (I'.2.2 z)))) (fun z => ?_))
      refine xb_sweep hB hB0 We he I'.1 I'.2.1 (fun c dm2 hc h1 h2 h3 y ey => ?_)
      subst ey
      rw [nI_1]
      exact next' (c, dm2) ⟨h1, h2, h3⟩
  · have hi24 : vp_in (nI i) 24 := vp_in_nI (by omega) (by omega)
    refine pk_le B i (fun h => by omega) (fun _ => ⟨hi24, fun dm' edm y ey => ?_⟩)
    subst ey
    rw [nI_1]
    refine next dm' (fun b hb j hj => ?_)
    rw [edm, nI_clamp (by omega)]
    by_cases z : b = i
    · subst z; rw [pk_us]; exact qa_full0 B (by omega) j hj
    · rw [pk_un z]; exact I b (by omega) j hj
theorem xb_domHolds {post : Int32 → Prop} (hB : B ≤ 24) (hN : N ≤ 32) (hR : R ≤ 48) (We : qg_We B N a_endCond a_endYes a_endNo) (Wn : qg_Wn B N a_home a_kinds a_fieldA a_fieldB) (Wr : qg_Wr B N R a_kinds a_rowPhi a_rowPred a_rowValue a_rowOf) (Wd : qg_Wd N a_home a_kinds a_fieldA a_fieldB a_needs) (hd : ∀ y x, y < B → x < B → (bt (a_dom y) x = true ↔ ¬ qd_A B a_endCond a_endYes a_endNo x y)) (h1 : qd_D B N R a_home a_kinds a_fieldA a_fieldB a_rowPred a_rowValue a_endCond a_endYes a_endNo → post 1) (h0 : ¬ qd_D B N R a_home a_kinds a_fieldA a_fieldB a_rowPred a_rowValue a_endCond a_endYes a_endNo → post 0) : wpX_dominanceHolds post (nI B, f_nodeLimit, f_rowLimit, f_heldLimit, f_isSealed, nI N, nI R, f_phiMask, f_reachedMask, f_pendingNodes, f_pendingEnds, f_foundState, f_foundValue, f_heldCount, f_taken, f_prints, f_nextBlock, f_leftBlock, a_home, a_kinds, a_fieldA, a_fieldB, a_rowPhi, a_rowPred, a_rowValue, a_rowOf, a_endCond, a_endYes, a_endNo, a_nodesIn, a_edges, a_dom, a_liveOut, a_users, a_branchers, a_needs, a_states, a_constants, a_held, a_paper, a_lastValue, a_incoming, a_visitCount) := by
  have hh : ∀ n, n < N → (a_home n).toNatClampNeg < B := fun n hn => by
    obtain ⟨_, _, ⟨b, hb, eb, _⟩, _⟩ := Wn n hn
    rw [eb, nI_clamp (by omega)]; exact hb
  have hv : ∀ n, n < N → vp_in (a_home n) B := fun n hn => by
    obtain ⟨_, _, ⟨b, hb, eb, _⟩, _⟩ := Wn n hn
    rw [eb]; exact vp_in_nI hb (by omega)
  refine ql_0 (fun n i (_ : Unit) => wX_dominanceHolds_2 post (nI B) f_nodeLimit f_rowLimit f_heldLimit f_isSealed (nI N) (nI R) f_phiMask f_reachedMask f_pendingNodes f_pendingEnds f_foundState f_foundValue f_heldCount f_taken f_prints f_nextBlock f_leftBlock a_home a_kinds a_fieldA a_fieldB a_rowPhi a_rowPred a_rowValue a_rowOf a_endCond a_endYes a_endNo a_nodesIn a_edges a_dom a_liveOut a_users a_branchers a_needs a_states a_constants a_held a_paper a_lastValue a_incoming a_visitCount n (nI i)) (fun i _ => ∀ n, n < i → (¬ a_kinds n < 3 → ¬ qd_A B a_endCond a_endYes a_endNo (a_home (a_fieldA n).toNatClampNeg).toNatClampNeg (a_home n).toNatClampNeg) ∧ (¬ a_kinds n < 3 → ¬ 7 < a_kinds n → ¬ qd_A B a_endCond a_endYes a_endNo (a_home (a_fieldB n).toNatClampNeg).toNatClampNeg (a_home n).toNatClampNeg)) N () (fun n h => absurd h (Nat.not_lt_zero _)) (fun n _ I1 => ?_) (fun n i _ hi I next => ?_)
  · refine pk_le N N (fun _ => ?_) (fun h => absurd h (Nat.lt_irrefl _))
    refine ql_0 (fun n i (_ : Unit) => wX_dominanceHolds_43 post (nI B) f_nodeLimit f_rowLimit f_heldLimit f_isSealed (nI N) (nI R) f_phiMask f_reachedMask f_pendingNodes f_pendingEnds f_foundState f_foundValue f_heldCount f_taken f_prints f_nextBlock f_leftBlock a_home a_kinds a_fieldA a_fieldB a_rowPhi a_rowPred a_rowValue a_rowOf a_endCond a_endYes a_endNo a_nodesIn a_edges a_dom a_liveOut a_users a_branchers a_needs a_states a_constants a_held a_paper a_lastValue a_incoming a_visitCount n (nI i)) (fun i _ => ∀ r, r < i → ¬ qd_A B a_endCond a_endYes a_endNo (a_home (a_rowValue r).toNatClampNeg).toNatClampNeg (a_rowPred r).toNatClampNeg) R () (fun n h => absurd h (Nat.not_lt_zero _)) (fun n _ I2 => ?_) (fun n i _ hi I next => ?_)
    · refine pk_le R R (fun _ => ?_) (fun h => absurd h (Nat.lt_irrefl _))
      refine ql_0 (fun n i (_ : Unit) => wX_dominanceHolds_90 post (nI B) f_nodeLimit f_rowLimit f_heldLimit f_isSealed (nI N) (nI R) f_phiMask f_reachedMask f_pendingNodes f_pendingEnds f_foundState f_foundValue f_heldCount f_taken f_prints f_nextBlock f_leftBlock a_home a_kinds a_fieldA a_fieldB a_rowPhi a_rowPred a_rowValue a_rowOf a_endCond a_endYes a_endNo a_nodesIn a_edges a_dom a_liveOut a_users a_branchers a_needs a_states a_constants a_held a_paper a_lastValue a_incoming a_visitCount n (nI i)) (fun i _ => ∀ p, p < i → ¬ a_endCond p < 0 → ¬ qd_A B a_endCond a_endYes a_endNo (a_home (a_endCond p).toNatClampNeg).toNatClampNeg p) B () (fun n h => absurd h (Nat.not_lt_zero _)) (fun n _ I3 => ?_) (fun n i _ hi I next => ?_)
      · exact pk_le B B (fun _ => h1 ⟨I1, I2, I3⟩) (fun h => absurd h (Nat.lt_irrefl _))
      · have hi24 : vp_in (nI i) 24 := vp_in_nI (by omega) (by omega)
        refine pk_le B i (fun h => by omega) (fun _ => ⟨hi24, ?_⟩)
        rw [nI_clamp (show i < 2 ^ 31 by omega)]
        refine br_c (fun z y ey => ?_) (fun z => ?_)
        · subst ey
          rw [nI_1]
          refine next () (fun p hp hz => ?_)
          by_cases q : p = i
          · subst q; exact absurd z hz
          · exact I p (by omega) hz
        · obtain ⟨c, hc, e1, e2⟩ := qg_cond We hN hi z
          have hcv : vp_in (a_endCond i) 32 := by rw [e1]; exact vp_in_nI (by omega) (by omega)
          refine ⟨hi24, hi24, hcv, ?_⟩
          refine xa_hbv (qn_in (hv _ (by rw [e2]; exact hc)) (by omega)) (fun hb => br_t rfl ?_) (fun hb => br_f (by decide) fun y ey => ?_)
          · refine h0 fun D => ?_
            have := (hd i _ hi (hh _ (by rw [e2]; exact hc))).mpr (D.2.2 i hi z)
            rw [hb] at this; cases this
          · subst ey
            rw [nI_1]
            refine next () (fun p hp hz => ?_)
            by_cases q : p = i
            · subst q; exact (hd p _ hi (hh _ (by rw [e2]; exact hc))).mp hb
            · exact I p (by omega) hz
    · have hi48 : vp_in (nI i) 48 := vp_in_nI (by omega) (by omega)
      obtain ⟨m, p, v, hm', hp, hv', e1, e2, e3, _⟩ := Wr.1 i hi
      refine pk_le R i (fun h => by omega) (fun _ => ⟨hi48, ?_⟩)
      rw [nI_clamp (show i < 2 ^ 31 by omega)]
      have e3c : (a_rowValue i).toNatClampNeg = v := by rw [e3, nI_clamp (by omega)]
      have e2c : (a_rowPred i).toNatClampNeg = p := by rw [e2, nI_clamp (by omega)]
      refine ⟨by rw [e2]; exact vp_in_nI (by omega) (by omega), hi48, by rw [e3]; exact vp_in_nI (by omega) (by omega), ?_⟩
      refine xa_hbv (qn_in (hv _ (by rw [e3c]; exact hv')) (by omega)) (fun hb => br_t rfl ?_) (fun hb => br_f (by decide) fun y ey => ?_)
      · refine h0 fun D => ?_
        have := (hd _ _ (by rw [e2c]; exact hp) (hh _ (by rw [e3c]; exact hv'))).mpr (D.2.1 i hi)
        rw [hb] at this; cases this
      · subst ey
        rw [nI_1]
        refine next () (fun r hr => ?_)
        by_cases q : r = i
        · subst q; exact (hd _ _ (by rw [e2c]; exact hp) (hh _ (by rw [e3c]; exact hv'))).mp hb
        · exact I r (by omega)
  · have hi32 : vp_in (nI i) 32 := vp_in_nI (by omega) (by omega)
    refine pk_le N i (fun h => by omega) (fun _ => ⟨hi32, ?_⟩)
    rw [nI_clamp (show i < 2 ^ 31 by omega)]
    refine ⟨hi32, qn_in (hv i hi) hB, ?_⟩
    obtain ⟨_, _, _, wa, wb⟩ := Wn i hi
    have ha : ¬ a_kinds i < 3 → (a_fieldA i).toNatClampNeg < N := fun k => by
      obtain ⟨a, ha, ea⟩ := wa k
      rw [ea, nI_clamp (by omega)]; omega
    have hb : ¬ a_kinds i < 3 → ¬ 7 < a_kinds i → (a_fieldB i).toNatClampNeg < N := fun k k' => by
      obtain ⟨a, ha, ea⟩ := wb k k'
      rw [ea, nI_clamp (by omega)]; omega
    refine br_c (fun z y ey => ?_) (fun z => ?_)
    · subst ey
      rw [nI_1]
      refine next () (fun n' hn' => ?_)
      by_cases q : n' = i
      · subst q
        have z := xb_sub.mp z
        refine ⟨fun k => ?_, fun k k' => ?_⟩
        · have hx := hh _ (ha k)
          exact (hd _ _ (hh n' hi) hx).mp (z _ (by omega) ((Wd.1 n' _ hi (by omega)).mpr (Or.inl ⟨k, rfl⟩)))
        · have hx := hh _ (hb k k')
          exact (hd _ _ (hh n' hi) hx).mp (z _ (by omega) ((Wd.1 n' _ hi (by omega)).mpr (Or.inr ⟨k, k', rfl⟩)))
      · exact I n' (by omega)
    · refine h0 fun D => z (xb_sub.mpr fun b hb' hx => ?_)
      rcases (Wd.1 i b hi hb').mp hx with ⟨k, e⟩ | ⟨k, k', e⟩
      · have hx := hh _ (ha k)
        rw [e] at hx
        exact (hd _ _ (hh i hi) hx).mpr (by rw [← e]; exact (D.1 i hi).1 k)
      · have hx := hh _ (hb k k')
        rw [e] at hx
        exact (hd _ _ (hh i hi) hx).mpr (by rw [← e]; exact (D.1 i hi).2 k k')
end
end
section
/-! the component's walks: the solver -/
theorem xc_compute {post : Int32 → Prop} {u : SX} {k x y : Int32} (h : post (qp_cp k x y)) : wpX_compute post u k x y := by
  obtain ⟨f_blockCount, f_nodeLimit, f_rowLimit, f_heldLimit, f_isSealed, f_nodeCount, f_rowCount, f_phiMask, f_reachedMask, f_pendingNodes, f_pendingEnds, f_foundState, f_foundValue, f_heldCount, f_taken, f_prints, f_nextBlock, f_leftBlock, a_home, a_kinds, a_fieldA, a_fieldB, a_rowPhi, a_rowPred, a_rowValue, a_rowOf, a_endCond, a_endYes, a_endNo, a_nodesIn, a_edges, a_dom, a_liveOut, a_users, a_branchers, a_needs, a_states, a_constants, a_held, a_paper, a_lastValue, a_incoming, a_visitCount⟩ := u
  unfold qp_cp at h
  refine br_c (fun a => ?_) (fun a => ?_)
  · rw [if_pos a] at h; exact h
  · rw [if_neg a] at h
    refine br_c (fun a => ?_) (fun a => ?_)
    · rw [if_pos a] at h; exact h
    · rw [if_neg a] at h
      refine br_c (fun a => ?_) (fun a => ?_)
      · rw [if_pos a] at h; exact h
      · rw [if_neg a] at h
        refine br_c (fun a => ?_) (fun a => ?_)
        · rw [if_pos a] at h
          refine br_c (fun a => ?_) (fun a => ?_)
          · rw [if_pos a] at h; exact h
          · rw [if_neg a] at h; exact h
        · rw [if_neg a] at h
          refine br_c (fun a => ?_) (fun a => ?_)
          · rw [if_pos a] at h; exact h
          · rw [if_neg a] at h; exact h
section
variable {B N R : Nat} {f_nodeLimit f_rowLimit f_heldLimit f_isSealed f_phiMask f_reachedMask f_pendingNodes f_pendingEnds f_foundState f_foundValue f_heldCount f_taken f_prints f_nextBlock f_leftBlock : Int32} {a_home a_kinds a_fieldA a_fieldB a_rowPhi a_rowPred a_rowValue a_rowOf a_endCond a_endYes a_endNo a_nodesIn a_edges a_dom a_liveOut a_users a_branchers a_needs a_states a_constants a_held a_paper a_lastValue a_incoming a_visitCount : Nat → Int32}
theorem xc_low {post : Int32 → Prop} {x : Int32} (hx : ¬ x = 0) (K : ∀ i, i < 32 → bt x i = true → (∀ j, j < i → bt x j = false) → post (nI i)) : wpX_lowestBit post (nI B, f_nodeLimit, f_rowLimit, f_heldLimit, f_isSealed, nI N, nI R, f_phiMask, f_reachedMask, f_pendingNodes, f_pendingEnds, f_foundState, f_foundValue, f_heldCount, f_taken, f_prints, f_nextBlock, f_leftBlock, a_home, a_kinds, a_fieldA, a_fieldB, a_rowPhi, a_rowPred, a_rowValue, a_rowOf, a_endCond, a_endYes, a_endNo, a_nodesIn, a_edges, a_dom, a_liveOut, a_users, a_branchers, a_needs, a_states, a_constants, a_held, a_paper, a_lastValue, a_incoming, a_visitCount) x := by
  refine ql_0 (fun n i (_ : Unit) => wX_lowestBit_2 post x (nI B) f_nodeLimit f_rowLimit f_heldLimit f_isSealed (nI N) (nI R) f_phiMask f_reachedMask f_pendingNodes f_pendingEnds f_foundState f_foundValue f_heldCount f_taken f_prints f_nextBlock f_leftBlock a_home a_kinds a_fieldA a_fieldB a_rowPhi a_rowPred a_rowValue a_rowOf a_endCond a_endYes a_endNo a_nodesIn a_edges a_dom a_liveOut a_users a_branchers a_needs a_states a_constants a_held a_paper a_lastValue a_incoming a_visitCount n (nI i)) (fun i _ => ∀ j, j < i → bt x j = false) 32 () (fun j h => absurd h (Nat.not_lt_zero _)) (fun n _ I => ?_) (fun n i _ hi I next => ?_)
  · exact absurd (qa_z I) hx
  · refine pk_le 32 i (fun h => by omega) (fun _ => ?_)
    refine xa_hb hi (fun hb => br_t rfl fun y ey => ?_) (fun hb => br_f (by decide) (K i hi hb I))
    subst ey
    rw [nI_1]
    refine next () (fun j hj => ?_)
    by_cases z : j = i
    · subst z; exact hb
    · exact I j (by omega)
theorem xc_enter {post : SX → Prop} {t : Nat} (ht : t < 24) (K : ∀ pn pe rm : Int32, (∀ i, i < 32 → bt pn i = (bt f_pendingNodes i || (bt (a_nodesIn t) i && (!bt f_reachedMask t || bt f_phiMask i)))) → (∀ i, i < 32 → bt pe i = (bt f_pendingEnds i || (decide (i = t) && !bt f_reachedMask t))) → (∀ i, i < 32 → bt rm i = (bt f_reachedMask i || decide (i = t))) → post (nI B, f_nodeLimit, f_rowLimit, f_heldLimit, f_isSealed, nI N, nI R, f_phiMask, rm, pn, pe, f_foundState, f_foundValue, f_heldCount, f_taken, f_prints, f_nextBlock, f_leftBlock, a_home, a_kinds, a_fieldA, a_fieldB, a_rowPhi, a_rowPred, a_rowValue, a_rowOf, a_endCond, a_endYes, a_endNo, a_nodesIn, a_edges, a_dom, a_liveOut, a_users, a_branchers, a_needs, a_states, a_constants, a_held, a_paper, a_lastValue, a_incoming, a_visitCount)) : wpX_enter post (nI B, f_nodeLimit, f_rowLimit, f_heldLimit, f_isSealed, nI N, nI R, f_phiMask, f_reachedMask, f_pendingNodes, f_pendingEnds, f_foundState, f_foundValue, f_heldCount, f_taken, f_prints, f_nextBlock, f_leftBlock, a_home, a_kinds, a_fieldA, a_fieldB, a_rowPhi, a_rowPred, a_rowValue, a_rowOf, a_endCond, a_endYes, a_endNo, a_nodesIn, a_edges, a_dom, a_liveOut, a_users, a_branchers, a_needs, a_states, a_constants, a_held, a_paper, a_lastValue, a_incoming, a_visitCount) (nI t) := by
  have h24 : vp_in (nI t) 24 := vp_in_nI ht (by omega)
  unfold wpX_enter
  dsimp only
  refine xa_hb (by omega) (fun hb => br_t rfl (br_f (by decide) ⟨h24, fun pn epn => br_f (by decide) fun pe epe rm erm => K pn pe rm (fun i hi => ?_) (fun i hi => ?_) (fun i hi => ?_)⟩)) (fun hb => br_f (by decide) (br_t rfl ⟨h24, fun pn epn => br_t rfl fun rm erm => K pn _ rm (fun i hi => ?_) (fun i hi => ?_) (fun i hi => ?_)⟩))
  · rw [epn, b_or, hb, nI_clamp (by omega)]; simp
  · rw [epe, b_or, hb, qa_sh (by omega) hi]; simp
  · rw [erm, b_or, qa_sh (by omega) hi]
  · rw [epn, b_or, b_and, hb, nI_clamp (by omega)]; simp
  · rw [hb]; simp
  · rw [erm, b_or, qa_sh (by omega) hi]
theorem xc_taken {post : Int32 → Prop} {p : Nat} (hB : B ≤ 24) (hN : N ≤ 32) (We : qg_We B N a_endCond a_endYes a_endNo) (he : ∀ p t, p < B → t < 32 → (bt (a_edges p) t = true ↔ qg_E a_endCond a_endYes a_endNo p t)) (h3 : ∀ n, n < N → qp_3 (a_states n)) (hp : p < B) (K : ∀ x, (∀ t, t < 32 → (bt x t = true ↔ qg_L a_endCond a_endYes a_endNo a_states a_constants p t)) → post x) : wpX_takenEdges post (nI B, f_nodeLimit, f_rowLimit, f_heldLimit, f_isSealed, nI N, nI R, f_phiMask, f_reachedMask, f_pendingNodes, f_pendingEnds, f_foundState, f_foundValue, f_heldCount, f_taken, f_prints, f_nextBlock, f_leftBlock, a_home, a_kinds, a_fieldA, a_fieldB, a_rowPhi, a_rowPred, a_rowValue, a_rowOf, a_endCond, a_endYes, a_endNo, a_nodesIn, a_edges, a_dom, a_liveOut, a_users, a_branchers, a_needs, a_states, a_constants, a_held, a_paper, a_lastValue, a_incoming, a_visitCount) (nI p) := by
  have h24 : vp_in (nI p) 24 := vp_in_nI (by omega) (by omega)
  have ep : (nI p).toNatClampNeg = p := nI_clamp (by omega)
  refine ⟨h24, fun c ec => ?_⟩
  rw [ep] at ec
  rw [ep]
  subst ec
  refine br_c (fun z => ⟨h24, K _ fun t ht => ?_⟩) (fun z => ?_)
  · rw [he p t hp ht]
    rcases We p hp with a | ⟨a, x, hx, hx', b⟩ | ⟨c, x, y, hc, hx, hx', hy, hy', a, b, d⟩
    · exact ⟨fun h => absurd a h.1, fun h => absurd a (qg_L_E h).1⟩
    · refine ⟨fun h => ?_, qg_L_E⟩
      rcases h.2 with e | ⟨e, _⟩
      · exact Or.inl ⟨a, e⟩
      · exact absurd z e
    · rw [a] at z; exact absurd z (nI_pos (by omega))
  · obtain ⟨c, hc, e1, e2⟩ := qg_cond We hN hp z
    have hcv : vp_in (a_endCond p) 32 := by rw [e1]; exact vp_in_nI (by omega) (by omega)
    have h3c := h3 c hc
    have ne2 : ¬ a_endCond p = -2 := by rw [e1]; exact qn_m2 (by omega)
    have ne1 : ¬ a_endCond p = -1 := by rw [e1]; exact qn_m1 (by omega)
    refine ⟨hcv, br_c (fun s2 => ⟨h24, K _ fun t ht => ?_⟩) (fun s2 => ⟨hcv, br_c (fun s0 => K _ fun t ht => ?_) (fun s0 => ⟨hcv, ?_⟩)⟩)⟩
    · rw [he p t hp ht]
      refine ⟨fun h => Or.inr ⟨z, Or.inl ⟨s2, ?_⟩⟩, qg_L_E⟩
      rcases h.2 with e | ⟨_, e⟩
      · exact Or.inl e
      · exact Or.inr e
    · rw [b_0]
      refine ⟨fun h => (by cases h), fun h => ?_⟩
      rcases h with ⟨h, _⟩ | ⟨_, ⟨h, _⟩ | ⟨h, _⟩⟩
      · exact absurd h ne1
      · exact absurd h s2
      · exact absurd (s0.symm.trans h) qp_01
    · have s1 : a_states (a_endCond p).toNatClampNeg = 1 := by
        rw [e2] at s0 s2 ⊢
        rcases h3c with h | h | h
        · exact absurd h s0
        · exact h
        · exact absurd h s2
      rcases We p hp with a | ⟨a, _⟩ | ⟨c', x, y, hc', hx, hx', hy, hy', a, b, d⟩
      · exact absurd a ne2
      · exact absurd a ne1
      · refine br_c (fun v0 => ⟨h24, K _ fun t ht => ?_⟩) (fun v0 => ⟨h24, K _ fun t ht => ?_⟩)
        · rw [ep, d, qa_sh (by omega) ht, decide_eq_true_eq]
          constructor
          · intro h; exact Or.inr ⟨z, Or.inr ⟨s1, Or.inl ⟨v0, by rw [d, nI_clamp (by omega)]; exact h.symm⟩⟩⟩
          · rintro (⟨h, _⟩ | ⟨_, ⟨h, _⟩ | ⟨_, ⟨_, h⟩ | ⟨h, _⟩⟩⟩)
            · exact absurd h ne1
            · exact absurd h s2
            · rw [d, nI_clamp (by omega)] at h; exact h.symm
            · exact absurd v0 h
        · rw [ep, b, qa_sh (by omega) ht, decide_eq_true_eq]
          constructor
          · intro h; exact Or.inr ⟨z, Or.inr ⟨s1, Or.inr ⟨v0, by rw [b, nI_clamp (by omega)]; exact h.symm⟩⟩⟩
          · rintro (⟨h, _⟩ | ⟨_, ⟨h, _⟩ | ⟨_, ⟨h, _⟩ | ⟨_, h⟩⟩⟩)
            · exact absurd h ne1
            · exact absurd h s2
            · exact absurd h v0
            · rw [b, nI_clamp (by omega)] at h; exact h.symm
theorem xc_join {post : SX → Prop} {v : Int32} (hv : vp_in v 32) (h3 : qp_3 f_foundState) (h3' : qp_3 (a_states v.toNatClampNeg)) (K : ∀ fs fv : Int32, qp_J f_foundState f_foundValue (a_states v.toNatClampNeg) (a_constants v.toNatClampNeg) fs fv → post (nI B, f_nodeLimit, f_rowLimit, f_heldLimit, f_isSealed, nI N, nI R, f_phiMask, f_reachedMask, f_pendingNodes, f_pendingEnds, fs, fv, f_heldCount, f_taken, f_prints, f_nextBlock, f_leftBlock, a_home, a_kinds, a_fieldA, a_fieldB, a_rowPhi, a_rowPred, a_rowValue, a_rowOf, a_endCond, a_endYes, a_endNo, a_nodesIn, a_edges, a_dom, a_liveOut, a_users, a_branchers, a_needs, a_states, a_constants, a_held, a_paper, a_lastValue, a_incoming, a_visitCount)) : wpX_join post (nI B, f_nodeLimit, f_rowLimit, f_heldLimit, f_isSealed, nI N, nI R, f_phiMask, f_reachedMask, f_pendingNodes, f_pendingEnds, f_foundState, f_foundValue, f_heldCount, f_taken, f_prints, f_nextBlock, f_leftBlock, a_home, a_kinds, a_fieldA, a_fieldB, a_rowPhi, a_rowPred, a_rowValue, a_rowOf, a_endCond, a_endYes, a_endNo, a_nodesIn, a_edges, a_dom, a_liveOut, a_users, a_branchers, a_needs, a_states, a_constants, a_held, a_paper, a_lastValue, a_incoming, a_visitCount) v := by
  refine br_c (fun z => ⟨hv, fun fs efs => ⟨hv, fun fv efv => ?_⟩⟩) (fun z => ⟨hv, br_c (fun s2 => ?_) (fun s2 => ⟨hv, br_c (fun s1 => ⟨hv, br_c (fun e => ?_) (fun e => ?_)⟩) (fun s1 => ?_)⟩)⟩)
  · subst efs efv
    exact K _ _ (by rw [z]; exact qp_J_0 h3')
  · exact K 2 _ (by rw [s2]; exact qp_J_2 _)
  · refine K _ _ ?_
    rw [s1, e]
    rcases h3 with h | h | h
    · exact absurd h z
    · rw [h]; exact qp_J_11
    · rw [h]; exact qp_J_f2 _
  · refine K 2 _ ?_
    rw [s1]
    rcases h3 with h | h | h
    · exact absurd h z
    · rw [h]; exact qp_J_1n _ fun h => e h.symm
    · rw [h]; exact qp_J_f2 _
  · refine K _ _ ?_
    rcases h3' with h | h | h
    · rw [h]; exact qp_J_n h3
    · exact absurd h s1
    · exact absurd h s2
theorem xc_joinArgs {post : SX → Prop} {m : Nat} (hB : B ≤ 24) (hN : N ≤ 32) (hR : R ≤ 48) (Wn : qg_Wn B N a_home a_kinds a_fieldA a_fieldB) (Wr : qg_Wr B N R a_kinds a_rowPhi a_rowPred a_rowValue a_rowOf) (h3 : ∀ n, n < N → qp_3 (a_states n)) (hm : m < N) (K : ∀ fs fv : Int32, qp_3 fs → (∀ p r, p < B → r < R → a_rowOf (m * 24 + p) = nI (r + 1) → qs_lv a_liveOut p (a_home m).toNatClampNeg → qp_le (a_states (a_rowValue r).toNatClampNeg) (a_constants (a_rowValue r).toNatClampNeg) fs fv) → (∀ s v, (∀ p r, p < B → r < R → a_rowOf (m * 24 + p) = nI (r + 1) → qs_lv a_liveOut p (a_home m).toNatClampNeg → qp_le (a_states (a_rowValue r).toNatClampNeg) (a_constants (a_rowValue r).toNatClampNeg) s v) → qp_le fs fv s v) → post (nI B, f_nodeLimit, f_rowLimit, f_heldLimit, f_isSealed, nI N, nI R, f_phiMask, f_reachedMask, f_pendingNodes, f_pendingEnds, fs, fv, f_heldCount, f_taken, f_prints, f_nextBlock, f_leftBlock, a_home, a_kinds, a_fieldA, a_fieldB, a_rowPhi, a_rowPred, a_rowValue, a_rowOf, a_endCond, a_endYes, a_endNo, a_nodesIn, a_edges, a_dom, a_liveOut, a_users, a_branchers, a_needs, a_states, a_constants, a_held, a_paper, a_lastValue, a_incoming, a_visitCount)) : wpX_joinArguments post (nI B, f_nodeLimit, f_rowLimit, f_heldLimit, f_isSealed, nI N, nI R, f_phiMask, f_reachedMask, f_pendingNodes, f_pendingEnds, 0, f_foundValue, f_heldCount, f_taken, f_prints, f_nextBlock, f_leftBlock, a_home, a_kinds, a_fieldA, a_fieldB, a_rowPhi, a_rowPred, a_rowValue, a_rowOf, a_endCond, a_endYes, a_endNo, a_nodesIn, a_edges, a_dom, a_liveOut, a_users, a_branchers, a_needs, a_states, a_constants, a_held, a_paper, a_lastValue, a_incoming, a_visitCount) (nI m) := by
  have hm32 : vp_in (nI m) 32 := vp_in_nI (by omega) (by omega)
  refine ql_0 (fun n i (s : Int32 × Int32) => wX_joinArguments_2 post (nI m) n (nI i) (nI B) f_nodeLimit f_rowLimit f_heldLimit f_isSealed (nI N) (nI R) f_phiMask f_reachedMask f_pendingNodes f_pendingEnds s.1 s.2 f_heldCount f_taken f_prints f_nextBlock f_leftBlock a_home a_kinds a_fieldA a_fieldB a_rowPhi a_rowPred a_rowValue a_rowOf a_endCond a_endYes a_endNo a_nodesIn a_edges a_dom a_liveOut a_users a_branchers a_needs a_states a_constants a_held a_paper a_lastValue a_incoming a_visitCount) (fun i s => qp_3 s.1 ∧ (∀ p r, p < i → r < R → a_rowOf (m * 24 + p) = nI (r + 1) → qs_lv a_liveOut p (a_home m).toNatClampNeg → qp_le (a_states (a_rowValue r).toNatClampNeg) (a_constants (a_rowValue r).toNatClampNeg) s.1 s.2) ∧ (∀ a b, (∀ p r, p < i → r < R → a_rowOf (m * 24 + p) = nI (r + 1) → qs_lv a_liveOut p (a_home m).toNatClampNeg → qp_le (a_states (a_rowValue r).toNatClampNeg) (a_constants (a_rowValue r).toNatClampNeg) a b) → qp_le s.1 s.2 a b)) B (0, f_foundValue) ⟨Or.inl rfl, fun p r h => absurd h (Nat.not_lt_zero _), fun a b _ => Or.inl rfl⟩ (fun n s I => ?_) (fun n i s hi I next => ?_)
  · exact pk_le B B (fun _ => K s.1 s.2 I.1 I.2.1 I.2.2) (fun h => absurd h (Nat.lt_irrefl _))
  · obtain ⟨fs, fv⟩ := s
    obtain ⟨I1, I2, I3⟩ := I
    have hi24 : vp_in (nI i) 24 := vp_in_nI (by omega) (by omega)
    obtain ⟨x1, x2⟩ := qn_x24 (n := m) (p := i) (by omega) (by omega)
    have skip : (∀ r, r < R → a_rowOf (m * 24 + i) = nI (r + 1) → ¬ qs_lv a_liveOut i (a_home m).toNatClampNeg) → wX_joinArguments_2 post (nI m) n (nI i + 1) (nI B) f_nodeLimit f_rowLimit f_heldLimit f_isSealed (nI N) (nI R) f_phiMask f_reachedMask f_pendingNodes f_pendingEnds fs fv f_heldCount f_taken f_prints f_nextBlock f_leftBlock a_home a_kinds a_fieldA a_fieldB a_rowPhi a_rowPred a_rowValue a_rowOf a_endCond a_endYes a_endNo a_nodesIn a_edges a_dom a_liveOut a_users a_branchers a_needs a_states a_constants a_held a_paper a_lastValue a_incoming a_visitCount := fun h => by
      rw [nI_1]
      refine next (fs, fv) ⟨I1, fun p r hp hr e l => ?_, fun a b c => I3 a b fun p r hp => c p r (by omega)⟩
      by_cases z : p = i
      · subst z; exact absurd l (h r hr e)
      · exact I2 p r (by omega) hr e l
    refine pk_le B i (fun h => by omega) (fun _ => ?_)
    rw [x1]
    refine ⟨vp_in_nI x2 (by omega), fun y ey => ?_⟩
    rw [nI_clamp (by omega)] at ey
    rcases Wr.2 m i (by omega) (by omega) with z | ⟨q, hq, e1, e2, e3⟩
    · rw [z] at ey
      refine br_t (by rw [ey]; decide) fun y' ey' => ?_
      subst ey'
      exact skip fun r hr e => absurd (z.symm.trans e).symm (nI_ne0 (by omega) (by omega))
    · rw [e1, nI_pred] at ey
      subst ey
      obtain ⟨_, _, ⟨b, hb, eb, _⟩, _⟩ := Wn m hm
      obtain ⟨_, _, v, _, _, hv, _, _, ev, _⟩ := Wr.1 q hq
      have uq : ∀ r, r < R → a_rowOf (m * 24 + i) = nI (r + 1) → r = q := fun r hr e => by
        rw [e1, nI_eq (by omega) (by omega)] at e; omega
      refine br_f (nI_pos (by omega)) ⟨hi24, hm32, ?_⟩
      rw [nI_clamp (show i < 2 ^ 31 by omega), nI_clamp (show m < 2 ^ 31 by omega)]
      refine xa_hbv (by rw [eb]; exact vp_in_nI (by omega) (by omega)) (fun hb => br_t rfl fun y' ey' => ?_) (fun hb => br_f (by decide) ⟨vp_in_nI (by omega) (by omega), ?_⟩)
      · subst ey'
        exact skip fun r hr e l => by unfold qs_lv at l; rw [hb] at l; cases l
      · rw [nI_clamp (show q < 2 ^ 31 by omega)]
        have ev' : (a_rowValue q).toNatClampNeg = v := by rw [ev, nI_clamp (by omega)]
        refine xc_join (by rw [ev]; exact vp_in_nI (by omega) (by omega)) I1 (by rw [ev']; exact h3 v hv) (fun fs' fv' J y' ey' => ?_)
        subst ey'
        rw [nI_1]
        obtain ⟨J1, J2, J3, J4⟩ := J
        refine next (fs', fv') ⟨J1, fun p r hp hr e l => ?_, fun a b c => J4 a b (I3 a b fun p r hp => c p r (by omega)) (c i q (by omega) hq e1 hb)⟩
        by_cases z : p = i
        · subst z
          have := uq r hr e
          subst this; exact J3
        · exact qp_le_tr (I2 p r (by omega) hr e l) J2
theorem xc_op90 {post : SX → Prop} {k a b x4 z0 : Int32} (ha : vp_in a 32) (hb : vp_in b 32) (K : post (nI B, f_nodeLimit, f_rowLimit, f_heldLimit, f_isSealed, nI N, nI R, f_phiMask, f_reachedMask, f_pendingNodes, f_pendingEnds, z0, if x4 = 0 then 0 else qp_cp k (a_constants a.toNatClampNeg) (a_constants b.toNatClampNeg), f_heldCount, f_taken, f_prints, f_nextBlock, f_leftBlock, a_home, a_kinds, a_fieldA, a_fieldB, a_rowPhi, a_rowPred, a_rowValue, a_rowOf, a_endCond, a_endYes, a_endNo, a_nodesIn, a_edges, a_dom, a_liveOut, a_users, a_branchers, a_needs, a_states, a_constants, a_held, a_paper, a_lastValue, a_incoming, a_visitCount)) : wX_assessOperation_90 post k a b x4 z0 (nI B) f_nodeLimit f_rowLimit f_heldLimit f_isSealed (nI N) (nI R) f_phiMask f_reachedMask f_pendingNodes f_pendingEnds f_foundState f_foundValue f_heldCount f_taken f_prints f_nextBlock f_leftBlock a_home a_kinds a_fieldA a_fieldB a_rowPhi a_rowPred a_rowValue a_rowOf a_endCond a_endYes a_endNo a_nodesIn a_edges a_dom a_liveOut a_users a_branchers a_needs a_states a_constants a_held a_paper a_lastValue a_incoming a_visitCount := by
  refine br_c (fun z => ?_) (fun z => ⟨ha, hb, xc_compute ?_⟩)
  · rw [if_pos z] at K; exact K
  · rw [if_neg z] at K; exact K
theorem xc_op44 {post : SX → Prop} {k a b x4 : Int32} (ha : vp_in a 32) (hb : vp_in b 32) (K : post (nI B, f_nodeLimit, f_rowLimit, f_heldLimit, f_isSealed, nI N, nI R, f_phiMask, f_reachedMask, f_pendingNodes, f_pendingEnds, if ¬ x4 = 0 ∨ (k = 5 ∧ ((a_states a.toNatClampNeg = 1 ∧ a_constants a.toNatClampNeg = 0) ∨ (a_states b.toNatClampNeg = 1 ∧ a_constants b.toNatClampNeg = 0))) then 1 else 2, if x4 = 0 then 0 else qp_cp k (a_constants a.toNatClampNeg) (a_constants b.toNatClampNeg), f_heldCount, f_taken, f_prints, f_nextBlock, f_leftBlock, a_home, a_kinds, a_fieldA, a_fieldB, a_rowPhi, a_rowPred, a_rowValue, a_rowOf, a_endCond, a_endYes, a_endNo, a_nodesIn, a_edges, a_dom, a_liveOut, a_users, a_branchers, a_needs, a_states, a_constants, a_held, a_paper, a_lastValue, a_incoming, a_visitCount)) : wX_assessOperation_44 post k a b x4 (nI B) f_nodeLimit f_rowLimit f_heldLimit f_isSealed (nI N) (nI R) f_phiMask f_reachedMask f_pendingNodes f_pendingEnds f_foundState f_foundValue f_heldCount f_taken f_prints f_nextBlock f_leftBlock a_home a_kinds a_fieldA a_fieldB a_rowPhi a_rowPred a_rowValue a_rowOf a_endCond a_endYes a_endNo a_nodesIn a_edges a_dom a_liveOut a_users a_branchers a_needs a_states a_constants a_held a_paper a_lastValue a_incoming a_visitCount := by
  have t71 : ¬ (k = 5 ∧ ((a_states a.toNatClampNeg = 1 ∧ a_constants a.toNatClampNeg = 0) ∨ (a_states b.toNatClampNeg = 1 ∧ a_constants b.toNatClampNeg = 0))) → wX_assessOperation_71 post k a b x4 (nI B) f_nodeLimit f_rowLimit f_heldLimit f_isSealed (nI N) (nI R) f_phiMask f_reachedMask f_pendingNodes f_pendingEnds f_foundState f_foundValue f_heldCount f_taken f_prints f_nextBlock f_leftBlock a_home a_kinds a_fieldA a_fieldB a_rowPhi a_rowPred a_rowValue a_rowOf a_endCond a_endYes a_endNo a_nodesIn a_edges a_dom a_liveOut a_users a_branchers a_needs a_states a_constants a_held a_paper a_lastValue a_incoming a_visitCount := fun h => by
    refine br_c (fun z => br_t rfl (xc_op90 ha hb ?_)) (fun z => xc_op90 ha hb ?_)
    · rw [if_neg (by rintro (c | c); exact c z; exact h c)] at K; exact K
    · rw [if_pos (Or.inl z)] at K; exact K
  have t67 : (k = 5 ∧ ((a_states a.toNatClampNeg = 1 ∧ a_constants a.toNatClampNeg = 0) ∨ (a_states b.toNatClampNeg = 1 ∧ a_constants b.toNatClampNeg = 0))) → wX_assessOperation_67 post k a b x4 (nI B) f_nodeLimit f_rowLimit f_heldLimit f_isSealed (nI N) (nI R) f_phiMask f_reachedMask f_pendingNodes f_pendingEnds f_foundState f_foundValue f_heldCount f_taken f_prints f_nextBlock f_leftBlock a_home a_kinds a_fieldA a_fieldB a_rowPhi a_rowPred a_rowValue a_rowOf a_endCond a_endYes a_endNo a_nodesIn a_edges a_dom a_liveOut a_users a_branchers a_needs a_states a_constants a_held a_paper a_lastValue a_incoming a_visitCount := fun h => by
    rw [if_pos (Or.inr h)] at K
    exact br_c (fun z => br_f (by decide) (xc_op90 ha hb K)) (fun z => xc_op90 ha hb K)
  refine br_c (fun k5 => ⟨ha, br_c (fun s1 => ⟨ha, br_c (fun v0 => ?_) (fun v0 => ?_)⟩) (fun s1 => ?_)⟩) (fun k5 => t71 fun h => k5 h.1)
  · exact br_f (by decide) (t67 ⟨k5, Or.inl ⟨s1, v0⟩⟩)
  · refine br_t rfl ⟨hb, br_c (fun s1' => ⟨hb, br_c (fun v0' => ?_) (fun v0' => ?_)⟩) (fun s1' => ?_)⟩
    · exact br_f (by decide) (t67 ⟨k5, Or.inr ⟨s1', v0'⟩⟩)
    · exact br_t rfl (t71 fun h => h.2.elim (fun c => v0 c.2) fun c => v0' c.2)
    · exact br_t rfl (t71 fun h => h.2.elim (fun c => v0 c.2) fun c => s1' c.1)
  · refine br_t rfl ⟨hb, br_c (fun s1' => ⟨hb, br_c (fun v0' => ?_) (fun v0' => ?_)⟩) (fun s1' => ?_)⟩
    · exact br_f (by decide) (t67 ⟨k5, Or.inr ⟨s1', v0'⟩⟩)
    · exact br_t rfl (t71 fun h => h.2.elim (fun c => s1 c.1) fun c => v0' c.2)
    · exact br_t rfl (t71 fun h => h.2.elim (fun c => s1 c.1) fun c => s1' c.1)
theorem xc_op {post : SX → Prop} {k a b : Int32} (ha : vp_in a 32) (hb : vp_in b 32) (K : post (nI B, f_nodeLimit, f_rowLimit, f_heldLimit, f_isSealed, nI N, nI R, f_phiMask, f_reachedMask, f_pendingNodes, f_pendingEnds, qp_os k (a_states a.toNatClampNeg) (a_constants a.toNatClampNeg) (a_states b.toNatClampNeg) (a_constants b.toNatClampNeg), qp_ov k (a_states a.toNatClampNeg) (a_constants a.toNatClampNeg) (a_states b.toNatClampNeg) (a_constants b.toNatClampNeg), f_heldCount, f_taken, f_prints, f_nextBlock, f_leftBlock, a_home, a_kinds, a_fieldA, a_fieldB, a_rowPhi, a_rowPred, a_rowValue, a_rowOf, a_endCond, a_endYes, a_endNo, a_nodesIn, a_edges, a_dom, a_liveOut, a_users, a_branchers, a_needs, a_states, a_constants, a_held, a_paper, a_lastValue, a_incoming, a_visitCount)) : wpX_assessOperation post (nI B, f_nodeLimit, f_rowLimit, f_heldLimit, f_isSealed, nI N, nI R, f_phiMask, f_reachedMask, f_pendingNodes, f_pendingEnds, 0, 0, f_heldCount, f_taken, f_prints, f_nextBlock, f_leftBlock, a_home, a_kinds, a_fieldA, a_fieldB, a_rowPhi, a_rowPred, a_rowValue, a_rowOf, a_endCond, a_endYes, a_endNo, a_nodesIn, a_edges, a_dom, a_liveOut, a_users, a_branchers, a_needs, a_states, a_constants, a_held, a_paper, a_lastValue, a_incoming, a_visitCount) k a b := by
  unfold qp_os qp_ov at K
  refine ⟨ha, br_c (fun sa => ?_) (fun sa => ⟨hb, br_c (fun sb => ?_) (fun sb => ⟨ha, br_c (fun sa1 => ⟨hb, br_c (fun sb1 => ?_) (fun sb1 => ?_)⟩) (fun sa1 => ?_)⟩)⟩)⟩
  · rw [if_pos (Or.inl sa), if_neg (by rintro ⟨c, _⟩; exact qp_01 (sa.symm.trans c))] at K; exact K
  · rw [if_pos (Or.inr sb), if_neg (by rintro ⟨_, c⟩; exact qp_01 (sb.symm.trans c))] at K; exact K
  · refine xc_op44 ha hb ?_
    rw [if_neg (by rintro (c | c); exact sa c; exact sb c), if_pos ⟨sa1, sb1⟩, if_pos ⟨sa1, sb1⟩] at K
    rw [if_pos (Or.inl (by decide)), if_neg (by decide)]
    exact K
  · refine xc_op44 ha hb ?_
    have n11 : ¬ (a_states a.toNatClampNeg = 1 ∧ a_states b.toNatClampNeg = 1) := fun c => sb1 c.2
    rw [if_neg (by rintro (c | c); exact sa c; exact sb c), if_neg n11, if_neg n11] at K
    rw [if_pos rfl]
    by_cases z : k = 5 ∧ ((a_states a.toNatClampNeg = 1 ∧ a_constants a.toNatClampNeg = 0) ∨ (a_states b.toNatClampNeg = 1 ∧ a_constants b.toNatClampNeg = 0))
    · rw [if_pos z] at K; rw [if_pos (Or.inr z)]; exact K
    · rw [if_neg z] at K; rw [if_neg (by rintro (c | c); exact c rfl; exact z c)]; exact K
  · refine xc_op44 ha hb ?_
    have n11 : ¬ (a_states a.toNatClampNeg = 1 ∧ a_states b.toNatClampNeg = 1) := fun c => sa1 c.1
    rw [if_neg (by rintro (c | c); exact sa c; exact sb c), if_neg n11, if_neg n11] at K
    rw [if_pos rfl]
    by_cases z : k = 5 ∧ ((a_states a.toNatClampNeg = 1 ∧ a_constants a.toNatClampNeg = 0) ∨ (a_states b.toNatClampNeg = 1 ∧ a_constants b.toNatClampNeg = 0))
    · rw [if_pos z] at K; rw [if_pos (Or.inr z)]; exact K
    · rw [if_neg z] at K; rw [if_neg (by rintro (c | c); exact c rfl; exact z c)]; exact K
end
end
section
/-! the component's walks: the lists worked off -/
section
variable {B N R : Nat} {hm kd fa fb rp rq rv ro ec ey en : Nat → Int32}
theorem xd_R0 {lv : Nat → Nat → Prop} {st cv : Nat → Int32} {n : Nat} {s v : Int32} (k : kd n = 0) (h : ∀ p r, p < B → r < R → ro (n * 24 + p) = nI (r + 1) → lv p (hm n).toNatClampNeg → qp_le (st (rv r).toNatClampNeg) (cv (rv r).toNatClampNeg) s v) : qg_R B R hm kd fa fb rv ro lv st cv n s v := by
  refine ⟨fun _ => h, fun z => ?_, fun z => ?_, fun z => ?_, fun z => ?_⟩ <;> rw [k] at z
  · exact absurd z (by decide)
  · exact absurd z (by decide)
  · exact absurd z (by decide)
  · exact absurd (by decide) z
theorem xd_R1 {lv : Nat → Nat → Prop} {st cv : Nat → Int32} {n : Nat} {s v : Int32} (k : kd n = 1) (h : qp_le 1 (fa n) s v) : qg_R B R hm kd fa fb rv ro lv st cv n s v := by
  refine ⟨fun z => ?_, fun _ => h, fun z => ?_, fun z => ?_, fun z => ?_⟩ <;> rw [k] at z
  · exact absurd z (by decide)
  · exact absurd z (by decide)
  · exact absurd z (by decide)
  · exact absurd (by decide) z
theorem xd_R2 {lv : Nat → Nat → Prop} {st cv : Nat → Int32} {n : Nat} {s v : Int32} (k : kd n = 2) (h : qp_le 2 0 s v) : qg_R B R hm kd fa fb rv ro lv st cv n s v := by
  refine ⟨fun z => ?_, fun z => ?_, fun _ => h, fun z => ?_, fun z => ?_⟩ <;> rw [k] at z
  · exact absurd z (by decide)
  · exact absurd z (by decide)
  · exact absurd z (by decide)
  · exact absurd (by decide) z
theorem xd_R8 {lv : Nat → Nat → Prop} {st cv : Nat → Int32} {n : Nat} {s v : Int32} (k : kd n = 8) (h : qp_le (st (fa n).toNatClampNeg) (cv (fa n).toNatClampNeg) s v) : qg_R B R hm kd fa fb rv ro lv st cv n s v := by
  refine ⟨fun z => ?_, fun z => ?_, fun z => ?_, fun _ => h, fun _ z => ?_⟩ <;> rw [k] at z
  · exact absurd z (by decide)
  · exact absurd z (by decide)
  · exact absurd z (by decide)
  · exact absurd (by decide) z
theorem xd_Ro {lv : Nat → Nat → Prop} {st cv : Nat → Int32} {n : Nat} {s v : Int32} (k3 : ¬ kd n < 3) (k7 : ¬ 7 < kd n) (h : qp_le (qp_os (kd n) (st (fa n).toNatClampNeg) (cv (fa n).toNatClampNeg) (st (fb n).toNatClampNeg) (cv (fb n).toNatClampNeg)) (qp_ov (kd n) (st (fa n).toNatClampNeg) (cv (fa n).toNatClampNeg) (st (fb n).toNatClampNeg) (cv (fb n).toNatClampNeg)) s v) : qg_R B R hm kd fa fb rv ro lv st cv n s v := by
  refine ⟨fun z => ?_, fun z => ?_, fun z => ?_, fun z => ?_, fun _ _ => h⟩
  · rw [z] at k3; exact absurd (by decide) k3
  · rw [z] at k3; exact absurd (by decide) k3
  · rw [z] at k3; exact absurd (by decide) k3
  · rw [z] at k7; exact absurd (by decide) k7
end
section
variable {B N R : Nat} {f_nodeLimit f_rowLimit f_heldLimit f_isSealed f_phiMask f_reachedMask f_pendingNodes f_pendingEnds f_foundState f_foundValue f_heldCount f_taken f_prints f_nextBlock f_leftBlock : Int32} {a_home a_kinds a_fieldA a_fieldB a_rowPhi a_rowPred a_rowValue a_rowOf a_endCond a_endYes a_endNo a_nodesIn a_edges a_dom a_liveOut a_users a_branchers a_needs a_states a_constants a_held a_paper a_lastValue a_incoming a_visitCount : Nat → Int32}
theorem xd_assess {post : SX → Prop} {m : Nat} (hB : B ≤ 24) (hN : N ≤ 32) (hR : R ≤ 48) (Wn : qg_Wn B N a_home a_kinds a_fieldA a_fieldB) (Wr : qg_Wr B N R a_kinds a_rowPhi a_rowPred a_rowValue a_rowOf) (h3 : ∀ n, n < N → qp_3 (a_states n)) (hm : m < N) (K : ∀ fs fv : Int32, qp_3 fs → qg_R B R a_home a_kinds a_fieldA a_fieldB a_rowValue a_rowOf (qs_lv a_liveOut) a_states a_constants m fs fv → (∀ s v, qg_R B R a_home a_kinds a_fieldA a_fieldB a_rowValue a_rowOf (qs_lv a_liveOut) a_states a_constants m s v → qp_le fs fv s v) → post (nI B, f_nodeLimit, f_rowLimit, f_heldLimit, f_isSealed, nI N, nI R, f_phiMask, f_reachedMask, f_pendingNodes, f_pendingEnds, fs, fv, f_heldCount, f_taken, f_prints, f_nextBlock, f_leftBlock, a_home, a_kinds, a_fieldA, a_fieldB, a_rowPhi, a_rowPred, a_rowValue, a_rowOf, a_endCond, a_endYes, a_endNo, a_nodesIn, a_edges, a_dom, a_liveOut, a_users, a_branchers, a_needs, a_states, a_constants, a_held, a_paper, a_lastValue, a_incoming, a_visitCount)) : wpX_assess post (nI B, f_nodeLimit, f_rowLimit, f_heldLimit, f_isSealed, nI N, nI R, f_phiMask, f_reachedMask, f_pendingNodes, f_pendingEnds, f_foundState, f_foundValue, f_heldCount, f_taken, f_prints, f_nextBlock, f_leftBlock, a_home, a_kinds, a_fieldA, a_fieldB, a_rowPhi, a_rowPred, a_rowValue, a_rowOf, a_endCond, a_endYes, a_endNo, a_nodesIn, a_edges, a_dom, a_liveOut, a_users, a_branchers, a_needs, a_states, a_constants, a_held, a_paper, a_lastValue, a_incoming, a_visitCount) (nI m) := by
  have hm32 : vp_in (nI m) 32 := vp_in_nI (by omega) (by omega)
  have em : (nI m).toNatClampNeg = m := nI_clamp (by omega)
  obtain ⟨k0, k8, _, wa, wb⟩ := Wn m hm
  refine ⟨hm32, fun k ek => ?_⟩
  rw [em] at ek
  have va : ¬ a_kinds m < 3 → vp_in (a_fieldA m) 32 ∧ (a_fieldA m).toNatClampNeg < N := fun z => by
    obtain ⟨a, ha, ea⟩ := wa z
    rw [ea, nI_clamp (by omega)]; exact ⟨vp_in_nI (by omega) (by omega), by omega⟩
  rcases qp_kc k0 k8 with c | c | c | c | ⟨c, c'⟩
  · rw [c] at ek
    subst ek
    refine br_f (by decide) (br_f (by decide) (br_f (by decide) (br_t rfl ?_)))
    refine xc_joinArgs hB hN hR Wn Wr h3 hm (fun fs fv h1 h2 h4 => ?_)
    exact br_f (by decide) (br_t (by decide) (K fs fv h1 (xd_R0 c h2) fun s v r => h4 s v (r.1 c)))
  · rw [c] at ek
    subst ek
    refine br_t rfl (br_t rfl ⟨hm32, br_f (by decide) (br_f (by decide) (br_t (by decide) ?_))⟩)
    rw [em]
    exact K 1 _ (Or.inr (Or.inl rfl)) (xd_R1 c (Or.inr (Or.inr ⟨rfl, rfl, rfl⟩))) fun s v r => r.2.1 c
  · rw [c] at ek
    subst ek
    refine br_f (by decide) (br_t rfl (br_f (by decide) (br_f (by decide) (br_f (by decide) (br_t (by decide) ?_)))))
    exact K 2 0 (Or.inr (Or.inr rfl)) (xd_R2 c (Or.inr (Or.inl rfl))) fun s v r => r.2.2.1 c
  · rw [c] at ek
    subst ek
    obtain ⟨v1, v2⟩ := va (by rw [c]; decide)
    refine br_f (by decide) (br_f (by decide) (br_f (by decide) (br_f (by decide) (br_t rfl ⟨hm32, ?_⟩))))
    rw [em]
    refine xc_join v1 (Or.inl rfl) (h3 _ v2) (fun fs fv J => ?_)
    obtain ⟨J1, J2, J3, J4⟩ := J
    exact br_f (by decide) (br_t (by decide) (K fs fv J1 (xd_R8 c J3) fun s v r => J4 s v (Or.inl rfl) (r.2.2.2.1 c)))
  · subst ek
    obtain ⟨v1, v2⟩ := va c
    obtain ⟨b, hb, eb⟩ := wb c c'
    have v3 : vp_in (a_fieldB m) 32 := by rw [eb]; exact vp_in_nI (by omega) (by omega)
    have n0 : ¬ a_kinds m = 0 := fun z => by rw [z] at c; exact c (by decide)
    have n1 : ¬ a_kinds m = 1 := fun z => by rw [z] at c; exact c (by decide)
    have n2 : ¬ a_kinds m = 2 := fun z => by rw [z] at c; exact c (by decide)
    have n8 : ¬ a_kinds m = 8 := fun z => by rw [z] at c'; exact c' (by decide)
    refine br_f n1 (br_f n2 (br_f n1 (br_f n0 (br_f n8 (br_f c (br_f c' ⟨hm32, hm32, ?_⟩))))))
    rw [em]
    exact xc_op v1 v3 (K _ _ (qp_os3 _ _ _ _ _) (xd_Ro c c' (qp_le_rf (qp_os3 _ _ _ _ _))) fun s v r => r.2.2.2.2 c c')
theorem xd_vnode {post : SX → Prop} (hB : B ≤ 24) (hN : N ≤ 32) (hR : R ≤ 48) (Wn : qg_Wn B N a_home a_kinds a_fieldA a_fieldB) (Wr : qg_Wr B N R a_kinds a_rowPhi a_rowPred a_rowValue a_rowOf) (h3 : ∀ n, n < N → qp_3 (a_states n)) (hpn : ∀ n, n < 32 → bt f_pendingNodes n = true → n < N) (h0 : ¬ f_pendingNodes = 0)
  (K0 : ∀ (m : Nat) (pn : Int32), m < N → bt f_pendingNodes m = true → (∀ i, i < 32 → bt pn i = (bt f_pendingNodes i && !decide (i = m))) → bt f_reachedMask (a_home m).toNatClampNeg = false → post (nI B, f_nodeLimit, f_rowLimit, f_heldLimit, f_isSealed, nI N, nI R, f_phiMask, f_reachedMask, pn, f_pendingEnds, f_foundState, f_foundValue, f_heldCount, f_taken, f_prints, f_nextBlock, f_leftBlock, a_home, a_kinds, a_fieldA, a_fieldB, a_rowPhi, a_rowPred, a_rowValue, a_rowOf, a_endCond, a_endYes, a_endNo, a_nodesIn, a_edges, a_dom, a_liveOut, a_users, a_branchers, a_needs, a_states, a_constants, a_held, a_paper, a_lastValue, a_incoming, a_visitCount))
  (K1 : ∀ (m : Nat) (pn fs fv : Int32), m < N → bt f_pendingNodes m = true → (∀ i, i < 32 → bt pn i = (bt f_pendingNodes i && !decide (i = m))) → bt f_reachedMask (a_home m).toNatClampNeg = true → qg_R B R a_home a_kinds a_fieldA a_fieldB a_rowValue a_rowOf (qs_lv a_liveOut) a_states a_constants m fs fv → fs = a_states m → post (nI B, f_nodeLimit, f_rowLimit, f_heldLimit, f_isSealed, nI N, nI R, f_phiMask, f_reachedMask, pn, f_pendingEnds, fs, fv, f_heldCount, f_taken, f_prints, f_nextBlock, f_leftBlock, a_home, a_kinds, a_fieldA, a_fieldB, a_rowPhi, a_rowPred, a_rowValue, a_rowOf, a_endCond, a_endYes, a_endNo, a_nodesIn, a_edges, a_dom, a_liveOut, a_users, a_branchers, a_needs, a_states, a_constants, a_held, a_paper, a_lastValue, a_incoming, a_visitCount))
  (K2 : ∀ (m : Nat) (pn pe fs fv : Int32), m < N → (∀ i, i < 32 → bt pn i = ((bt f_pendingNodes i && !decide (i = m)) || bt (a_users m) i)) → (∀ i, i < 32 → bt pe i = (bt f_pendingEnds i || (bt (a_branchers m) i && bt f_reachedMask i))) → bt f_reachedMask (a_home m).toNatClampNeg = true → qp_3 fs → qg_R B R a_home a_kinds a_fieldA a_fieldB a_rowValue a_rowOf (qs_lv a_liveOut) a_states a_constants m fs fv → (∀ s v, qg_R B R a_home a_kinds a_fieldA a_fieldB a_rowValue a_rowOf (qs_lv a_liveOut) a_states a_constants m s v → qp_le fs fv s v) → ¬ fs = a_states m → post (nI B, f_nodeLimit, f_rowLimit, f_heldLimit, f_isSealed, nI N, nI R, f_phiMask, f_reachedMask, pn, pe, fs, fv, f_heldCount, f_taken, f_prints, f_nextBlock, f_leftBlock, a_home, a_kinds, a_fieldA, a_fieldB, a_rowPhi, a_rowPred, a_rowValue, a_rowOf, a_endCond, a_endYes, a_endNo, a_nodesIn, a_edges, a_dom, a_liveOut, a_users, a_branchers, a_needs, upd a_states m fs, upd a_constants m (qp_w fs fv), a_held, a_paper, a_lastValue, a_incoming, a_visitCount)) : wpX_visitNextNode post (nI B, f_nodeLimit, f_rowLimit, f_heldLimit, f_isSealed, nI N, nI R, f_phiMask, f_reachedMask, f_pendingNodes, f_pendingEnds, f_foundState, f_foundValue, f_heldCount, f_taken, f_prints, f_nextBlock, f_leftBlock, a_home, a_kinds, a_fieldA, a_fieldB, a_rowPhi, a_rowPred, a_rowValue, a_rowOf, a_endCond, a_endYes, a_endNo, a_nodesIn, a_edges, a_dom, a_liveOut, a_users, a_branchers, a_needs, a_states, a_constants, a_held, a_paper, a_lastValue, a_incoming, a_visitCount) := by
  unfold wpX_visitNextNode
  dsimp only
  refine xc_low h0 (fun m hm bm lm pn epn => ?_)
  have hmN := hpn m hm bm
  have hm32 : vp_in (nI m) 32 := vp_in_nI hm (by omega)
  have em : (nI m).toNatClampNeg = m := nI_clamp (by omega)
  have bpn : ∀ i, i < 32 → bt pn i = (bt f_pendingNodes i && !decide (i = m)) := fun i hi => by rw [epn]; exact qa_low hm bm lm hi
  obtain ⟨_, _, ⟨b, hb, eb, _⟩, _⟩ := Wn m hmN
  refine ⟨hm32, ?_⟩
  rw [em]
  refine xa_hbv (by rw [eb]; exact vp_in_nI (by omega) (by omega)) (fun hb => br_t rfl (K0 m pn hmN bm bpn hb)) (fun hb => br_f (by decide) ?_)
  refine xd_assess hB hN hR Wn Wr h3 hmN (fun fs fv h3' hr hl => ⟨hm32, br_c (fun z => ?_) (fun z => ⟨hm32, fun st est => ?_⟩)⟩)
  · exact K1 m pn fs fv hmN bm bpn hb hr z
  · have fin : ∀ w, w = qp_w fs fv → wX_visitNextNode_92 post (nI m) w (nI m) (nI B) f_nodeLimit f_rowLimit f_heldLimit f_isSealed (nI N) (nI R) f_phiMask f_reachedMask pn f_pendingEnds fs fv f_heldCount f_taken f_prints f_nextBlock f_leftBlock a_home a_kinds a_fieldA a_fieldB a_rowPhi a_rowPred a_rowValue a_rowOf a_endCond a_endYes a_endNo a_nodesIn a_edges a_dom a_liveOut a_users a_branchers a_needs st a_constants a_held a_paper a_lastValue a_incoming a_visitCount := fun w hw => by
      refine ⟨hm32, fun cv ecv => ⟨hm32, fun pn' epn' => ⟨hm32, fun pe epe => ?_⟩⟩⟩
      rw [em] at ecv epn' epe
      subst est ecv hw
      exact K2 m pn' pe fs fv hmN (fun i hi => by rw [epn', b_or, bpn i hi]) (fun i hi => by rw [epe, b_or, b_and]) hb h3' hr hl z
    refine br_c (fun f1 => fin _ ?_) (fun f1 => fin _ ?_)
    · exact (if_pos f1).symm
    · exact (if_neg f1).symm
theorem xd_vend {post : SX → Prop} (hB : B ≤ 24) (hB0 : 0 < B) (hN : N ≤ 32) (We : qg_We B N a_endCond a_endYes a_endNo) (Wn : qg_Wn B N a_home a_kinds a_fieldA a_fieldB) (Wi : qg_Wi B N a_home a_nodesIn) (Wp : qg_Wp N a_kinds f_phiMask) (he : ∀ p t, p < B → t < 32 → (bt (a_edges p) t = true ↔ qg_E a_endCond a_endYes a_endNo p t)) (h3 : ∀ n, n < N → qp_3 (a_states n)) (hpe : ∀ p, p < 32 → bt f_pendingEnds p = true → p < B) (h0 : ¬ f_pendingEnds = 0)
  (K : ∀ (p : Nat) (fr pn pe rm : Int32), p < B → bt f_pendingEnds p = true → (∀ t, t < 32 → (bt fr t = true ↔ qg_L a_endCond a_endYes a_endNo a_states a_constants p t ∧ bt (a_liveOut p) t = false)) → (∀ i, i < 32 → bt rm i = (bt f_reachedMask i || bt fr i)) → (∀ i, i < 32 → bt pe i = ((bt f_pendingEnds i && !decide (i = p)) || (bt fr i && !bt f_reachedMask i))) → (∀ i, i < 32 → bt pn i = (bt f_pendingNodes i || (decide (i < N) && bt fr (a_home i).toNatClampNeg && (!bt f_reachedMask (a_home i).toNatClampNeg || decide (a_kinds i = 0))))) → post (nI B, f_nodeLimit, f_rowLimit, f_heldLimit, f_isSealed, nI N, nI R, f_phiMask, rm, pn, pe, f_foundState, f_foundValue, f_heldCount, f_taken, f_prints, f_nextBlock, f_leftBlock, a_home, a_kinds, a_fieldA, a_fieldB, a_rowPhi, a_rowPred, a_rowValue, a_rowOf, a_endCond, a_endYes, a_endNo, a_nodesIn, a_edges, a_dom, upd a_liveOut p (a_liveOut p ||| fr), a_users, a_branchers, a_needs, a_states, a_constants, a_held, a_paper, a_lastValue, a_incoming, a_visitCount)) : wpX_visitNextEnd post (nI B, f_nodeLimit, f_rowLimit, f_heldLimit, f_isSealed, nI N, nI R, f_phiMask, f_reachedMask, f_pendingNodes, f_pendingEnds, f_foundState, f_foundValue, f_heldCount, f_taken, f_prints, f_nextBlock, f_leftBlock, a_home, a_kinds, a_fieldA, a_fieldB, a_rowPhi, a_rowPred, a_rowValue, a_rowOf, a_endCond, a_endYes, a_endNo, a_nodesIn, a_edges, a_dom, a_liveOut, a_users, a_branchers, a_needs, a_states, a_constants, a_held, a_paper, a_lastValue, a_incoming, a_visitCount) := by
  unfold wpX_visitNextEnd
  dsimp only
  refine xc_low h0 (fun p hp bp lp pe0 epe0 => ?_)
  have hpB := hpe p hp bp
  have hp24 : vp_in (nI p) 24 := vp_in_nI (by omega) (by omega)
  have ep : (nI p).toNatClampNeg = p := nI_clamp (by omega)
  have bpe : ∀ i, i < 32 → bt pe0 i = (bt f_pendingEnds i && !decide (i = p)) := fun i hi => by rw [epe0]; exact qa_low hp bp lp hi
  refine xc_taken hB hN We he h3 hpB (fun x hx => ⟨hp24, fun fr efr => ⟨hp24, hp24, fun lo elo => ?_⟩⟩)
  rw [ep] at efr elo
  have bfr : ∀ t, t < 32 → (bt fr t = true ↔ qg_L a_endCond a_endYes a_endNo a_states a_constants p t ∧ bt (a_liveOut p) t = false) := fun t ht => by
    rw [efr, b_and, qa_not _ ht, Bool.and_eq_true, hx t ht, Bool.not_eq_true']
  have fB : ∀ t, t < 32 → bt fr t = true → 0 < t ∧ t < B := fun t ht h => qg_E_in We hB hpB (qg_L_E ((bfr t ht).mp h).1)
  have f0 : bt fr 0 = false := qn_tf fun z => absurd (fB 0 (by omega) z).1 (Nat.lt_irrefl _)
  have hh : ∀ i, i < N → ∃ b, b < B ∧ (a_home i).toNatClampNeg = b ∧ a_home i = nI b := fun i hi => by
    obtain ⟨_, _, ⟨b, hb, eb, _⟩, _⟩ := Wn i hi
    exact ⟨b, hb, by rw [eb, nI_clamp (by omega)], eb⟩
  subst elo
  refine ⟨B, ql_up (fun n t (s : Int32 × Int32 × Int32) => wX_visitNextEnd_51 post fr n (nI t) (nI B) f_nodeLimit f_rowLimit f_heldLimit f_isSealed (nI N) (nI R) f_phiMask s.2.2 s.1 s.2.1 f_foundState f_foundValue f_heldCount f_taken f_prints f_nextBlock f_leftBlock a_home a_kinds a_fieldA a_fieldB a_rowPhi a_rowPred a_rowValue a_rowOf a_endCond a_endYes a_endNo a_nodesIn a_edges a_dom (upd a_liveOut p (a_liveOut p ||| fr)) a_users a_branchers a_needs a_states a_constants a_held a_paper a_lastValue a_incoming a_visitCount)
    (fun t s => (∀ i, i < 32 → bt s.2.2 i = (bt f_reachedMask i || (bt fr i && decide (i < t)))) ∧ (∀ i, i < 32 → bt s.2.1 i = ((bt f_pendingEnds i && !decide (i = p)) || (bt fr i && decide (i < t) && !bt f_reachedMask i))) ∧ (∀ i, i < 32 → bt s.1 i = (bt f_pendingNodes i || (decide (i < N) && (bt fr (a_home i).toNatClampNeg && decide ((a_home i).toNatClampNeg < t)) && (!bt f_reachedMask (a_home i).toNatClampNeg || decide (a_kinds i = 0)))))) B (fun n s I => ?_) (fun n t s ht I next => ?_) B 1 (f_pendingNodes, pe0, f_reachedMask) (by omega) (by omega) ⟨fun i hi => ?_, fun i hi => ?_, fun i hi => ?_⟩⟩
  · obtain ⟨I1, I2, I3⟩ := I
    refine pk_le B B (fun _ => ?_) (fun h => absurd h (Nat.lt_irrefl _))
    refine K p fr s.1 s.2.1 s.2.2 hpB bp bfr (fun i hi => ?_) (fun i hi => ?_) (fun i hi => ?_)
    · rw [I1 i hi]
      cases e : bt fr i
      · rfl
      · rw [decide_eq_true (fB i hi e).2]; rfl
    · rw [I2 i hi]
      cases e : bt fr i
      · rfl
      · rw [decide_eq_true (fB i hi e).2]; rfl
    · rw [I3 i hi]
      by_cases z : i < N
      · obtain ⟨b, hb, e1, _⟩ := hh i z
        rw [e1, decide_eq_true hb, Bool.and_true]
      · rw [decide_eq_false z]; rfl
  · obtain ⟨pn, pe, rm⟩ := s
    obtain ⟨I1, I2, I3⟩ := I
    refine pk_le B t (fun h => by omega) (fun _ => ?_)
    refine xa_hb (by omega) (fun hb => br_t rfl fun y ey => ?_) (fun hb => br_f (by decide) ?_)
    · subst ey
      rw [nI_1]
      have same : ∀ j, (bt fr j && decide (j < t + 1)) = (bt fr j && decide (j < t)) := fun j => by
        by_cases z : j = t
        · subst z; rw [hb]; rfl
        · have : (j < t + 1) = (j < t) := propext ⟨fun h => by omega, fun h => by omega⟩
          simp only [this]
      refine next (pn, pe, rm) ⟨fun i hi => ?_, fun i hi => ?_, fun i hi => ?_⟩
      · rw [same]; exact I1 i hi
      · rw [same]; exact I2 i hi
      · rw [same]; exact I3 i hi
    · refine xc_enter (by omega) (fun pn' pe' rm' b1 b2 b3 y ey => ?_)
      subst ey
      rw [nI_1]
      have rt : bt rm t = bt f_reachedMask t := by
        have := I1 t (by omega)
        rw [decide_eq_false (Nat.lt_irrefl t), Bool.and_false, Bool.or_false] at this; exact this
      have step : ∀ j, (bt fr j && decide (j < t + 1)) = ((bt fr j && decide (j < t)) || decide (j = t)) := fun j => by
        by_cases z : j = t
        · subst z; rw [hb, decide_eq_true (Nat.lt_succ_self j), decide_eq_true (rfl : j = j)]; simp
        · have : (j < t + 1) = (j < t) := propext ⟨fun h => by omega, fun h => by omega⟩
          simp only [this, decide_eq_false z, Bool.or_false]
      refine next (pn', pe', rm') ⟨fun i hi => ?_, fun i hi => ?_, fun i hi => ?_⟩
      · show bt rm' i = _
        rw [b3 i hi, step]
        have := I1 i hi
        rw [show bt rm i = _ from this, Bool.or_assoc]
      · show bt pe' i = _
        rw [b2 i hi, step]
        have := I2 i hi
        rw [show bt pe i = _ from this, rt]
        by_cases z : i = t
        · subst z; rw [decide_eq_true (rfl : i = i), decide_eq_false (Nat.lt_irrefl i)]; simp
        · rw [decide_eq_false z]; simp
      · show bt pn' i = _
        rw [b1 i hi, step]
        have := I3 i hi
        rw [show bt pn i = _ from this, rt]
        by_cases z : i < N
        · obtain ⟨b, hb', e1, e2⟩ := hh i z
          rw [e1, decide_eq_true z]
          by_cases y : b = t
          · subst y
            have w : bt (a_nodesIn b) i = true := (Wi b i ht hi).mpr ⟨z, e2⟩
            have w2 : bt f_phiMask i = decide (a_kinds i = 0) := by
              by_cases q : a_kinds i = 0
              · rw [(Wp i hi).mpr ⟨z, q⟩, decide_eq_true q]
              · rw [decide_eq_false q]; exact qn_tf fun h => q ((Wp i hi).mp h).2
            rw [w, w2, decide_eq_true (rfl : b = b), decide_eq_false (Nat.lt_irrefl b)]; simp
          · have w : bt (a_nodesIn t) i = false := qn_tf fun h => y (by
              have := ((Wi t i ht hi).mp h).2
              rw [e2, nI_eq (by omega) (by omega)] at this; exact this)
            rw [w, decide_eq_false y]; simp
        · have w : bt (a_nodesIn t) i = false := qn_tf fun h => z ((Wi t i ht hi).mp h).1
          rw [w, decide_eq_false z]; simp
  · show bt f_reachedMask i = _
    by_cases z : i = 0
    · subst z; rw [f0]; simp
    · rw [decide_eq_false (show ¬ i < 1 by omega)]; simp
  · show bt pe0 i = _
    rw [bpe i hi]
    by_cases z : i = 0
    · subst z; rw [f0]; simp
    · rw [decide_eq_false (show ¬ i < 1 by omega)]; simp
  · show bt f_pendingNodes i = _
    by_cases z : (a_home i).toNatClampNeg = 0
    · rw [z, f0]; simp
    · rw [decide_eq_false (show ¬ (a_home i).toNatClampNeg < 1 by omega)]; simp
theorem xd_or0 {x y : Int32} (h : (x ||| y) = 0) : x = 0 ∧ y = 0 := by
  have e : ∀ i, (bt x i || bt y i) = false := fun i => by rw [← b_or, h, b_0]
  exact ⟨qa_z fun i _ => by have := e i; cases z : bt x i <;> simp_all, qa_z fun i _ => by have := e i; cases z : bt y i <;> simp_all⟩
theorem xd_loop {post : SX → Prop} (hB : B ≤ 24) (hB0 : 0 < B) (hN : N ≤ 32) (hR : R ≤ 48) (We : qg_We B N a_endCond a_endYes a_endNo) (Wn : qg_Wn B N a_home a_kinds a_fieldA a_fieldB) (Wr : qg_Wr B N R a_kinds a_rowPhi a_rowPred a_rowValue a_rowOf) (Wu : qg_Wu N R a_kinds a_fieldA a_fieldB a_rowPhi a_rowValue a_users) (Wi : qg_Wi B N a_home a_nodesIn) (Wp : qg_Wp N a_kinds f_phiMask) (Wb : qg_Wb B a_endCond a_branchers) (he : ∀ p t, p < B → t < 32 → (bt (a_edges p) t = true ↔ qg_E a_endCond a_endYes a_endNo p t))
  (K : ∀ (rm fs fv : Int32) (lo st cv : Nat → Int32), qs_I B N R a_home a_kinds a_fieldA a_fieldB a_rowValue a_rowOf a_endCond a_endYes a_endNo rm 0 0 lo st cv → post (nI B, f_nodeLimit, f_rowLimit, f_heldLimit, f_isSealed, nI N, nI R, f_phiMask, rm, 0, 0, fs, fv, f_heldCount, f_taken, f_prints, f_nextBlock, f_leftBlock, a_home, a_kinds, a_fieldA, a_fieldB, a_rowPhi, a_rowPred, a_rowValue, a_rowOf, a_endCond, a_endYes, a_endNo, a_nodesIn, a_edges, a_dom, lo, a_users, a_branchers, a_needs, st, cv, a_held, a_paper, a_lastValue, a_incoming, a_visitCount)) :
  ∀ (n i : Nat) (rm pn pe fs fv : Int32) (lo st cv : Nat → Int32), qs_I B N R a_home a_kinds a_fieldA a_fieldB a_rowValue a_rowOf a_endCond a_endYes a_endNo rm pn pe lo st cv → qw_M N B pn pe lo st < n → qw_M N B pn pe lo st + i ≤ 7000 → wX_solve_7 post n (nI i) (nI B) f_nodeLimit f_rowLimit f_heldLimit f_isSealed (nI N) (nI R) f_phiMask rm pn pe fs fv f_heldCount f_taken f_prints f_nextBlock f_leftBlock a_home a_kinds a_fieldA a_fieldB a_rowPhi a_rowPred a_rowValue a_rowOf a_endCond a_endYes a_endNo a_nodesIn a_edges a_dom lo a_users a_branchers a_needs st cv a_held a_paper a_lastValue a_incoming a_visitCount := by
  intro n
  induction n with
  | zero => intro i rm pn pe fs fv lo st cv _ h; omega
  | succ n ih =>
    intro i rm pn pe fs fv lo st cv I hM hi
    have h3 : ∀ m, m < N → qp_3 (st m) := fun m hm => (I.1.2 m hm).1
    refine pk_le 8192 i (fun h => by omega) (fun _ => br_c (fun z => ?_) (fun z => br_c (fun z0 => ?_) (fun z0 => ?_)))
    · obtain ⟨a, b⟩ := xd_or0 z
      subst a b
      exact K rm fs fv lo st cv I
    · have hpn : ¬ pn = 0 := fun h => z (by rw [h, z0]; decide)
      refine xd_vnode hB hN hR Wn Wr h3 I.2.2.2.2.2.1 hpn (fun m pn' hm bm bp hr y ey => ?_) (fun m pn' fs' fv' hm bm bp hr hR' e y ey => ?_) (fun m pn' pe' fs' fv' hm bp be hr h3' hR' hL ne y ey => ?_)
      · subst ey
        rw [nI_1]
        have lt := qw_M_pop (N := N) (B := B) (pe := pe) (lo := lo) (st := st) (show m < 32 by omega) bm bp
        exact ih (i + 1) rm pn' pe fs fv lo st cv (qs_pop hN I bp fun _ h => by rw [hr] at h; cases h) (by omega) (by omega)
      · subst ey
        rw [nI_1]
        have lt := qw_M_pop (N := N) (B := B) (pe := pe) (lo := lo) (st := st) (show m < 32 by omega) bm bp
        refine ih (i + 1) rm pn' pe fs' fv' lo st cv (qs_pop hN I bp fun _ _ => ?_) (by omega) (by omega)
        have le := I.2.2.2.2.2.2.2.1 m hm fs' fv' hR'
        subst e
        refine qg_R_le (fun a b h => ?_) hR'
        rcases h with h | h | ⟨h1, h2, h4⟩
        · exact Or.inl h
        · exact Or.inr (Or.inl h)
        · refine Or.inr (Or.inr ⟨h1, h2, h4.trans ?_⟩)
          rcases le with l | l | ⟨_, _, l⟩
          · rw [h2] at l; exact absurd l qp_10
          · rw [h2] at l; exact absurd l qp_12
          · exact l.symm
      · subst ey
        rw [nI_1]
        have le := I.2.2.2.2.2.2.2.1 m hm fs' fv' hR'
        have lt := qw_M_node (B := B) (pn := pn) (pe := pe) (pn' := pn') (pe' := pe') (lo := lo) I.1 hm h3' le ne
        exact ih (i + 1) rm pn' pe' fs' fv' lo _ _ (qs_node hB hN hR We Wn Wr Wu Wb I hm hr h3' hR' hL bp be) (by omega) (by omega)
    · refine xd_vend hB hB0 hN We Wn Wi Wp he h3 (fun p hp h => I.2.1.2 p hp (I.2.2.2.2.1 p hp h)) z0 (fun p fr pn' pe' rm' hp bp bfr brm bpe bpn y ey => ?_)
      subst ey
      rw [nI_1]
      have lt := qw_M_end (N := N) (hm := a_home) (kd := a_kinds) (pn := pn) hB hp bp (fun t ht h => (I.2.2.1 p t hp ht h).2.2) bfr bpe bpn
      exact ih (i + 1) rm' pn' pe' fs fv _ st cv (qs_end hB hN We Wn I hp (I.2.2.2.2.1 p (by omega) bp) bfr brm bpe bpn) (by omega) (by omega)
theorem xd_solve {post : SX → Prop} (hB : B ≤ 24) (hB0 : 0 < B) (hN : N ≤ 32) (hR : R ≤ 48) (We : qg_We B N a_endCond a_endYes a_endNo) (Wn : qg_Wn B N a_home a_kinds a_fieldA a_fieldB) (Wr : qg_Wr B N R a_kinds a_rowPhi a_rowPred a_rowValue a_rowOf) (Wu : qg_Wu N R a_kinds a_fieldA a_fieldB a_rowPhi a_rowValue a_users) (Wi : qg_Wi B N a_home a_nodesIn) (Wp : qg_Wp N a_kinds f_phiMask) (Wb : qg_Wb B a_endCond a_branchers) (he : ∀ p t, p < B → t < 32 → (bt (a_edges p) t = true ↔ qg_E a_endCond a_endYes a_endNo p t))
  (K : ∀ (rm fs fv : Int32) (lo st cv : Nat → Int32), qs_I B N R a_home a_kinds a_fieldA a_fieldB a_rowValue a_rowOf a_endCond a_endYes a_endNo rm 0 0 lo st cv → post (nI B, f_nodeLimit, f_rowLimit, f_heldLimit, f_isSealed, nI N, nI R, f_phiMask, rm, 0, 0, fs, fv, f_heldCount, f_taken, f_prints, f_nextBlock, f_leftBlock, a_home, a_kinds, a_fieldA, a_fieldB, a_rowPhi, a_rowPred, a_rowValue, a_rowOf, a_endCond, a_endYes, a_endNo, a_nodesIn, a_edges, a_dom, lo, a_users, a_branchers, a_needs, st, cv, a_held, a_paper, a_lastValue, a_incoming, a_visitCount)) : wpX_solve post (nI B, f_nodeLimit, f_rowLimit, f_heldLimit, f_isSealed, nI N, nI R, f_phiMask, 0, 0, 0, f_foundState, f_foundValue, f_heldCount, f_taken, f_prints, f_nextBlock, f_leftBlock, a_home, a_kinds, a_fieldA, a_fieldB, a_rowPhi, a_rowPred, a_rowValue, a_rowOf, a_endCond, a_endYes, a_endNo, a_nodesIn, a_edges, a_dom, (fun _ => 0), a_users, a_branchers, a_needs, (fun _ => 0), (fun _ => 0), a_held, a_paper, a_lastValue, a_incoming, a_visitCount) := by
  unfold wpX_solve
  dsimp only
  refine xc_enter (t := 0) (by omega) (fun pn pe rm b1 b2 b3 => ?_)
  have I := qs_I0 (R := R) (fa := a_fieldA) (fb := a_fieldB) (kd := a_kinds) (rv := a_rowValue) (ro := a_rowOf) (ec := a_endCond) (ey := a_endYes) (en := a_endNo) hB hB0 hN Wn Wi (rm := rm) (pn := pn) (pe := pe) (fun i hi => by rw [b3 i hi, b_0]; rfl) (fun i hi => by rw [b1 i hi, b_0, b_0]; simp) (fun i hi => by rw [b2 i hi, b_0, b_0]; simp)
  have bd := qw_M_bd hN hB pn pe (fun _ => 0) (fun _ => 0)
  exact ⟨7000, xd_loop hB hB0 hN hR We Wn Wr Wu Wi Wp Wb he K 7000 0 rm pn pe f_foundState f_foundValue (fun _ => 0) (fun _ => 0) (fun _ => 0) I (by omega) (by omega)⟩
end
end
section
/-! the component's walks: the reduction, the start -/
def qr_k (N : Nat) (st kd : Nat → Int32) (n : Nat) : Int32 := if n < N ∧ st n = 1 ∧ ¬ kd n = 8 then 1 else kd n
def qr_a (N : Nat) (st cv kd fa : Nat → Int32) (n : Nat) : Int32 := if n < N ∧ st n = 1 ∧ ¬ kd n = 8 then cv n else fa n
def qr_b (N : Nat) (st kd fb : Nat → Int32) (n : Nat) : Int32 := if n < N ∧ st n = 1 ∧ ¬ kd n = 8 then 0 else fb n
def qr_c (B : Nat) (st ec : Nat → Int32) (p : Nat) : Int32 := if p < B ∧ ¬ ec p < 0 ∧ st (ec p).toNatClampNeg = 1 then -1 else ec p
def qr_y (B : Nat) (st cv ec ey en : Nat → Int32) (p : Nat) : Int32 := if p < B ∧ ¬ ec p < 0 ∧ st (ec p).toNatClampNeg = 1 then (if cv (ec p).toNatClampNeg = 0 then en p else ey p) else ey p
def qr_n (B : Nat) (st ec en : Nat → Int32) (p : Nat) : Int32 := if p < B ∧ ¬ ec p < 0 ∧ st (ec p).toNatClampNeg = 1 then 0 else en p
theorem qr_up {c : Nat → Prop} {f g : Nat → Int32} {i : Nat} (d : ∀ n m, Decidable (n < m ∧ c n)) (h : c i) (x : Int32) (e : x = f i) : upd (fun n => @ite _ (n < i ∧ c n) (d n i) (f n) (g n)) i x = fun n => @ite _ (n < i + 1 ∧ c n) (d n (i + 1)) (f n) (g n) := by
  funext n
  by_cases z : n = i
  · subst z; rw [pk_us, if_pos ⟨Nat.lt_succ_self n, h⟩]; exact e
  · rw [pk_un z]
    by_cases y : n < i ∧ c n
    · rw [if_pos y, if_pos ⟨by omega, y.2⟩]
    · rw [if_neg y, if_neg (fun w => y ⟨by omega, w.2⟩)]
theorem qr_id {c : Nat → Prop} {f g : Nat → Int32} {i : Nat} (d : ∀ n m, Decidable (n < m ∧ c n)) (h : ¬ c i) : (fun n => @ite _ (n < i ∧ c n) (d n i) (f n) (g n)) = fun n => @ite _ (n < i + 1 ∧ c n) (d n (i + 1)) (f n) (g n) := by
  funext n
  by_cases y : n < i ∧ c n
  · rw [if_pos y, if_pos ⟨by omega, y.2⟩]
  · rw [if_neg y, if_neg]
    rintro ⟨w1, w2⟩
    by_cases z : n = i
    · subst z; exact h w2
    · exact y ⟨by omega, w2⟩
theorem qr_k0 (st kd : Nat → Int32) : qr_k 0 st kd = kd := funext fun n => if_neg fun h => absurd h.1 (Nat.not_lt_zero _)
theorem qr_a0 (st cv kd fa : Nat → Int32) : qr_a 0 st cv kd fa = fa := funext fun n => if_neg fun h => absurd h.1 (Nat.not_lt_zero _)
theorem qr_b0 (st kd fb : Nat → Int32) : qr_b 0 st kd fb = fb := funext fun n => if_neg fun h => absurd h.1 (Nat.not_lt_zero _)
theorem qr_c0 (st ec : Nat → Int32) : qr_c 0 st ec = ec := funext fun n => if_neg fun h => absurd h.1 (Nat.not_lt_zero _)
theorem qr_y0 (st cv ec ey en : Nat → Int32) : qr_y 0 st cv ec ey en = ey := funext fun n => if_neg fun h => absurd h.1 (Nat.not_lt_zero _)
theorem qr_n0 (st ec en : Nat → Int32) : qr_n 0 st ec en = en := funext fun n => if_neg fun h => absurd h.1 (Nat.not_lt_zero _)
theorem qr_ki (i : Nat) (st kd : Nat → Int32) : qr_k i st kd i = kd i := if_neg fun h => absurd h.1 (Nat.lt_irrefl _)
theorem qr_ci (i : Nat) (st ec : Nat → Int32) : qr_c i st ec i = ec i := if_neg fun h => absurd h.1 (Nat.lt_irrefl _)
theorem qr_yi (i : Nat) (st cv ec ey en : Nat → Int32) : qr_y i st cv ec ey en i = ey i := if_neg fun h => absurd h.1 (Nat.lt_irrefl _)
theorem qr_ni (i : Nat) (st ec en : Nat → Int32) : qr_n i st ec en i = en i := if_neg fun h => absurd h.1 (Nat.lt_irrefl _)
section
variable {B N R : Nat} {f_nodeLimit f_rowLimit f_heldLimit f_isSealed f_phiMask f_reachedMask f_pendingNodes f_pendingEnds f_foundState f_foundValue f_heldCount f_taken f_prints f_nextBlock f_leftBlock : Int32} {a_home a_kinds a_fieldA a_fieldB a_rowPhi a_rowPred a_rowValue a_rowOf a_endCond a_endYes a_endNo a_nodesIn a_edges a_dom a_liveOut a_users a_branchers a_needs a_states a_constants a_held a_paper a_lastValue a_incoming a_visitCount : Nat → Int32}
theorem xe_setNode {post : SX → Prop} {n : Nat} {k a b : Int32} (hn : n < 32) (K : ∀ pm : Int32, (∀ i, i < 32 → bt pm i = if i = n then decide (k = 0) else bt f_phiMask i) → post (nI B, f_nodeLimit, f_rowLimit, f_heldLimit, f_isSealed, nI N, nI R, pm, f_reachedMask, f_pendingNodes, f_pendingEnds, f_foundState, f_foundValue, f_heldCount, f_taken, f_prints, f_nextBlock, f_leftBlock, a_home, upd a_kinds n k, upd a_fieldA n a, upd a_fieldB n b, a_rowPhi, a_rowPred, a_rowValue, a_rowOf, a_endCond, a_endYes, a_endNo, a_nodesIn, a_edges, a_dom, a_liveOut, a_users, a_branchers, a_needs, a_states, a_constants, a_held, a_paper, a_lastValue, a_incoming, a_visitCount)) : wpX_setNode post (nI B, f_nodeLimit, f_rowLimit, f_heldLimit, f_isSealed, nI N, nI R, f_phiMask, f_reachedMask, f_pendingNodes, f_pendingEnds, f_foundState, f_foundValue, f_heldCount, f_taken, f_prints, f_nextBlock, f_leftBlock, a_home, a_kinds, a_fieldA, a_fieldB, a_rowPhi, a_rowPred, a_rowValue, a_rowOf, a_endCond, a_endYes, a_endNo, a_nodesIn, a_edges, a_dom, a_liveOut, a_users, a_branchers, a_needs, a_states, a_constants, a_held, a_paper, a_lastValue, a_incoming, a_visitCount) (nI n) k a b := by
  have hv : vp_in (nI n) 32 := vp_in_nI hn (by omega)
  have en : (nI n).toNatClampNeg = n := nI_clamp (by omega)
  refine ⟨hv, fun kd ekd => ⟨hv, fun fa efa => ⟨hv, fun fb efb => br_c (fun z pm epm => ?_) (fun z pm epm => ?_)⟩⟩⟩
  · rw [en] at ekd efa efb
    subst ekd efa efb
    refine K pm fun i hi => ?_
    rw [epm, b_or, qa_sh hn hi]
    by_cases y : i = n
    · rw [if_pos y, decide_eq_true y, decide_eq_true z]; simp
    · rw [if_neg y, decide_eq_false y]; simp
  · rw [en] at ekd efa efb
    subst ekd efa efb
    refine K pm fun i hi => ?_
    rw [epm, b_and, qa_not _ hi, qa_sh hn hi]
    by_cases y : i = n
    · rw [if_pos y, decide_eq_true y, decide_eq_false z]; simp
    · rw [if_neg y, decide_eq_false y]; simp
theorem xe_setEnd {post : Int32 → SX → Prop} {p : Nat} {c y n : Int32} (hp : p < 24) (K : post 0 (nI B, f_nodeLimit, f_rowLimit, f_heldLimit, f_isSealed, nI N, nI R, f_phiMask, f_reachedMask, f_pendingNodes, f_pendingEnds, f_foundState, f_foundValue, f_heldCount, f_taken, f_prints, f_nextBlock, f_leftBlock, a_home, a_kinds, a_fieldA, a_fieldB, a_rowPhi, a_rowPred, a_rowValue, a_rowOf, upd a_endCond p c, upd a_endYes p y, upd a_endNo p n, a_nodesIn, a_edges, a_dom, a_liveOut, a_users, a_branchers, a_needs, a_states, a_constants, a_held, a_paper, a_lastValue, a_incoming, a_visitCount)) : wpX_setEnd post (nI B, f_nodeLimit, f_rowLimit, f_heldLimit, f_isSealed, nI N, nI R, f_phiMask, f_reachedMask, f_pendingNodes, f_pendingEnds, f_foundState, f_foundValue, f_heldCount, f_taken, f_prints, f_nextBlock, f_leftBlock, a_home, a_kinds, a_fieldA, a_fieldB, a_rowPhi, a_rowPred, a_rowValue, a_rowOf, a_endCond, a_endYes, a_endNo, a_nodesIn, a_edges, a_dom, a_liveOut, a_users, a_branchers, a_needs, a_states, a_constants, a_held, a_paper, a_lastValue, a_incoming, a_visitCount) (nI p) c y n := by
  have hv : vp_in (nI p) 24 := vp_in_nI hp (by omega)
  have en : (nI p).toNatClampNeg = p := nI_clamp (by omega)
  refine ⟨hv, fun e1 h1 => ⟨hv, fun e2 h2 => ⟨hv, fun e3 h3 => ?_⟩⟩⟩
  rw [en] at h1 h2 h3
  subst h1 h2 h3
  exact K
theorem xe_target {post : Int32 → Prop} {p : Nat} {x : Int32} (hp : p < 24) (K : post (if x = 0 then a_endNo p else a_endYes p)) : wpX_target post (nI B, f_nodeLimit, f_rowLimit, f_heldLimit, f_isSealed, nI N, nI R, f_phiMask, f_reachedMask, f_pendingNodes, f_pendingEnds, f_foundState, f_foundValue, f_heldCount, f_taken, f_prints, f_nextBlock, f_leftBlock, a_home, a_kinds, a_fieldA, a_fieldB, a_rowPhi, a_rowPred, a_rowValue, a_rowOf, a_endCond, a_endYes, a_endNo, a_nodesIn, a_edges, a_dom, a_liveOut, a_users, a_branchers, a_needs, a_states, a_constants, a_held, a_paper, a_lastValue, a_incoming, a_visitCount) (nI p) x := by
  have hv : vp_in (nI p) 24 := vp_in_nI hp (by omega)
  have en : (nI p).toNatClampNeg = p := nI_clamp (by omega)
  refine br_c (fun z => ⟨hv, ?_⟩) (fun z => ⟨hv, ?_⟩)
  · rw [en]; rw [if_pos z] at K; exact K
  · rw [en]; rw [if_neg z] at K; exact K
theorem xe_reduce {post : SX → Prop} (hB : B ≤ 24) (hN : N ≤ 32) (We : qg_We B N a_endCond a_endYes a_endNo) (Wp : qg_Wp N a_kinds f_phiMask) (K : ∀ pm : Int32, (∀ i, i < 32 → (bt pm i = true ↔ i < N ∧ qr_k N a_states a_kinds i = 0)) → post (nI B, f_nodeLimit, f_rowLimit, f_heldLimit, f_isSealed, nI N, nI R, pm, f_reachedMask, f_pendingNodes, f_pendingEnds, f_foundState, f_foundValue, f_heldCount, f_taken, f_prints, f_nextBlock, f_leftBlock, a_home, qr_k N a_states a_kinds, qr_a N a_states a_constants a_kinds a_fieldA, qr_b N a_states a_kinds a_fieldB, a_rowPhi, a_rowPred, a_rowValue, a_rowOf, qr_c B a_states a_endCond, qr_y B a_states a_constants a_endCond a_endYes a_endNo, qr_n B a_states a_endCond a_endNo, a_nodesIn, a_edges, a_dom, a_liveOut, a_users, a_branchers, a_needs, a_states, a_constants, a_held, a_paper, a_lastValue, a_incoming, a_visitCount)) : wpX_reduce post (nI B, f_nodeLimit, f_rowLimit, f_heldLimit, f_isSealed, nI N, nI R, f_phiMask, f_reachedMask, f_pendingNodes, f_pendingEnds, f_foundState, f_foundValue, f_heldCount, f_taken, f_prints, f_nextBlock, f_leftBlock, a_home, a_kinds, a_fieldA, a_fieldB, a_rowPhi, a_rowPred, a_rowValue, a_rowOf, a_endCond, a_endYes, a_endNo, a_nodesIn, a_edges, a_dom, a_liveOut, a_users, a_branchers, a_needs, a_states, a_constants, a_held, a_paper, a_lastValue, a_incoming, a_visitCount) := by
  have main : ∃ n, wX_reduce_2 post n (nI 0) (nI B) f_nodeLimit f_rowLimit f_heldLimit f_isSealed (nI N) (nI R) f_phiMask f_reachedMask f_pendingNodes f_pendingEnds f_foundState f_foundValue f_heldCount f_taken f_prints f_nextBlock f_leftBlock a_home (qr_k 0 a_states a_kinds) (qr_a 0 a_states a_constants a_kinds a_fieldA) (qr_b 0 a_states a_kinds a_fieldB) a_rowPhi a_rowPred a_rowValue a_rowOf a_endCond a_endYes a_endNo a_nodesIn a_edges a_dom a_liveOut a_users a_branchers a_needs a_states a_constants a_held a_paper a_lastValue a_incoming a_visitCount := by
    refine ql_0 (fun n i pm => wX_reduce_2 post n (nI i) (nI B) f_nodeLimit f_rowLimit f_heldLimit f_isSealed (nI N) (nI R) pm f_reachedMask f_pendingNodes f_pendingEnds f_foundState f_foundValue f_heldCount f_taken f_prints f_nextBlock f_leftBlock a_home (qr_k i a_states a_kinds) (qr_a i a_states a_constants a_kinds a_fieldA) (qr_b i a_states a_kinds a_fieldB) a_rowPhi a_rowPred a_rowValue a_rowOf a_endCond a_endYes a_endNo a_nodesIn a_edges a_dom a_liveOut a_users a_branchers a_needs a_states a_constants a_held a_paper a_lastValue a_incoming a_visitCount) (fun j pm => ∀ i, i < 32 → (bt pm i = true ↔ i < N ∧ qr_k j a_states a_kinds i = 0)) N f_phiMask (fun i hi => by rw [qr_k0]; exact Wp i hi) (fun n pm I => ?_) (fun n i pm hi I next => ?_)
    · refine pk_le N N (fun _ => ?_) (fun h => absurd h (Nat.lt_irrefl _))
      have main2 : ∃ n, wX_reduce_52 post n (nI 0) (nI B) f_nodeLimit f_rowLimit f_heldLimit f_isSealed (nI N) (nI R) pm f_reachedMask f_pendingNodes f_pendingEnds f_foundState f_foundValue f_heldCount f_taken f_prints f_nextBlock f_leftBlock a_home (qr_k N a_states a_kinds) (qr_a N a_states a_constants a_kinds a_fieldA) (qr_b N a_states a_kinds a_fieldB) a_rowPhi a_rowPred a_rowValue a_rowOf (qr_c 0 a_states a_endCond) (qr_y 0 a_states a_constants a_endCond a_endYes a_endNo) (qr_n 0 a_states a_endCond a_endNo) a_nodesIn a_edges a_dom a_liveOut a_users a_branchers a_needs a_states a_constants a_held a_paper a_lastValue a_incoming a_visitCount := by
        refine ql_0 (fun n i (_ : Unit) => wX_reduce_52 post n (nI i) (nI B) f_nodeLimit f_rowLimit f_heldLimit f_isSealed (nI N) (nI R) pm f_reachedMask f_pendingNodes f_pendingEnds f_foundState f_foundValue f_heldCount f_taken f_prints f_nextBlock f_leftBlock a_home (qr_k N a_states a_kinds) (qr_a N a_states a_constants a_kinds a_fieldA) (qr_b N a_states a_kinds a_fieldB) a_rowPhi a_rowPred a_rowValue a_rowOf (qr_c i a_states a_endCond) (qr_y i a_states a_constants a_endCond a_endYes a_endNo) (qr_n i a_states a_endCond a_endNo) a_nodesIn a_edges a_dom a_liveOut a_users a_branchers a_needs a_states a_constants a_held a_paper a_lastValue a_incoming a_visitCount) (fun _ _ => True) B () trivial (fun n _ _ => ?_) (fun n i _ hi _ next => ?_)
        · exact pk_le B B (fun _ => K pm I) (fun h => absurd h (Nat.lt_irrefl _))
        · have hi24 : vp_in (nI i) 24 := vp_in_nI (by omega) (by omega)
          refine pk_le B i (fun h => by omega) (fun _ => ⟨hi24, fun c hc => ?_⟩)
          rw [nI_clamp (by omega), qr_ci] at hc
          subst hc
          have nx := next () trivial
          have skip : ¬ (¬ a_endCond i < 0 ∧ a_states (a_endCond i).toNatClampNeg = 1) → wX_reduce_52 post n (nI i + 1) (nI B) f_nodeLimit f_rowLimit f_heldLimit f_isSealed (nI N) (nI R) pm f_reachedMask f_pendingNodes f_pendingEnds f_foundState f_foundValue f_heldCount f_taken f_prints f_nextBlock f_leftBlock a_home (qr_k N a_states a_kinds) (qr_a N a_states a_constants a_kinds a_fieldA) (qr_b N a_states a_kinds a_fieldB) a_rowPhi a_rowPred a_rowValue a_rowOf (qr_c i a_states a_endCond) (qr_y i a_states a_constants a_endCond a_endYes a_endNo) (qr_n i a_states a_endCond a_endNo) a_nodesIn a_edges a_dom a_liveOut a_users a_branchers a_needs a_states a_constants a_held a_paper a_lastValue a_incoming a_visitCount := fun h => by
            rw [nI_1]
            have e1 : qr_c i a_states a_endCond = qr_c (i + 1) a_states a_endCond := qr_id (c := fun p => ¬ a_endCond p < 0 ∧ a_states (a_endCond p).toNatClampNeg = 1) _ h
            have e2 : qr_y i a_states a_constants a_endCond a_endYes a_endNo = qr_y (i + 1) a_states a_constants a_endCond a_endYes a_endNo := qr_id (c := fun p => ¬ a_endCond p < 0 ∧ a_states (a_endCond p).toNatClampNeg = 1) _ h
            have e3 : qr_n i a_states a_endCond a_endNo = qr_n (i + 1) a_states a_endCond a_endNo := qr_id (c := fun p => ¬ a_endCond p < 0 ∧ a_states (a_endCond p).toNatClampNeg = 1) _ h
            rw [e1, e2, e3]; exact nx
          refine br_c (fun z y ey => ?_) (fun z => ?_)
          · subst ey; exact skip fun h => h.1 z
          · obtain ⟨c, hc, e1, e2⟩ := qg_cond We hN hi z
            have hcv : vp_in (a_endCond i) 32 := by rw [e1]; exact vp_in_nI (by omega) (by omega)
            refine ⟨hcv, br_c (fun s1 => ⟨hcv, ?_⟩) (fun s1 y ey => ?_)⟩
            · refine xe_target (by omega) (xe_setEnd (by omega) fun y ey => ?_)
              subst ey
              rw [nI_1, qr_ni, qr_yi]
              have h : ¬ a_endCond i < 0 ∧ a_states (a_endCond i).toNatClampNeg = 1 := ⟨z, s1⟩
              have e1 : upd (qr_c i a_states a_endCond) i (-1) = qr_c (i + 1) a_states a_endCond := qr_up (c := fun p => ¬ a_endCond p < 0 ∧ a_states (a_endCond p).toNatClampNeg = 1) (f := fun _ => -1) _ h _ rfl
              have e2 : upd (qr_y i a_states a_constants a_endCond a_endYes a_endNo) i (if a_constants (a_endCond i).toNatClampNeg = 0 then a_endNo i else a_endYes i) = qr_y (i + 1) a_states a_constants a_endCond a_endYes a_endNo := qr_up (c := fun p => ¬ a_endCond p < 0 ∧ a_states (a_endCond p).toNatClampNeg = 1) (f := fun p => if a_constants (a_endCond p).toNatClampNeg = 0 then a_endNo p else a_endYes p) _ h _ rfl
              have e3 : upd (qr_n i a_states a_endCond a_endNo) i 0 = qr_n (i + 1) a_states a_endCond a_endNo := qr_up (c := fun p => ¬ a_endCond p < 0 ∧ a_states (a_endCond p).toNatClampNeg = 1) (f := fun _ => 0) _ h _ rfl
              rw [e1, e2, e3]; exact nx
            · subst ey; exact skip fun h => s1 h.2
      rw [qr_c0, qr_y0, qr_n0] at main2
      exact main2
    · have hi32 : vp_in (nI i) 32 := vp_in_nI (by omega) (by omega)
      have ei : (nI i).toNatClampNeg = i := nI_clamp (by omega)
      refine pk_le N i (fun h => by omega) (fun _ => ⟨hi32, ?_⟩)
      rw [ei, qr_ki]
      have skip : ¬ (a_states i = 1 ∧ ¬ a_kinds i = 8) → wX_reduce_2 post n (nI i + 1) (nI B) f_nodeLimit f_rowLimit f_heldLimit f_isSealed (nI N) (nI R) pm f_reachedMask f_pendingNodes f_pendingEnds f_foundState f_foundValue f_heldCount f_taken f_prints f_nextBlock f_leftBlock a_home (qr_k i a_states a_kinds) (qr_a i a_states a_constants a_kinds a_fieldA) (qr_b i a_states a_kinds a_fieldB) a_rowPhi a_rowPred a_rowValue a_rowOf a_endCond a_endYes a_endNo a_nodesIn a_edges a_dom a_liveOut a_users a_branchers a_needs a_states a_constants a_held a_paper a_lastValue a_incoming a_visitCount := fun h => by
        rw [nI_1]
        have e1 : qr_k i a_states a_kinds = qr_k (i + 1) a_states a_kinds := qr_id (c := fun n => a_states n = 1 ∧ ¬ a_kinds n = 8) _ h
        have e2 : qr_a i a_states a_constants a_kinds a_fieldA = qr_a (i + 1) a_states a_constants a_kinds a_fieldA := qr_id (c := fun n => a_states n = 1 ∧ ¬ a_kinds n = 8) _ h
        have e3 : qr_b i a_states a_kinds a_fieldB = qr_b (i + 1) a_states a_kinds a_fieldB := qr_id (c := fun n => a_states n = 1 ∧ ¬ a_kinds n = 8) _ h
        rw [e1, e2, e3]
        exact next pm (by rw [← e1]; exact I)
      refine br_c (fun s1 => ⟨hi32, br_c (fun k8 y ey => ?_) (fun k8 => ⟨hi32, ?_⟩)⟩) (fun s1 y ey => ?_)
      · subst ey; exact skip fun h => h.2 k8
      · refine xe_setNode (by omega) (fun pm' bpm y ey => ?_)
        subst ey
        rw [nI_1]
        have h : a_states i = 1 ∧ ¬ a_kinds i = 8 := ⟨s1, k8⟩
        have e1 : upd (qr_k i a_states a_kinds) i 1 = qr_k (i + 1) a_states a_kinds := qr_up (c := fun n => a_states n = 1 ∧ ¬ a_kinds n = 8) (f := fun _ => 1) _ h _ rfl
        have e2 : upd (qr_a i a_states a_constants a_kinds a_fieldA) i (a_constants i) = qr_a (i + 1) a_states a_constants a_kinds a_fieldA := qr_up (c := fun n => a_states n = 1 ∧ ¬ a_kinds n = 8) (f := a_constants) _ h _ rfl
        have e3 : upd (qr_b i a_states a_kinds a_fieldB) i 0 = qr_b (i + 1) a_states a_kinds a_fieldB := qr_up (c := fun n => a_states n = 1 ∧ ¬ a_kinds n = 8) (f := fun _ => 0) _ h _ rfl
        rw [e1, e2, e3]
        refine next pm' (fun j hj => ?_)
        rw [bpm j hj, ← e1]
        by_cases y : j = i
        · subst y; rw [if_pos rfl, pk_us]; simp [qp_10]
        · rw [if_neg y, pk_un y]; exact I j hj
      · subst ey; exact skip fun h => s1 h.1
  rw [qr_k0, qr_a0, qr_b0] at main
  exact main
theorem xe_start {post : Int32 → SX → Prop} (hB : B ≤ 24) (hN : N ≤ 32) {x : Int32} (hs : ¬ f_isSealed = 0) (hv : ∀ b, B ≤ b → a_visitCount b = 0) (hl : ∀ n, N ≤ n → a_lastValue n = 0) (K : post 0 (nI B, f_nodeLimit, f_rowLimit, f_heldLimit, f_isSealed, nI N, nI R, f_phiMask, f_reachedMask, f_pendingNodes, f_pendingEnds, f_foundState, f_foundValue, if x = 0 then f_heldCount else 0, 0, 0, 0, -1, a_home, a_kinds, a_fieldA, a_fieldB, a_rowPhi, a_rowPred, a_rowValue, a_rowOf, a_endCond, a_endYes, a_endNo, a_nodesIn, a_edges, a_dom, a_liveOut, a_users, a_branchers, a_needs, a_states, a_constants, a_held, a_paper, (fun _ => 0), a_incoming, (fun _ => 0))) : wpX_start post (nI B, f_nodeLimit, f_rowLimit, f_heldLimit, f_isSealed, nI N, nI R, f_phiMask, f_reachedMask, f_pendingNodes, f_pendingEnds, f_foundState, f_foundValue, f_heldCount, f_taken, f_prints, f_nextBlock, f_leftBlock, a_home, a_kinds, a_fieldA, a_fieldB, a_rowPhi, a_rowPred, a_rowValue, a_rowOf, a_endCond, a_endYes, a_endNo, a_nodesIn, a_edges, a_dom, a_liveOut, a_users, a_branchers, a_needs, a_states, a_constants, a_held, a_paper, a_lastValue, a_incoming, a_visitCount) x := by
  have main : ∀ hc : Int32, post 0 (nI B, f_nodeLimit, f_rowLimit, f_heldLimit, f_isSealed, nI N, nI R, f_phiMask, f_reachedMask, f_pendingNodes, f_pendingEnds, f_foundState, f_foundValue, hc, 0, 0, 0, -1, a_home, a_kinds, a_fieldA, a_fieldB, a_rowPhi, a_rowPred, a_rowValue, a_rowOf, a_endCond, a_endYes, a_endNo, a_nodesIn, a_edges, a_dom, a_liveOut, a_users, a_branchers, a_needs, a_states, a_constants, a_held, a_paper, (fun _ => 0), a_incoming, (fun _ => 0)) → ∃ n, wX_start_41 post (nI B) f_nodeLimit f_rowLimit f_heldLimit f_isSealed (nI N) (nI R) f_phiMask f_reachedMask f_pendingNodes f_pendingEnds f_foundState f_foundValue hc 0 0 0 (-1) n (nI 0) a_home a_kinds a_fieldA a_fieldB a_rowPhi a_rowPred a_rowValue a_rowOf a_endCond a_endYes a_endNo a_nodesIn a_edges a_dom a_liveOut a_users a_branchers a_needs a_states a_constants a_held a_paper a_lastValue a_incoming a_visitCount := by
    intro hc K
    refine ql_0 (fun n i vc => wX_start_41 post (nI B) f_nodeLimit f_rowLimit f_heldLimit f_isSealed (nI N) (nI R) f_phiMask f_reachedMask f_pendingNodes f_pendingEnds f_foundState f_foundValue hc 0 0 0 (-1) n (nI i) a_home a_kinds a_fieldA a_fieldB a_rowPhi a_rowPred a_rowValue a_rowOf a_endCond a_endYes a_endNo a_nodesIn a_edges a_dom a_liveOut a_users a_branchers a_needs a_states a_constants a_held a_paper a_lastValue a_incoming vc) (fun i vc => (∀ b, b < i → vc b = 0) ∧ ∀ b, B ≤ b → vc b = 0) B a_visitCount ⟨fun b h => absurd h (Nat.not_lt_zero _), hv⟩ (fun n vc I => ?_) (fun n i vc hi I next => ?_)
    · refine pk_le B B (fun _ => ?_) (fun h => absurd h (Nat.lt_irrefl _))
      have evc : vc = fun _ => 0 := funext fun b => by
        rcases Nat.lt_or_ge b B with z | z
        · exact I.1 b z
        · exact I.2 b z
      subst evc
      refine ql_0 (fun n i lv => wX_start_64 post (nI B) f_nodeLimit f_rowLimit f_heldLimit f_isSealed (nI N) (nI R) f_phiMask f_reachedMask f_pendingNodes f_pendingEnds f_foundState f_foundValue hc 0 0 0 (-1) n (nI i) a_home a_kinds a_fieldA a_fieldB a_rowPhi a_rowPred a_rowValue a_rowOf a_endCond a_endYes a_endNo a_nodesIn a_edges a_dom a_liveOut a_users a_branchers a_needs a_states a_constants a_held a_paper lv a_incoming ((fun _ => 0))) (fun i lv => (∀ b, b < i → lv b = 0) ∧ ∀ b, N ≤ b → lv b = 0) N a_lastValue ⟨fun b h => absurd h (Nat.not_lt_zero _), hl⟩ (fun n lv I => ?_) (fun n i lv hi I next => ?_)
      · refine pk_le N N (fun _ => ?_) (fun h => absurd h (Nat.lt_irrefl _))
        have elv : lv = fun _ => 0 := funext fun b => by
          rcases Nat.lt_or_ge b N with z | z
          · exact I.1 b z
          · exact I.2 b z
        subst elv
        exact K
      · refine pk_le N i (fun h => by omega) (fun _ => ⟨vp_in_nI (by omega) (by omega), fun lv' elv y ey => ?_⟩)
        rw [nI_clamp (by omega)] at elv
        subst elv ey
        rw [nI_1]
        refine next _ ⟨fun b hb => ?_, fun b hb => ?_⟩
        · by_cases z : b = i
          · subst z; exact pk_us
          · rw [pk_un z]; exact I.1 b (by omega)
        · rw [pk_un (by omega)]; exact I.2 b hb
    · refine pk_le B i (fun h => by omega) (fun _ => ⟨vp_in_nI (by omega) (by omega), fun lv' elv y ey => ?_⟩)
      rw [nI_clamp (by omega)] at elv
      subst elv ey
      rw [nI_1]
      refine next _ ⟨fun b hb => ?_, fun b hb => ?_⟩
      · by_cases z : b = i
        · subst z; exact pk_us
        · rw [pk_un z]; exact I.1 b (by omega)
      · rw [pk_un (by omega)]; exact I.2 b hb
  refine br_f hs (br_c (fun z => ?_) (fun z => ?_))
  · rw [if_pos z] at K; exact main _ K
  · rw [if_neg z] at K; exact main _ K
end
end
section
/-! the reference's walks: numbers, rows, edges, the rows of phis -/
theorem ya_b0 : vp_nar .boolean 0 = 0 := by decide
theorem ya_b1 : vp_nar .boolean 1 = 1 := by decide
theorem ya_eq {x : Int32} {s t : Nat} (h : x = nI s) (hs : s < 2 ^ 31) (ht : t < 2 ^ 31) : x = nI t ↔ x.toNatClampNeg = t := by
  rw [h, nI_eq hs ht, nI_clamp hs]
theorem ya_compute {post : Int32 → Prop} {u : SY} {k x y : Int32} (h : post (qp_cp k x y)) : wpY_compute post u k x y := by
  obtain ⟨g_blockCount, g_nodeMax, g_rowMax, g_inputMax, g_nodeCount, g_rowCount, g_held, g_next, g_leftLast, g_taken, g_prints, g_closed, b_nodeBlock, b_nodeKind, b_nodeA, b_nodeB, b_rowPhi, b_rowPred, b_rowNode, b_endCond, b_endYes, b_endNo, b_heldInput, b_factState, b_factValue, b_isReached, b_mark, b_lastValue, b_pending, b_visitCount, b_kept⟩ := u
  unfold qp_cp at h
  refine br_c (fun a => ?_) (fun a => ?_)
  · rw [if_pos a] at h; exact h
  · rw [if_neg a] at h
    refine br_c (fun a => ?_) (fun a => ?_)
    · rw [if_pos a] at h; exact h
    · rw [if_neg a] at h
      refine br_c (fun a => ?_) (fun a => ?_)
      · rw [if_pos a] at h; exact h
      · rw [if_neg a] at h
        refine br_c (fun a => ?_) (fun a => ?_)
        · rw [if_pos a] at h
          refine br_c (fun a => ?_) (fun a => ?_)
          · rw [if_pos a] at h; exact h
          · rw [if_neg a] at h; exact h
        · rw [if_neg a] at h
          refine br_c (fun a => ?_) (fun a => ?_)
          · rw [if_pos a] at h; exact h
          · rw [if_neg a] at h; exact h
section
variable {B N R : Nat} {ro : Nat → Int32} {g_nodeMax g_rowMax g_inputMax g_held g_next g_leftLast g_taken g_prints g_closed : Int32} {b_nodeBlock b_nodeKind b_nodeA b_nodeB b_rowPhi b_rowPred b_rowNode b_endCond b_endYes b_endNo b_heldInput b_factState b_factValue b_isReached b_mark b_lastValue b_pending b_visitCount b_kept : Nat → Int32}
theorem ya_isB {post : Int32 → Prop} {x : Int32} (hB : B ≤ 24) (h0 : ¬ vp_in x B → post 0) (h1 : vp_in x B → post 1) : wpY_isBlock post (nI B, g_nodeMax, g_rowMax, g_inputMax, nI N, nI R, g_held, g_next, g_leftLast, g_taken, g_prints, g_closed, b_nodeBlock, b_nodeKind, b_nodeA, b_nodeB, b_rowPhi, b_rowPred, b_rowNode, b_endCond, b_endYes, b_endNo, b_heldInput, b_factState, b_factValue, b_isReached, b_mark, b_lastValue, b_pending, b_visitCount, b_kept) x := by
  refine br_c (fun h => h0 ((qn_nin (by omega)).mpr (Or.inl h))) (fun h => br_c (fun h' => h0 ((qn_nin (by omega)).mpr (Or.inr h'))) (fun h' => h1 ?_))
  exact Classical.byContradiction fun z => ((qn_nin (by omega)).mp z).elim h h'
theorem ya_isN {post : Int32 → Prop} {x : Int32} (hN : N ≤ 32) (h0 : ¬ vp_in x N → post 0) (h1 : vp_in x N → post 1) : wpY_isNode post (nI B, g_nodeMax, g_rowMax, g_inputMax, nI N, nI R, g_held, g_next, g_leftLast, g_taken, g_prints, g_closed, b_nodeBlock, b_nodeKind, b_nodeA, b_nodeB, b_rowPhi, b_rowPred, b_rowNode, b_endCond, b_endYes, b_endNo, b_heldInput, b_factState, b_factValue, b_isReached, b_mark, b_lastValue, b_pending, b_visitCount, b_kept) x := by
  refine br_c (fun h => h0 ((qn_nin (by omega)).mpr (Or.inl h))) (fun h => br_c (fun h' => h0 ((qn_nin (by omega)).mpr (Or.inr h'))) (fun h' => h1 ?_))
  exact Classical.byContradiction fun z => ((qn_nin (by omega)).mp z).elim h h'
theorem ya_rowOf {post : Int32 → Prop} {n p : Nat} (hB : B ≤ 24) (hN : N ≤ 32) (hR : R ≤ 48) (Wr : qg_Wr B N R b_nodeKind b_rowPhi b_rowPred b_rowNode ro) (hn : n < 32) (hp : p < 24) (K : post (ro (n * 24 + p) - 1)) : wpY_rowOf post (nI B, g_nodeMax, g_rowMax, g_inputMax, nI N, nI R, g_held, g_next, g_leftLast, g_taken, g_prints, g_closed, b_nodeBlock, b_nodeKind, b_nodeA, b_nodeB, b_rowPhi, b_rowPred, b_rowNode, b_endCond, b_endYes, b_endNo, b_heldInput, b_factState, b_factValue, b_isReached, b_mark, b_lastValue, b_pending, b_visitCount, b_kept) (nI n) (nI p) := by
  refine ql_0 (fun m i (_ : Unit) => wY_rowOf_2 post (nI n) (nI p) (nI B) g_nodeMax g_rowMax g_inputMax (nI N) (nI R) g_held g_next g_leftLast g_taken g_prints g_closed b_nodeBlock b_nodeKind b_nodeA b_nodeB b_rowPhi b_rowPred b_rowNode b_endCond b_endYes b_endNo b_heldInput b_factState b_factValue b_isReached b_mark b_lastValue b_pending b_visitCount b_kept m (nI i)) (fun i _ => ∀ r, r < i → ¬ (b_rowPhi r = nI n ∧ b_rowPred r = nI p)) R () (fun r h => absurd h (Nat.not_lt_zero _)) (fun m _ I => ?_) (fun m i _ hi I next => ?_)
  · refine pk_le R R (fun _ => ?_) (fun h => absurd h (Nat.lt_irrefl _))
    rcases Wr.2 n p hn hp with z | ⟨r, hr, _, e1, e2⟩
    · rw [z] at K; exact K
    · exact absurd ⟨e1, e2⟩ (I r hr)
  · have hi48 : vp_in (nI i) 48 := vp_in_nI (by omega) (by omega)
    refine pk_le R i (fun h => by omega) (fun _ => ⟨hi48, ?_⟩)
    rw [nI_clamp (show i < 2 ^ 31 by omega)]
    have go : ¬ (b_rowPhi i = nI n ∧ b_rowPred i = nI p) → wY_rowOf_2 post (nI n) (nI p) (nI B) g_nodeMax g_rowMax g_inputMax (nI N) (nI R) g_held g_next g_leftLast g_taken g_prints g_closed b_nodeBlock b_nodeKind b_nodeA b_nodeB b_rowPhi b_rowPred b_rowNode b_endCond b_endYes b_endNo b_heldInput b_factState b_factValue b_isReached b_mark b_lastValue b_pending b_visitCount b_kept m (nI i + 1) := fun h => by
      rw [nI_1]
      refine next () (fun r hr => ?_)
      by_cases z : r = i
      · subst z; exact h
      · exact I r (by omega)
    refine br_c (fun e1 => ⟨hi48, br_c (fun e2 => ?_) (fun e2 y ey => ?_)⟩) (fun e1 y ey => ?_)
    · have := qg_row' Wr hN hB hn hp hi e1 e2
      rw [this, nI_pred] at K; exact K
    · subst ey; exact go fun h => e2 h.2
    · subst ey; exact go fun h => e1 h.1
theorem ya_rowOfm {post : Int32 → Prop} {n : Nat} (hB : B ≤ 24) (hR : R ≤ 48) (Wr : qg_Wr B N R b_nodeKind b_rowPhi b_rowPred b_rowNode ro) (K : post (-1)) : wpY_rowOf post (nI B, g_nodeMax, g_rowMax, g_inputMax, nI N, nI R, g_held, g_next, g_leftLast, g_taken, g_prints, g_closed, b_nodeBlock, b_nodeKind, b_nodeA, b_nodeB, b_rowPhi, b_rowPred, b_rowNode, b_endCond, b_endYes, b_endNo, b_heldInput, b_factState, b_factValue, b_isReached, b_mark, b_lastValue, b_pending, b_visitCount, b_kept) (nI n) (-1) := by
  refine ql_0 (fun m i (_ : Unit) => wY_rowOf_2 post (nI n) (-1) (nI B) g_nodeMax g_rowMax g_inputMax (nI N) (nI R) g_held g_next g_leftLast g_taken g_prints g_closed b_nodeBlock b_nodeKind b_nodeA b_nodeB b_rowPhi b_rowPred b_rowNode b_endCond b_endYes b_endNo b_heldInput b_factState b_factValue b_isReached b_mark b_lastValue b_pending b_visitCount b_kept m (nI i)) (fun i _ => True) R () trivial (fun m _ I => ?_) (fun m i _ hi I next => ?_)
  · exact pk_le R R (fun _ => K) (fun h => absurd h (Nat.lt_irrefl _))
  · have hi48 : vp_in (nI i) 48 := vp_in_nI (by omega) (by omega)
    obtain ⟨_, p, _, _, hp, _, _, e2, _⟩ := Wr.1 i hi
    refine pk_le R i (fun h => by omega) (fun _ => ⟨hi48, ?_⟩)
    rw [nI_clamp (show i < 2 ^ 31 by omega)]
    refine br_c (fun e1 => ⟨hi48, br_f (by rw [e2]; exact qn_m1 (by omega)) fun y ey => ?_⟩) (fun e1 y ey => ?_)
    · subst ey; rw [nI_1]; exact next () trivial
    · subst ey; rw [nI_1]; exact next () trivial
theorem ya_hasEdge {post : Int32 → Prop} {p t : Nat} (hB : B ≤ 24) (We : qg_We B N b_endCond b_endYes b_endNo) (hp : p < B) (ht : t < 32) (h1 : qg_E b_endCond b_endYes b_endNo p t → post 1) (h0 : ¬ qg_E b_endCond b_endYes b_endNo p t → post 0) : wpY_hasEdge post (nI B, g_nodeMax, g_rowMax, g_inputMax, nI N, nI R, g_held, g_next, g_leftLast, g_taken, g_prints, g_closed, b_nodeBlock, b_nodeKind, b_nodeA, b_nodeB, b_rowPhi, b_rowPred, b_rowNode, b_endCond, b_endYes, b_endNo, b_heldInput, b_factState, b_factValue, b_isReached, b_mark, b_lastValue, b_pending, b_visitCount, b_kept) (nI p) (nI t) := by
  have h24 : vp_in (nI p) 24 := vp_in_nI (by omega) (by omega)
  refine ⟨h24, ?_⟩
  rw [nI_clamp (show p < 2 ^ 31 by omega)]
  refine br_c (fun z => h0 fun h => h.1 z) (fun z => ⟨h24, ?_⟩)
  have hy : b_endYes p = nI t ↔ (b_endYes p).toNatClampNeg = t := by
    rcases We p hp with a | ⟨a, x, hx, hx', b⟩ | ⟨c, x, y, hc, hx, hx', hy, hy', a, b, d⟩
    · exact absurd a z
    · exact ya_eq b (by omega) (by omega)
    · exact ya_eq b (by omega) (by omega)
  refine br_c (fun y => h1 ⟨z, Or.inl (hy.mp y)⟩) (fun y => ⟨h24, br_c (fun c0 => h0 fun h => ?_) (fun c0 => ⟨h24, ?_⟩)⟩)
  · rcases h.2 with e | ⟨e, _⟩
    · exact y (hy.mpr e)
    · exact e c0
  · have hn : b_endNo p = nI t ↔ (b_endNo p).toNatClampNeg = t := by
      rcases We p hp with a | ⟨a, _⟩ | ⟨c, x, y, hc, hx, hx', hy, hy', a, b, d⟩
      · exact absurd a z
      · rw [a] at c0; exact absurd (by decide) c0
      · exact ya_eq d (by omega) (by omega)
    refine br_c (fun w => h1 ⟨z, Or.inr ⟨c0, hn.mp w⟩⟩) (fun w => h0 fun h => ?_)
    rcases h.2 with e | ⟨_, e⟩
    · exact y (hy.mpr e)
    · exact w (hn.mpr e)
theorem ya_edgeLive {post : Int32 → Prop} {p t : Nat} (hB : B ≤ 24) (hN : N ≤ 32) (We : qg_We B N b_endCond b_endYes b_endNo) (h3 : ∀ n, n < N → qp_3 (b_factState n)) (hp : p < B) (ht : t < 32) (h1 : qy_lv b_endCond b_endYes b_endNo b_isReached b_factState b_factValue p t → post 1) (h0 : ¬ qy_lv b_endCond b_endYes b_endNo b_isReached b_factState b_factValue p t → post 0) : wpY_edgeLive post (nI B, g_nodeMax, g_rowMax, g_inputMax, nI N, nI R, g_held, g_next, g_leftLast, g_taken, g_prints, g_closed, b_nodeBlock, b_nodeKind, b_nodeA, b_nodeB, b_rowPhi, b_rowPred, b_rowNode, b_endCond, b_endYes, b_endNo, b_heldInput, b_factState, b_factValue, b_isReached, b_mark, b_lastValue, b_pending, b_visitCount, b_kept) (nI p) (nI t) := by
  have h24 : vp_in (nI p) 24 := vp_in_nI (by omega) (by omega)
  have ep : (nI p).toNatClampNeg = p := nI_clamp (by omega)
  refine ⟨h24, ?_⟩
  rw [ep]
  refine br_c (fun r0 => h0 fun h => h.1 r0) (fun r0 => ?_)
  refine ya_hasEdge hB We hp ht (fun e => br_f (by decide) ⟨h24, fun c ec => ?_⟩) (fun e => br_t rfl (h0 fun h => e (qg_L_E h.2)))
  subst ec
  refine br_c (fun c1 => h1 ⟨r0, Or.inl ⟨c1, ?_⟩⟩) (fun c1 => ?_)
  · rcases e.2 with e | ⟨e, _⟩
    · exact e
    · rw [c1] at e; exact absurd (by decide) e
  · rcases We p hp with a | ⟨a, _⟩ | ⟨c, x, y, hc, hx, hx', hy, hy', a, b, d⟩
    · exact absurd a e.1
    · exact absurd a c1
    · have c0 : ¬ b_endCond p < 0 := by rw [a]; exact nI_pos (by omega)
      have hcv : vp_in (b_endCond p) 32 := by rw [a]; exact vp_in_nI (by omega) (by omega)
      have ecc : (b_endCond p).toNatClampNeg = c := by rw [a, nI_clamp (by omega)]
      have bc : (b_endYes p).toNatClampNeg = x := by rw [b, nI_clamp (by omega)]
      have dc : (b_endNo p).toNatClampNeg = y := by rw [d, nI_clamp (by omega)]
      refine ⟨hcv, br_c (fun s2 => h1 ⟨r0, Or.inr ⟨c0, Or.inl ⟨s2, ?_⟩⟩⟩) (fun s2 => ⟨hcv, br_c (fun s0 => h0 fun h => ?_) (fun s0 => ⟨hcv, ?_⟩)⟩)⟩
      · rcases e.2 with e | ⟨_, e⟩
        · exact Or.inl e
        · exact Or.inr e
      · rcases h.2 with ⟨h, _⟩ | ⟨_, ⟨h, _⟩ | ⟨h, _⟩⟩
        · exact c1 h
        · exact s2 h
        · exact qp_01 (s0.symm.trans h)
      · have s1 : b_factState (b_endCond p).toNatClampNeg = 1 := by
          have := h3 c hc
          rw [ecc] at s0 s2 ⊢
          rcases this with h | h | h
          · exact absurd h s0
          · exact h
          · exact absurd h s2
        refine br_c (fun v0 => ⟨h24, ?_⟩) (fun v0 => ⟨h24, ?_⟩)
        · refine br_c (fun w => h1 ⟨r0, Or.inr ⟨c0, Or.inr ⟨s1, Or.inl ⟨v0, ?_⟩⟩⟩⟩) (fun w => h0 fun h => ?_)
          · rw [← w, nI_clamp (by omega)]
          · rcases h.2 with ⟨h, _⟩ | ⟨_, ⟨h, _⟩ | ⟨_, ⟨_, h⟩ | ⟨h, _⟩⟩⟩
            · exact c1 h
            · exact s2 h
            · exact w (by rw [d, ← dc, h])
            · exact h v0
        · refine br_c (fun w => h1 ⟨r0, Or.inr ⟨c0, Or.inr ⟨s1, Or.inr ⟨v0, ?_⟩⟩⟩⟩) (fun w => h0 fun h => ?_)
          · rw [← w, nI_clamp (by omega)]
          · rcases h.2 with ⟨h, _⟩ | ⟨_, ⟨h, _⟩ | ⟨_, ⟨h, _⟩ | ⟨_, h⟩⟩⟩
            · exact c1 h
            · exact s2 h
            · exact v0 h
            · exact w (by rw [b, ← bc, h])
theorem ya_phisFit {post : Int32 → Prop} (hB : B ≤ 24) (hN : N ≤ 32) (hR : R ≤ 48) (We : qg_We B N b_endCond b_endYes b_endNo) (Wn : qg_Wn B N b_nodeBlock b_nodeKind b_nodeA b_nodeB) (Wr : qg_Wr B N R b_nodeKind b_rowPhi b_rowPred b_rowNode ro) (h1 : qd_P B N b_nodeBlock b_nodeKind ro b_endCond b_endYes b_endNo → post 1) (h0 : ¬ qd_P B N b_nodeBlock b_nodeKind ro b_endCond b_endYes b_endNo → post 0) : wpY_phisFit post (nI B, g_nodeMax, g_rowMax, g_inputMax, nI N, nI R, g_held, g_next, g_leftLast, g_taken, g_prints, g_closed, b_nodeBlock, b_nodeKind, b_nodeA, b_nodeB, b_rowPhi, b_rowPred, b_rowNode, b_endCond, b_endYes, b_endNo, b_heldInput, b_factState, b_factValue, b_isReached, b_mark, b_lastValue, b_pending, b_visitCount, b_kept) := by
  refine ql_0 (fun n i (_ : Unit) => wY_phisFit_2 post (nI B) g_nodeMax g_rowMax g_inputMax (nI N) (nI R) g_held g_next g_leftLast g_taken g_prints g_closed b_nodeBlock b_nodeKind b_nodeA b_nodeB b_rowPhi b_rowPred b_rowNode b_endCond b_endYes b_endNo b_heldInput b_factState b_factValue b_isReached b_mark b_lastValue b_pending b_visitCount b_kept n (nI i)) (fun i _ => ∀ n p, n < i → p < B → b_nodeKind n = 0 → (qg_E b_endCond b_endYes b_endNo p (b_nodeBlock n).toNatClampNeg ↔ ¬ ro (n * 24 + p) = 0)) N () (fun n p h => absurd h (Nat.not_lt_zero _)) (fun n _ I => ?_) (fun n i _ hi I next => ?_)
  · exact pk_le N N (fun _ => h1 I) (fun h => absurd h (Nat.lt_irrefl _))
  · obtain ⟨_, _, ⟨b, hb, eb, _⟩, _⟩ := Wn i hi
    have ebc : (b_nodeBlock i).toNatClampNeg = b := by rw [eb, nI_clamp (by omega)]
    refine pk_le N i (fun h => by omega) (fun _ => ?_)
    refine ql_0 (fun n' j (_ : Unit) => wY_phisFit_12 post (wY_phisFit_2 post (nI B) g_nodeMax g_rowMax g_inputMax (nI N) (nI R) g_held g_next g_leftLast g_taken g_prints g_closed b_nodeBlock b_nodeKind b_nodeA b_nodeB b_rowPhi b_rowPred b_rowNode b_endCond b_endYes b_endNo b_heldInput b_factState b_factValue b_isReached b_mark b_lastValue b_pending b_visitCount b_kept n) (nI i) (nI B) g_nodeMax g_rowMax g_inputMax (nI N) (nI R) g_held g_next g_leftLast g_taken g_prints g_closed b_nodeBlock b_nodeKind b_nodeA b_nodeB b_rowPhi b_rowPred b_rowNode b_endCond b_endYes b_endNo b_heldInput b_factState b_factValue b_isReached b_mark b_lastValue b_pending b_visitCount b_kept n' (nI j)) (fun j _ => ∀ p, p < j → b_nodeKind i = 0 → (qg_E b_endCond b_endYes b_endNo p (b_nodeBlock i).toNatClampNeg ↔ ¬ ro (i * 24 + p) = 0)) B () (fun p h => absurd h (Nat.not_lt_zero _)) (fun n' _ I' => ?_) (fun n' j _ hj I' next' => ?_)
    · refine pk_le B B (fun _ y hy => ?_) (fun h => absurd h (Nat.lt_irrefl _))
      subst hy
      rw [nI_1]
      refine next () (fun m p hm hp => ?_)
      by_cases z : m = i
      · subst z; exact I' p hp
      · exact I m p (by omega) hp
    · have hi32 : vp_in (nI i) 32 := vp_in_nI (by omega) (by omega)
      have go : (b_nodeKind i = 0 → (qg_E b_endCond b_endYes b_endNo j (b_nodeBlock i).toNatClampNeg ↔ ¬ ro (i * 24 + j) = 0)) → wY_phisFit_12 post (wY_phisFit_2 post (nI B) g_nodeMax g_rowMax g_inputMax (nI N) (nI R) g_held g_next g_leftLast g_taken g_prints g_closed b_nodeBlock b_nodeKind b_nodeA b_nodeB b_rowPhi b_rowPred b_rowNode b_endCond b_endYes b_endNo b_heldInput b_factState b_factValue b_isReached b_mark b_lastValue b_pending b_visitCount b_kept n) (nI i) (nI B) g_nodeMax g_rowMax g_inputMax (nI N) (nI R) g_held g_next g_leftLast g_taken g_prints g_closed b_nodeBlock b_nodeKind b_nodeA b_nodeB b_rowPhi b_rowPred b_rowNode b_endCond b_endYes b_endNo b_heldInput b_factState b_factValue b_isReached b_mark b_lastValue b_pending b_visitCount b_kept n' (nI j + 1) := fun h => by
        rw [nI_1]
        refine next' () (fun p hp k => ?_)
        by_cases z : p = j
        · subst z; exact h k
        · exact I' p (by omega) k
      have bad : b_nodeKind i = 0 → ¬ (qg_E b_endCond b_endYes b_endNo j b ↔ ¬ ro (i * 24 + j) = 0) → post 0 := fun k h => h0 fun P => h (by
          have := P i j hi hj k
          rw [ebc] at this; exact this)
      refine pk_le B j (fun h => by omega) (fun _ => ?_)
      refine ya_rowOf hB hN hR Wr (by omega) (by omega) ?_
      rcases Wr.2 i j (by omega) (by omega) with z | ⟨r, hr, e0, _⟩
      · rw [z]
        refine br_t (by decide) ⟨hi32, ?_⟩
        rw [nI_clamp (show i < 2 ^ 31 by omega)]
        refine br_c (fun k => ⟨hi32, ?_⟩) (fun k y hy => ?_)
        · rw [eb]
          refine ya_hasEdge hB We hj (by omega) (fun e => br_f (by decide) (bad k fun h => h.mp e z)) (fun e => br_t rfl fun y hy => ?_)
          subst hy
          exact go fun _ => by rw [ebc]; exact ⟨fun h => absurd h e, fun h => absurd z h⟩
        · subst hy; exact go fun k' => absurd k' k
      · have nz : ¬ ro (i * 24 + j) = 0 := by rw [e0]; exact nI_ne0 (by omega) (by omega)
        rw [e0, nI_pred]
        refine br_f (nI_pos (by omega)) ⟨hi32, ?_⟩
        rw [nI_clamp (show i < 2 ^ 31 by omega)]
        refine br_c (fun k => ⟨hi32, ?_⟩) (fun k y hy => ?_)
        · rw [eb]
          refine ya_hasEdge hB We hj (by omega) (fun e => br_t rfl fun y hy => ?_) (fun e => br_f (by decide) (bad k fun h => e (h.mpr nz)))
          subst hy
          exact go fun _ => by rw [ebc]; exact ⟨fun _ => nz, fun _ => e⟩
        · subst hy; exact go fun k' => absurd k' k
end
end
section
/-! the reference's walks: dominance -/
section
variable {B N R : Nat} {ro : Nat → Int32} {g_nodeMax g_rowMax g_inputMax g_held g_next g_leftLast g_taken g_prints g_closed : Int32} {b_nodeBlock b_nodeKind b_nodeA b_nodeB b_rowPhi b_rowPred b_rowNode b_endCond b_endYes b_endNo b_heldInput b_factState b_factValue b_isReached b_mark b_lastValue b_pending b_visitCount b_kept : Nat → Int32}
theorem yb_grow {mk : Nat → Int32} {t : Nat} {q : Nat} (h : ¬ mk q = 0) : ¬ upd mk t 1 q = 0 := by
  by_cases e : q = t
  · subst e; rw [pk_us]; decide
  · rw [pk_un e]; exact h
theorem yb_103 {post : Int32 → SY → Prop} {J37 J48 : Int32 → (Nat → Int32) → (Nat → Int32) → (Nat → Int32) → (Nat → Int32) → (Nat → Int32) → (Nat → Int32) → (Nat → Int32) → (Nat → Int32) → (Nat → Int32) → (Nat → Int32) → (Nat → Int32) → (Nat → Int32) → (Nat → Int32) → (Nat → Int32) → (Nat → Int32) → (Nat → Int32) → (Nat → Int32) → (Nat → Int32) → (Nat → Int32) → Prop} {x p : Nat} {y i : Int32} (hB : B ≤ 24) (hN : N ≤ 32) (We : qg_We B N b_endCond b_endYes b_endNo) (hx : x < B) (hp : p < B) (S : ∀ q, q < B → ¬ b_mark q = 0 → qd_A B b_endCond b_endYes b_endNo x q) (K : ∀ mk : Nat → Int32, (∀ q, ¬ b_mark q = 0 → ¬ mk q = 0) → (∀ q, q < B → ¬ mk q = 0 → qd_A B b_endCond b_endYes b_endNo x q) → (¬ b_mark p = 0 → ¬ b_endCond p < 0 → ¬ (b_endNo p).toNatClampNeg = x → ¬ mk (b_endNo p).toNatClampNeg = 0) → J48 (nI p + 1) b_nodeBlock b_nodeKind b_nodeA b_nodeB b_rowPhi b_rowPred b_rowNode b_endCond b_endYes b_endNo b_heldInput b_factState b_factValue b_isReached mk b_lastValue b_pending b_visitCount b_kept) : wY_dominates_103 post J37 J48 (nI x) y i (nI p) (nI B) g_nodeMax g_rowMax g_inputMax (nI N) (nI R) g_held g_next g_leftLast g_taken g_prints g_closed b_nodeBlock b_nodeKind b_nodeA b_nodeB b_rowPhi b_rowPred b_rowNode b_endCond b_endYes b_endNo b_heldInput b_factState b_factValue b_isReached b_mark b_lastValue b_pending b_visitCount b_kept := by
  have h24 : vp_in (nI p) 24 := vp_in_nI (by omega) (by omega)
  have ep : (nI p).toNatClampNeg = p := nI_clamp (by omega)
  refine ⟨h24, ?_⟩
  rw [ep]
  refine br_c (fun z w ew => ?_) (fun z => ⟨h24, br_c (fun c0 w ew => ?_) (fun c0 => ⟨h24, ?_⟩)⟩)
  · subst ew; exact K _ (fun _ h => h) S fun h => absurd z h
  · subst ew; exact K _ (fun _ h => h) S fun _ h => absurd c0 h
  · rcases We p hp with a | ⟨a, _⟩ | ⟨c, t, s, hc, ht, ht', hs, hs', a, b, d⟩
    · rw [a] at c0; exact absurd (by decide) c0
    · rw [a] at c0; exact absurd (by decide) c0
    · have dc : (b_endNo p).toNatClampNeg = s := by rw [d, nI_clamp (by omega)]
      refine br_c (fun e w ew => ?_) (fun e => ⟨h24, by rw [d]; exact vp_in_nI (by omega) (by omega), fun mk emk w ew => ?_⟩)
      · subst ew
        refine K _ (fun _ h => h) S fun _ _ h => absurd ?_ h
        rw [e, nI_clamp (by omega)]
      · subst ew
        rw [ya_b1, dc] at emk
        subst emk
        have ne : ¬ s = x := fun h => e (by rw [d, h])
        refine K _ (fun q h => yb_grow h) (fun q hq h => ?_) fun _ _ _ => by rw [dc, pk_us]; decide
        by_cases w : q = s
        · subst w
          exact qd_As hp (S p hp z) ⟨by rw [a]; exact qn_m2 (by omega), Or.inr ⟨c0, dc⟩⟩ ne
        · rw [pk_un w] at h; exact S q hq h
theorem yb_dom {post : Int32 → SY → Prop} {x y : Nat} (hB : B ≤ 24) (hB0 : 0 < B) (hN : N ≤ 32) (We : qg_We B N b_endCond b_endYes b_endNo) (hx : x < B) (hy : y < B) (K1 : ∀ mk : Nat → Int32, ¬ qd_A B b_endCond b_endYes b_endNo x y → post 1 (nI B, g_nodeMax, g_rowMax, g_inputMax, nI N, nI R, g_held, g_next, g_leftLast, g_taken, g_prints, g_closed, b_nodeBlock, b_nodeKind, b_nodeA, b_nodeB, b_rowPhi, b_rowPred, b_rowNode, b_endCond, b_endYes, b_endNo, b_heldInput, b_factState, b_factValue, b_isReached, mk, b_lastValue, b_pending, b_visitCount, b_kept)) (K0 : ∀ mk : Nat → Int32, qd_A B b_endCond b_endYes b_endNo x y → post 0 (nI B, g_nodeMax, g_rowMax, g_inputMax, nI N, nI R, g_held, g_next, g_leftLast, g_taken, g_prints, g_closed, b_nodeBlock, b_nodeKind, b_nodeA, b_nodeB, b_rowPhi, b_rowPred, b_rowNode, b_endCond, b_endYes, b_endNo, b_heldInput, b_factState, b_factValue, b_isReached, mk, b_lastValue, b_pending, b_visitCount, b_kept)) : wpY_dominates post (nI B, g_nodeMax, g_rowMax, g_inputMax, nI N, nI R, g_held, g_next, g_leftLast, g_taken, g_prints, g_closed, b_nodeBlock, b_nodeKind, b_nodeA, b_nodeB, b_rowPhi, b_rowPred, b_rowNode, b_endCond, b_endYes, b_endNo, b_heldInput, b_factState, b_factValue, b_isReached, b_mark, b_lastValue, b_pending, b_visitCount, b_kept) (nI x) (nI y) := by
  refine ql_0 (fun n i mk => wY_dominates_2 post (nI x) (nI y) (nI B) g_nodeMax g_rowMax g_inputMax (nI N) (nI R) g_held g_next g_leftLast g_taken g_prints g_closed n (nI i) b_nodeBlock b_nodeKind b_nodeA b_nodeB b_rowPhi b_rowPred b_rowNode b_endCond b_endYes b_endNo b_heldInput b_factState b_factValue b_isReached mk b_lastValue b_pending b_visitCount b_kept) (fun i mk => ∀ j, j < i → (¬ mk j = 0 ↔ j = 0 ∧ ¬ x = 0)) B b_mark (fun j h => absurd h (Nat.not_lt_zero _)) (fun n mk I => ?_) (fun n i mk hi I next => ?_)
  · refine pk_le B B (fun _ => ?_) (fun h => absurd h (Nat.lt_irrefl _))
    refine ql_0 (fun n i mk => wY_dominates_37 post (nI x) (nI y) (nI B) g_nodeMax g_rowMax g_inputMax (nI N) (nI R) g_held g_next g_leftLast g_taken g_prints g_closed n (nI i) b_nodeBlock b_nodeKind b_nodeA b_nodeB b_rowPhi b_rowPred b_rowNode b_endCond b_endYes b_endNo b_heldInput b_factState b_factValue b_isReached mk b_lastValue b_pending b_visitCount b_kept) (fun i mk => (∀ q, q < B → ¬ mk q = 0 → qd_A B b_endCond b_endYes b_endNo x q) ∧ (∀ q, q < B → qd_N B b_endCond b_endYes b_endNo x i q → ¬ mk q = 0)) B mk ⟨fun q hq h => ?_, fun q hq h => (I q hq).mpr h⟩ (fun n mk I => ?_) (fun n i mk hi I next => ?_)
    · obtain ⟨a, b⟩ := (I q hq).mp h
      subst a; exact qd_A0 b
    · refine pk_le B B (fun _ => ⟨vp_in_nI (by omega) (by omega), ?_⟩) (fun h => absurd h (Nat.lt_irrefl _))
      rw [nI_clamp (show y < 2 ^ 31 by omega)]
      exact br_c (fun z => K1 mk fun a => I.2 y hy (qd_fin hB0 hB We a) z) (fun z => K0 mk (I.1 y hy z))
    · refine pk_le B i (fun h => by omega) (fun _ => ?_)
      refine ql_0 (fun n' p mk => wY_dominates_48 post (wY_dominates_37 post (nI x) (nI y) (nI B) g_nodeMax g_rowMax g_inputMax (nI N) (nI R) g_held g_next g_leftLast g_taken g_prints g_closed n) (nI x) (nI y) (nI i) (nI B) g_nodeMax g_rowMax g_inputMax (nI N) (nI R) g_held g_next g_leftLast g_taken g_prints g_closed n' (nI p) b_nodeBlock b_nodeKind b_nodeA b_nodeB b_rowPhi b_rowPred b_rowNode b_endCond b_endYes b_endNo b_heldInput b_factState b_factValue b_isReached mk b_lastValue b_pending b_visitCount b_kept) (fun p mk => (∀ q, q < B → ¬ mk q = 0 → qd_A B b_endCond b_endYes b_endNo x q) ∧ (∀ q, q < B → qd_N B b_endCond b_endYes b_endNo x i q → ¬ mk q = 0) ∧ (∀ q, q < p → qd_N B b_endCond b_endYes b_endNo x i q → ∀ t, qg_E b_endCond b_endYes b_endNo q t → ¬ t = x → ¬ mk t = 0)) B mk ⟨I.1, I.2, fun q h => absurd h (Nat.not_lt_zero _)⟩ (fun n' mk I' => ?_) (fun n' p mk hp I' next' => ?_)
      · refine pk_le B B (fun _ w ew => ?_) (fun h => absurd h (Nat.lt_irrefl _))
        subst ew
        rw [nI_1]
        refine next mk ⟨I'.1, fun q hq h => ?_⟩
        rcases h with h | ⟨ne, p, hp, h, e⟩
        · exact I'.2.1 q hq h
        · exact I'.2.2 p hp h q e ne
      · obtain ⟨S, C, D⟩ := I'
        have h24 : vp_in (nI p) 24 := vp_in_nI (by omega) (by omega)
        have ep : (nI p).toNatClampNeg = p := nI_clamp (by omega)
        have fin : ∀ mk1 : Nat → Int32, (∀ q, ¬ mk q = 0 → ¬ mk1 q = 0) → (∀ q, q < B → ¬ mk1 q = 0 → qd_A B b_endCond b_endYes b_endNo x q) → (¬ mk p = 0 → ¬ b_endCond p = -2 → ¬ (b_endYes p).toNatClampNeg = x → ¬ mk1 (b_endYes p).toNatClampNeg = 0) → wY_dominates_103 post (wY_dominates_37 post (nI x) (nI y) (nI B) g_nodeMax g_rowMax g_inputMax (nI N) (nI R) g_held g_next g_leftLast g_taken g_prints g_closed n) (wY_dominates_48 post (wY_dominates_37 post (nI x) (nI y) (nI B) g_nodeMax g_rowMax g_inputMax (nI N) (nI R) g_held g_next g_leftLast g_taken g_prints g_closed n) (nI x) (nI y) (nI i) (nI B) g_nodeMax g_rowMax g_inputMax (nI N) (nI R) g_held g_next g_leftLast g_taken g_prints g_closed n') (nI x) (nI y) (nI i) (nI p) (nI B) g_nodeMax g_rowMax g_inputMax (nI N) (nI R) g_held g_next g_leftLast g_taken g_prints g_closed b_nodeBlock b_nodeKind b_nodeA b_nodeB b_rowPhi b_rowPred b_rowNode b_endCond b_endYes b_endNo b_heldInput b_factState b_factValue b_isReached mk1 b_lastValue b_pending b_visitCount b_kept := fun mk1 g1 S1 t1 => by
          refine yb_103 hB hN We hx hp S1 (fun mk2 g2 S2 t2 => ?_)
          rw [nI_1]
          refine next' mk2 ⟨S2, fun q hq h => g2 q (g1 q (C q hq h)), fun q hq h t e ne => ?_⟩
          by_cases z : q = p
          · subst z
            have mq := C q hp h
            rcases e.2 with e' | ⟨c0, e'⟩
            · subst e'; exact g2 _ (t1 mq e.1 ne)
            · subst e'; exact t2 (g1 q mq) c0 ne
          · exact g2 t (g1 t (D q (by omega) h t e ne))
        refine pk_le B p (fun h => by omega) (fun _ => ⟨h24, ?_⟩)
        rw [ep]
        refine br_c (fun z => fin mk (fun _ h => h) S fun h => absurd z h) (fun z => ⟨h24, br_c (fun c2 => fin mk (fun _ h => h) S fun _ h => absurd c2 h) (fun c2 => ⟨h24, ?_⟩)⟩)
        have : ∃ t, 0 < t ∧ t < B ∧ b_endYes p = nI t := by
          rcases We p hp with a | ⟨a, t, ht, ht', b⟩ | ⟨c, t, s, hc, ht, ht', hs, hs', a, b, d⟩
          · exact absurd a c2
          · exact ⟨t, ht, ht', b⟩
          · exact ⟨t, ht, ht', b⟩
        obtain ⟨t, ht, ht', b⟩ := this
        have bc : (b_endYes p).toNatClampNeg = t := by rw [b, nI_clamp (by omega)]
        refine br_c (fun e => fin mk (fun _ h => h) S fun _ _ h => absurd (by rw [e, nI_clamp (by omega)]) h) (fun e => ⟨h24, by rw [b]; exact vp_in_nI (by omega) (by omega), fun mk1 emk => ?_⟩)
        rw [ya_b1, bc] at emk
        subst emk
        have ne : ¬ t = x := fun h => e (by rw [b, h])
        refine fin _ (fun q h => yb_grow h) (fun q hq h => ?_) fun _ _ _ => by rw [bc, pk_us]; decide
        by_cases w : q = t
        · subst w
          exact qd_As hp (S p hp z) ⟨c2, Or.inl bc⟩ ne
        · rw [pk_un w] at h; exact S q hq h
  · have h24 : vp_in (nI i) 24 := vp_in_nI (by omega) (by omega)
    have ei : (nI i).toNatClampNeg = i := nI_clamp (by omega)
    have go : ∀ v : Int32, (¬ v = 0 ↔ i = 0 ∧ ¬ x = 0) → wY_dominates_2 post (nI x) (nI y) (nI B) g_nodeMax g_rowMax g_inputMax (nI N) (nI R) g_held g_next g_leftLast g_taken g_prints g_closed n (nI i + 1) b_nodeBlock b_nodeKind b_nodeA b_nodeB b_rowPhi b_rowPred b_rowNode b_endCond b_endYes b_endNo b_heldInput b_factState b_factValue b_isReached (upd mk i v) b_lastValue b_pending b_visitCount b_kept := fun v hv => by
      rw [nI_1]
      refine next _ (fun j hj => ?_)
      by_cases z : j = i
      · subst z; rw [pk_us]; exact hv
      · rw [pk_un z]; exact I j (by omega)
    refine pk_le B i (fun h => by omega) (fun _ => ?_)
    refine pk_eq i 0 (fun i0 => pk_eq x 0 (fun x0 => ⟨h24, fun mk1 emk w ew => ?_⟩) (fun x0 => ⟨h24, fun mk1 emk w ew => ?_⟩)) (fun i0 => ⟨h24, fun mk1 emk w ew => ?_⟩)
    · rw [ei, ya_b0] at emk
      subst emk ew
      exact go 0 ⟨fun h => absurd rfl h, fun h => absurd x0 h.2⟩
    · rw [ei, ya_b1] at emk
      subst emk ew
      exact go 1 ⟨fun _ => ⟨i0, x0⟩, fun _ => by decide⟩
    · rw [ei, ya_b0] at emk
      subst emk ew
      exact go 0 ⟨fun h => absurd rfl h, fun h => absurd h.1 i0⟩
theorem yb_domHolds {post : Int32 → SY → Prop} (hB : B ≤ 24) (hB0 : 0 < B) (hN : N ≤ 32) (hR : R ≤ 48) (We : qg_We B N b_endCond b_endYes b_endNo) (Wn : qg_Wn B N b_nodeBlock b_nodeKind b_nodeA b_nodeB) (Wr : qg_Wr B N R b_nodeKind b_rowPhi b_rowPred b_rowNode ro) (K1 : ∀ mk : Nat → Int32, qd_D B N R b_nodeBlock b_nodeKind b_nodeA b_nodeB b_rowPred b_rowNode b_endCond b_endYes b_endNo → post 1 (nI B, g_nodeMax, g_rowMax, g_inputMax, nI N, nI R, g_held, g_next, g_leftLast, g_taken, g_prints, g_closed, b_nodeBlock, b_nodeKind, b_nodeA, b_nodeB, b_rowPhi, b_rowPred, b_rowNode, b_endCond, b_endYes, b_endNo, b_heldInput, b_factState, b_factValue, b_isReached, mk, b_lastValue, b_pending, b_visitCount, b_kept)) (K0 : ∀ mk : Nat → Int32, ¬ qd_D B N R b_nodeBlock b_nodeKind b_nodeA b_nodeB b_rowPred b_rowNode b_endCond b_endYes b_endNo → post 0 (nI B, g_nodeMax, g_rowMax, g_inputMax, nI N, nI R, g_held, g_next, g_leftLast, g_taken, g_prints, g_closed, b_nodeBlock, b_nodeKind, b_nodeA, b_nodeB, b_rowPhi, b_rowPred, b_rowNode, b_endCond, b_endYes, b_endNo, b_heldInput, b_factState, b_factValue, b_isReached, mk, b_lastValue, b_pending, b_visitCount, b_kept)) : wpY_dominanceHolds post (nI B, g_nodeMax, g_rowMax, g_inputMax, nI N, nI R, g_held, g_next, g_leftLast, g_taken, g_prints, g_closed, b_nodeBlock, b_nodeKind, b_nodeA, b_nodeB, b_rowPhi, b_rowPred, b_rowNode, b_endCond, b_endYes, b_endNo, b_heldInput, b_factState, b_factValue, b_isReached, b_mark, b_lastValue, b_pending, b_visitCount, b_kept) := by
  have hh : ∀ n, n < N → ∃ b, b < B ∧ b_nodeBlock n = nI b ∧ (b_nodeBlock n).toNatClampNeg = b := fun n hn => by
    obtain ⟨_, _, ⟨b, hb, eb, _⟩, _⟩ := Wn n hn
    exact ⟨b, hb, eb, by rw [eb, nI_clamp (by omega)]⟩
  refine ql_0 (fun n i mk => wY_dominanceHolds_2 post n (nI i) (nI B) g_nodeMax g_rowMax g_inputMax (nI N) (nI R) g_held g_next g_leftLast g_taken g_prints g_closed b_nodeBlock b_nodeKind b_nodeA b_nodeB b_rowPhi b_rowPred b_rowNode b_endCond b_endYes b_endNo b_heldInput b_factState b_factValue b_isReached mk b_lastValue b_pending b_visitCount b_kept) (fun i _ => ∀ n, n < i → (¬ b_nodeKind n < 3 → ¬ qd_A B b_endCond b_endYes b_endNo (b_nodeBlock (b_nodeA n).toNatClampNeg).toNatClampNeg (b_nodeBlock n).toNatClampNeg) ∧ (¬ b_nodeKind n < 3 → ¬ 7 < b_nodeKind n → ¬ qd_A B b_endCond b_endYes b_endNo (b_nodeBlock (b_nodeB n).toNatClampNeg).toNatClampNeg (b_nodeBlock n).toNatClampNeg)) N b_mark (fun n h => absurd h (Nat.not_lt_zero _)) (fun n mk I1 => ?_) (fun n i mk hi I next => ?_)
  · refine pk_le N N (fun _ => ?_) (fun h => absurd h (Nat.lt_irrefl _))
    refine ql_0 (fun n i mk => wY_dominanceHolds_93 post n (nI i) (nI B) g_nodeMax g_rowMax g_inputMax (nI N) (nI R) g_held g_next g_leftLast g_taken g_prints g_closed b_nodeBlock b_nodeKind b_nodeA b_nodeB b_rowPhi b_rowPred b_rowNode b_endCond b_endYes b_endNo b_heldInput b_factState b_factValue b_isReached mk b_lastValue b_pending b_visitCount b_kept) (fun i _ => ∀ r, r < i → ¬ qd_A B b_endCond b_endYes b_endNo (b_nodeBlock (b_rowNode r).toNatClampNeg).toNatClampNeg (b_rowPred r).toNatClampNeg) R mk (fun n h => absurd h (Nat.not_lt_zero _)) (fun n mk I2 => ?_) (fun n i mk hi I next => ?_)
    · refine pk_le R R (fun _ => ?_) (fun h => absurd h (Nat.lt_irrefl _))
      refine ql_0 (fun n i mk => wY_dominanceHolds_135 post n (nI i) (nI B) g_nodeMax g_rowMax g_inputMax (nI N) (nI R) g_held g_next g_leftLast g_taken g_prints g_closed b_nodeBlock b_nodeKind b_nodeA b_nodeB b_rowPhi b_rowPred b_rowNode b_endCond b_endYes b_endNo b_heldInput b_factState b_factValue b_isReached mk b_lastValue b_pending b_visitCount b_kept) (fun i _ => ∀ p, p < i → ¬ b_endCond p < 0 → ¬ qd_A B b_endCond b_endYes b_endNo (b_nodeBlock (b_endCond p).toNatClampNeg).toNatClampNeg p) B mk (fun n h => absurd h (Nat.not_lt_zero _)) (fun n mk I3 => ?_) (fun n i mk hi I next => ?_)
      · exact pk_le B B (fun _ => K1 mk ⟨I1, I2, I3⟩) (fun h => absurd h (Nat.lt_irrefl _))
      · have hi24 : vp_in (nI i) 24 := vp_in_nI (by omega) (by omega)
        refine pk_le B i (fun h => by omega) (fun _ => ⟨hi24, ?_⟩)
        rw [nI_clamp (show i < 2 ^ 31 by omega)]
        refine br_c (fun z y ey => ?_) (fun z => ?_)
        · subst ey
          rw [nI_1]
          refine next mk (fun p hp hz => ?_)
          by_cases q : p = i
          · subst q; exact absurd z hz
          · exact I p (by omega) hz
        · obtain ⟨c, hc, e1, e2⟩ := qg_cond We hN hi z
          obtain ⟨b, hb, eb, ebc⟩ := hh c hc
          have hcv : vp_in (b_endCond i) 32 := by rw [e1]; exact vp_in_nI (by omega) (by omega)
          refine ⟨hi24, hcv, ?_⟩
          rw [e2, eb]
          refine yb_dom hB hB0 hN We hb hi (fun mk' na => br_f (by decide) fun y ey => ?_) (fun mk' a => br_t rfl (K0 mk' fun D => ?_))
          · subst ey
            rw [nI_1]
            refine next mk' (fun p hp hz => ?_)
            by_cases q : p = i
            · subst q; rw [e2, ebc]; exact na
            · exact I p (by omega) hz
          · have := D.2.2 i hi z
            rw [e2, ebc] at this; exact this a
    · have hi48 : vp_in (nI i) 48 := vp_in_nI (by omega) (by omega)
      obtain ⟨m, p, v, hm', hp, hv', e1, e2, e3, _⟩ := Wr.1 i hi
      obtain ⟨b, hb, eb, ebc⟩ := hh v hv'
      refine pk_le R i (fun h => by omega) (fun _ => ⟨hi48, ?_⟩)
      rw [nI_clamp (show i < 2 ^ 31 by omega)]
      have e3c : (b_rowNode i).toNatClampNeg = v := by rw [e3, nI_clamp (by omega)]
      have e2c : (b_rowPred i).toNatClampNeg = p := by rw [e2, nI_clamp (by omega)]
      refine ⟨by rw [e3]; exact vp_in_nI (by omega) (by omega), hi48, ?_⟩
      rw [e3c, eb, e2]
      refine yb_dom hB hB0 hN We hb hp (fun mk' na => br_f (by decide) fun y ey => ?_) (fun mk' a => br_t rfl (K0 mk' fun D => ?_))
      · subst ey
        rw [nI_1]
        refine next mk' (fun r hr => ?_)
        by_cases q : r = i
        · subst q; rw [e3c, ebc, e2c]; exact na
        · exact I r (by omega)
      · have := D.2.1 i hi
        rw [e3c, ebc, e2c] at this; exact this a
  · have hi32 : vp_in (nI i) 32 := vp_in_nI (by omega) (by omega)
    obtain ⟨_, _, _, wa, wb⟩ := Wn i hi
    obtain ⟨b, hb, eb, ebc⟩ := hh i hi
    refine pk_le N i (fun h => by omega) (fun _ => ⟨hi32, fun k ek => ?_⟩)
    rw [nI_clamp (by omega)] at ek
    rw [nI_clamp (show i < 2 ^ 31 by omega)]
    subst ek
    have go : ∀ mk' : Nat → Int32, (¬ b_nodeKind i < 3 → ¬ qd_A B b_endCond b_endYes b_endNo (b_nodeBlock (b_nodeA i).toNatClampNeg).toNatClampNeg (b_nodeBlock i).toNatClampNeg) → (¬ b_nodeKind i < 3 → ¬ 7 < b_nodeKind i → ¬ qd_A B b_endCond b_endYes b_endNo (b_nodeBlock (b_nodeB i).toNatClampNeg).toNatClampNeg (b_nodeBlock i).toNatClampNeg) → wY_dominanceHolds_2 post n (nI i + 1) (nI B) g_nodeMax g_rowMax g_inputMax (nI N) (nI R) g_held g_next g_leftLast g_taken g_prints g_closed b_nodeBlock b_nodeKind b_nodeA b_nodeB b_rowPhi b_rowPred b_rowNode b_endCond b_endYes b_endNo b_heldInput b_factState b_factValue b_isReached mk' b_lastValue b_pending b_visitCount b_kept := fun mk' h1 h2 => by
      rw [nI_1]
      refine next mk' (fun m hm => ?_)
      by_cases q : m = i
      · subst q; exact ⟨h1, h2⟩
      · exact I m (by omega)
    have half : ∀ mk' : Nat → Int32, (¬ b_nodeKind i < 3 → ¬ qd_A B b_endCond b_endYes b_endNo (b_nodeBlock (b_nodeA i).toNatClampNeg).toNatClampNeg (b_nodeBlock i).toNatClampNeg) → wY_dominanceHolds_48 post (wY_dominanceHolds_2 post n) (nI i) (b_nodeKind i) (nI B) g_nodeMax g_rowMax g_inputMax (nI N) (nI R) g_held g_next g_leftLast g_taken g_prints g_closed b_nodeBlock b_nodeKind b_nodeA b_nodeB b_rowPhi b_rowPred b_rowNode b_endCond b_endYes b_endNo b_heldInput b_factState b_factValue b_isReached mk' b_lastValue b_pending b_visitCount b_kept := fun mk' h1 => by
      refine br_c (fun k3 y ey => ?_) (fun k3 => br_c (fun k7 y ey => ?_) (fun k7 => ⟨hi32, ?_⟩))
      · subst ey; exact go mk' h1 fun h => absurd k3 h
      · subst ey; exact go mk' h1 fun _ h => absurd k7 h
      · obtain ⟨v, hv, ev⟩ := wb k3 k7
        obtain ⟨c, hc, ec, ecc⟩ := hh v (by omega)
        have evc : (b_nodeB i).toNatClampNeg = v := by rw [ev, nI_clamp (by omega)]
        rw [nI_clamp (show i < 2 ^ 31 by omega)]
        refine ⟨by rw [ev]; exact vp_in_nI (by omega) (by omega), hi32, ?_⟩
        rw [evc, ec, eb]
        refine yb_dom hB hB0 hN We hc hb (fun mk2 na => br_f (by decide) fun y ey => ?_) (fun mk2 a => br_t rfl (K0 mk2 fun D => ?_))
        · subst ey; exact go mk2 h1 fun _ _ => by rw [evc, ecc, ebc]; exact na
        · have := (D.1 i hi).2 k3 k7
          rw [evc, ecc, ebc] at this; exact this a
    refine br_c (fun k3 => half mk fun h => absurd k3 h) (fun k3 => ⟨hi32, ?_⟩)
    obtain ⟨v, hv, ev⟩ := wa k3
    obtain ⟨c, hc, ec, ecc⟩ := hh v (by omega)
    have evc : (b_nodeA i).toNatClampNeg = v := by rw [ev, nI_clamp (by omega)]
    refine ⟨by rw [ev]; exact vp_in_nI (by omega) (by omega), hi32, ?_⟩
    rw [evc, ec, eb]
    refine yb_dom hB hB0 hN We hc hb (fun mk2 na => br_f (by decide) (half mk2 fun _ => by rw [evc, ecc, ebc]; exact na)) (fun mk2 a => br_t rfl (K0 mk2 fun D => ?_))
    have := (D.1 i hi).1 k3
    rw [evc, ecc, ebc] at this; exact this a
end
end
section
/-! the reference's walks: rules, sweeps -/
section
variable {B N R : Nat} {ro : Nat → Int32} {g_nodeMax g_rowMax g_inputMax g_held g_next g_leftLast g_taken g_prints g_closed : Int32} {b_nodeBlock b_nodeKind b_nodeA b_nodeB b_rowPhi b_rowPred b_rowNode b_endCond b_endYes b_endNo b_heldInput b_factState b_factValue b_isReached b_mark b_lastValue b_pending b_visitCount b_kept : Nat → Int32}
theorem yc_377 {post : Int32 → SY → Prop} {m : Nat} {s v : Int32} (hm : m < 32) (K : ∀ c : Int32, ((c = 0 ∧ s = b_factState m ∧ v = b_factValue m) ∨ (c = 1 ∧ ¬ (s = b_factState m ∧ v = b_factValue m))) → post c (nI B, g_nodeMax, g_rowMax, g_inputMax, nI N, nI R, g_held, g_next, g_leftLast, g_taken, g_prints, g_closed, b_nodeBlock, b_nodeKind, b_nodeA, b_nodeB, b_rowPhi, b_rowPred, b_rowNode, b_endCond, b_endYes, b_endNo, b_heldInput, upd b_factState m s, upd b_factValue m v, b_isReached, b_mark, b_lastValue, b_pending, b_visitCount, b_kept)) : wY_applyRule_377 post (nI m) s v (nI B) g_nodeMax g_rowMax g_inputMax (nI N) (nI R) g_held g_next g_leftLast g_taken g_prints g_closed b_nodeBlock b_nodeKind b_nodeA b_nodeB b_rowPhi b_rowPred b_rowNode b_endCond b_endYes b_endNo b_heldInput b_factState b_factValue b_isReached b_mark b_lastValue b_pending b_visitCount b_kept := by
  have h32 : vp_in (nI m) 32 := vp_in_nI hm (by omega)
  have em : (nI m).toNatClampNeg = m := nI_clamp (by omega)
  have t404 : ∀ c : Int32, (c = 0 ∨ c = 1) → post c (nI B, g_nodeMax, g_rowMax, g_inputMax, nI N, nI R, g_held, g_next, g_leftLast, g_taken, g_prints, g_closed, b_nodeBlock, b_nodeKind, b_nodeA, b_nodeB, b_rowPhi, b_rowPred, b_rowNode, b_endCond, b_endYes, b_endNo, b_heldInput, upd b_factState m s, upd b_factValue m v, b_isReached, b_mark, b_lastValue, b_pending, b_visitCount, b_kept) → wY_applyRule_404 post (nI m) s v c (nI B) g_nodeMax g_rowMax g_inputMax (nI N) (nI R) g_held g_next g_leftLast g_taken g_prints g_closed b_nodeBlock b_nodeKind b_nodeA b_nodeB b_rowPhi b_rowPred b_rowNode b_endCond b_endYes b_endNo b_heldInput b_factState b_factValue b_isReached b_mark b_lastValue b_pending b_visitCount b_kept := fun c hc h => by
    refine ⟨h32, fun st est => ⟨h32, fun cv ecv => ?_⟩⟩
    rw [em] at est ecv
    subst est ecv
    refine ⟨?_, h⟩
    rcases hc with rfl | rfl
    · exact narrow_b0
    · exact narrow_b1
  refine ⟨h32, ?_⟩
  rw [em]
  refine br_c (fun e1 => ⟨h32, br_c (fun e2 => t404 0 (Or.inl rfl) (K 0 (Or.inl ⟨rfl, e1, e2⟩))) (fun e2 => t404 1 (Or.inr rfl) (K 1 (Or.inr ⟨rfl, fun h => e2 h.2⟩)))⟩) (fun e1 => t404 1 (Or.inr rfl) (K 1 (Or.inr ⟨rfl, fun h => e1 h.1⟩)))
theorem yc_op {post : Int32 → SY → Prop} {m : Int32} {k a b : Int32} (ha : vp_in a 32) (hb : vp_in b 32) (h3a : qp_3 (b_factState a.toNatClampNeg)) (h3b : qp_3 (b_factState b.toNatClampNeg)) (K : wY_applyRule_377 post m (qp_os k (b_factState a.toNatClampNeg) (b_factValue a.toNatClampNeg) (b_factState b.toNatClampNeg) (b_factValue b.toNatClampNeg)) (qp_ov k (b_factState a.toNatClampNeg) (b_factValue a.toNatClampNeg) (b_factState b.toNatClampNeg) (b_factValue b.toNatClampNeg)) (nI B) g_nodeMax g_rowMax g_inputMax (nI N) (nI R) g_held g_next g_leftLast g_taken g_prints g_closed b_nodeBlock b_nodeKind b_nodeA b_nodeB b_rowPhi b_rowPred b_rowNode b_endCond b_endYes b_endNo b_heldInput b_factState b_factValue b_isReached b_mark b_lastValue b_pending b_visitCount b_kept) : ∀ x7 x8 z : Int32, ((x7 = 1 ∧ b_factState a.toNatClampNeg = 1) ∨ (x7 = 0 ∧ ¬ b_factState a.toNatClampNeg = 1)) → ((x8 = 1 ∧ b_factState b.toNatClampNeg = 1) ∨ (x8 = 0 ∧ ¬ b_factState b.toNatClampNeg = 1)) → ((z = 1 ∧ ((b_factState a.toNatClampNeg = 1 ∧ b_factValue a.toNatClampNeg = 0) ∨ (b_factState b.toNatClampNeg = 1 ∧ b_factValue b.toNatClampNeg = 0))) ∨ (z = 0 ∧ ¬ ((b_factState a.toNatClampNeg = 1 ∧ b_factValue a.toNatClampNeg = 0) ∨ (b_factState b.toNatClampNeg = 1 ∧ b_factValue b.toNatClampNeg = 0)))) → wY_applyRule_291 post m k a b 2 0 x7 x8 z (nI B) g_nodeMax g_rowMax g_inputMax (nI N) (nI R) g_held g_next g_leftLast g_taken g_prints g_closed b_nodeBlock b_nodeKind b_nodeA b_nodeB b_rowPhi b_rowPred b_rowNode b_endCond b_endYes b_endNo b_heldInput b_factState b_factValue b_isReached b_mark b_lastValue b_pending b_visitCount b_kept := by
  intro x7 x8 z h7 h8 hz
  unfold qp_os qp_ov at K
  have t312 : (b_factState a.toNatClampNeg = 0 ∨ b_factState b.toNatClampNeg = 0) → wY_applyRule_312 post m k a b 0 x7 x8 (nI B) g_nodeMax g_rowMax g_inputMax (nI N) (nI R) g_held g_next g_leftLast g_taken g_prints g_closed b_nodeBlock b_nodeKind b_nodeA b_nodeB b_rowPhi b_rowPred b_rowNode b_endCond b_endYes b_endNo b_heldInput b_factState b_factValue b_isReached b_mark b_lastValue b_pending b_visitCount b_kept := fun h => by
    rw [if_pos h, if_neg (by rintro ⟨c, d⟩; rcases h with h | h; exact qp_01 (h.symm.trans c); exact qp_01 (h.symm.trans d))] at K
    exact br_f (by decide) K
  refine ⟨ha, br_c (fun a0 => t312 (Or.inl a0)) (fun a0 => ⟨hb, br_c (fun b0 => t312 (Or.inr b0)) (fun b0 => ?_)⟩)⟩
  rw [if_neg (by rintro (c | c); exact a0 c; exact b0 c)] at K
  have t328 : ¬ (b_factState a.toNatClampNeg = 1 ∧ b_factState b.toNatClampNeg = 1) → wY_applyRule_328 post m k a b 2 0 x7 x8 z (nI B) g_nodeMax g_rowMax g_inputMax (nI N) (nI R) g_held g_next g_leftLast g_taken g_prints g_closed b_nodeBlock b_nodeKind b_nodeA b_nodeB b_rowPhi b_rowPred b_rowNode b_endCond b_endYes b_endNo b_heldInput b_factState b_factValue b_isReached b_mark b_lastValue b_pending b_visitCount b_kept := fun h => by
    rw [if_neg h, if_neg h] at K
    refine br_c (fun k5 => br_c (fun z0 => br_f (by decide) ?_) (fun z0 => br_t rfl ?_)) (fun k5 => br_f (by decide) ?_)
    · rw [if_neg] at K
      · exact K
      · rintro ⟨_, c⟩
        rcases hz with ⟨hz, _⟩ | ⟨_, hz⟩
        · exact qp_10 (hz.symm.trans z0)
        · exact hz c
    · rw [if_pos] at K
      · refine br_c (fun _ => K) (fun n7 => br_c (fun _ => K) (fun n8 => ?_))
        refine absurd ⟨?_, ?_⟩ h
        · rcases h7 with ⟨_, w⟩ | ⟨w, _⟩
          · exact w
          · exact absurd w n7
        · rcases h8 with ⟨_, w⟩ | ⟨w, _⟩
          · exact w
          · exact absurd w n8
      · refine ⟨k5, ?_⟩
        rcases hz with ⟨_, hz⟩ | ⟨hz, _⟩
        · exact hz
        · exact absurd hz z0
    · rw [if_neg (fun c => k5 c.1)] at K; exact K
  refine br_c (fun n7 => t328 fun c => ?_) (fun n7 => br_c (fun n8 => t328 fun c => ?_) (fun n8 => ?_))
  · rcases h7 with ⟨w, _⟩ | ⟨_, w⟩
    · exact qp_10 (w.symm.trans n7)
    · exact w c.1
  · rcases h8 with ⟨w, _⟩ | ⟨_, w⟩
    · exact qp_10 (w.symm.trans n8)
    · exact w c.2
  · have c : b_factState a.toNatClampNeg = 1 ∧ b_factState b.toNatClampNeg = 1 := by
      refine ⟨?_, ?_⟩
      · rcases h7 with ⟨_, w⟩ | ⟨w, _⟩
        · exact w
        · exact absurd w n7
      · rcases h8 with ⟨_, w⟩ | ⟨w, _⟩
        · exact w
        · exact absurd w n8
    rw [if_pos c, if_pos c] at K
    exact br_t rfl (br_f n7 (br_f n8 ⟨ha, hb, ya_compute K⟩))
theorem yc_op2 {post : Int32 → SY → Prop} {m : Int32} {k a b : Int32} (ha : vp_in a 32) (hb : vp_in b 32) (h3a : qp_3 (b_factState a.toNatClampNeg)) (h3b : qp_3 (b_factState b.toNatClampNeg)) (K : wY_applyRule_377 post m (qp_os k (b_factState a.toNatClampNeg) (b_factValue a.toNatClampNeg) (b_factState b.toNatClampNeg) (b_factValue b.toNatClampNeg)) (qp_ov k (b_factState a.toNatClampNeg) (b_factValue a.toNatClampNeg) (b_factState b.toNatClampNeg) (b_factValue b.toNatClampNeg)) (nI B) g_nodeMax g_rowMax g_inputMax (nI N) (nI R) g_held g_next g_leftLast g_taken g_prints g_closed b_nodeBlock b_nodeKind b_nodeA b_nodeB b_rowPhi b_rowPred b_rowNode b_endCond b_endYes b_endNo b_heldInput b_factState b_factValue b_isReached b_mark b_lastValue b_pending b_visitCount b_kept) (x7 : Int32) (h7 : (x7 = 1 ∧ b_factState a.toNatClampNeg = 1) ∨ (x7 = 0 ∧ ¬ b_factState a.toNatClampNeg = 1)) : wY_applyRule_237 post m k a b 2 0 x7 (nI B) g_nodeMax g_rowMax g_inputMax (nI N) (nI R) g_held g_next g_leftLast g_taken g_prints g_closed b_nodeBlock b_nodeKind b_nodeA b_nodeB b_rowPhi b_rowPred b_rowNode b_endCond b_endYes b_endNo b_heldInput b_factState b_factValue b_isReached b_mark b_lastValue b_pending b_visitCount b_kept := by
  have T := yc_op ha hb h3a h3b K
  have t271 : ∀ x8 : Int32, ¬ (b_factState a.toNatClampNeg = 1 ∧ b_factValue a.toNatClampNeg = 0) → ((x8 = 1 ∧ b_factState b.toNatClampNeg = 1) ∨ (x8 = 0 ∧ ¬ b_factState b.toNatClampNeg = 1)) → wY_applyRule_271 post m k a b 2 0 x7 x8 (nI B) g_nodeMax g_rowMax g_inputMax (nI N) (nI R) g_held g_next g_leftLast g_taken g_prints g_closed b_nodeBlock b_nodeKind b_nodeA b_nodeB b_rowPhi b_rowPred b_rowNode b_endCond b_endYes b_endNo b_heldInput b_factState b_factValue b_isReached b_mark b_lastValue b_pending b_visitCount b_kept := fun x8 na h8 => by
    refine br_c (fun n8 => ?_) (fun n8 => ⟨hb, br_c (fun v0 => ?_) (fun v0 => ?_)⟩)
    · refine T x7 x8 0 h7 h8 (Or.inr ⟨rfl, ?_⟩)
      rintro (c | c)
      · exact na c
      · rcases h8 with ⟨w, _⟩ | ⟨_, w⟩
        · exact qp_10 (w.symm.trans n8)
        · exact w c.1
    · refine T x7 x8 1 h7 h8 (Or.inl ⟨rfl, Or.inr ⟨?_, v0⟩⟩)
      rcases h8 with ⟨_, w⟩ | ⟨w, _⟩
      · exact w
      · exact absurd w n8
    · refine T x7 x8 0 h7 h8 (Or.inr ⟨rfl, ?_⟩)
      rintro (c | c)
      · exact na c
      · exact v0 c.2
  have t255 : ∀ x8 : Int32, ((x8 = 1 ∧ b_factState b.toNatClampNeg = 1) ∨ (x8 = 0 ∧ ¬ b_factState b.toNatClampNeg = 1)) → wY_applyRule_255 post m k a b 2 0 x7 x8 (nI B) g_nodeMax g_rowMax g_inputMax (nI N) (nI R) g_held g_next g_leftLast g_taken g_prints g_closed b_nodeBlock b_nodeKind b_nodeA b_nodeB b_rowPhi b_rowPred b_rowNode b_endCond b_endYes b_endNo b_heldInput b_factState b_factValue b_isReached b_mark b_lastValue b_pending b_visitCount b_kept := fun x8 h8 => by
    refine br_c (fun n7 => t271 x8 (fun c => ?_) h8) (fun n7 => ⟨ha, br_c (fun v0 => ?_) (fun v0 => t271 x8 (fun c => v0 c.2) h8)⟩)
    · rcases h7 with ⟨w, _⟩ | ⟨_, w⟩
      · exact qp_10 (w.symm.trans n7)
      · exact w c.1
    · refine T x7 x8 1 h7 h8 (Or.inl ⟨rfl, Or.inl ⟨?_, v0⟩⟩)
      rcases h7 with ⟨_, w⟩ | ⟨w, _⟩
      · exact w
      · exact absurd w n7
  exact ⟨hb, br_c (fun s1 => t255 1 (Or.inl ⟨rfl, s1⟩)) (fun s1 => t255 0 (Or.inr ⟨rfl, s1⟩))⟩
theorem yc_phi {post : Int32 → SY → Prop} {m : Nat} (hB : B ≤ 24) (hN : N ≤ 32) (hR : R ≤ 48) (We : qg_We B N b_endCond b_endYes b_endNo) (Wn : qg_Wn B N b_nodeBlock b_nodeKind b_nodeA b_nodeB) (Wr : qg_Wr B N R b_nodeKind b_rowPhi b_rowPred b_rowNode ro) (h3 : ∀ n, n < N → qp_3 (b_factState n)) (hm : m < N) (km : b_nodeKind m = 0) (K : ∀ s v : Int32, qp_3 s → qp_nf s v → qg_R B R b_nodeBlock b_nodeKind b_nodeA b_nodeB b_rowNode ro (qy_lv b_endCond b_endYes b_endNo b_isReached b_factState b_factValue) b_factState b_factValue m s v → (∀ s' v', qg_R B R b_nodeBlock b_nodeKind b_nodeA b_nodeB b_rowNode ro (qy_lv b_endCond b_endYes b_endNo b_isReached b_factState b_factValue) b_factState b_factValue m s' v' → qp_le s v s' v') → wY_applyRule_377 post (nI m) s v (nI B) g_nodeMax g_rowMax g_inputMax (nI N) (nI R) g_held g_next g_leftLast g_taken g_prints g_closed b_nodeBlock b_nodeKind b_nodeA b_nodeB b_rowPhi b_rowPred b_rowNode b_endCond b_endYes b_endNo b_heldInput b_factState b_factValue b_isReached b_mark b_lastValue b_pending b_visitCount b_kept) : ∃ n, wY_applyRule_38 post (nI m) (nI B) g_nodeMax g_rowMax g_inputMax (nI N) (nI R) g_held g_next g_leftLast g_taken g_prints g_closed b_nodeBlock b_nodeKind b_nodeA b_nodeB b_rowPhi b_rowPred b_rowNode b_endCond b_endYes b_endNo b_heldInput b_factState b_factValue b_isReached b_mark b_lastValue b_pending b_visitCount b_kept n 0 0 (nI 0) := by
  have hm32 : vp_in (nI m) 32 := vp_in_nI (by omega) (by omega)
  obtain ⟨_, _, ⟨hb, hhb, ehb, _⟩, _⟩ := Wn m hm
  have ehc : (b_nodeBlock m).toNatClampNeg = hb := by rw [ehb, nI_clamp (by omega)]
  refine ql_0 (fun n i (s : Int32 × Int32) => wY_applyRule_38 post (nI m) (nI B) g_nodeMax g_rowMax g_inputMax (nI N) (nI R) g_held g_next g_leftLast g_taken g_prints g_closed b_nodeBlock b_nodeKind b_nodeA b_nodeB b_rowPhi b_rowPred b_rowNode b_endCond b_endYes b_endNo b_heldInput b_factState b_factValue b_isReached b_mark b_lastValue b_pending b_visitCount b_kept n s.1 s.2 (nI i)) (fun i s => qp_3 s.1 ∧ qp_nf s.1 s.2 ∧ (∀ r, r < i → b_rowPhi r = nI m → qy_lv b_endCond b_endYes b_endNo b_isReached b_factState b_factValue (b_rowPred r).toNatClampNeg (b_nodeBlock m).toNatClampNeg → qp_le (b_factState (b_rowNode r).toNatClampNeg) (b_factValue (b_rowNode r).toNatClampNeg) s.1 s.2) ∧ (∀ a b, (∀ r, r < i → b_rowPhi r = nI m → qy_lv b_endCond b_endYes b_endNo b_isReached b_factState b_factValue (b_rowPred r).toNatClampNeg (b_nodeBlock m).toNatClampNeg → qp_le (b_factState (b_rowNode r).toNatClampNeg) (b_factValue (b_rowNode r).toNatClampNeg) a b) → qp_le s.1 s.2 a b)) R (0, 0) ⟨Or.inl rfl, fun _ => rfl, fun r h => absurd h (Nat.not_lt_zero _), fun a b _ => Or.inl rfl⟩ (fun n s I => ?_) (fun n i s hi I next => ?_)
  · obtain ⟨s, v⟩ := s
    obtain ⟨I1, I2, I3, I4⟩ := I
    refine pk_le R R (fun _ => ?_) (fun h => absurd h (Nat.lt_irrefl _))
    refine K s v I1 I2 (xd_R0 km fun p r hp hr e l => ?_) (fun s' v' h => I4 s' v' fun r hr e l => ?_)
    · obtain ⟨e1, e2⟩ := qg_row Wr hR (by omega) (by omega) hr e
      refine I3 r hr e1 ?_
      rw [e2, nI_clamp (by omega)]; exact l
    · obtain ⟨n', p', _, hn', hp', _, a1, a2, _, _, a3⟩ := Wr.1 r hr
      rw [e, nI_eq (by omega) (by omega)] at a1
      subst a1
      refine h.1 km p' r hp' hr a3 ?_
      rw [a2, nI_clamp (by omega)] at l; exact l
  · obtain ⟨s, v⟩ := s
    obtain ⟨I1, I2, I3, I4⟩ := I
    have hi48 : vp_in (nI i) 48 := vp_in_nI (by omega) (by omega)
    obtain ⟨n', p', w, hn', hp', hw, a1, a2, a3, _⟩ := Wr.1 i hi
    have a3c : (b_rowNode i).toNatClampNeg = w := by rw [a3, nI_clamp (by omega)]
    have a2c : (b_rowPred i).toNatClampNeg = p' := by rw [a2, nI_clamp (by omega)]
    have hw32 : vp_in (b_rowNode i) 32 := by rw [a3]; exact vp_in_nI (by omega) (by omega)
    have h3w : qp_3 (b_factState (b_rowNode i).toNatClampNeg) := by rw [a3c]; exact h3 w hw
    have skip : (b_rowPhi i = nI m → qy_lv b_endCond b_endYes b_endNo b_isReached b_factState b_factValue (b_rowPred i).toNatClampNeg (b_nodeBlock m).toNatClampNeg → b_factState (b_rowNode i).toNatClampNeg = 0) → wY_applyRule_38 post (nI m) (nI B) g_nodeMax g_rowMax g_inputMax (nI N) (nI R) g_held g_next g_leftLast g_taken g_prints g_closed b_nodeBlock b_nodeKind b_nodeA b_nodeB b_rowPhi b_rowPred b_rowNode b_endCond b_endYes b_endNo b_heldInput b_factState b_factValue b_isReached b_mark b_lastValue b_pending b_visitCount b_kept n s v (nI i + 1) := fun h => by
      rw [nI_1]
      refine next (s, v) ⟨I1, I2, fun r hr e l => ?_, fun a b c => I4 a b fun r hr => c r (by omega)⟩
      by_cases z : r = i
      · subst z; exact Or.inl (h e l)
      · exact I3 r (by omega) e l
    refine pk_le R i (fun h => by omega) (fun _ => ⟨hi48, fun x8 e8 => ⟨hi48, ?_⟩⟩)
    rw [nI_clamp (by omega)] at e8
    rw [nI_clamp (show i < 2 ^ 31 by omega)]
    subst e8
    refine br_c (fun e1 => ⟨hw32, br_c (fun s0 y ey => ?_) (fun s0 => ⟨hi48, hm32, ?_⟩)⟩) (fun e1 y ey => ?_)
    · subst ey; exact skip fun _ _ => s0
    · rw [nI_clamp (show m < 2 ^ 31 by omega), a2, ehb]
      refine ya_edgeLive hB hN We h3 hp' (by omega) (fun l => br_f (by decide) ?_) (fun l => br_t rfl fun y ey => ?_)
      · have l' : qy_lv b_endCond b_endYes b_endNo b_isReached b_factState b_factValue (b_rowPred i).toNatClampNeg (b_nodeBlock m).toNatClampNeg := by rw [a2c, ehc]; exact l
        have go : ∀ s' v' : Int32, qp_nf s' v' → qp_J s v (b_factState (b_rowNode i).toNatClampNeg) (b_factValue (b_rowNode i).toNatClampNeg) s' v' → wY_applyRule_38 post (nI m) (nI B) g_nodeMax g_rowMax g_inputMax (nI N) (nI R) g_held g_next g_leftLast g_taken g_prints g_closed b_nodeBlock b_nodeKind b_nodeA b_nodeB b_rowPhi b_rowPred b_rowNode b_endCond b_endYes b_endNo b_heldInput b_factState b_factValue b_isReached b_mark b_lastValue b_pending b_visitCount b_kept n s' v' (nI i + 1) := fun s' v' nf J => by
          obtain ⟨J1, J2, J3, J4⟩ := J
          rw [nI_1]
          refine next (s', v') ⟨J1, nf, fun r hr e l2 => ?_, fun a b c => J4 a b (I4 a b fun r hr => c r (by omega)) (c i (by omega) e1 l')⟩
          by_cases z : r = i
          · subst z; exact J3
          · exact qp_le_tr (I3 r (by omega) e l2) J2
        have go2 : qp_J s v (b_factState (b_rowNode i).toNatClampNeg) (b_factValue (b_rowNode i).toNatClampNeg) 2 0 → wY_applyRule_147 post (wY_applyRule_38 post (nI m) (nI B) g_nodeMax g_rowMax g_inputMax (nI N) (nI R) g_held g_next g_leftLast g_taken g_prints g_closed b_nodeBlock b_nodeKind b_nodeA b_nodeB b_rowPhi b_rowPred b_rowNode b_endCond b_endYes b_endNo b_heldInput b_factState b_factValue b_isReached b_mark b_lastValue b_pending b_visitCount b_kept n) (nI m) (nI i) (b_rowNode i) (nI B) g_nodeMax g_rowMax g_inputMax (nI N) (nI R) g_held g_next g_leftLast g_taken g_prints g_closed b_nodeBlock b_nodeKind b_nodeA b_nodeB b_rowPhi b_rowPred b_rowNode b_endCond b_endYes b_endNo b_heldInput b_factState b_factValue b_isReached b_mark b_lastValue b_pending b_visitCount b_kept := fun J => by
          refine br_f (by decide) fun y ey => ?_
          subst ey; exact go 2 0 (fun _ => rfl) J
        have t120 : (b_factState (b_rowNode i).toNatClampNeg = 1 → qp_J s v 1 (b_factValue (b_rowNode i).toNatClampNeg) 1 (b_factValue (b_rowNode i).toNatClampNeg)) → wY_applyRule_120 post (wY_applyRule_38 post (nI m) (nI B) g_nodeMax g_rowMax g_inputMax (nI N) (nI R) g_held g_next g_leftLast g_taken g_prints g_closed b_nodeBlock b_nodeKind b_nodeA b_nodeB b_rowPhi b_rowPred b_rowNode b_endCond b_endYes b_endNo b_heldInput b_factState b_factValue b_isReached b_mark b_lastValue b_pending b_visitCount b_kept n) (nI m) (nI i) (b_rowNode i) (nI B) g_nodeMax g_rowMax g_inputMax (nI N) (nI R) g_held g_next g_leftLast g_taken g_prints g_closed b_nodeBlock b_nodeKind b_nodeA b_nodeB b_rowPhi b_rowPred b_rowNode b_endCond b_endYes b_endNo b_heldInput b_factState b_factValue b_isReached b_mark b_lastValue b_pending b_visitCount b_kept := fun h => by
          refine br_f (by decide) ⟨hw32, br_c (fun s1 => br_t rfl ⟨hw32, fun v' ev' y ey => ?_⟩) (fun s1 => go2 ?_)⟩
          · subst ev' ey
            refine go 1 _ (fun c => absurd rfl c) ?_
            rw [s1]; exact h s1
          · rcases h3w with c | c | c
            · exact absurd c s0
            · exact absurd c s1
            · rw [c]; exact qp_J_2 _
        refine br_c (fun z => t120 fun s1 => ?_) (fun z => br_c (fun z1 => ⟨hw32, br_c (fun e => t120 fun s1 => ?_) (fun e => br_t rfl (go2 ?_))⟩) (fun z1 => br_t rfl (go2 ?_)))
        · have z : s = 0 := z
          rw [z]; exact qp_J_0 (Or.inr (Or.inl rfl))
        · have z1 : s = 1 := z1
          have e : v = b_factValue (b_rowNode i).toNatClampNeg := e
          rw [z1, e]; exact qp_J_11
        · have z1 : s = 1 := z1
          have e : ¬ v = b_factValue (b_rowNode i).toNatClampNeg := e
          rcases h3w with c | c | c
          · exact absurd c s0
          · rw [z1, c]; exact qp_J_1n _ e
          · rw [c]; exact qp_J_2 _
        · have z : ¬ s = 0 := z
          have z1 : ¬ s = 1 := z1
          rcases I1 with c | c | c
          · exact absurd c z
          · exact absurd c z1
          · have c : s = 2 := c
            rw [c]; exact qp_J_f2 _
      · subst ey
        refine skip fun _ l2 => absurd ?_ l
        rw [a2c, ehc] at l2; exact l2
    · subst ey; exact skip fun h => absurd h e1
theorem yc_rule {post : Int32 → SY → Prop} {m : Nat} (hB : B ≤ 24) (hN : N ≤ 32) (hR : R ≤ 48) (We : qg_We B N b_endCond b_endYes b_endNo) (Wn : qg_Wn B N b_nodeBlock b_nodeKind b_nodeA b_nodeB) (Wr : qg_Wr B N R b_nodeKind b_rowPhi b_rowPred b_rowNode ro) (F : qs_F N b_factState b_factValue) (hm : m < N) (K : ∀ c s v : Int32, qp_3 s → qp_nf s v → qg_R B R b_nodeBlock b_nodeKind b_nodeA b_nodeB b_rowNode ro (qy_lv b_endCond b_endYes b_endNo b_isReached b_factState b_factValue) b_factState b_factValue m s v → (∀ s' v', qg_R B R b_nodeBlock b_nodeKind b_nodeA b_nodeB b_rowNode ro (qy_lv b_endCond b_endYes b_endNo b_isReached b_factState b_factValue) b_factState b_factValue m s' v' → qp_le s v s' v') → ((c = 0 ∧ s = b_factState m ∧ v = b_factValue m) ∨ (c = 1 ∧ ¬ (s = b_factState m ∧ v = b_factValue m))) → post c (nI B, g_nodeMax, g_rowMax, g_inputMax, nI N, nI R, g_held, g_next, g_leftLast, g_taken, g_prints, g_closed, b_nodeBlock, b_nodeKind, b_nodeA, b_nodeB, b_rowPhi, b_rowPred, b_rowNode, b_endCond, b_endYes, b_endNo, b_heldInput, upd b_factState m s, upd b_factValue m v, b_isReached, b_mark, b_lastValue, b_pending, b_visitCount, b_kept)) : wpY_applyRule post (nI B, g_nodeMax, g_rowMax, g_inputMax, nI N, nI R, g_held, g_next, g_leftLast, g_taken, g_prints, g_closed, b_nodeBlock, b_nodeKind, b_nodeA, b_nodeB, b_rowPhi, b_rowPred, b_rowNode, b_endCond, b_endYes, b_endNo, b_heldInput, b_factState, b_factValue, b_isReached, b_mark, b_lastValue, b_pending, b_visitCount, b_kept) (nI m) := by
  have h3 : ∀ n, n < N → qp_3 (b_factState n) := fun n hn => (F.2 n hn).1
  have hm32 : vp_in (nI m) 32 := vp_in_nI (by omega) (by omega)
  have em : (nI m).toNatClampNeg = m := nI_clamp (by omega)
  obtain ⟨k0, k8, _, wa, wb⟩ := Wn m hm
  have fin : ∀ s v : Int32, qp_3 s → qp_nf s v → qg_R B R b_nodeBlock b_nodeKind b_nodeA b_nodeB b_rowNode ro (qy_lv b_endCond b_endYes b_endNo b_isReached b_factState b_factValue) b_factState b_factValue m s v → (∀ s' v', qg_R B R b_nodeBlock b_nodeKind b_nodeA b_nodeB b_rowNode ro (qy_lv b_endCond b_endYes b_endNo b_isReached b_factState b_factValue) b_factState b_factValue m s' v' → qp_le s v s' v') → wY_applyRule_377 post (nI m) s v (nI B) g_nodeMax g_rowMax g_inputMax (nI N) (nI R) g_held g_next g_leftLast g_taken g_prints g_closed b_nodeBlock b_nodeKind b_nodeA b_nodeB b_rowPhi b_rowPred b_rowNode b_endCond b_endYes b_endNo b_heldInput b_factState b_factValue b_isReached b_mark b_lastValue b_pending b_visitCount b_kept := fun s v a b c d => yc_377 (by omega) fun x hx => K x s v a b c d hx
  have va : ¬ b_nodeKind m < 3 → vp_in (b_nodeA m) 32 ∧ (b_nodeA m).toNatClampNeg < N := fun z => by
    obtain ⟨a, ha, ea⟩ := wa z
    rw [ea, nI_clamp (by omega)]; exact ⟨vp_in_nI (by omega) (by omega), by omega⟩
  refine ⟨hm32, fun k ek => ⟨hm32, fun a ea => ⟨hm32, fun b eb => ?_⟩⟩⟩
  rw [em] at ek ea eb
  subst ea eb
  rcases qp_kc k0 k8 with c | c | c | c | ⟨c, c'⟩
  · rw [c] at ek
    subst ek
    exact br_t rfl (yc_phi hB hN hR We Wn Wr h3 hm c fin)
  · rw [c] at ek
    subst ek
    refine br_f (by decide) (br_t rfl ?_)
    exact fin 1 _ (Or.inr (Or.inl rfl)) (fun h => absurd rfl h) (xd_R1 c (Or.inr (Or.inr ⟨rfl, rfl, rfl⟩))) fun s v r => r.2.1 c
  · rw [c] at ek
    subst ek
    refine br_f (by decide) (br_f (by decide) (br_f (by decide) (br_t rfl ?_)))
    exact fin 2 0 (Or.inr (Or.inr rfl)) (fun _ => rfl) (xd_R2 c (Or.inr (Or.inl rfl))) fun s v r => r.2.2.1 c
  · rw [c] at ek
    subst ek
    obtain ⟨v1, v2⟩ := va (by rw [c]; decide)
    refine br_f (by decide) (br_f (by decide) (br_t rfl ⟨v1, fun s es => ⟨v1, fun v ev => ?_⟩⟩))
    subst es ev
    exact fin _ _ (F.2 _ v2).1 (F.2 _ v2).2 (xd_R8 c (qp_le_rf (F.2 _ v2).1)) fun s v r => r.2.2.2.1 c
  · subst ek
    obtain ⟨v1, v2⟩ := va c
    obtain ⟨b, hb, eb⟩ := wb c c'
    have v3 : vp_in (b_nodeB m) 32 := by rw [eb]; exact vp_in_nI (by omega) (by omega)
    have v4 : (b_nodeB m).toNatClampNeg < N := by rw [eb, nI_clamp (by omega)]; omega
    have n0 : ¬ b_nodeKind m = 0 := fun z => by rw [z] at c; exact c (by decide)
    have n1 : ¬ b_nodeKind m = 1 := fun z => by rw [z] at c; exact c (by decide)
    have n2 : ¬ b_nodeKind m = 2 := fun z => by rw [z] at c; exact c (by decide)
    have n8 : ¬ b_nodeKind m = 8 := fun z => by rw [z] at c'; exact c' (by decide)
    have T := yc_op2 v1 v3 (h3 _ v2) (h3 _ v4) (fin _ _ (qp_os3 _ _ _ _ _) (qp_os_nf _ _ _ _ _) (xd_Ro c c' (qp_le_rf (qp_os3 _ _ _ _ _))) fun s v r => r.2.2.2.2 c c')
    exact br_f n0 (br_f n1 (br_f n8 (br_f n2 ⟨v1, br_c (fun s1 => T 1 (Or.inl ⟨rfl, s1⟩)) (fun s1 => T 0 (Or.inr ⟨rfl, s1⟩))⟩)))
end
end
section
/-! the reference's walks: sweeps until nothing changes, the start -/
section
variable {B N R : Nat} {ro : Nat → Int32} {g_nodeMax g_rowMax g_inputMax g_held g_next g_leftLast g_taken g_prints g_closed : Int32} {b_nodeBlock b_nodeKind b_nodeA b_nodeB b_rowPhi b_rowPred b_rowNode b_endCond b_endYes b_endNo b_heldInput b_factState b_factValue b_isReached b_mark b_lastValue b_pending b_visitCount b_kept : Nat → Int32}
theorem yd_sweep {post : Int32 → SY → Prop} (hB : B ≤ 24) (hN : N ≤ 32) (hR : R ≤ 48) (We : qg_We B N b_endCond b_endYes b_endNo) (Wn : qg_Wn B N b_nodeBlock b_nodeKind b_nodeA b_nodeB) (Wr : qg_Wr B N R b_nodeKind b_rowPhi b_rowPred b_rowNode ro) (I0 : qy_I B N R b_nodeBlock b_nodeKind b_nodeA b_nodeB b_rowNode ro b_endCond b_endYes b_endNo b_isReached b_factState b_factValue) (K0 : qg_C B N R b_nodeBlock b_nodeKind b_nodeA b_nodeB b_rowNode ro b_endCond b_endYes b_endNo (fun t => ¬ b_isReached t = 0) b_factState b_factValue → post 0 (nI B, g_nodeMax, g_rowMax, g_inputMax, nI N, nI R, g_held, g_next, g_leftLast, g_taken, g_prints, g_closed, b_nodeBlock, b_nodeKind, b_nodeA, b_nodeB, b_rowPhi, b_rowPred, b_rowNode, b_endCond, b_endYes, b_endNo, b_heldInput, b_factState, b_factValue, b_isReached, b_mark, b_lastValue, b_pending, b_visitCount, b_kept)) (K1 : ∀ rc st cv : Nat → Int32, qy_I B N R b_nodeBlock b_nodeKind b_nodeA b_nodeB b_rowNode ro b_endCond b_endYes b_endNo rc st cv → qy_M B N rc st < qy_M B N b_isReached b_factState → post 1 (nI B, g_nodeMax, g_rowMax, g_inputMax, nI N, nI R, g_held, g_next, g_leftLast, g_taken, g_prints, g_closed, b_nodeBlock, b_nodeKind, b_nodeA, b_nodeB, b_rowPhi, b_rowPred, b_rowNode, b_endCond, b_endYes, b_endNo, b_heldInput, st, cv, rc, b_mark, b_lastValue, b_pending, b_visitCount, b_kept)) : wpY_sweep post (nI B, g_nodeMax, g_rowMax, g_inputMax, nI N, nI R, g_held, g_next, g_leftLast, g_taken, g_prints, g_closed, b_nodeBlock, b_nodeKind, b_nodeA, b_nodeB, b_rowPhi, b_rowPred, b_rowNode, b_endCond, b_endYes, b_endNo, b_heldInput, b_factState, b_factValue, b_isReached, b_mark, b_lastValue, b_pending, b_visitCount, b_kept) := by
  have h3 : ∀ n, n < N → qp_3 (b_factState n) := fun n hn => (I0.1.2 n hn).1
  refine ql_0 (fun n i (s : Int32 × (Nat → Int32)) => wY_sweep_4 post (nI B) g_nodeMax g_rowMax g_inputMax (nI N) (nI R) g_held g_next g_leftLast g_taken g_prints g_closed n s.1 (nI i) b_nodeBlock b_nodeKind b_nodeA b_nodeB b_rowPhi b_rowPred b_rowNode b_endCond b_endYes b_endNo b_heldInput b_factState b_factValue s.2 b_mark b_lastValue b_pending b_visitCount b_kept) (fun i s => qy_I B N R b_nodeBlock b_nodeKind b_nodeA b_nodeB b_rowNode ro b_endCond b_endYes b_endNo s.2 b_factState b_factValue ∧ ((s.1 = 0 ∧ s.2 = b_isReached ∧ ∀ t p, t < i → p < B → qy_lv b_endCond b_endYes b_endNo b_isReached b_factState b_factValue p t → ¬ b_isReached t = 0) ∨ (s.1 = 1 ∧ qy_M B N s.2 b_factState < qy_M B N b_isReached b_factState))) B (0, b_isReached) ⟨I0, Or.inl ⟨rfl, rfl, fun t p h => absurd h (Nat.not_lt_zero _)⟩⟩ (fun n s I => ?_) (fun n i s hi I next => ?_)
  · obtain ⟨x1, rc⟩ := s
    obtain ⟨I1, I2⟩ := I
    refine pk_le B B (fun _ => ?_) (fun h => absurd h (Nat.lt_irrefl _))
    refine ql_0 (fun n i (s : Int32 × (Nat → Int32) × (Nat → Int32)) => wY_sweep_63 post n s.1 (nI i) (nI B) g_nodeMax g_rowMax g_inputMax (nI N) (nI R) g_held g_next g_leftLast g_taken g_prints g_closed b_nodeBlock b_nodeKind b_nodeA b_nodeB b_rowPhi b_rowPred b_rowNode b_endCond b_endYes b_endNo b_heldInput s.2.1 s.2.2 rc b_mark b_lastValue b_pending b_visitCount b_kept) (fun i s => qy_I B N R b_nodeBlock b_nodeKind b_nodeA b_nodeB b_rowNode ro b_endCond b_endYes b_endNo rc s.2.1 s.2.2 ∧ ((s.1 = 0 ∧ rc = b_isReached ∧ s.2.1 = b_factState ∧ s.2.2 = b_factValue ∧ (∀ t p, t < B → p < B → qy_lv b_endCond b_endYes b_endNo b_isReached b_factState b_factValue p t → ¬ b_isReached t = 0) ∧ ∀ m, m < i → ¬ b_isReached (b_nodeBlock m).toNatClampNeg = 0 → qg_R B R b_nodeBlock b_nodeKind b_nodeA b_nodeB b_rowNode ro (qy_lv b_endCond b_endYes b_endNo b_isReached b_factState b_factValue) b_factState b_factValue m (b_factState m) (b_factValue m)) ∨ (s.1 = 1 ∧ qy_M B N rc s.2.1 < qy_M B N b_isReached b_factState))) N (x1, b_factState, b_factValue) ⟨I1, ?_⟩ (fun n s I => ?_) (fun n i s hi I next => ?_)
    · rcases I2 with ⟨a, b, c⟩ | h
      · exact Or.inl ⟨a, b, rfl, rfl, c, fun m h => absurd h (Nat.not_lt_zero _)⟩
      · exact Or.inr h
    · obtain ⟨x1, st, cv⟩ := s
      obtain ⟨J1, J2⟩ := I
      refine pk_le N N (fun _ => ?_) (fun h => absurd h (Nat.lt_irrefl _))
      rcases J2 with ⟨a, b, c, d, e, f⟩ | ⟨a, b⟩
      · have a : x1 = 0 := a
        have c : st = b_factState := c
        have d : cv = b_factValue := d
        subst a b c d
        exact ⟨narrow_b0, K0 ⟨I0.2.1.1, fun p hp h t l => e t p (qg_E_in We hB hp (qg_L_E l)).2 hp ⟨h, l⟩, f⟩⟩
      · have a : x1 = 1 := a
        subst a
        exact ⟨narrow_b1, K1 rc st cv J1 b⟩
    · obtain ⟨x1, st, cv⟩ := s
      obtain ⟨J1, J2⟩ := I
      have J1 : qy_I B N R b_nodeBlock b_nodeKind b_nodeA b_nodeB b_rowNode ro b_endCond b_endYes b_endNo rc st cv := J1
      have hi32 : vp_in (nI i) 32 := vp_in_nI (by omega) (by omega)
      obtain ⟨_, _, ⟨b, hb, eb, _⟩, _⟩ := Wn i hi
      refine pk_le N i (fun h => by omega) (fun _ => ⟨hi32, ?_⟩)
      rw [nI_clamp (show i < 2 ^ 31 by omega)]
      refine ⟨by rw [eb]; exact vp_in_nI (by omega) (by omega), br_c (fun r0 y ey => ?_) (fun r0 => ?_)⟩
      · subst ey
        rw [nI_1]
        refine next (x1, st, cv) ⟨J1, ?_⟩
        rcases J2 with ⟨a, b, c, d, e, f⟩ | h
        · refine Or.inl ⟨a, b, c, d, e, fun m hm hr => ?_⟩
          by_cases z : m = i
          · subst z; rw [← b] at hr; exact absurd r0 hr
          · exact f m (by omega) hr
        · exact Or.inr h
      · refine yc_rule hB hN hR We Wn Wr J1.1 hi (fun c s v s3 nf hr hl hc => ?_)
        have J' := qy_node hB hN We Wn Wr J1 hi r0 s3 nf hr hl
        have le := J1.2.2.1 i hi s v hr
        have big : ¬ (s = st i ∧ v = cv i) → qy_M B N rc (upd st i s) < qy_M B N rc st := fun h => by
          refine qy_M_node J1.1 hi s3 le fun e => h ⟨e, ?_⟩
          rcases le with l | l | ⟨_, _, l⟩
          · rw [nf (by rw [e, l]; decide), (J1.1.2 i hi).2 (by rw [l]; decide)]
          · rw [nf (by rw [l]; decide), (J1.1.2 i hi).2 (by rw [← e, l]; decide)]
          · exact l.symm
        refine br_c (fun c0 y ey => ?_) (fun c0 y ey => ?_)
        · subst ey
          rw [nI_1]
          have hc' : s = st i ∧ v = cv i := by
            rcases hc with ⟨_, h⟩ | ⟨h, _⟩
            · exact h
            · exact absurd (h.symm.trans c0) qp_10
          obtain ⟨h1, h2⟩ := hc'
          have e1 : upd st i s = st := by rw [h1]; exact qn_upd_id
          have e2 : upd cv i v = cv := by rw [h2]; exact qn_upd_id
          rw [e1, e2]
          refine next (x1, st, cv) ⟨J1, ?_⟩
          rcases J2 with ⟨a, b, c, d, e, f⟩ | h
          · refine Or.inl ⟨a, b, c, d, e, fun m hm hrm => ?_⟩
            by_cases z : m = i
            · subst z
              have c : st = b_factState := c
              have d : cv = b_factValue := d
              rw [h1, h2] at hr
              subst b c d
              exact hr
            · exact f m (by omega) hrm
          · exact Or.inr h
        · subst ey
          rw [nI_1]
          have hc' : ¬ (s = st i ∧ v = cv i) := by
            rcases hc with ⟨h, _⟩ | ⟨_, h⟩
            · exact absurd h c0
            · exact h
          refine next (1, upd st i s, upd cv i v) ⟨J', Or.inr ⟨rfl, ?_⟩⟩
          have lt := big hc'
          show qy_M B N rc (upd st i s) < _
          rcases J2 with ⟨_, b, c, _⟩ | ⟨_, h⟩
          · have c : st = b_factState := c
            rw [← b, ← c]; exact lt
          · exact Nat.lt_trans lt h
  · obtain ⟨x1, rc⟩ := s
    obtain ⟨I1, I2⟩ := I
    have hi24 : vp_in (nI i) 24 := vp_in_nI (by omega) (by omega)
    refine pk_le B i (fun h => by omega) (fun _ => ?_)
    refine ql_0 (fun n' j (s : Int32 × (Nat → Int32)) => wY_sweep_14 post (wY_sweep_4 post (nI B) g_nodeMax g_rowMax g_inputMax (nI N) (nI R) g_held g_next g_leftLast g_taken g_prints g_closed n) (nI i) (nI B) g_nodeMax g_rowMax g_inputMax (nI N) (nI R) g_held g_next g_leftLast g_taken g_prints g_closed n' s.1 (nI j) b_nodeBlock b_nodeKind b_nodeA b_nodeB b_rowPhi b_rowPred b_rowNode b_endCond b_endYes b_endNo b_heldInput b_factState b_factValue s.2 b_mark b_lastValue b_pending b_visitCount b_kept) (fun j s => qy_I B N R b_nodeBlock b_nodeKind b_nodeA b_nodeB b_rowNode ro b_endCond b_endYes b_endNo s.2 b_factState b_factValue ∧ ((s.1 = 0 ∧ s.2 = b_isReached ∧ (∀ t p, t < i → p < B → qy_lv b_endCond b_endYes b_endNo b_isReached b_factState b_factValue p t → ¬ b_isReached t = 0) ∧ (∀ p, p < j → qy_lv b_endCond b_endYes b_endNo b_isReached b_factState b_factValue p i → ¬ b_isReached i = 0)) ∨ (s.1 = 1 ∧ qy_M B N s.2 b_factState < qy_M B N b_isReached b_factState))) B (x1, rc) ⟨I1, ?_⟩ (fun n' s I' => ?_) (fun n' j s hj I' next' => ?_)
    · rcases I2 with ⟨a, b, c⟩ | h
      · exact Or.inl ⟨a, b, c, fun m h => absurd h (Nat.not_lt_zero _)⟩
      · exact Or.inr h
    · obtain ⟨x1, rc⟩ := s
      obtain ⟨J1, J2⟩ := I'
      refine pk_le B B (fun _ y ey => ?_) (fun h => absurd h (Nat.lt_irrefl _))
      subst ey
      rw [nI_1]
      refine next (x1, rc) ⟨J1, ?_⟩
      rcases J2 with ⟨a, b, c, d⟩ | h
      · refine Or.inl ⟨a, b, fun t p ht hp l => ?_⟩
        by_cases z : t = i
        · subst z; exact d p hp l
        · exact c t p (by omega) hp l
      · exact Or.inr h
    · obtain ⟨x1, rc⟩ := s
      obtain ⟨J1, J2⟩ := I'
      have J1 : qy_I B N R b_nodeBlock b_nodeKind b_nodeA b_nodeB b_rowNode ro b_endCond b_endYes b_endNo rc b_factState b_factValue := J1
      have skip : (rc i = 0 → ¬ qy_lv b_endCond b_endYes b_endNo rc b_factState b_factValue j i) → wY_sweep_14 post (wY_sweep_4 post (nI B) g_nodeMax g_rowMax g_inputMax (nI N) (nI R) g_held g_next g_leftLast g_taken g_prints g_closed n) (nI i) (nI B) g_nodeMax g_rowMax g_inputMax (nI N) (nI R) g_held g_next g_leftLast g_taken g_prints g_closed n' x1 (nI j + 1) b_nodeBlock b_nodeKind b_nodeA b_nodeB b_rowPhi b_rowPred b_rowNode b_endCond b_endYes b_endNo b_heldInput b_factState b_factValue rc b_mark b_lastValue b_pending b_visitCount b_kept := fun h => by
        rw [nI_1]
        refine next' (x1, rc) ⟨J1, ?_⟩
        rcases J2 with ⟨a, b, c, d⟩ | h'
        · refine Or.inl ⟨a, b, c, fun p hp l => ?_⟩
          by_cases z : p = j
          · subst z
            have b : rc = b_isReached := b
            rw [b] at h
            exact fun q => h q l
          · exact d p (by omega) l
        · exact Or.inr h'
      refine pk_le B j (fun h => by omega) (fun _ => ⟨hi24, ?_⟩)
      rw [nI_clamp (show i < 2 ^ 31 by omega)]
      refine br_c (fun r0 => ?_) (fun r0 y ey => ?_)
      · refine ya_edgeLive hB hN We h3 hj (by omega) (fun l => br_f (by decide) ⟨hi24, fun rc' erc y ey => ?_⟩) (fun l => br_t rfl fun y ey => ?_)
        · have erc : rc' = upd rc i 1 := by rw [erc, ya_b1]
          subst erc ey
          rw [nI_1]
          refine next' (1, upd rc i 1) ⟨qy_reach hN We J1 hj l, Or.inr ⟨rfl, ?_⟩⟩
          have lt := qy_M_reach (N := N) (st := b_factState) hi r0
          show qy_M B N (upd rc i 1) b_factState < _
          rcases J2 with ⟨_, b, _⟩ | ⟨_, h⟩
          · have b : rc = b_isReached := b
            rw [← b]; exact lt
          · exact Nat.lt_trans lt h
        · subst ey; exact skip fun _ => l
      · subst ey; exact skip fun h => absurd h r0
theorem yd_loop {post : Int32 → SY → Prop} (hB : B ≤ 24) (hN : N ≤ 32) (hR : R ≤ 48) (We : qg_We B N b_endCond b_endYes b_endNo) (Wn : qg_Wn B N b_nodeBlock b_nodeKind b_nodeA b_nodeB) (Wr : qg_Wr B N R b_nodeKind b_rowPhi b_rowPred b_rowNode ro) (K : ∀ rc st cv : Nat → Int32, qy_I B N R b_nodeBlock b_nodeKind b_nodeA b_nodeB b_rowNode ro b_endCond b_endYes b_endNo rc st cv → qg_C B N R b_nodeBlock b_nodeKind b_nodeA b_nodeB b_rowNode ro b_endCond b_endYes b_endNo (fun t => ¬ rc t = 0) st cv → wY_seal_66 post (nI B) g_nodeMax g_rowMax g_inputMax (nI N) (nI R) g_held g_next g_leftLast g_taken g_prints g_closed b_nodeBlock b_nodeKind b_nodeA b_nodeB b_rowPhi b_rowPred b_rowNode b_endCond b_endYes b_endNo b_heldInput st cv rc b_mark b_lastValue b_pending b_visitCount b_kept) : ∀ (n i : Nat) (c : Int32) (rc st cv : Nat → Int32), qy_I B N R b_nodeBlock b_nodeKind b_nodeA b_nodeB b_rowNode ro b_endCond b_endYes b_endNo rc st cv → i ≤ 100 → ((c = 0 ∧ qg_C B N R b_nodeBlock b_nodeKind b_nodeA b_nodeB b_rowNode ro b_endCond b_endYes b_endNo (fun t => ¬ rc t = 0) st cv ∧ 0 < n) ∨ (c = 1 ∧ qy_M B N rc st + i ≤ 99 ∧ qy_M B N rc st + 1 < n)) → wY_seal_45 post n c (nI i) (nI B) g_nodeMax g_rowMax g_inputMax (nI N) (nI R) g_held g_next g_leftLast g_taken g_prints g_closed b_nodeBlock b_nodeKind b_nodeA b_nodeB b_rowPhi b_rowPred b_rowNode b_endCond b_endYes b_endNo b_heldInput st cv rc b_mark b_lastValue b_pending b_visitCount b_kept := by
  intro n
  induction n with
  | zero => intro i c rc st cv _ _ h; rcases h with ⟨_, _, h⟩ | ⟨_, _, h⟩ <;> omega
  | succ n ih =>
    intro i c rc st cv I hi h
    rcases h with ⟨c0, C, _⟩ | ⟨c1, hM, hn⟩
    · exact br_c (fun _ => K rc st cv I C) (fun _ => br_t c0 (K rc st cv I C))
    · refine pk_le 100 i (fun h => by omega) (fun _ => br_f (by rw [c1]; decide) ?_)
      refine yd_sweep hB hN hR We Wn Wr I (fun C y ey => ?_) (fun rc' st' cv' I' lt y ey => ?_)
      · subst ey
        rw [nI_1]
        exact ih (i + 1) 0 rc st cv I (by omega) (Or.inl ⟨rfl, C, by omega⟩)
      · subst ey
        rw [nI_1]
        exact ih (i + 1) 1 rc' st' cv' I' (by omega) (Or.inr ⟨rfl, by omega, by omega⟩)
theorem yd_start {post : Int32 → SY → Prop} (hB : B ≤ 24) (hN : N ≤ 32) {x : Int32} (hs : ¬ g_closed = 0) (hv : ∀ b, B ≤ b → b_visitCount b = 0) (hl : ∀ n, N ≤ n → b_lastValue n = 0) (K : post 0 (nI B, g_nodeMax, g_rowMax, g_inputMax, nI N, nI R, if x = 0 then g_held else 0, 0, -1, 0, 0, g_closed, b_nodeBlock, b_nodeKind, b_nodeA, b_nodeB, b_rowPhi, b_rowPred, b_rowNode, b_endCond, b_endYes, b_endNo, b_heldInput, b_factState, b_factValue, b_isReached, b_mark, (fun _ => 0), b_pending, (fun _ => 0), b_kept)) : wpY_start post (nI B, g_nodeMax, g_rowMax, g_inputMax, nI N, nI R, g_held, g_next, g_leftLast, g_taken, g_prints, g_closed, b_nodeBlock, b_nodeKind, b_nodeA, b_nodeB, b_rowPhi, b_rowPred, b_rowNode, b_endCond, b_endYes, b_endNo, b_heldInput, b_factState, b_factValue, b_isReached, b_mark, b_lastValue, b_pending, b_visitCount, b_kept) x := by
  refine br_f hs ?_
  refine ql_0 (fun n i vc => wY_start_32 post x (nI B) g_nodeMax g_rowMax g_inputMax (nI N) (nI R) g_held 0 (-1) 0 0 g_closed n (nI i) b_nodeBlock b_nodeKind b_nodeA b_nodeB b_rowPhi b_rowPred b_rowNode b_endCond b_endYes b_endNo b_heldInput b_factState b_factValue b_isReached b_mark b_lastValue b_pending vc b_kept) (fun i vc => (∀ b, b < i → vc b = 0) ∧ ∀ b, 24 ≤ b → vc b = 0) 24 b_visitCount ⟨fun b h => absurd h (Nat.not_lt_zero _), fun b hb => hv b (by omega)⟩ (fun n vc I => ?_) (fun n i vc hi I next => ?_)
  · refine pk_le 24 24 (fun _ => ?_) (fun h => absurd h (Nat.lt_irrefl _))
    have evc : vc = fun _ => 0 := funext fun b => by
      rcases Nat.lt_or_ge b 24 with z | z
      · exact I.1 b z
      · exact I.2 b z
    subst evc
    refine ql_0 (fun n i lv => wY_start_53 post x (nI B) g_nodeMax g_rowMax g_inputMax (nI N) (nI R) g_held 0 (-1) 0 0 g_closed n (nI i) b_nodeBlock b_nodeKind b_nodeA b_nodeB b_rowPhi b_rowPred b_rowNode b_endCond b_endYes b_endNo b_heldInput b_factState b_factValue b_isReached b_mark lv b_pending ((fun _ => 0)) b_kept) (fun i lv => (∀ b, b < i → lv b = 0) ∧ ∀ b, 32 ≤ b → lv b = 0) 32 b_lastValue ⟨fun b h => absurd h (Nat.not_lt_zero _), fun b hb => hl b (by omega)⟩ (fun n lv I => ?_) (fun n i lv hi I next => ?_)
    · have elv : lv = fun _ => 0 := funext fun b => by
        rcases Nat.lt_or_ge b 32 with z | z
        · exact I.1 b z
        · exact I.2 b z
      subst elv
      refine pk_le 32 32 (fun _ => br_c (fun z => ?_) (fun z => ?_)) (fun h => absurd h (Nat.lt_irrefl _))
      · rw [if_pos z] at K; exact K
      · rw [if_neg z] at K; exact K
    · refine pk_le 32 i (fun h => by omega) (fun _ => ⟨vp_in_nI (by omega) (by omega), fun lv' elv y ey => ?_⟩)
      rw [nI_clamp (by omega)] at elv
      subst elv ey
      rw [nI_1]
      refine next _ ⟨fun b hb => ?_, fun b hb => ?_⟩
      · by_cases z : b = i
        · subst z; exact pk_us
        · rw [pk_un z]; exact I.1 b (by omega)
      · rw [pk_un (by omega)]; exact I.2 b hb
  · refine pk_le 24 i (fun h => by omega) (fun _ => ⟨vp_in_nI (by omega) (by omega), fun lv' elv y ey => ?_⟩)
    rw [nI_clamp (by omega)] at elv
    subst elv ey
    rw [nI_1]
    refine next _ ⟨fun b hb => ?_, fun b hb => ?_⟩
    · by_cases z : b = i
      · subst z; exact pk_us
      · rw [pk_un z]; exact I.1 b (by omega)
    · rw [pk_un (by omega)]; exact I.2 b hb
end
end
section
/-! the relation of the two states: fed (near equality) or sealed (the component's graph reduced by the common facts) -/
def zz_O (B NL RL HL N R H : Nat) (pm : Int32) (hm kd fa fb rp rq rv ro ec ey en ni us br nd : Nat → Int32) : Prop := (2 ≤ B ∧ B ≤ 24 ∧ N ≤ NL ∧ NL ≤ 32 ∧ R ≤ RL ∧ RL ≤ 48 ∧ H ≤ HL ∧ HL ≤ 16) ∧ qg_We B N ec ey en ∧ qg_Wn B N hm kd fa fb ∧ qg_Wr B N R kd rp rq rv ro ∧ qg_Wu N R kd fa fb rp rv us ∧ qg_Wi B N hm ni ∧ qg_Wp N kd pm ∧ qg_Wb B ec br ∧ qg_Wd N hm kd fa fb nd
/-- the paper of the component and the kept prints of the reference -/
def zz_P (P : Nat) (pp kp : Nat → Int32) : Prop := ∀ i, i < P → P ≤ i + 32 → pp (i % 32) = kp (i + 32 - P)
/-- what holds once and for all after sealing -/
def zz_G (B NL RL HL N R H : Nat) (pm rm : Int32) (hm kd fa fb rp rq rv ro ec ey en ni lo st cv rc : Nat → Int32) : Prop := (2 ≤ B ∧ B ≤ 24 ∧ N ≤ NL ∧ NL ≤ 32 ∧ R ≤ RL ∧ RL ≤ 48 ∧ H ≤ HL ∧ HL ≤ 16) ∧ qg_We B N ec ey en ∧ qg_Wn B N hm kd fa fb ∧ qg_Wr B N R kd rp rq rv ro ∧ qg_Wi B N hm ni ∧ (∀ i, i < 32 → (bt pm i = true ↔ i < N ∧ qr_k N st kd i = 0)) ∧ qs_F N st cv ∧ qg_C B N R hm kd fa fb rv ro ec ey en (fun t => ¬ rc t = 0) st cv ∧ (∀ t, t < B → (bt rm t = true ↔ ¬ rc t = 0)) ∧ (∀ p t, p < B → t < 32 → (bt (lo p) t = true ↔ bt rm p = true ∧ qg_L ec ey en st cv p t)) ∧ qd_P B N hm kd ro ec ey en ∧ qd_D B N R hm kd fa fb rq rv ec ey en
/-- the run since the start: E are the blocks executed -/
def zz_D (B N : Nat) (nx lf : Int32) (hm ec ey en st cv rc lv : Nat → Int32) (E : Nat → Prop) : Prop := (nx = -1 ∨ ∃ c, c < B ∧ nx = nI c ∧ ¬ rc c = 0 ∧ (∀ x, x < B → ¬ qd_A B ec ey en x c → x = c ∨ E x) ∧ ((lf = -1 ∧ c = 0) ∨ ∃ p, p < B ∧ lf = nI p ∧ ¬ rc p = 0 ∧ qg_L ec ey en st cv p c ∧ ∀ x, x < B → ¬ qd_A B ec ey en x p → E x)) ∧ (∀ n, n < N → E (hm n).toNatClampNeg → qp_al (st n) (cv n) (lv n))
def zz_S (k : Nat) (B NL RL HL N R H T P : Nat) (pm rm nx lf : Int32) (hm kd fa fb rp rq rv ro ec ey en ni lo st cv pp lv vc rc kp : Nat → Int32) : Prop := zz_G B NL RL HL N R H pm rm hm kd fa fb rp rq rv ro ec ey en ni lo st cv rc ∧ (∀ b, B ≤ b → vc b = 0) ∧ (∀ n, N ≤ n → lv n = 0) ∧ T ≤ H ∧ P ≤ 1024 * k ∧ zz_P P pp kp ∧ ∃ E, zz_D B N nx lf hm ec ey en st cv rc lv E
def i_Rel (k : Nat) (u : SX) (v : SY) : Prop :=
  (∃ (B NL RL HL N R H : Nat) (pm fs fv t1 t2 t3 t4 s1 s2 s3 s4 : Int32) (hm kd fa fb rp rq rv ro ec ey en ni ed dm us br nd hd pp ic mk pd kp : Nat → Int32), u = (nI B, nI NL, nI RL, nI HL, 0, nI N, nI R, pm, 0, 0, 0, fs, fv, nI H, t1, t2, t3, t4, hm, kd, fa, fb, rp, rq, rv, ro, ec, ey, en, ni, ed, dm, (fun _ => 0), us, br, nd, (fun _ => 0), (fun _ => 0), hd, pp, (fun _ => 0), ic, (fun _ => 0)) ∧ v = (nI B, nI NL, nI RL, nI HL, nI N, nI R, nI H, s1, s2, s3, s4, 0, hm, kd, fa, fb, rp, rq, rv, ec, ey, en, hd, (fun _ => 0), (fun _ => 0), (fun _ => 0), mk, (fun _ => 0), pd, (fun _ => 0), kp) ∧ zz_O B NL RL HL N R H pm hm kd fa fb rp rq rv ro ec ey en ni us br nd) ∨
  (∃ (B NL RL HL N R H T P : Nat) (pm rm fs fv nx lf : Int32) (hm kd fa fb rp rq rv ro ec ey en ni ed dm lo us br nd st cv hd pp lv ic vc rc mk pd kp : Nat → Int32), u = (nI B, nI NL, nI RL, nI HL, 1, nI N, nI R, pm, rm, 0, 0, fs, fv, nI H, nI T, nI P, nx, lf, hm, qr_k N st kd, qr_a N st cv kd fa, qr_b N st kd fb, rp, rq, rv, ro, qr_c B st ec, qr_y B st cv ec ey en, qr_n B st ec en, ni, ed, dm, lo, us, br, nd, st, cv, hd, pp, lv, ic, vc) ∧ v = (nI B, nI NL, nI RL, nI HL, nI N, nI R, nI H, nx, lf, nI T, nI P, 1, hm, kd, fa, fb, rp, rq, rv, ec, ey, en, hd, st, cv, rc, mk, lv, pd, vc, kp) ∧ zz_S k B NL RL HL N R H T P pm rm nx lf hm kd fa fb rp rq rv ro ec ey en ni lo st cv pp lv vc rc kp)
theorem zz_inO {k : Nat} {B NL RL HL N R H : Nat} {pm fs fv t1 t2 t3 t4 s1 s2 s3 s4 : Int32} {hm kd fa fb rp rq rv ro ec ey en ni ed dm us br nd hd pp ic mk pd kp : Nat → Int32} (h : zz_O B NL RL HL N R H pm hm kd fa fb rp rq rv ro ec ey en ni us br nd) : i_Rel k (nI B, nI NL, nI RL, nI HL, 0, nI N, nI R, pm, 0, 0, 0, fs, fv, nI H, t1, t2, t3, t4, hm, kd, fa, fb, rp, rq, rv, ro, ec, ey, en, ni, ed, dm, (fun _ => 0), us, br, nd, (fun _ => 0), (fun _ => 0), hd, pp, (fun _ => 0), ic, (fun _ => 0)) (nI B, nI NL, nI RL, nI HL, nI N, nI R, nI H, s1, s2, s3, s4, 0, hm, kd, fa, fb, rp, rq, rv, ec, ey, en, hd, (fun _ => 0), (fun _ => 0), (fun _ => 0), mk, (fun _ => 0), pd, (fun _ => 0), kp) := Or.inl ⟨B, NL, RL, HL, N, R, H, pm, fs, fv, t1, t2, t3, t4, s1, s2, s3, s4, hm, kd, fa, fb, rp, rq, rv, ro, ec, ey, en, ni, ed, dm, us, br, nd, hd, pp, ic, mk, pd, kp, rfl, rfl, h⟩
theorem zz_inS {k : Nat} {B NL RL HL N R H T P : Nat} {pm rm fs fv nx lf : Int32} {hm kd fa fb rp rq rv ro ec ey en ni ed dm lo us br nd st cv hd pp lv ic vc rc mk pd kp : Nat → Int32} (h : zz_S k B NL RL HL N R H T P pm rm nx lf hm kd fa fb rp rq rv ro ec ey en ni lo st cv pp lv vc rc kp) : i_Rel k (nI B, nI NL, nI RL, nI HL, 1, nI N, nI R, pm, rm, 0, 0, fs, fv, nI H, nI T, nI P, nx, lf, hm, qr_k N st kd, qr_a N st cv kd fa, qr_b N st kd fb, rp, rq, rv, ro, qr_c B st ec, qr_y B st cv ec ey en, qr_n B st ec en, ni, ed, dm, lo, us, br, nd, st, cv, hd, pp, lv, ic, vc) (nI B, nI NL, nI RL, nI HL, nI N, nI R, nI H, nx, lf, nI T, nI P, 1, hm, kd, fa, fb, rp, rq, rv, ec, ey, en, hd, st, cv, rc, mk, lv, pd, vc, kp) := Or.inr ⟨B, NL, RL, HL, N, R, H, T, P, pm, rm, fs, fv, nx, lf, hm, kd, fa, fb, rp, rq, rv, ro, ec, ey, en, ni, ed, dm, lo, us, br, nd, st, cv, hd, pp, lv, ic, vc, rc, mk, pd, kp, rfl, rfl, h⟩
theorem zz_el {k : Nat} {Q : SX → SY → Prop} (hO : ∀ (B NL RL HL N R H : Nat) (pm fs fv t1 t2 t3 t4 s1 s2 s3 s4 : Int32) (hm kd fa fb rp rq rv ro ec ey en ni ed dm us br nd hd pp ic mk pd kp : Nat → Int32), zz_O B NL RL HL N R H pm hm kd fa fb rp rq rv ro ec ey en ni us br nd → Q (nI B, nI NL, nI RL, nI HL, 0, nI N, nI R, pm, 0, 0, 0, fs, fv, nI H, t1, t2, t3, t4, hm, kd, fa, fb, rp, rq, rv, ro, ec, ey, en, ni, ed, dm, (fun _ => 0), us, br, nd, (fun _ => 0), (fun _ => 0), hd, pp, (fun _ => 0), ic, (fun _ => 0)) (nI B, nI NL, nI RL, nI HL, nI N, nI R, nI H, s1, s2, s3, s4, 0, hm, kd, fa, fb, rp, rq, rv, ec, ey, en, hd, (fun _ => 0), (fun _ => 0), (fun _ => 0), mk, (fun _ => 0), pd, (fun _ => 0), kp)) (hS : ∀ (B NL RL HL N R H T P : Nat) (pm rm fs fv nx lf : Int32) (hm kd fa fb rp rq rv ro ec ey en ni ed dm lo us br nd st cv hd pp lv ic vc rc mk pd kp : Nat → Int32), zz_S k B NL RL HL N R H T P pm rm nx lf hm kd fa fb rp rq rv ro ec ey en ni lo st cv pp lv vc rc kp → Q (nI B, nI NL, nI RL, nI HL, 1, nI N, nI R, pm, rm, 0, 0, fs, fv, nI H, nI T, nI P, nx, lf, hm, qr_k N st kd, qr_a N st cv kd fa, qr_b N st kd fb, rp, rq, rv, ro, qr_c B st ec, qr_y B st cv ec ey en, qr_n B st ec en, ni, ed, dm, lo, us, br, nd, st, cv, hd, pp, lv, ic, vc) (nI B, nI NL, nI RL, nI HL, nI N, nI R, nI H, nx, lf, nI T, nI P, 1, hm, kd, fa, fb, rp, rq, rv, ec, ey, en, hd, st, cv, rc, mk, lv, pd, vc, kp)) {u : SX} {v : SY} (I : i_Rel k u v) : Q u v := by
  refine Or.elim I ?_ ?_
  · exact fun I => I.elim fun B I => I.elim fun NL I => I.elim fun RL I => I.elim fun HL I => I.elim fun N I => I.elim fun R I => I.elim fun H I => I.elim fun pm I => I.elim fun fs I => I.elim fun fv I => I.elim fun t1 I => I.elim fun t2 I => I.elim fun t3 I => I.elim fun t4 I => I.elim fun s1 I => I.elim fun s2 I => I.elim fun s3 I => I.elim fun s4 I => I.elim fun hm I => I.elim fun kd I => I.elim fun fa I => I.elim fun fb I => I.elim fun rp I => I.elim fun rq I => I.elim fun rv I => I.elim fun ro I => I.elim fun ec I => I.elim fun ey I => I.elim fun en I => I.elim fun ni I => I.elim fun ed I => I.elim fun dm I => I.elim fun us I => I.elim fun br I => I.elim fun nd I => I.elim fun hd I => I.elim fun pp I => I.elim fun ic I => I.elim fun mk I => I.elim fun pd I => I.elim fun kp I => by
        obtain ⟨e1, e2, h⟩ := I
        subst e1 e2
        exact hO B NL RL HL N R H pm fs fv t1 t2 t3 t4 s1 s2 s3 s4 hm kd fa fb rp rq rv ro ec ey en ni ed dm us br nd hd pp ic mk pd kp h
  · exact fun I => I.elim fun B I => I.elim fun NL I => I.elim fun RL I => I.elim fun HL I => I.elim fun N I => I.elim fun R I => I.elim fun H I => I.elim fun T I => I.elim fun P I => I.elim fun pm I => I.elim fun rm I => I.elim fun fs I => I.elim fun fv I => I.elim fun nx I => I.elim fun lf I => I.elim fun hm I => I.elim fun kd I => I.elim fun fa I => I.elim fun fb I => I.elim fun rp I => I.elim fun rq I => I.elim fun rv I => I.elim fun ro I => I.elim fun ec I => I.elim fun ey I => I.elim fun en I => I.elim fun ni I => I.elim fun ed I => I.elim fun dm I => I.elim fun lo I => I.elim fun us I => I.elim fun br I => I.elim fun nd I => I.elim fun st I => I.elim fun cv I => I.elim fun hd I => I.elim fun pp I => I.elim fun lv I => I.elim fun ic I => I.elim fun vc I => I.elim fun rc I => I.elim fun mk I => I.elim fun pd I => I.elim fun kp I => by
        obtain ⟨e1, e2, h⟩ := I
        subst e1 e2
        exact hS B NL RL HL N R H T P pm rm fs fv nx lf hm kd fa fb rp rq rv ro ec ey en ni ed dm lo us br nd st cv hd pp lv ic vc rc mk pd kp h
theorem zz_up {k j : Nat} (hk : k ≤ j) {B NL RL HL N R H T P : Nat} {pm rm nx lf : Int32} {hm kd fa fb rp rq rv ro ec ey en ni lo st cv pp lv vc rc kp : Nat → Int32} (h : zz_S k B NL RL HL N R H T P pm rm nx lf hm kd fa fb rp rq rv ro ec ey en ni lo st cv pp lv vc rc kp) : zz_S j B NL RL HL N R H T P pm rm nx lf hm kd fa fb rp rq rv ro ec ey en ni lo st cv pp lv vc rc kp := by
  obtain ⟨a, b, c, d, e, f⟩ := h
  exact ⟨a, b, c, d, Nat.le_trans e (Nat.mul_le_mul_left _ hk), f⟩
theorem i_up {k : Nat} {u : SX} {v : SY} (h : i_Rel k u v) : i_Rel (k + 5) u v := by
  refine zz_el (Q := fun u v => i_Rel (k + 5) u v) ?_ ?_ h
  · intro B NL RL HL N R H pm fs fv t1 t2 t3 t4 s1 s2 s3 s4 hm kd fa fb rp rq rv ro ec ey en ni ed dm us br nd hd pp ic mk pd kp h
    exact zz_inO h
  · intro B NL RL HL N R H T P pm rm fs fv nx lf hm kd fa fb rp rq rv ro ec ey en ni ed dm lo us br nd st cv hd pp lv ic vc rc mk pd kp h
    exact zz_inS (zz_up (by omega) h)
end
section
/-! the constructors and the questions -/

theorem zc_clamp (x : Int32) (a b : Nat) (hab : a ≤ b) (hb : b < 2 ^ 31) : ∃ j, a ≤ j ∧ j ≤ b ∧ (∀ (post : Int32 → Prop) (u : SX), post (nI j) → wpX_clamp post u x (nI a) (nI b)) ∧ (∀ (post : Int32 → Prop) (u : SY), post (nI j) → wpY_clamp post u x (nI a) (nI b)) := by
  by_cases h1 : nI a ≤ x
  · have h0 : ¬ x < 0 := fun z => absurd (Int32.lt_of_le_of_lt h1 z) (nI_pos (by omega))
    obtain ⟨j, hj, rfl⟩ := nI_of h0
    rw [nI_leI (by omega) hj] at h1
    by_cases h2 : nI j ≤ nI b
    · refine ⟨j, h1, (nI_leI hj hb).mp h2, fun post u h => ?_, fun post u h => ?_⟩
      · obtain ⟨f_blockCount, f_nodeLimit, f_rowLimit, f_heldLimit, f_isSealed, f_nodeCount, f_rowCount, f_phiMask, f_reachedMask, f_pendingNodes, f_pendingEnds, f_foundState, f_foundValue, f_heldCount, f_taken, f_prints, f_nextBlock, f_leftBlock, a_home, a_kinds, a_fieldA, a_fieldB, a_rowPhi, a_rowPred, a_rowValue, a_rowOf, a_endCond, a_endYes, a_endNo, a_nodesIn, a_edges, a_dom, a_liveOut, a_users, a_branchers, a_needs, a_states, a_constants, a_held, a_paper, a_lastValue, a_incoming, a_visitCount⟩ := u
        exact br_t (nI_le h1 hj) (br_t h2 h)
      · obtain ⟨g_blockCount, g_nodeMax, g_rowMax, g_inputMax, g_nodeCount, g_rowCount, g_held, g_next, g_leftLast, g_taken, g_prints, g_closed, b_nodeBlock, b_nodeKind, b_nodeA, b_nodeB, b_rowPhi, b_rowPred, b_rowNode, b_endCond, b_endYes, b_endNo, b_heldInput, b_factState, b_factValue, b_isReached, b_mark, b_lastValue, b_pending, b_visitCount, b_kept⟩ := u
        exact br_t (nI_le h1 hj) (br_t h2 h)
    · refine ⟨b, hab, Nat.le_refl _, fun post u h => ?_, fun post u h => ?_⟩
      · obtain ⟨f_blockCount, f_nodeLimit, f_rowLimit, f_heldLimit, f_isSealed, f_nodeCount, f_rowCount, f_phiMask, f_reachedMask, f_pendingNodes, f_pendingEnds, f_foundState, f_foundValue, f_heldCount, f_taken, f_prints, f_nextBlock, f_leftBlock, a_home, a_kinds, a_fieldA, a_fieldB, a_rowPhi, a_rowPred, a_rowValue, a_rowOf, a_endCond, a_endYes, a_endNo, a_nodesIn, a_edges, a_dom, a_liveOut, a_users, a_branchers, a_needs, a_states, a_constants, a_held, a_paper, a_lastValue, a_incoming, a_visitCount⟩ := u
        exact br_t (nI_le h1 hj) (br_f h2 h)
      · obtain ⟨g_blockCount, g_nodeMax, g_rowMax, g_inputMax, g_nodeCount, g_rowCount, g_held, g_next, g_leftLast, g_taken, g_prints, g_closed, b_nodeBlock, b_nodeKind, b_nodeA, b_nodeB, b_rowPhi, b_rowPred, b_rowNode, b_endCond, b_endYes, b_endNo, b_heldInput, b_factState, b_factValue, b_isReached, b_mark, b_lastValue, b_pending, b_visitCount, b_kept⟩ := u
        exact br_t (nI_le h1 hj) (br_f h2 h)
  · refine ⟨a, Nat.le_refl _, hab, fun post u h => ?_, fun post u h => ?_⟩
    · obtain ⟨f_blockCount, f_nodeLimit, f_rowLimit, f_heldLimit, f_isSealed, f_nodeCount, f_rowCount, f_phiMask, f_reachedMask, f_pendingNodes, f_pendingEnds, f_foundState, f_foundValue, f_heldCount, f_taken, f_prints, f_nextBlock, f_leftBlock, a_home, a_kinds, a_fieldA, a_fieldB, a_rowPhi, a_rowPred, a_rowValue, a_rowOf, a_endCond, a_endYes, a_endNo, a_nodesIn, a_edges, a_dom, a_liveOut, a_users, a_branchers, a_needs, a_states, a_constants, a_held, a_paper, a_lastValue, a_incoming, a_visitCount⟩ := u
      exact br_f h1 h
    · obtain ⟨g_blockCount, g_nodeMax, g_rowMax, g_inputMax, g_nodeCount, g_rowCount, g_held, g_next, g_leftLast, g_taken, g_prints, g_closed, b_nodeBlock, b_nodeKind, b_nodeA, b_nodeB, b_rowPhi, b_rowPred, b_rowNode, b_endCond, b_endYes, b_endNo, b_heldInput, b_factState, b_factValue, b_isReached, b_mark, b_lastValue, b_pending, b_visitCount, b_kept⟩ := u
      exact br_f h1 h
def zc_e (b : Nat) : Int32 := if b < 24 then -2 else 0
theorem zc_eq {e : Nat → Int32} (h1 : ∀ b, b < 24 → e b = -2) (h2 : ∀ b, 24 ≤ b → e b = 0) : e = zc_e := funext fun b => by
  unfold zc_e
  by_cases z : b < 24
  · rw [if_pos z]; exact h1 b z
  · rw [if_neg z]; exact h2 b (by omega)
theorem zc_X {post : SX → Prop} {r1 r2 r3 r4 : Int32} (K : post (r1, r2, r3, r4, 0, 0, 0, 0, 0, 0, 0, 0, 0, 0, 0, 0, 0, 0, (fun _ => 0), (fun _ => 0), (fun _ => 0), (fun _ => 0), (fun _ => 0), (fun _ => 0), (fun _ => 0), (fun _ => 0), zc_e, (fun _ => 0), (fun _ => 0), (fun _ => 0), (fun _ => 0), (fun _ => 0), (fun _ => 0), (fun _ => 0), (fun _ => 0), (fun _ => 0), (fun _ => 0), (fun _ => 0), (fun _ => 0), (fun _ => 0), (fun _ => 0), (fun _ => 0), (fun _ => 0))) : ∃ n, wX_init_257 post r1 r2 r3 r4 0 0 0 0 0 0 0 0 0 0 0 0 0 0 n (nI 0) (fun _ => 0) (fun _ => 0) (fun _ => 0) (fun _ => 0) (fun _ => 0) (fun _ => 0) (fun _ => 0) (fun _ => 0) (fun _ => 0) (fun _ => 0) (fun _ => 0) (fun _ => 0) (fun _ => 0) (fun _ => 0) (fun _ => 0) (fun _ => 0) (fun _ => 0) (fun _ => 0) (fun _ => 0) (fun _ => 0) (fun _ => 0) (fun _ => 0) (fun _ => 0) (fun _ => 0) (fun _ => 0) := by
  refine ql_0 (fun n i e => wX_init_257 post r1 r2 r3 r4 0 0 0 0 0 0 0 0 0 0 0 0 0 0 n (nI i) (fun _ => 0) (fun _ => 0) (fun _ => 0) (fun _ => 0) (fun _ => 0) (fun _ => 0) (fun _ => 0) (fun _ => 0) e (fun _ => 0) (fun _ => 0) (fun _ => 0) (fun _ => 0) (fun _ => 0) (fun _ => 0) (fun _ => 0) (fun _ => 0) (fun _ => 0) (fun _ => 0) (fun _ => 0) (fun _ => 0) (fun _ => 0) (fun _ => 0) (fun _ => 0) (fun _ => 0)) (fun i e => (∀ b, b < i → e b = -2) ∧ ∀ b, 24 ≤ b → e b = 0) 24 (fun _ => 0) ⟨fun b h => absurd h (Nat.not_lt_zero _), fun _ _ => rfl⟩ (fun n e I => ?_) (fun n i e hi I next => ?_)
  · have := zc_eq I.1 I.2
    subst this
    exact pk_le 24 24 (fun _ => K) (fun h => absurd h (Nat.lt_irrefl _))
  · refine pk_le 24 i (fun h => by omega) (fun _ => ⟨vp_in_nI hi (by omega), fun e' ee y ey => ?_⟩)
    rw [nI_clamp (by omega)] at ee
    subst ee ey
    rw [nI_1]
    refine next _ ⟨fun b hb => ?_, fun b hb => ?_⟩
    · by_cases z : b = i
      · subst z; exact pk_us
      · rw [pk_un z]; exact I.1 b (by omega)
    · rw [pk_un (by omega)]; exact I.2 b hb
theorem zc_Y {post : SY → Prop} {r1 r2 r3 r4 : Int32} (K : post (r1, r2, r3, r4, 0, 0, 0, 0, 0, 0, 0, 0, (fun _ => 0), (fun _ => 0), (fun _ => 0), (fun _ => 0), (fun _ => 0), (fun _ => 0), (fun _ => 0), zc_e, (fun _ => 0), (fun _ => 0), (fun _ => 0), (fun _ => 0), (fun _ => 0), (fun _ => 0), (fun _ => 0), (fun _ => 0), (fun _ => 0), (fun _ => 0), (fun _ => 0))) : ∃ n, wY_init_208 post r1 r2 r3 r4 0 0 0 0 0 0 0 0 n (nI 0) (fun _ => 0) (fun _ => 0) (fun _ => 0) (fun _ => 0) (fun _ => 0) (fun _ => 0) (fun _ => 0) (fun _ => 0) (fun _ => 0) (fun _ => 0) (fun _ => 0) (fun _ => 0) (fun _ => 0) (fun _ => 0) (fun _ => 0) (fun _ => 0) (fun _ => 0) (fun _ => 0) (fun _ => 0) := by
  refine ql_0 (fun n i e => wY_init_208 post r1 r2 r3 r4 0 0 0 0 0 0 0 0 n (nI i) (fun _ => 0) (fun _ => 0) (fun _ => 0) (fun _ => 0) (fun _ => 0) (fun _ => 0) (fun _ => 0) e (fun _ => 0) (fun _ => 0) (fun _ => 0) (fun _ => 0) (fun _ => 0) (fun _ => 0) (fun _ => 0) (fun _ => 0) (fun _ => 0) (fun _ => 0) (fun _ => 0)) (fun i e => (∀ b, b < i → e b = -2) ∧ ∀ b, 24 ≤ b → e b = 0) 24 (fun _ => 0) ⟨fun b h => absurd h (Nat.not_lt_zero _), fun _ _ => rfl⟩ (fun n e I => ?_) (fun n i e hi I next => ?_)
  · have := zc_eq I.1 I.2
    subst this
    exact pk_le 24 24 (fun _ => K) (fun h => absurd h (Nat.lt_irrefl _))
  · refine pk_le 24 i (fun h => by omega) (fun _ => ⟨vp_in_nI hi (by omega), fun e' ee y ey => ?_⟩)
    rw [nI_clamp (by omega)] at ee
    subst ee ey
    rw [nI_1]
    refine next _ ⟨fun b hb => ?_, fun b hb => ?_⟩
    · by_cases z : b = i
      · subst z; exact pk_us
      · rw [pk_un z]; exact I.1 b (by omega)
    · rw [pk_un (by omega)]; exact I.2 b hb
theorem zc_O {B NL RL HL : Nat} (h : 2 ≤ B ∧ B ≤ 24 ∧ 0 ≤ NL ∧ NL ≤ 32 ∧ 0 ≤ RL ∧ RL ≤ 48 ∧ 0 ≤ HL ∧ HL ≤ 16) : zz_O B NL RL HL 0 0 0 0 (fun _ => 0) (fun _ => 0) (fun _ => 0) (fun _ => 0) (fun _ => 0) (fun _ => 0) (fun _ => 0) (fun _ => 0) zc_e (fun _ => 0) (fun _ => 0) (fun _ => 0) (fun _ => 0) (fun _ => 0) (fun _ => 0) := by
  have z : ∀ i, bt 0 i = true → False := fun i h => by rw [b_0] at h; cases h
  have e2 : ∀ p, p < B → zc_e p = -2 := fun p hp => if_pos (by omega)
  refine ⟨h, fun p hp => Or.inl (e2 p hp), fun n hn => absurd hn (Nat.not_lt_zero _), ⟨fun r hr => absurd hr (Nat.not_lt_zero _), fun _ _ _ _ => Or.inl rfl⟩, ⟨fun n hn => absurd hn (Nat.not_lt_zero _), fun n hn => absurd hn (Nat.not_lt_zero _), fun m i _ h => (z i h).elim⟩, fun b i _ _ => ⟨fun h => (z i h).elim, fun h => absurd h.1 (Nat.not_lt_zero _)⟩, fun i _ => ⟨fun h => (z i h).elim, fun h => absurd h.1 (Nat.not_lt_zero _)⟩, fun p hp h => ?_, ⟨fun n b hn => absurd hn (Nat.not_lt_zero _), fun _ _ => rfl⟩⟩
  rw [e2 p hp] at h; exact absurd (by decide) h
theorem i_vc0 (k0 : Int32) (k1 : Int32) (k2 : Int32) (k3 : Int32) : wpX_init (fun u => wpY_init (fun v => i_Rel 4 u v) k0 k1 k2 k3) k0 k1 k2 k3 := by
  obtain ⟨B, hB, hB', xB, yB⟩ := zc_clamp k0 2 24 (by omega) (by omega)
  obtain ⟨NL, hN, hN', xN, yN⟩ := zc_clamp k1 4 32 (by omega) (by omega)
  obtain ⟨RL, hR, hR', xR, yR⟩ := zc_clamp k2 4 48 (by omega) (by omega)
  obtain ⟨HL, hH, hH', xH, yH⟩ := zc_clamp k3 0 16 (by omega) (by omega)
  refine xB _ _ (xN _ _ (xR _ _ (xH _ _ (zc_X ?_))))
  refine yB _ _ (yN _ _ (yR _ _ (yH _ _ (zc_Y ?_))))
  exact zz_inO (H := 0) (N := 0) (R := 0) (zc_O ⟨hB, hB', by omega, hN', by omega, hR', by omega, hH'⟩)
end
section
/-! the questions that change nothing, and feed -/

theorem zq_3 {f : Int32} (h0 : ¬ f < 0) (h3 : f ≤ 3) : f = 0 ∨ f = 1 ∨ f = 2 ∨ f = 3 := by
  obtain ⟨j, hj, rfl⟩ := nI_of2 (M := 3) (n := 3) (by decide) h0 h3
  have : j = 0 ∨ j = 1 ∨ j = 2 ∨ j = 3 := by omega
  rcases this with rfl | rfl | rfl | rfl
  · exact Or.inl rfl
  · exact Or.inr (Or.inl rfl)
  · exact Or.inr (Or.inr (Or.inl rfl))
  · exact Or.inr (Or.inr (Or.inr rfl))
theorem zq_2 {f : Int32} (h0 : ¬ f < 0) (h2 : f ≤ 2) : f = 0 ∨ f = 1 ∨ f = 2 := by
  obtain ⟨j, hj, rfl⟩ := nI_of2 (M := 2) (n := 2) (by decide) h0 h2
  have : j = 0 ∨ j = 1 ∨ j = 2 := by omega
  rcases this with rfl | rfl | rfl
  · exact Or.inl rfl
  · exact Or.inr (Or.inl rfl)
  · exact Or.inr (Or.inr rfl)
theorem i_vc_machine {k : Nat} {u : SX} {v : SY} (I : i_Rel k u v) (hk : k + 5 ≤ 2564) (v1 : Int32) : wpX_machine (fun r => wpY_machine (fun r' => r' = r ∧ i_Rel (k + 5) u v) v v1) u v1 := by
  refine zz_el (Q := fun u v => wpX_machine (fun r => wpY_machine (fun r' => r' = r ∧ i_Rel (k + 5) u v) v v1) u v1) ?_ ?_ I
  · intro B NL RL HL N R H pm fs fv t1 t2 t3 t4 s1 s2 s3 s4 hm kd fa fb rp rq rv ro ec ey en ni ed dm us br nd hd pp ic mk pd kp h
    exact br_t rfl (br_t rfl ⟨rfl, zz_inO h⟩)
  · intro B NL RL HL N R H T P pm rm fs fv nx lf hm kd fa fb rp rq rv ro ec ey en ni ed dm lo us br nd st cv hd pp lv ic vc rc mk pd kp h
    have R' := zz_inS (fs := fs) (fv := fv) (ed := ed) (dm := dm) (us := us) (br := br) (nd := nd) (hd := hd) (ic := ic) (mk := mk) (pd := pd) (zz_up (show k ≤ k + 5 by omega) h)
    refine br_f qp_10 (br_c (fun z => ?_) (fun z0 => br_c (fun z => ?_) (fun z1 => br_c (fun z => ?_) (fun z2 => br_c (fun z => ?_) (fun z3 => ?_)))))
    · subst z; exact br_f qp_10 (br_f (by decide) (br_t (by decide) (br_t rfl ⟨rfl, R'⟩)))
    · subst z; exact br_f qp_10 (br_f (by decide) (br_t (by decide) (br_f z0 (br_t rfl ⟨rfl, R'⟩))))
    · subst z; exact br_f qp_10 (br_f (by decide) (br_t (by decide) (br_f z0 (br_f z1 (br_t rfl ⟨rfl, R'⟩)))))
    · subst z; exact br_f qp_10 (br_f (by decide) (br_t (by decide) (br_f z0 (br_f z1 (br_f z2 ⟨rfl, R'⟩)))))
    · refine br_f qp_10 (br_c (fun _ => ⟨rfl, R'⟩) (fun a => br_c (fun b => ?_) (fun _ => ⟨rfl, R'⟩)))
      rcases zq_3 a b with c | c | c | c
      · exact absurd c z0
      · exact absurd c z1
      · exact absurd c z2
      · exact absurd c z3
theorem i_vc_reached {k : Nat} {u : SX} {v : SY} (I : i_Rel k u v) (hk : k + 5 ≤ 2564) (v1 : Int32) : wpX_reached (fun r => wpY_reached (fun r' => r' = r ∧ i_Rel (k + 5) u v) v v1) u v1 := by
  refine zz_el (Q := fun u v => wpX_reached (fun r => wpY_reached (fun r' => r' = r ∧ i_Rel (k + 5) u v) v v1) u v1) ?_ ?_ I
  · intro B NL RL HL N R H pm fs fv t1 t2 t3 t4 s1 s2 s3 s4 hm kd fa fb rp rq rv ro ec ey en ni ed dm us br nd hd pp ic mk pd kp h
    exact br_t rfl (br_t rfl ⟨rfl, zz_inO h⟩)
  · intro B NL RL HL N R H T P pm rm fs fv nx lf hm kd fa fb rp rq rv ro ec ey en ni ed dm lo us br nd st cv hd pp lv ic vc rc mk pd kp h
    have R' := zz_inS (fs := fs) (fv := fv) (ed := ed) (dm := dm) (us := us) (br := br) (nd := nd) (hd := hd) (ic := ic) (mk := mk) (pd := pd) (zz_up (show k ≤ k + 5 by omega) h)
    obtain ⟨⟨⟨b2, b24, _⟩, _, _, _, _, _, _, _, hrm, _⟩, _⟩ := h
    refine br_f qp_10 (xa_isB b24 (fun z => br_t rfl (br_f qp_10 (ya_isB b24 (fun _ => br_t rfl ⟨rfl, R'⟩) (fun c => absurd c z)))) (fun z => br_f qp_10 ?_))
    obtain ⟨j, hj, rfl⟩ := vp_in_of z (by omega)
    have y : ∀ r : Int32, (rc j = 0 → r = 0) → (¬ rc j = 0 → r = 1) → wpY_reached (fun r' => r' = r ∧ i_Rel (k + 5) (nI B, nI NL, nI RL, nI HL, 1, nI N, nI R, pm, rm, 0, 0, fs, fv, nI H, nI T, nI P, nx, lf, hm, qr_k N st kd, qr_a N st cv kd fa, qr_b N st kd fb, rp, rq, rv, ro, qr_c B st ec, qr_y B st cv ec ey en, qr_n B st ec en, ni, ed, dm, lo, us, br, nd, st, cv, hd, pp, lv, ic, vc) (nI B, nI NL, nI RL, nI HL, nI N, nI R, nI H, nx, lf, nI T, nI P, 1, hm, kd, fa, fb, rp, rq, rv, ec, ey, en, hd, st, cv, rc, mk, lv, pd, vc, kp)) (nI B, nI NL, nI RL, nI HL, nI N, nI R, nI H, nx, lf, nI T, nI P, 1, hm, kd, fa, fb, rp, rq, rv, ec, ey, en, hd, st, cv, rc, mk, lv, pd, vc, kp) (nI j) := fun r h0 h1 => by
      refine br_f qp_10 (ya_isB b24 (fun c => absurd z c) (fun _ => br_f qp_10 ⟨vp_in_nI (by omega) (by omega), ?_⟩))
      rw [nI_clamp (show j < 2 ^ 31 by omega)]
      exact br_c (fun c => ⟨(h0 c).symm, R'⟩) (fun c => ⟨(h1 c).symm, R'⟩)
    refine xa_hb (by omega) (fun hb => br_t rfl (y 0 (fun _ => rfl) fun c => ?_)) (fun hb => br_f qp_10 (y 1 (fun c => ?_) fun _ => rfl))
    · rw [(hrm j hj).mpr c] at hb; cases hb
    · exact absurd c ((hrm j hj).mp hb)
theorem i_vc_live {k : Nat} {u : SX} {v : SY} (I : i_Rel k u v) (hk : k + 5 ≤ 2564) (v1 : Int32) (v2 : Int32) : wpX_live (fun r => wpY_live (fun r' => r' = r ∧ i_Rel (k + 5) u v) v v1 v2) u v1 v2 := by
  refine zz_el (Q := fun u v => wpX_live (fun r => wpY_live (fun r' => r' = r ∧ i_Rel (k + 5) u v) v v1 v2) u v1 v2) ?_ ?_ I
  · intro B NL RL HL N R H pm fs fv t1 t2 t3 t4 s1 s2 s3 s4 hm kd fa fb rp rq rv ro ec ey en ni ed dm us br nd hd pp ic mk pd kp h
    exact br_t rfl (br_t rfl ⟨rfl, zz_inO h⟩)
  · intro B NL RL HL N R H T P pm rm fs fv nx lf hm kd fa fb rp rq rv ro ec ey en ni ed dm lo us br nd st cv hd pp lv ic vc rc mk pd kp h
    have R' := zz_inS (fs := fs) (fv := fv) (ed := ed) (dm := dm) (us := us) (br := br) (nd := nd) (hd := hd) (ic := ic) (mk := mk) (pd := pd) (zz_up (show k ≤ k + 5 by omega) h)
    obtain ⟨⟨⟨b2, b24, n1, n2, _⟩, We, _, _, _, _, F, _, hrm, hlo, _⟩, _⟩ := h
    refine br_f qp_10 (xa_isB b24 (fun z => br_t rfl (br_f qp_10 (ya_isB b24 (fun _ => br_t rfl ⟨rfl, R'⟩) (fun c => absurd c z)))) (fun z => br_f qp_10 ?_))
    refine xa_isB b24 (fun z2 => br_t rfl (br_f qp_10 (ya_isB b24 (fun c => absurd z c) (fun _ => br_f qp_10 (ya_isB b24 (fun _ => br_t rfl ⟨rfl, R'⟩) (fun c => absurd c z2)))))) (fun z2 => br_f qp_10 ⟨qn_in z (by omega), ?_⟩)
    obtain ⟨p, hp, rfl⟩ := vp_in_of z (by omega)
    obtain ⟨t, ht, rfl⟩ := vp_in_of z2 (by omega)
    rw [nI_clamp (show p < 2 ^ 31 by omega)]
    have e : bt (lo p) t = true ↔ qy_lv ec ey en rc st cv p t := by
      rw [hlo p t hp (by omega), hrm p hp]; exact Iff.rfl
    have y : ∀ r : Int32, (qy_lv ec ey en rc st cv p t → r = 1) → (¬ qy_lv ec ey en rc st cv p t → r = 0) → wpY_live (fun r' => r' = r ∧ i_Rel (k + 5) (nI B, nI NL, nI RL, nI HL, 1, nI N, nI R, pm, rm, 0, 0, fs, fv, nI H, nI T, nI P, nx, lf, hm, qr_k N st kd, qr_a N st cv kd fa, qr_b N st kd fb, rp, rq, rv, ro, qr_c B st ec, qr_y B st cv ec ey en, qr_n B st ec en, ni, ed, dm, lo, us, br, nd, st, cv, hd, pp, lv, ic, vc) (nI B, nI NL, nI RL, nI HL, nI N, nI R, nI H, nx, lf, nI T, nI P, 1, hm, kd, fa, fb, rp, rq, rv, ec, ey, en, hd, st, cv, rc, mk, lv, pd, vc, kp)) (nI B, nI NL, nI RL, nI HL, nI N, nI R, nI H, nx, lf, nI T, nI P, 1, hm, kd, fa, fb, rp, rq, rv, ec, ey, en, hd, st, cv, rc, mk, lv, pd, vc, kp) (nI p) (nI t) := fun r h1 h0 => by
      refine br_f qp_10 (ya_isB b24 (fun c => absurd z c) (fun _ => br_f qp_10 (ya_isB b24 (fun c => absurd z2 c) (fun _ => br_f qp_10 ?_))))
      exact ya_edgeLive b24 (by omega) We (fun n hn => (F.2 n hn).1) hp (by omega) (fun l => br_f qp_10 ⟨(h1 l).symm, R'⟩) (fun l => br_t rfl ⟨(h0 l).symm, R'⟩)
    refine xa_hb (by omega) (fun hb => br_t rfl (y 0 (fun l => ?_) fun _ => rfl)) (fun hb => br_f qp_10 (y 1 (fun _ => rfl) fun l => absurd (e.mp hb) l))
    rw [e.mpr l] at hb; cases hb
theorem i_vc_state {k : Nat} {u : SX} {v : SY} (I : i_Rel k u v) (hk : k + 5 ≤ 2564) (v1 : Int32) : wpX_state (fun r => wpY_state (fun r' => r' = r ∧ i_Rel (k + 5) u v) v v1) u v1 := by
  refine zz_el (Q := fun u v => wpX_state (fun r => wpY_state (fun r' => r' = r ∧ i_Rel (k + 5) u v) v v1) u v1) ?_ ?_ I
  · intro B NL RL HL N R H pm fs fv t1 t2 t3 t4 s1 s2 s3 s4 hm kd fa fb rp rq rv ro ec ey en ni ed dm us br nd hd pp ic mk pd kp h
    exact br_t rfl (br_t rfl ⟨rfl, zz_inO h⟩)
  · intro B NL RL HL N R H T P pm rm fs fv nx lf hm kd fa fb rp rq rv ro ec ey en ni ed dm lo us br nd st cv hd pp lv ic vc rc mk pd kp h
    have R' := zz_inS (fs := fs) (fv := fv) (ed := ed) (dm := dm) (us := us) (br := br) (nd := nd) (hd := hd) (ic := ic) (mk := mk) (pd := pd) (zz_up (show k ≤ k + 5 by omega) h)
    obtain ⟨⟨⟨b2, b24, n1, n2, _⟩, _⟩, _⟩ := h
    have hN : N ≤ 32 := by omega
    exact br_f qp_10 (xa_isN hN (fun z => br_t rfl (br_f qp_10 (ya_isN hN (fun _ => br_t rfl ⟨rfl, R'⟩) (fun c => absurd c z)))) (fun z => br_f qp_10 ⟨qn_in z hN, br_f qp_10 (ya_isN hN (fun c => absurd z c) (fun _ => br_f qp_10 ⟨qn_in z hN, rfl, R'⟩))⟩))
theorem i_vc_value {k : Nat} {u : SX} {v : SY} (I : i_Rel k u v) (hk : k + 5 ≤ 2564) (v1 : Int32) : wpX_value (fun r => wpY_value (fun r' => r' = r ∧ i_Rel (k + 5) u v) v v1) u v1 := by
  refine zz_el (Q := fun u v => wpX_value (fun r => wpY_value (fun r' => r' = r ∧ i_Rel (k + 5) u v) v v1) u v1) ?_ ?_ I
  · intro B NL RL HL N R H pm fs fv t1 t2 t3 t4 s1 s2 s3 s4 hm kd fa fb rp rq rv ro ec ey en ni ed dm us br nd hd pp ic mk pd kp h
    exact br_t rfl (br_t rfl ⟨rfl, zz_inO h⟩)
  · intro B NL RL HL N R H T P pm rm fs fv nx lf hm kd fa fb rp rq rv ro ec ey en ni ed dm lo us br nd st cv hd pp lv ic vc rc mk pd kp h
    have R' := zz_inS (fs := fs) (fv := fv) (ed := ed) (dm := dm) (us := us) (br := br) (nd := nd) (hd := hd) (ic := ic) (mk := mk) (pd := pd) (zz_up (show k ≤ k + 5 by omega) h)
    obtain ⟨⟨⟨b2, b24, n1, n2, _⟩, _⟩, _⟩ := h
    have hN : N ≤ 32 := by omega
    refine br_f qp_10 (xa_isN hN (fun z => br_t rfl (br_f qp_10 (ya_isN hN (fun _ => br_t rfl ⟨rfl, R'⟩) (fun c => absurd c z)))) (fun z => br_f qp_10 ⟨qn_in z hN, br_c (fun s1 => ⟨qn_in z hN, ?_⟩) (fun s1 => ?_)⟩))
    · exact br_f qp_10 (ya_isN hN (fun c => absurd z c) (fun _ => br_f qp_10 ⟨qn_in z hN, br_t s1 ⟨qn_in z hN, rfl, R'⟩⟩))
    · exact br_f qp_10 (ya_isN hN (fun c => absurd z c) (fun _ => br_f qp_10 ⟨qn_in z hN, br_f s1 ⟨rfl, R'⟩⟩))
theorem i_vc_last {k : Nat} {u : SX} {v : SY} (I : i_Rel k u v) (hk : k + 5 ≤ 2564) (v1 : Int32) : wpX_last (fun r => wpY_last (fun r' => r' = r ∧ i_Rel (k + 5) u v) v v1) u v1 := by
  refine zz_el (Q := fun u v => wpX_last (fun r => wpY_last (fun r' => r' = r ∧ i_Rel (k + 5) u v) v v1) u v1) ?_ ?_ I
  · intro B NL RL HL N R H pm fs fv t1 t2 t3 t4 s1 s2 s3 s4 hm kd fa fb rp rq rv ro ec ey en ni ed dm us br nd hd pp ic mk pd kp h
    exact br_t rfl (br_t rfl ⟨rfl, zz_inO h⟩)
  · intro B NL RL HL N R H T P pm rm fs fv nx lf hm kd fa fb rp rq rv ro ec ey en ni ed dm lo us br nd st cv hd pp lv ic vc rc mk pd kp h
    have R' := zz_inS (fs := fs) (fv := fv) (ed := ed) (dm := dm) (us := us) (br := br) (nd := nd) (hd := hd) (ic := ic) (mk := mk) (pd := pd) (zz_up (show k ≤ k + 5 by omega) h)
    obtain ⟨⟨⟨b2, b24, n1, n2, _⟩, _⟩, _⟩ := h
    have hN : N ≤ 32 := by omega
    exact br_f qp_10 (xa_isN hN (fun z => br_t rfl (br_f qp_10 (ya_isN hN (fun _ => br_t rfl ⟨rfl, R'⟩) (fun c => absurd c z)))) (fun z => br_f qp_10 ⟨qn_in z hN, br_f qp_10 (ya_isN hN (fun c => absurd z c) (fun _ => br_f qp_10 ⟨qn_in z hN, rfl, R'⟩))⟩))
theorem i_vc_visits {k : Nat} {u : SX} {v : SY} (I : i_Rel k u v) (hk : k + 5 ≤ 2564) (v1 : Int32) : wpX_visits (fun r => wpY_visits (fun r' => r' = r ∧ i_Rel (k + 5) u v) v v1) u v1 := by
  refine zz_el (Q := fun u v => wpX_visits (fun r => wpY_visits (fun r' => r' = r ∧ i_Rel (k + 5) u v) v v1) u v1) ?_ ?_ I
  · intro B NL RL HL N R H pm fs fv t1 t2 t3 t4 s1 s2 s3 s4 hm kd fa fb rp rq rv ro ec ey en ni ed dm us br nd hd pp ic mk pd kp h
    exact br_t rfl (br_t rfl ⟨rfl, zz_inO h⟩)
  · intro B NL RL HL N R H T P pm rm fs fv nx lf hm kd fa fb rp rq rv ro ec ey en ni ed dm lo us br nd st cv hd pp lv ic vc rc mk pd kp h
    have R' := zz_inS (fs := fs) (fv := fv) (ed := ed) (dm := dm) (us := us) (br := br) (nd := nd) (hd := hd) (ic := ic) (mk := mk) (pd := pd) (zz_up (show k ≤ k + 5 by omega) h)
    obtain ⟨⟨⟨b2, b24, n1, n2, _⟩, _⟩, _⟩ := h
    exact br_f qp_10 (xa_isB b24 (fun z => br_t rfl (br_f qp_10 (ya_isB b24 (fun _ => br_t rfl ⟨rfl, R'⟩) (fun c => absurd c z)))) (fun z => br_f qp_10 ⟨qn_in z b24, br_f qp_10 (ya_isB b24 (fun c => absurd z c) (fun _ => br_f qp_10 ⟨qn_in z b24, rfl, R'⟩))⟩))
theorem i_vc_printed {k : Nat} {u : SX} {v : SY} (I : i_Rel k u v) (hk : k + 5 ≤ 2564) (v1 : Int32) : wpX_printed (fun r => wpY_printed (fun r' => r' = r ∧ i_Rel (k + 5) u v) v v1) u v1 := by
  refine zz_el (Q := fun u v => wpX_printed (fun r => wpY_printed (fun r' => r' = r ∧ i_Rel (k + 5) u v) v v1) u v1) ?_ ?_ I
  · intro B NL RL HL N R H pm fs fv t1 t2 t3 t4 s1 s2 s3 s4 hm kd fa fb rp rq rv ro ec ey en ni ed dm us br nd hd pp ic mk pd kp h
    exact br_t rfl (br_t rfl ⟨rfl, zz_inO h⟩)
  · intro B NL RL HL N R H T P pm rm fs fv nx lf hm kd fa fb rp rq rv ro ec ey en ni ed dm lo us br nd st cv hd pp lv ic vc rc mk pd kp h
    have R' := zz_inS (fs := fs) (fv := fv) (ed := ed) (dm := dm) (us := us) (br := br) (nd := nd) (hd := hd) (ic := ic) (mk := mk) (pd := pd) (zz_up (show k ≤ k + 5 by omega) h)
    obtain ⟨_, _, _, _, hP, hpk, _⟩ := h
    refine br_f qp_10 (br_c (fun a => br_f qp_10 (br_t a ⟨rfl, R'⟩)) (fun a => br_c (fun b => br_f qp_10 (br_f a (br_t b ⟨rfl, R'⟩))) (fun b => br_c (fun c => ?_) (fun c => br_f qp_10 (br_f a (br_f b (br_f c ⟨rfl, R'⟩)))))))
    obtain ⟨i, hi, rfl⟩ := nI_of a
    have hiP : i < P := Nat.lt_of_not_le fun z => b (nI_le z hi)
    have hP32 : P ≤ i + 32 := by
      rw [Int32.le_iff_toInt_le, show nI P - 32 = nI P - nI 32 from rfl, pk_sub_toInt (by omega) (by omega), nI_toInt hi] at c
      omega
    have e1 : nI i &&& 31 = nI (i % 32) := pk_andN (m := 31) (by omega) 5 (by decide)
    have e2 : (32 : Int32) - (nI P - nI i) = nI (i + 32 - P) := by
      rw [pk_sub (by omega)]
      show nI 32 - nI (P - i) = _
      rw [pk_sub (by omega)]
      congr 1; omega
    refine ⟨by rw [e1]; exact vp_in_nI (by omega) (by omega), br_f qp_10 (br_f a (br_f b (br_t c ⟨by rw [e2]; exact vp_in_nI (by omega) (by omega), ?_, R'⟩)))⟩
    rw [e1, e2, nI_clamp (by omega), nI_clamp (by omega)]
    exact (hpk i hiP hP32).symm
theorem zq_OH {B NL RL HL N R H H' : Nat} {pm : Int32} {hm kd fa fb rp rq rv ro ec ey en ni us br nd : Nat → Int32} (hH : H' ≤ HL) (h : zz_O B NL RL HL N R H pm hm kd fa fb rp rq rv ro ec ey en ni us br nd) : zz_O B NL RL HL N R H' pm hm kd fa fb rp rq rv ro ec ey en ni us br nd := by
  obtain ⟨⟨a, b, c, d, e, f, _, g⟩, r⟩ := h
  exact ⟨⟨a, b, c, d, e, f, hH, g⟩, r⟩
theorem zq_GH {B NL RL HL N R H H' : Nat} {pm rm : Int32} {hm kd fa fb rp rq rv ro ec ey en ni lo st cv rc : Nat → Int32} (hH : H' ≤ HL) (h : zz_G B NL RL HL N R H pm rm hm kd fa fb rp rq rv ro ec ey en ni lo st cv rc) : zz_G B NL RL HL N R H' pm rm hm kd fa fb rp rq rv ro ec ey en ni lo st cv rc := by
  obtain ⟨⟨a, b, c, d, e, f, _, g⟩, r⟩ := h
  exact ⟨⟨a, b, c, d, e, f, hH, g⟩, r⟩
theorem i_vc_feed {k : Nat} {u : SX} {v : SY} (I : i_Rel k u v) (hk : k + 5 ≤ 2564) (v1 : Int32) : wpX_feed (fun r u' => wpY_feed (fun r' v' => r' = r ∧ i_Rel (k + 5) u' v') v v1) u v1 := by
  refine zz_el (Q := fun u v => wpX_feed (fun r u' => wpY_feed (fun r' v' => r' = r ∧ i_Rel (k + 5) u' v') v v1) u v1) ?_ ?_ I
  · intro B NL RL HL N R H pm fs fv t1 t2 t3 t4 s1 s2 s3 s4 hm kd fa fb rp rq rv ro ec ey en ni ed dm us br nd hd pp ic mk pd kp h
    have hb := h.1
    refine pk_lt H HL (fun z => ?_) (fun z => ?_)
    · refine ⟨vp_in_nI (by omega) (by omega), fun hd' ehd h' eh => pk_lt H HL (fun _ => ⟨vp_in_nI (by omega) (by omega), fun hd2 ehd2 h2 eh2 => ⟨?_, ?_⟩⟩) (fun c => by omega)⟩
      · rw [eh2, nI_1, nI_pred]
      · subst ehd ehd2 eh eh2
        rw [nI_1]
        exact zz_inO (zq_OH (by omega) h)
    · exact pk_lt H HL (fun c => by omega) (fun _ => ⟨rfl, zz_inO h⟩)
  · intro B NL RL HL N R H T P pm rm fs fv nx lf hm kd fa fb rp rq rv ro ec ey en ni ed dm lo us br nd st cv hd pp lv ic vc rc mk pd kp h
    have hb := h.1.1
    refine pk_lt H HL (fun z => ?_) (fun z => ?_)
    · refine ⟨vp_in_nI (by omega) (by omega), fun hd' ehd h' eh => pk_lt H HL (fun _ => ⟨vp_in_nI (by omega) (by omega), fun hd2 ehd2 h2 eh2 => ⟨?_, ?_⟩⟩) (fun c => by omega)⟩
      · rw [eh2, nI_1, nI_pred]
      · subst ehd ehd2 eh eh2
        rw [nI_1]
        obtain ⟨g, a, b, c, r⟩ := zz_up (show k ≤ k + 5 by omega) h
        exact zz_inS ⟨zq_GH (by omega) g, a, b, by omega, r⟩
    · exact pk_lt H HL (fun c => by omega) (fun _ => ⟨rfl, zz_inS (zz_up (by omega) h)⟩)
end
section
/-! the graph's fields -/

def zg_4 (a b c d f : Int32) : Int32 := if f = 0 then a else if f = 1 then b else if f = 2 then c else if f = 3 then d else -9
def zg_3 (a b c f : Int32) : Int32 := if f = 0 then a else if f = 1 then b else if f = 2 then c else -9
theorem zg_4n {a b c d f : Int32} (h : ¬ (¬ f < 0 ∧ f ≤ 3)) : zg_4 a b c d f = -9 := by
  unfold zg_4
  rw [if_neg, if_neg, if_neg, if_neg]
  · rintro rfl; exact h (by decide)
  · rintro rfl; exact h (by decide)
  · rintro rfl; exact h (by decide)
  · rintro rfl; exact h (by decide)
theorem zg_3n {a b c f : Int32} (h : ¬ (¬ f < 0 ∧ f ≤ 2)) : zg_3 a b c f = -9 := by
  unfold zg_3
  rw [if_neg, if_neg, if_neg]
  · rintro rfl; exact h (by decide)
  · rintro rfl; exact h (by decide)
  · rintro rfl; exact h (by decide)
theorem zg_4x {P : Int32 → Prop} {a b c d f : Int32} {A0 A1 A2 A3 : Prop} (h : P (zg_4 a b c d f)) (t0 : P a → A0) (t1 : P b → A1) (t2 : P c → A2) (t3 : P d → A3) : (f = 0 → A0) ∧ (¬ f = 0 → (f = 1 → A1) ∧ (¬ f = 1 → (f = 2 → A2) ∧ (¬ f = 2 → (f = 3 → A3) ∧ (¬ f = 3 → P (-9))))) := by
  unfold zg_4 at h
  refine br_c (fun z => ?_) (fun z => br_c (fun z1 => ?_) (fun z1 => br_c (fun z2 => ?_) (fun z2 => br_c (fun z3 => ?_) (fun z3 => ?_))))
  · rw [if_pos z] at h; exact t0 h
  · rw [if_neg z, if_pos z1] at h; exact t1 h
  · rw [if_neg z, if_neg z1, if_pos z2] at h; exact t2 h
  · rw [if_neg z, if_neg z1, if_neg z2, if_pos z3] at h; exact t3 h
  · rw [if_neg z, if_neg z1, if_neg z2, if_neg z3] at h; exact h
theorem zg_4y {P : Int32 → Prop} {a b c d f : Int32} {A0 A1 A2 A3 : Prop} (hf : ¬ f < 0 ∧ f ≤ 3) (h : P (zg_4 a b c d f)) (t0 : P a → A0) (t1 : P b → A1) (t2 : P c → A2) (t3 : P d → A3) : (f = 0 → A0) ∧ (¬ f = 0 → (f = 1 → A1) ∧ (¬ f = 1 → (f = 2 → A2) ∧ (¬ f = 2 → A3))) := by
  unfold zg_4 at h
  refine br_c (fun z => ?_) (fun z => br_c (fun z1 => ?_) (fun z1 => br_c (fun z2 => ?_) (fun z2 => ?_)))
  · rw [if_pos z] at h; exact t0 h
  · rw [if_neg z, if_pos z1] at h; exact t1 h
  · rw [if_neg z, if_neg z1, if_pos z2] at h; exact t2 h
  · have z3 : f = 3 := by
      rcases zq_3 hf.1 hf.2 with e | e | e | e
      · exact absurd e z
      · exact absurd e z1
      · exact absurd e z2
      · exact e
    rw [if_neg z, if_neg z1, if_neg z2, if_pos z3] at h; exact t3 h
theorem zg_3x {P : Int32 → Prop} {a b c f : Int32} {A0 A1 A2 : Prop} (h : P (zg_3 a b c f)) (t0 : P a → A0) (t1 : P b → A1) (t2 : P c → A2) : (f = 0 → A0) ∧ (¬ f = 0 → (f = 1 → A1) ∧ (¬ f = 1 → (f = 2 → A2) ∧ (¬ f = 2 → P (-9)))) := by
  unfold zg_3 at h
  refine br_c (fun z => ?_) (fun z => br_c (fun z1 => ?_) (fun z1 => br_c (fun z2 => ?_) (fun z2 => ?_)))
  · rw [if_pos z] at h; exact t0 h
  · rw [if_neg z, if_pos z1] at h; exact t1 h
  · rw [if_neg z, if_neg z1, if_pos z2] at h; exact t2 h
  · rw [if_neg z, if_neg z1, if_neg z2] at h; exact h
theorem zg_3y {P : Int32 → Prop} {a b c f : Int32} {A0 A1 A2 : Prop} (hf : ¬ f < 0 ∧ f ≤ 2) (h : P (zg_3 a b c f)) (t0 : P a → A0) (t1 : P b → A1) (t2 : P c → A2) : (f = 0 → A0) ∧ (¬ f = 0 → (f = 1 → A1) ∧ (¬ f = 1 → A2)) := by
  unfold zg_3 at h
  refine br_c (fun z => ?_) (fun z => br_c (fun z1 => ?_) (fun z1 => ?_))
  · rw [if_pos z] at h; exact t0 h
  · rw [if_neg z, if_pos z1] at h; exact t1 h
  · have z2 : f = 2 := by
      rcases zq_2 hf.1 hf.2 with e | e | e
      · exact absurd e z
      · exact absurd e z1
      · exact e
    rw [if_neg z, if_neg z1, if_pos z2] at h; exact t2 h
section
variable {B N R : Nat} {f_nodeLimit f_rowLimit f_heldLimit f_isSealed f_phiMask f_reachedMask f_pendingNodes f_pendingEnds f_foundState f_foundValue f_heldCount f_taken f_prints f_nextBlock f_leftBlock : Int32} {a_home a_kinds a_fieldA a_fieldB a_rowPhi a_rowPred a_rowValue a_rowOf a_endCond a_endYes a_endNo a_nodesIn a_edges a_dom a_liveOut a_users a_branchers a_needs a_states a_constants a_held a_paper a_lastValue a_incoming a_visitCount : Nat → Int32}
theorem zg_x35 {post : Int32 → Prop} {n : Nat} {f : Int32} (hn : n < 32) (h : post (zg_4 (a_home n) (a_kinds n) (a_fieldA n) (a_fieldB n) f)) : wX_nodeField_35 post (nI n) f (nI B) f_nodeLimit f_rowLimit f_heldLimit f_isSealed (nI N) (nI R) f_phiMask f_reachedMask f_pendingNodes f_pendingEnds f_foundState f_foundValue f_heldCount f_taken f_prints f_nextBlock f_leftBlock a_home a_kinds a_fieldA a_fieldB a_rowPhi a_rowPred a_rowValue a_rowOf a_endCond a_endYes a_endNo a_nodesIn a_edges a_dom a_liveOut a_users a_branchers a_needs a_states a_constants a_held a_paper a_lastValue a_incoming a_visitCount := by
  have hv : vp_in (nI n) 32 := vp_in_nI hn (by omega)
  have e : (nI n).toNatClampNeg = n := nI_clamp (by omega)
  refine zg_4x (P := post) h (fun h => ⟨hv, ?_⟩) (fun h => ⟨hv, ?_⟩) (fun h => ⟨hv, ?_⟩) (fun h => ⟨hv, ?_⟩) <;> rw [e] <;> exact h
theorem zg_x66 {post : Int32 → Prop} {r : Nat} {f x : Int32} (hr : r < 48) (h : post (zg_3 x (a_rowPred r) (a_rowValue r) f)) : wX_rowField_66 post (nI r) f x (nI B) f_nodeLimit f_rowLimit f_heldLimit f_isSealed (nI N) (nI R) f_phiMask f_reachedMask f_pendingNodes f_pendingEnds f_foundState f_foundValue f_heldCount f_taken f_prints f_nextBlock f_leftBlock a_home a_kinds a_fieldA a_fieldB a_rowPhi a_rowPred a_rowValue a_rowOf a_endCond a_endYes a_endNo a_nodesIn a_edges a_dom a_liveOut a_users a_branchers a_needs a_states a_constants a_held a_paper a_lastValue a_incoming a_visitCount := by
  have hv : vp_in (nI r) 48 := vp_in_nI hr (by omega)
  have e : (nI r).toNatClampNeg = r := nI_clamp (by omega)
  refine zg_3x (P := post) h (fun h => h) (fun h => ⟨hv, ?_⟩) (fun h => ⟨hv, ?_⟩) <;> rw [e] <;> exact h
theorem zg_x30 {post : Int32 → Prop} {p : Nat} {f : Int32} (hp : p < 24) (h : post (zg_3 (a_endCond p) (a_endYes p) (a_endNo p) f)) : wX_endField_30 post (nI p) f (nI B) f_nodeLimit f_rowLimit f_heldLimit f_isSealed (nI N) (nI R) f_phiMask f_reachedMask f_pendingNodes f_pendingEnds f_foundState f_foundValue f_heldCount f_taken f_prints f_nextBlock f_leftBlock a_home a_kinds a_fieldA a_fieldB a_rowPhi a_rowPred a_rowValue a_rowOf a_endCond a_endYes a_endNo a_nodesIn a_edges a_dom a_liveOut a_users a_branchers a_needs a_states a_constants a_held a_paper a_lastValue a_incoming a_visitCount := by
  have hv : vp_in (nI p) 24 := vp_in_nI hp (by omega)
  have e : (nI p).toNatClampNeg = p := nI_clamp (by omega)
  refine zg_3x (P := post) h (fun h => ⟨hv, ?_⟩) (fun h => ⟨hv, ?_⟩) (fun h => ⟨hv, ?_⟩) <;> rw [e] <;> exact h
theorem zg_xNn {post : Int32 → Prop} {x f : Int32} (hN : N ≤ 32) (z : ¬ vp_in x N) (p : post (-9)) : wpX_nodeField post (nI B, f_nodeLimit, f_rowLimit, f_heldLimit, f_isSealed, nI N, nI R, f_phiMask, f_reachedMask, f_pendingNodes, f_pendingEnds, f_foundState, f_foundValue, f_heldCount, f_taken, f_prints, f_nextBlock, f_leftBlock, a_home, a_kinds, a_fieldA, a_fieldB, a_rowPhi, a_rowPred, a_rowValue, a_rowOf, a_endCond, a_endYes, a_endNo, a_nodesIn, a_edges, a_dom, a_liveOut, a_users, a_branchers, a_needs, a_states, a_constants, a_held, a_paper, a_lastValue, a_incoming, a_visitCount) x f := by
  unfold wpX_nodeField
  dsimp only
  exact xa_isN hN (fun _ => br_t rfl p) (fun c => absurd c z)
theorem zg_xNo {post : Int32 → Prop} {n : Nat} {f : Int32} (hN : N ≤ 32) (hn : n < N) (p : post (zg_4 (a_home n) (a_kinds n) (a_fieldA n) (a_fieldB n) f)) : wpX_nodeField post (nI B, f_nodeLimit, f_rowLimit, f_heldLimit, 0, nI N, nI R, f_phiMask, f_reachedMask, f_pendingNodes, f_pendingEnds, f_foundState, f_foundValue, f_heldCount, f_taken, f_prints, f_nextBlock, f_leftBlock, a_home, a_kinds, a_fieldA, a_fieldB, a_rowPhi, a_rowPred, a_rowValue, a_rowOf, a_endCond, a_endYes, a_endNo, a_nodesIn, a_edges, a_dom, a_liveOut, a_users, a_branchers, a_needs, a_states, a_constants, a_held, a_paper, a_lastValue, a_incoming, a_visitCount) (nI n) f := by
  unfold wpX_nodeField
  dsimp only
  exact xa_isN hN (fun c => absurd (vp_in_nI hn (by omega)) c) (fun _ => br_f qp_10 (br_t rfl (zg_x35 (by omega) p)))
theorem zg_xNs {post : Int32 → Prop} {n b : Nat} {f : Int32} (hN : N ≤ 32) (hn : n < N) (hb : b < 24) (eb : a_home n = nI b) (p1 : bt f_reachedMask b = true → post (zg_4 (a_home n) (a_kinds n) (a_fieldA n) (a_fieldB n) f)) (p0 : bt f_reachedMask b = false → post (-9)) : wpX_nodeField post (nI B, f_nodeLimit, f_rowLimit, f_heldLimit, 1, nI N, nI R, f_phiMask, f_reachedMask, f_pendingNodes, f_pendingEnds, f_foundState, f_foundValue, f_heldCount, f_taken, f_prints, f_nextBlock, f_leftBlock, a_home, a_kinds, a_fieldA, a_fieldB, a_rowPhi, a_rowPred, a_rowValue, a_rowOf, a_endCond, a_endYes, a_endNo, a_nodesIn, a_edges, a_dom, a_liveOut, a_users, a_branchers, a_needs, a_states, a_constants, a_held, a_paper, a_lastValue, a_incoming, a_visitCount) (nI n) f := by
  unfold wpX_nodeField
  dsimp only
  refine xa_isN hN (fun c => absurd (vp_in_nI hn (by omega)) c) (fun _ => br_f qp_10 (br_f qp_10 ⟨vp_in_nI (by omega) (by omega), ?_⟩))
  rw [nI_clamp (show n < 2 ^ 31 by omega), eb]
  exact xa_hb (by omega) (fun h => br_t rfl (p0 h)) (fun h => br_f qp_10 (zg_x35 (by omega) (p1 h)))
theorem zg_xEn {post : Int32 → Prop} {x f : Int32} (hB : B ≤ 24) (z : ¬ vp_in x B) (p : post (-9)) : wpX_endField post (nI B, f_nodeLimit, f_rowLimit, f_heldLimit, f_isSealed, nI N, nI R, f_phiMask, f_reachedMask, f_pendingNodes, f_pendingEnds, f_foundState, f_foundValue, f_heldCount, f_taken, f_prints, f_nextBlock, f_leftBlock, a_home, a_kinds, a_fieldA, a_fieldB, a_rowPhi, a_rowPred, a_rowValue, a_rowOf, a_endCond, a_endYes, a_endNo, a_nodesIn, a_edges, a_dom, a_liveOut, a_users, a_branchers, a_needs, a_states, a_constants, a_held, a_paper, a_lastValue, a_incoming, a_visitCount) x f := by
  unfold wpX_endField
  dsimp only
  exact xa_isB hB (fun _ => br_t rfl p) (fun c => absurd c z)
theorem zg_xEo {post : Int32 → Prop} {n : Nat} {f : Int32} (hB : B ≤ 24) (hn : n < B) (p : post (zg_3 (a_endCond n) (a_endYes n) (a_endNo n) f)) : wpX_endField post (nI B, f_nodeLimit, f_rowLimit, f_heldLimit, 0, nI N, nI R, f_phiMask, f_reachedMask, f_pendingNodes, f_pendingEnds, f_foundState, f_foundValue, f_heldCount, f_taken, f_prints, f_nextBlock, f_leftBlock, a_home, a_kinds, a_fieldA, a_fieldB, a_rowPhi, a_rowPred, a_rowValue, a_rowOf, a_endCond, a_endYes, a_endNo, a_nodesIn, a_edges, a_dom, a_liveOut, a_users, a_branchers, a_needs, a_states, a_constants, a_held, a_paper, a_lastValue, a_incoming, a_visitCount) (nI n) f := by
  unfold wpX_endField
  dsimp only
  exact xa_isB hB (fun c => absurd (vp_in_nI hn (by omega)) c) (fun _ => br_f qp_10 (br_t rfl (zg_x30 (by omega) p)))
theorem zg_xEs {post : Int32 → Prop} {n : Nat} {f : Int32} (hB : B ≤ 24) (hn : n < B) (p1 : bt f_reachedMask n = true → post (zg_3 (a_endCond n) (a_endYes n) (a_endNo n) f)) (p0 : bt f_reachedMask n = false → post (-9)) : wpX_endField post (nI B, f_nodeLimit, f_rowLimit, f_heldLimit, 1, nI N, nI R, f_phiMask, f_reachedMask, f_pendingNodes, f_pendingEnds, f_foundState, f_foundValue, f_heldCount, f_taken, f_prints, f_nextBlock, f_leftBlock, a_home, a_kinds, a_fieldA, a_fieldB, a_rowPhi, a_rowPred, a_rowValue, a_rowOf, a_endCond, a_endYes, a_endNo, a_nodesIn, a_edges, a_dom, a_liveOut, a_users, a_branchers, a_needs, a_states, a_constants, a_held, a_paper, a_lastValue, a_incoming, a_visitCount) (nI n) f := by
  unfold wpX_endField
  dsimp only
  refine xa_isB hB (fun c => absurd (vp_in_nI hn (by omega)) c) (fun _ => br_f qp_10 (br_f qp_10 ?_))
  exact xa_hb (by omega) (fun h => br_t rfl (p0 h)) (fun h => br_f qp_10 (zg_x30 (by omega) (p1 h)))
end
section
variable {B N R : Nat} {g_nodeMax g_rowMax g_inputMax g_held g_next g_leftLast g_taken g_prints g_closed : Int32} {b_nodeBlock b_nodeKind b_nodeA b_nodeB b_rowPhi b_rowPred b_rowNode b_endCond b_endYes b_endNo b_heldInput b_factState b_factValue b_isReached b_mark b_lastValue b_pending b_visitCount b_kept : Nat → Int32}
theorem zg_y77 {post : Int32 → Prop} {n : Nat} {f : Int32} (hn : n < 32) (hf : ¬ f < 0 ∧ f ≤ 3) (h : post (zg_4 (b_nodeBlock n) (b_nodeKind n) (b_nodeA n) (b_nodeB n) f)) : wY_nodeField_76 post (nI n) f (nI B) g_nodeMax g_rowMax g_inputMax (nI N) (nI R) g_held g_next g_leftLast g_taken g_prints g_closed b_nodeBlock b_nodeKind b_nodeA b_nodeB b_rowPhi b_rowPred b_rowNode b_endCond b_endYes b_endNo b_heldInput b_factState b_factValue b_isReached b_mark b_lastValue b_pending b_visitCount b_kept := by
  have hv : vp_in (nI n) 32 := vp_in_nI hn (by omega)
  have e : (nI n).toNatClampNeg = n := nI_clamp (by omega)
  refine zg_4y (P := post) hf h (fun h => ⟨hv, ?_⟩) (fun h => br_t rfl ⟨hv, ?_⟩) (fun h => br_t rfl ⟨hv, ?_⟩) (fun h => br_t rfl ⟨hv, ?_⟩) <;> rw [e] <;> exact h
theorem zg_y77f {post : Int32 → Prop} {n : Nat} {f : Int32} (hn : n < 32) (hf : ¬ f < 0 ∧ f ≤ 3) (h : post (zg_4 (b_nodeBlock n) 1 (b_factValue n) 0 f)) : wY_nodeField_77 post (nI n) f 1 (nI B) g_nodeMax g_rowMax g_inputMax (nI N) (nI R) g_held g_next g_leftLast g_taken g_prints g_closed b_nodeBlock b_nodeKind b_nodeA b_nodeB b_rowPhi b_rowPred b_rowNode b_endCond b_endYes b_endNo b_heldInput b_factState b_factValue b_isReached b_mark b_lastValue b_pending b_visitCount b_kept := by
  have hv : vp_in (nI n) 32 := vp_in_nI hn (by omega)
  have e : (nI n).toNatClampNeg = n := nI_clamp (by omega)
  refine zg_4y (P := post) hf h (fun h => ⟨hv, ?_⟩) (fun h => br_f qp_10 h) (fun h => br_f qp_10 ⟨hv, ?_⟩) (fun h => br_f qp_10 h) <;> rw [e] <;> exact h
theorem zg_y70 {post : Int32 → Prop} {r : Nat} {f x : Int32} (hr : r < 48) (hf : ¬ f < 0 ∧ f ≤ 2) (h : post (zg_3 x (b_rowPred r) (b_rowNode r) f)) : wY_rowField_70 post (nI r) f x (nI B) g_nodeMax g_rowMax g_inputMax (nI N) (nI R) g_held g_next g_leftLast g_taken g_prints g_closed b_nodeBlock b_nodeKind b_nodeA b_nodeB b_rowPhi b_rowPred b_rowNode b_endCond b_endYes b_endNo b_heldInput b_factState b_factValue b_isReached b_mark b_lastValue b_pending b_visitCount b_kept := by
  have hv : vp_in (nI r) 48 := vp_in_nI hr (by omega)
  have e : (nI r).toNatClampNeg = r := nI_clamp (by omega)
  refine zg_3y (P := post) hf h (fun h => h) (fun h => ⟨hv, ?_⟩) (fun h => ⟨hv, ?_⟩) <;> rw [e] <;> exact h
theorem zg_y113 {post : Int32 → Prop} {p : Nat} {f x : Int32} (hp : p < 24) (hf : ¬ f < 0 ∧ f ≤ 2) (h : post (zg_3 x (b_endYes p) (b_endNo p) f)) : wY_endField_113 post (nI p) f x (nI B) g_nodeMax g_rowMax g_inputMax (nI N) (nI R) g_held g_next g_leftLast g_taken g_prints g_closed b_nodeBlock b_nodeKind b_nodeA b_nodeB b_rowPhi b_rowPred b_rowNode b_endCond b_endYes b_endNo b_heldInput b_factState b_factValue b_isReached b_mark b_lastValue b_pending b_visitCount b_kept := by
  have hv : vp_in (nI p) 24 := vp_in_nI hp (by omega)
  have e : (nI p).toNatClampNeg = p := nI_clamp (by omega)
  refine zg_3y (P := post) hf h (fun h => h) (fun h => ⟨hv, ?_⟩) (fun h => ⟨hv, ?_⟩) <;> rw [e] <;> exact h
theorem zg_y91 {post : Int32 → Prop} {f x : Int32} (hf : ¬ f < 0 ∧ f ≤ 2) (h : post (zg_3 (-1) x 0 f)) : wY_endField_91 post f x (nI B) g_nodeMax g_rowMax g_inputMax (nI N) (nI R) g_held g_next g_leftLast g_taken g_prints g_closed b_nodeBlock b_nodeKind b_nodeA b_nodeB b_rowPhi b_rowPred b_rowNode b_endCond b_endYes b_endNo b_heldInput b_factState b_factValue b_isReached b_mark b_lastValue b_pending b_visitCount b_kept :=
  zg_3y (P := post) hf h (fun h => h) (fun h => h) (fun h => h)
theorem zg_yNn {post : Int32 → Prop} {x f : Int32} (hN : N ≤ 32) (z : ¬ vp_in x N) (p : post (-9)) : wpY_nodeField post (nI B, g_nodeMax, g_rowMax, g_inputMax, nI N, nI R, g_held, g_next, g_leftLast, g_taken, g_prints, g_closed, b_nodeBlock, b_nodeKind, b_nodeA, b_nodeB, b_rowPhi, b_rowPred, b_rowNode, b_endCond, b_endYes, b_endNo, b_heldInput, b_factState, b_factValue, b_isReached, b_mark, b_lastValue, b_pending, b_visitCount, b_kept) x f := by
  unfold wpY_nodeField
  dsimp only
  exact ya_isN hN (fun _ => br_t rfl p) (fun c => absurd c z)
theorem zg_yN {post : Int32 → Prop} {n : Nat} {f : Int32} (hN : N ≤ 32) (hn : n < N) (pf : ¬ (¬ f < 0 ∧ f ≤ 3) → post (-9)) (K : ¬ f < 0 ∧ f ≤ 3 → (g_closed = 0 → wY_nodeField_44 post (nI n) f (nI B) g_nodeMax g_rowMax g_inputMax (nI N) (nI R) g_held g_next g_leftLast g_taken g_prints g_closed b_nodeBlock b_nodeKind b_nodeA b_nodeB b_rowPhi b_rowPred b_rowNode b_endCond b_endYes b_endNo b_heldInput b_factState b_factValue b_isReached b_mark b_lastValue b_pending b_visitCount b_kept) ∧ (¬ g_closed = 0 → vp_in (b_nodeBlock n) 24 ∧ ((b_isReached (b_nodeBlock n).toNatClampNeg = 0 → post (-9)) ∧ (¬ b_isReached (b_nodeBlock n).toNatClampNeg = 0 → wY_nodeField_44 post (nI n) f (nI B) g_nodeMax g_rowMax g_inputMax (nI N) (nI R) g_held g_next g_leftLast g_taken g_prints g_closed b_nodeBlock b_nodeKind b_nodeA b_nodeB b_rowPhi b_rowPred b_rowNode b_endCond b_endYes b_endNo b_heldInput b_factState b_factValue b_isReached b_mark b_lastValue b_pending b_visitCount b_kept)))) : wpY_nodeField post (nI B, g_nodeMax, g_rowMax, g_inputMax, nI N, nI R, g_held, g_next, g_leftLast, g_taken, g_prints, g_closed, b_nodeBlock, b_nodeKind, b_nodeA, b_nodeB, b_rowPhi, b_rowPred, b_rowNode, b_endCond, b_endYes, b_endNo, b_heldInput, b_factState, b_factValue, b_isReached, b_mark, b_lastValue, b_pending, b_visitCount, b_kept) (nI n) f := by
  unfold wpY_nodeField
  dsimp only
  refine ya_isN hN (fun c => absurd (vp_in_nI hn (by omega)) c) (fun _ => br_f qp_10 (br_c (fun f0 => pf fun c => c.1 f0) (fun f0 => br_c (fun f3 => br_c (fun c => (K ⟨f0, f3⟩).1 c) (fun c => ⟨vp_in_nI (by omega) (by omega), ?_⟩)) (fun f3 => pf fun c => f3 c.2))))
  rw [nI_clamp (show n < 2 ^ 31 by omega)]
  exact (K ⟨f0, f3⟩).2 c
theorem zg_yEn {post : Int32 → Prop} {x f : Int32} (hB : B ≤ 24) (z : ¬ vp_in x B) (p : post (-9)) : wpY_endField post (nI B, g_nodeMax, g_rowMax, g_inputMax, nI N, nI R, g_held, g_next, g_leftLast, g_taken, g_prints, g_closed, b_nodeBlock, b_nodeKind, b_nodeA, b_nodeB, b_rowPhi, b_rowPred, b_rowNode, b_endCond, b_endYes, b_endNo, b_heldInput, b_factState, b_factValue, b_isReached, b_mark, b_lastValue, b_pending, b_visitCount, b_kept) x f := by
  unfold wpY_endField
  dsimp only
  exact ya_isB hB (fun _ => br_t rfl p) (fun c => absurd c z)
theorem zg_yE {post : Int32 → Prop} {n : Nat} {f : Int32} (hB : B ≤ 24) (hn : n < B) (pf : ¬ (¬ f < 0 ∧ f ≤ 2) → post (-9)) (K : ¬ f < 0 ∧ f ≤ 2 → (g_closed = 0 → wY_endField_39 post (nI n) f (nI B) g_nodeMax g_rowMax g_inputMax (nI N) (nI R) g_held g_next g_leftLast g_taken g_prints g_closed b_nodeBlock b_nodeKind b_nodeA b_nodeB b_rowPhi b_rowPred b_rowNode b_endCond b_endYes b_endNo b_heldInput b_factState b_factValue b_isReached b_mark b_lastValue b_pending b_visitCount b_kept) ∧ (¬ g_closed = 0 → (b_isReached n = 0 → post (-9)) ∧ (¬ b_isReached n = 0 → wY_endField_39 post (nI n) f (nI B) g_nodeMax g_rowMax g_inputMax (nI N) (nI R) g_held g_next g_leftLast g_taken g_prints g_closed b_nodeBlock b_nodeKind b_nodeA b_nodeB b_rowPhi b_rowPred b_rowNode b_endCond b_endYes b_endNo b_heldInput b_factState b_factValue b_isReached b_mark b_lastValue b_pending b_visitCount b_kept))) : wpY_endField post (nI B, g_nodeMax, g_rowMax, g_inputMax, nI N, nI R, g_held, g_next, g_leftLast, g_taken, g_prints, g_closed, b_nodeBlock, b_nodeKind, b_nodeA, b_nodeB, b_rowPhi, b_rowPred, b_rowNode, b_endCond, b_endYes, b_endNo, b_heldInput, b_factState, b_factValue, b_isReached, b_mark, b_lastValue, b_pending, b_visitCount, b_kept) (nI n) f := by
  unfold wpY_endField
  dsimp only
  refine ya_isB hB (fun c => absurd (vp_in_nI hn (by omega)) c) (fun _ => br_f qp_10 (br_c (fun f0 => pf fun c => c.1 f0) (fun f0 => br_c (fun f3 => br_c (fun c => (K ⟨f0, f3⟩).1 c) (fun c => ⟨vp_in_nI (by omega) (by omega), ?_⟩)) (fun f3 => pf fun c => f3 c.2))))
  rw [nI_clamp (show n < 2 ^ 31 by omega)]
  exact (K ⟨f0, f3⟩).2 c
end
/-- one answer for both, the fed graph -/
theorem zg_O (B NL RL HL N R H : Nat) (pm fs fv t1 t2 t3 t4 s1 s2 s3 s4 : Int32) (hm kd fa fb rp rq rv ro ec ey en ni ed dm us br nd hd pp ic mk pd kp : Nat → Int32) (h : zz_O B NL RL HL N R H pm hm kd fa fb rp rq rv ro ec ey en ni us br nd) (v1 v2 v3 : Int32) : ∃ r : Int32, (∀ post : Int32 → Prop, post r → wpX_graph post (nI B, nI NL, nI RL, nI HL, 0, nI N, nI R, pm, 0, 0, 0, fs, fv, nI H, t1, t2, t3, t4, hm, kd, fa, fb, rp, rq, rv, ro, ec, ey, en, ni, ed, dm, (fun _ => 0), us, br, nd, (fun _ => 0), (fun _ => 0), hd, pp, (fun _ => 0), ic, (fun _ => 0)) v1 v2 v3) ∧ (∀ post : Int32 → Prop, post r → wpY_graph post (nI B, nI NL, nI RL, nI HL, nI N, nI R, nI H, s1, s2, s3, s4, 0, hm, kd, fa, fb, rp, rq, rv, ec, ey, en, hd, (fun _ => 0), (fun _ => 0), (fun _ => 0), mk, (fun _ => 0), pd, (fun _ => 0), kp) v1 v2 v3) := by
  obtain ⟨⟨b2, b24, n1, n2, r1, r2, h1, h2⟩, We, Wn, Wr, _⟩ := h
  have hN : N ≤ 32 := by omega
  by_cases c0 : v1 = 0
  · by_cases z : vp_in v2 N
    · obtain ⟨n, hn, rfl⟩ := vp_in_of z (by omega)
      refine ⟨zg_4 (hm n) (kd n) (fa n) (fb n) v3, fun post p => br_t c0 ?_, fun post p => br_t c0 ?_⟩
      · exact zg_xNo hN hn p
      · exact zg_yN hN hn (fun f => by rw [zg_4n f] at p; exact p) (fun f => br_t rfl (br_t rfl (zg_y77 (by omega) f p)))
    · exact ⟨-9, fun post p => br_t c0 (zg_xNn hN z p), fun post p => br_t c0 (zg_yNn hN z p)⟩
  · by_cases c1 : v1 = 1
    · by_cases z : vp_in v2 R
      · obtain ⟨r, hr, rfl⟩ := vp_in_of z (by omega)
        have v48 : vp_in (nI r) 48 := vp_in_nI (by omega) (by omega)
        refine ⟨zg_3 (rp r) (rq r) (rv r) v3, fun post p => br_f c0 (br_t c1 ?_), fun post p => br_f c0 (br_t c1 ?_)⟩
        · refine br_f (nI_pos (by omega)) (pk_lt r R (fun _ => ⟨v48, fun x ex => br_t rfl (zg_x66 (by omega) ?_)⟩) (fun c => by omega))
          rw [ex, nI_clamp (by omega)]; exact p
        · refine br_f (nI_pos (by omega)) (pk_le R r (fun c => by omega) (fun _ => ?_))
          by_cases f : ¬ v3 < 0 ∧ v3 ≤ 2
          · refine br_f f.1 (br_t f.2 ⟨v48, fun x ex => br_t rfl (zg_y70 (by omega) f ?_)⟩)
            rw [ex, nI_clamp (by omega)]; exact p
          · rw [zg_3n f] at p
            exact br_c (fun _ => p) (fun f0 => br_f (fun f3 => f ⟨f0, f3⟩) p)
      · refine ⟨-9, fun post p => br_f c0 (br_t c1 (br_c (fun _ => p) (fun a => br_f (fun b => z ?_) p))), fun post p => br_f c0 (br_t c1 (br_c (fun _ => p) (fun a => br_t ?_ p)))⟩
        · obtain ⟨j, hj, rfl⟩ := nI_of a
          exact vp_in_nI ((nI_ltI hj (by omega)).mp b) (by omega)
        · exact (((qn_nin (by omega)).mp z).resolve_left a)
    · by_cases c2 : v1 = 2
      · by_cases z : vp_in v2 B
        · obtain ⟨q, hq, rfl⟩ := vp_in_of z (by omega)
          have v24 : vp_in (nI q) 24 := vp_in_nI (by omega) (by omega)
          refine ⟨zg_3 (ec q) (ey q) (en q) v3, fun post p => br_f c0 (br_f c1 (br_t c2 ?_)), fun post p => br_f c0 (br_f c1 (br_t c2 ?_))⟩
          · exact zg_xEo b24 hq p
          · refine zg_yE b24 hq (fun f => by rw [zg_3n f] at p; exact p) (fun f => br_t rfl ⟨v24, fun x ex => br_t rfl (zg_y113 (by omega) f ?_)⟩)
            rw [ex, nI_clamp (by omega)]; exact p
        · exact ⟨-9, fun post p => br_f c0 (br_f c1 (br_t c2 (zg_xEn b24 z p))), fun post p => br_f c0 (br_f c1 (br_t c2 (zg_yEn b24 z p)))⟩
      · by_cases c3 : v1 = 3 ∧ v3 = 0 ∧ vp_in v2 H
        · obtain ⟨c3, f0, z⟩ := c3
          have v16 : vp_in v2 16 := qn_in z (by omega)
          have hz : ¬ v2 < 0 ∧ ¬ nI H ≤ v2 := ⟨fun c => (qn_nin (B := H) (by omega)).mpr (Or.inl c) z, fun c => (qn_nin (B := H) (by omega)).mpr (Or.inr c) z⟩
          exact ⟨hd v2.toNatClampNeg, fun post p => br_f c0 (br_f c1 (br_f c2 (br_t c3 (br_t f0 (br_f hz.1 (br_f hz.2 ⟨v16, p⟩)))))), fun post p => br_f c0 (br_f c1 (br_f c2 (br_t c3 (br_t f0 (br_f hz.1 (br_f hz.2 ⟨v16, p⟩))))))⟩
        · have hz : ∀ a : v1 = 3, ∀ b : v3 = 0, ¬ v2 < 0 → nI H ≤ v2 := fun a b c => ((qn_nin (by omega)).mp fun z => c3 ⟨a, b, z⟩).resolve_left c
          exact ⟨-9, fun post p => br_f c0 (br_f c1 (br_f c2 (br_c (fun a => br_c (fun b => br_c (fun _ => p) (fun c => br_t (hz a b c) p)) (fun _ => p)) (fun _ => p)))), fun post p => br_f c0 (br_f c1 (br_f c2 (br_c (fun a => br_c (fun b => br_c (fun _ => p) (fun c => br_t (hz a b c) p)) (fun _ => p)) (fun _ => p))))⟩
/-- one answer for both, the sealed graph -/
theorem zg_S (B NL RL HL N R H T P : Nat) (pm rm fs fv nx lf : Int32) (hm kd fa fb rp rq rv ro ec ey en ni ed dm lo us br nd st cv hd pp lv ic vc rc mk pd kp : Nat → Int32) (h : zz_G B NL RL HL N R H pm rm hm kd fa fb rp rq rv ro ec ey en ni lo st cv rc) (v1 v2 v3 : Int32) : ∃ r : Int32, (∀ post : Int32 → Prop, post r → wpX_graph post (nI B, nI NL, nI RL, nI HL, 1, nI N, nI R, pm, rm, 0, 0, fs, fv, nI H, nI T, nI P, nx, lf, hm, qr_k N st kd, qr_a N st cv kd fa, qr_b N st kd fb, rp, rq, rv, ro, qr_c B st ec, qr_y B st cv ec ey en, qr_n B st ec en, ni, ed, dm, lo, us, br, nd, st, cv, hd, pp, lv, ic, vc) v1 v2 v3) ∧ (∀ post : Int32 → Prop, post r → wpY_graph post (nI B, nI NL, nI RL, nI HL, nI N, nI R, nI H, nx, lf, nI T, nI P, 1, hm, kd, fa, fb, rp, rq, rv, ec, ey, en, hd, st, cv, rc, mk, lv, pd, vc, kp) v1 v2 v3) := by
  obtain ⟨⟨b2, b24, n1, n2, r1, r2, h1, h2⟩, We, Wn, Wr, Wi, _, F, C, hrm, hlo, _⟩ := h
  have hN : N ≤ 32 := by omega
  have h3 : ∀ n, n < N → qp_3 (st n) := fun n hn => (F.2 n hn).1
  by_cases c0 : v1 = 0
  · by_cases z : vp_in v2 N
    · obtain ⟨n, hn, rfl⟩ := vp_in_of z (by omega)
      obtain ⟨_, _, ⟨b, hb, eb, _⟩, _⟩ := Wn n hn
      have ebc : (hm n).toNatClampNeg = b := by rw [eb, nI_clamp (by omega)]
      have vb : vp_in (hm n) 24 := by rw [eb]; exact vp_in_nI (by omega) (by omega)
      have v32 : vp_in (nI n) 32 := vp_in_nI (by omega) (by omega)
      have en' : (nI n).toNatClampNeg = n := nI_clamp (by omega)
      by_cases rb : rc b = 0
      · have rb' : bt rm b = false := qn_tf fun c => (hrm b hb).mp c rb
        refine ⟨-9, fun post p => br_t c0 (zg_xNs hN hn (by omega) eb (fun c => ?_) (fun _ => p)), fun post p => br_t c0 (zg_yN hN hn (fun _ => p) (fun f => br_f qp_10 ⟨vb, br_t (by rw [ebc]; exact rb) p⟩))⟩
        rw [rb'] at c; cases c
      · have rb' : bt rm b = true := (hrm b hb).mpr rb
        refine ⟨zg_4 (hm n) (qr_k N st kd n) (qr_a N st cv kd fa n) (qr_b N st kd fb n) v3, fun post p => br_t c0 (zg_xNs hN hn (by omega) eb (fun _ => p) (fun c => ?_)), fun post p => br_t c0 (zg_yN hN hn (fun f => by rw [zg_4n f] at p; exact p) (fun f => br_f qp_10 ⟨vb, br_f (by rw [ebc]; exact rb) (br_f qp_10 ⟨v32, ?_⟩)⟩))⟩
        · rw [rb'] at c; cases c
        · rw [en']
          unfold qr_k qr_a qr_b at p
          refine br_c (fun s1 => ⟨v32, ?_⟩) (fun s1 => ?_)
          · refine br_c (fun k8 => zg_y77 (by omega) f ?_) (fun k8 => zg_y77f (by omega) f ?_)
            · rw [if_neg (fun c => c.2.2 k8), if_neg (fun c => c.2.2 k8), if_neg (fun c => c.2.2 k8)] at p; exact p
            · rw [if_pos ⟨hn, s1, k8⟩, if_pos ⟨hn, s1, k8⟩, if_pos ⟨hn, s1, k8⟩] at p; exact p
          · rw [if_neg (fun c => s1 c.2.1), if_neg (fun c => s1 c.2.1), if_neg (fun c => s1 c.2.1)] at p
            exact zg_y77 (by omega) f p
    · exact ⟨-9, fun post p => br_t c0 (zg_xNn hN z p), fun post p => br_t c0 (zg_yNn hN z p)⟩
  · by_cases c1 : v1 = 1
    · by_cases z : vp_in v2 R
      · obtain ⟨r, hr, rfl⟩ := vp_in_of z (by omega)
        have v48 : vp_in (nI r) 48 := vp_in_nI (by omega) (by omega)
        have er : (nI r).toNatClampNeg = r := nI_clamp (by omega)
        obtain ⟨n, p, w, hn, hp, hw, e1, e2, e3, _⟩ := Wr.1 r hr
        obtain ⟨_, _, ⟨b, hb, eb, _⟩, _⟩ := Wn n hn
        have e1c : (rp r).toNatClampNeg = n := by rw [e1, nI_clamp (by omega)]
        have e2c : (rq r).toNatClampNeg = p := by rw [e2, nI_clamp (by omega)]
        have vn : vp_in (rp r) 32 := by rw [e1]; exact vp_in_nI (by omega) (by omega)
        have vq : vp_in (rq r) 24 := by rw [e2]; exact vp_in_nI (by omega) (by omega)
        have el : bt (lo p) b = true ↔ qy_lv ec ey en rc st cv p b := by
          rw [hlo p b hp (by omega), hrm p hp]; exact Iff.rfl
        have xg : ∀ post : Int32 → Prop, (st n = 2 → bt (lo p) b = true → post (zg_3 (rp r) (rq r) (rv r) v3)) → (¬ (st n = 2 ∧ bt (lo p) b = true) → post (-9)) → wpX_graph post (nI B, nI NL, nI RL, nI HL, 1, nI N, nI R, pm, rm, 0, 0, fs, fv, nI H, nI T, nI P, nx, lf, hm, qr_k N st kd, qr_a N st cv kd fa, qr_b N st kd fb, rp, rq, rv, ro, qr_c B st ec, qr_y B st cv ec ey en, qr_n B st ec en, ni, ed, dm, lo, us, br, nd, st, cv, hd, pp, lv, ic, vc) v1 (nI r) v3 := fun post p1 p0 => by
          refine br_f c0 (br_t c1 (br_f (nI_pos (by omega)) (pk_lt r R (fun _ => ⟨v48, fun x ex => br_f qp_10 ?_⟩) (fun c => by omega))))
          rw [er] at ex
          rw [er]
          subst ex
          refine ⟨vn, ?_⟩
          rw [e1c, e2c]
          refine br_c (fun s2 => ⟨v48, vq, vn, ?_⟩) (fun s2 => p0 fun c => s2 c.1)
          rw [eb]
          refine xa_hb (by omega) (fun hb0 => br_t rfl (p0 fun c => ?_)) (fun hb1 => br_f qp_10 (zg_x66 (by omega) (p1 s2 hb1)))
          rw [c.2] at hb0; cases hb0
        have yg : ∀ post : Int32 → Prop, (¬ (¬ v3 < 0 ∧ v3 ≤ 2) → post (-9)) → (st n = 2 → bt (lo p) b = true → post (zg_3 (rp r) (rq r) (rv r) v3)) → (¬ (st n = 2 ∧ bt (lo p) b = true) → post (-9)) → wpY_graph post (nI B, nI NL, nI RL, nI HL, nI N, nI R, nI H, nx, lf, nI T, nI P, 1, hm, kd, fa, fb, rp, rq, rv, ec, ey, en, hd, st, cv, rc, mk, lv, pd, vc, kp) v1 (nI r) v3 := fun post pf p1 p0 => by
          refine br_f c0 (br_t c1 (br_f (nI_pos (by omega)) (pk_le R r (fun c => by omega) (fun _ => br_c (fun f0 => pf fun c => c.1 f0) (fun f0 => br_c (fun f2 => ⟨v48, fun x ex => br_f qp_10 ?_⟩) (fun f2 => pf fun c => f2 c.2))))))
          rw [er] at ex
          rw [er]
          subst ex
          refine ⟨vn, ?_⟩
          rw [e1c]
          refine br_c (fun s2 => ⟨v48, vn, ?_⟩) (fun s2 => p0 fun c => s2 c.1)
          rw [e2, eb]
          exact ya_edgeLive b24 hN We h3 hp (by omega) (fun l => br_f qp_10 (zg_y70 (by omega) ⟨f0, f2⟩ (p1 s2 (el.mpr l)))) (fun l => br_t rfl (p0 fun c => l (el.mp c.2)))
        by_cases g : st n = 2 ∧ bt (lo p) b = true
        · exact ⟨zg_3 (rp r) (rq r) (rv r) v3, fun post q => xg post (fun _ _ => q) (fun c => absurd g c), fun post q => yg post (fun f => by rw [zg_3n f] at q; exact q) (fun _ _ => q) (fun c => absurd g c)⟩
        · exact ⟨-9, fun post q => xg post (fun a b => absurd ⟨a, b⟩ g) (fun _ => q), fun post q => yg post (fun _ => q) (fun a b => absurd ⟨a, b⟩ g) (fun _ => q)⟩
      · refine ⟨-9, fun post p => br_f c0 (br_t c1 (br_c (fun _ => p) (fun a => br_f (fun b => z ?_) p))), fun post p => br_f c0 (br_t c1 (br_c (fun _ => p) (fun a => br_t ?_ p)))⟩
        · obtain ⟨j, hj, rfl⟩ := nI_of a
          exact vp_in_nI ((nI_ltI hj (by omega)).mp b) (by omega)
        · exact (((qn_nin (by omega)).mp z).resolve_left a)
    · by_cases c2 : v1 = 2
      · by_cases z : vp_in v2 B
        · obtain ⟨q, hq, rfl⟩ := vp_in_of z (by omega)
          have v24 : vp_in (nI q) 24 := vp_in_nI (by omega) (by omega)
          have eq' : (nI q).toNatClampNeg = q := nI_clamp (by omega)
          by_cases rb : rc q = 0
          · have rb' : bt rm q = false := qn_tf fun c => (hrm q hq).mp c rb
            refine ⟨-9, fun post p => br_f c0 (br_f c1 (br_t c2 (zg_xEs b24 hq (fun c => ?_) (fun _ => p)))), fun post p => br_f c0 (br_f c1 (br_t c2 (zg_yE b24 hq (fun _ => p) (fun f => br_f qp_10 (br_t rb p)))))⟩
            rw [rb'] at c; cases c
          · have rb' : bt rm q = true := (hrm q hq).mpr rb
            refine ⟨zg_3 (qr_c B st ec q) (qr_y B st cv ec ey en q) (qr_n B st ec en q) v3, fun post p => br_f c0 (br_f c1 (br_t c2 (zg_xEs b24 hq (fun _ => p) (fun c => ?_)))), fun post p => br_f c0 (br_f c1 (br_t c2 (zg_yE b24 hq (fun f => by rw [zg_3n f] at p; exact p) (fun f => br_f qp_10 (br_f rb ⟨v24, fun x ex => br_f qp_10 ?_⟩)))))⟩
            · rw [rb'] at c; cases c
            · rw [eq'] at ex
              rw [eq']
              subst ex
              unfold qr_c qr_y qr_n at p
              refine br_c (fun k0 => ?_) (fun k0 => ?_)
              · rw [if_neg (fun c => c.2.1 k0), if_neg (fun c => c.2.1 k0), if_neg (fun c => c.2.1 k0)] at p
                exact zg_y113 (by omega) f p
              · obtain ⟨c, hc, e1, e2⟩ := qg_cond We hN hq k0
                have hcv : vp_in (ec q) 32 := by rw [e1]; exact vp_in_nI (by omega) (by omega)
                refine ⟨hcv, br_c (fun s1 => ⟨hcv, br_c (fun v0 => ⟨v24, zg_y91 f ?_⟩) (fun v0 => ⟨v24, zg_y91 f ?_⟩)⟩) (fun s1 => zg_y113 (by omega) f ?_)⟩
                · have g : q < B ∧ ¬ ec q < 0 ∧ st (ec q).toNatClampNeg = 1 := ⟨hq, k0, s1⟩
                  rw [if_pos g, if_pos g, if_pos g, if_pos v0] at p; exact p
                · have g : q < B ∧ ¬ ec q < 0 ∧ st (ec q).toNatClampNeg = 1 := ⟨hq, k0, s1⟩
                  rw [if_pos g, if_pos g, if_pos g, if_neg v0] at p; exact p
                · rw [if_neg (fun c => s1 c.2.2), if_neg (fun c => s1 c.2.2), if_neg (fun c => s1 c.2.2)] at p; exact p
        · exact ⟨-9, fun post p => br_f c0 (br_f c1 (br_t c2 (zg_xEn b24 z p))), fun post p => br_f c0 (br_f c1 (br_t c2 (zg_yEn b24 z p)))⟩
      · by_cases c3 : v1 = 3 ∧ v3 = 0 ∧ vp_in v2 H
        · obtain ⟨c3, f0, z⟩ := c3
          have v16 : vp_in v2 16 := qn_in z (by omega)
          have hz : ¬ v2 < 0 ∧ ¬ nI H ≤ v2 := ⟨fun c => (qn_nin (B := H) (by omega)).mpr (Or.inl c) z, fun c => (qn_nin (B := H) (by omega)).mpr (Or.inr c) z⟩
          exact ⟨hd v2.toNatClampNeg, fun post p => br_f c0 (br_f c1 (br_f c2 (br_t c3 (br_t f0 (br_f hz.1 (br_f hz.2 ⟨v16, p⟩)))))), fun post p => br_f c0 (br_f c1 (br_f c2 (br_t c3 (br_t f0 (br_f hz.1 (br_f hz.2 ⟨v16, p⟩))))))⟩
        · have hz : ∀ a : v1 = 3, ∀ b : v3 = 0, ¬ v2 < 0 → nI H ≤ v2 := fun a b c => ((qn_nin (by omega)).mp fun z => c3 ⟨a, b, z⟩).resolve_left c
          exact ⟨-9, fun post p => br_f c0 (br_f c1 (br_f c2 (br_c (fun a => br_c (fun b => br_c (fun _ => p) (fun c => br_t (hz a b c) p)) (fun _ => p)) (fun _ => p)))), fun post p => br_f c0 (br_f c1 (br_f c2 (br_c (fun a => br_c (fun b => br_c (fun _ => p) (fun c => br_t (hz a b c) p)) (fun _ => p)) (fun _ => p))))⟩
theorem i_vc_graph {k : Nat} {u : SX} {v : SY} (I : i_Rel k u v) (hk : k + 5 ≤ 2564) (v1 : Int32) (v2 : Int32) (v3 : Int32) : wpX_graph (fun r => wpY_graph (fun r' => r' = r ∧ i_Rel (k + 5) u v) v v1 v2 v3) u v1 v2 v3 := by
  refine zz_el (Q := fun u v => wpX_graph (fun r => wpY_graph (fun r' => r' = r ∧ i_Rel (k + 5) u v) v v1 v2 v3) u v1 v2 v3) ?_ ?_ I
  · intro B NL RL HL N R H pm fs fv t1 t2 t3 t4 s1 s2 s3 s4 hm kd fa fb rp rq rv ro ec ey en ni ed dm us br nd hd pp ic mk pd kp h
    obtain ⟨r, x, y⟩ := zg_O B NL RL HL N R H pm fs fv t1 t2 t3 t4 s1 s2 s3 s4 hm kd fa fb rp rq rv ro ec ey en ni ed dm us br nd hd pp ic mk pd kp h v1 v2 v3
    exact x _ (y _ ⟨rfl, zz_inO h⟩)
  · intro B NL RL HL N R H T P pm rm fs fv nx lf hm kd fa fb rp rq rv ro ec ey en ni ed dm lo us br nd st cv hd pp lv ic vc rc mk pd kp h
    obtain ⟨r, x, y⟩ := zg_S B NL RL HL N R H T P pm rm fs fv nx lf hm kd fa fb rp rq rv ro ec ey en ni ed dm lo us br nd st cv hd pp lv ic vc rc mk pd kp h.1 v1 v2 v3
    exact x _ (y _ ⟨rfl, zz_inS (zz_up (by omega) h)⟩)
end
section
/-! start and seal -/

theorem zs_start {k B NL RL HL N R H H' : Nat} {pm rm : Int32} {hm kd fa fb rp rq rv ro ec ey en ni lo st cv rc pp kp : Nat → Int32} (hH : H' ≤ HL) (h : zz_G B NL RL HL N R H pm rm hm kd fa fb rp rq rv ro ec ey en ni lo st cv rc) : zz_S k B NL RL HL N R H' 0 0 pm rm 0 (-1) hm kd fa fb rp rq rv ro ec ey en ni lo st cv pp (fun _ => 0) (fun _ => 0) rc kp := by
  refine ⟨zq_GH hH h, fun _ _ => rfl, fun _ _ => rfl, Nat.zero_le _, Nat.zero_le _, fun i hi => absurd hi (Nat.not_lt_zero _), fun _ => False, Or.inr ⟨0, ?_, rfl, ?_, fun x hx na => ?_, Or.inl ⟨rfl, rfl⟩⟩, fun n hn e => e.elim⟩
  · have := h.1; omega
  · exact h.2.2.2.2.2.2.2.1.1
  · refine Or.inl (Classical.byContradiction fun z => na (qd_A0 z))
theorem i_vc_start {k : Nat} {u : SX} {v : SY} (I : i_Rel k u v) (hk : k + 5 ≤ 2564) (v1 : Int32) : wpX_start (fun r u' => wpY_start (fun r' v' => r' = r ∧ i_Rel (k + 5) u' v') v v1) u v1 := by
  refine zz_el (Q := fun u v => wpX_start (fun r u' => wpY_start (fun r' v' => r' = r ∧ i_Rel (k + 5) u' v') v v1) u v1) ?_ ?_ I
  · intro B NL RL HL N R H pm fs fv t1 t2 t3 t4 s1 s2 s3 s4 hm kd fa fb rp rq rv ro ec ey en ni ed dm us br nd hd pp ic mk pd kp h
    exact br_t rfl (br_t rfl ⟨rfl, zz_inO h⟩)
  · intro B NL RL HL N R H T P pm rm fs fv nx lf hm kd fa fb rp rq rv ro ec ey en ni ed dm lo us br nd st cv hd pp lv ic vc rc mk pd kp h
    obtain ⟨g, hv, hl, _⟩ := h
    have hb := g.1
    refine xe_start (by omega) (by omega) qp_10 hv hl ?_
    refine yd_start (by omega) (by omega) qp_10 hv hl ⟨rfl, ?_⟩
    by_cases z : v1 = 0
    · rw [if_pos z]
      exact zz_inS (T := 0) (P := 0) (zs_start (by omega) g)
    · rw [if_neg z]
      exact zz_inS (H := 0) (T := 0) (P := 0) (zs_start (Nat.zero_le _) g)
/-- the reference after a seal that succeeds, from the component's solution -/
theorem zs_Y (B NL RL HL N R H : Nat) (pm fs fv t1 t2 t3 t4 s1 s2 s3 s4 : Int32) (hm kd fa fb rp rq rv ro ec ey en ni ed dm us br nd hd pp ic mk pd kp : Nat → Int32) (h : zz_O B NL RL HL N R H pm hm kd fa fb rp rq rv ro ec ey en ni us br nd) {post : Int32 → SY → Prop} (hP : qd_P B N hm kd ro ec ey en) (hD : qd_D B N R hm kd fa fb rq rv ec ey en) (K : ∀ mk rc st cv : Nat → Int32, qy_I B N R hm kd fa fb rv ro ec ey en rc st cv → qg_C B N R hm kd fa fb rv ro ec ey en (fun t => ¬ rc t = 0) st cv → post 0 (nI B, nI NL, nI RL, nI HL, nI N, nI R, nI H, 0, -1, 0, 0, 1, hm, kd, fa, fb, rp, rq, rv, ec, ey, en, hd, st, cv, rc, mk, (fun _ => 0), pd, (fun _ => 0), kp)) : wpY_seal post (nI B, nI NL, nI RL, nI HL, nI N, nI R, nI H, s1, s2, s3, s4, 0, hm, kd, fa, fb, rp, rq, rv, ec, ey, en, hd, (fun _ => 0), (fun _ => 0), (fun _ => 0), mk, (fun _ => 0), pd, (fun _ => 0), kp) := by
  obtain ⟨⟨b2, b24, n1, n2, r1, r2, h1, h2⟩, We, Wn, Wr, _⟩ := h
  have hN : N ≤ 32 := by omega
  have hR : R ≤ 48 := by omega
  have hB0 : 0 < B := by omega
  refine br_t rfl (ya_phisFit b24 hN hR We Wn Wr (fun _ => br_f qp_10 ?_) (fun c => absurd hP c))
  refine yb_domHolds b24 hB0 hN hR We Wn Wr (fun mk' _ => br_f qp_10 fun rc erc => ⟨200, ?_⟩) (fun _ c => absurd hD c)
  rw [ya_b1] at erc
  subst erc
  have I0 := qy_I0 (N := N) (R := R) (hm := hm) (kd := kd) (fa := fa) (fb := fb) (rv := rv) (ro := ro) (ec := ec) (ey := ey) (en := en) b24
  have bd := qy_M_bd hN b24 (upd (fun _ => 0) 0 1) (fun _ => 0)
  refine yd_loop b24 hN hR We Wn Wr (fun rc st cv I C => ?_) 200 0 1 _ _ _ I0 (by omega) (Or.inr ⟨rfl, by omega, by omega⟩)
  unfold wY_seal_66
  refine yd_start b24 hN qp_10 (fun _ _ => rfl) (fun _ _ => rfl) ?_
  rw [if_pos rfl]
  exact K mk' rc st cv I C
theorem i_vc_seal {k : Nat} {u : SX} {v : SY} (I : i_Rel k u v) (hk : k + 5 ≤ 2564) : wpX_seal (fun r u' => wpY_seal (fun r' v' => r' = r ∧ i_Rel (k + 5) u' v') v) u := by
  refine zz_el (Q := fun u v => wpX_seal (fun r u' => wpY_seal (fun r' v' => r' = r ∧ i_Rel (k + 5) u' v') v) u) ?_ ?_ I
  · intro B NL RL HL N R H pm fs fv t1 t2 t3 t4 s1 s2 s3 s4 hm kd fa fb rp rq rv ro ec ey en ni ed dm us br nd hd pp ic mk pd kp h
    have h' := h
    obtain ⟨⟨b2, b24, n1, n2, r1, r2, h1, h2⟩, We, Wn, Wr, Wu, Wi, Wp, Wb, Wd⟩ := h
    have hN : N ≤ 32 := by omega
    have hR : R ≤ 48 := by omega
    have hB0 : 0 < B := by omega
    refine br_t rfl (xa_findEdges b24 hN We (fun e he => ?_))
    refine xa_phisMatch b24 hN Wn he (fun hP => br_f qp_10 ?_) (fun nP => br_t rfl ?_)
    · refine xb_findDom b24 hB0 We he (fun dm' hd' => ?_)
      refine xb_domHolds b24 hN hR We Wn Wr Wd hd' (fun hD => br_f qp_10 ?_) (fun nD => br_t rfl ?_)
      · refine xd_solve b24 hB0 hN hR We Wn Wr Wu Wi Wp Wb he (fun rm fs' fv' lo st cv I => ?_)
        refine xe_reduce b24 hN We Wp (fun pm' bpm => ?_)
        refine xe_start b24 hN qp_10 (fun _ _ => rfl) (fun _ _ => rfl) ?_
        rw [if_pos rfl]
        refine zs_Y B NL RL HL N R H pm fs fv t1 t2 t3 t4 s1 s2 s3 s4 hm kd fa fb rp rq rv ro ec ey en ni ed dm us br nd hd pp ic mk pd kp h' hP hD (fun mk' rc st' cv' J C => ⟨rfl, ?_⟩)
        obtain ⟨C0, hlo⟩ := qs_fin b24 hN We I
        obtain ⟨e1, e2, hrm⟩ := qy_same b24 I.1 J.1 I.2.2.2.2.2.2.2.2 J.2.2.2 C0 C
        subst e1 e2
        refine zz_inS (T := 0) (P := 0) (zs_start (H := H) (by omega) ⟨⟨b2, b24, n1, n2, r1, r2, h1, h2⟩, We, Wn, Wr, Wi, bpm, I.1, C, hrm, hlo, hP, hD⟩)
      · refine br_t rfl (ya_phisFit b24 hN hR We Wn Wr (fun _ => br_f qp_10 ?_) (fun c => absurd hP c))
        exact yb_domHolds b24 hB0 hN hR We Wn Wr (fun _ c => absurd c nD) (fun mk' _ => br_t rfl ⟨rfl, zz_inO h'⟩)
    · exact br_t rfl (ya_phisFit b24 hN hR We Wn Wr (fun c => absurd c nP) (fun _ => br_t rfl ⟨rfl, zz_inO h'⟩))
  · intro B NL RL HL N R H T P pm rm fs fv nx lf hm kd fa fb rp rq rv ro ec ey en ni ed dm lo us br nd st cv hd pp lv ic vc rc mk pd kp h
    exact br_f qp_10 (br_f qp_10 ⟨rfl, zz_inS (zz_up (by omega) h)⟩)
end
section
/-! node -/

section
variable {B N R : Nat} {f_nodeLimit f_rowLimit f_heldLimit f_isSealed f_phiMask f_reachedMask f_pendingNodes f_pendingEnds f_foundState f_foundValue f_heldCount f_taken f_prints f_nextBlock f_leftBlock : Int32} {a_home a_kinds a_fieldA a_fieldB a_rowPhi a_rowPred a_rowValue a_rowOf a_endCond a_endYes a_endNo a_nodesIn a_edges a_dom a_liveOut a_users a_branchers a_needs a_states a_constants a_held a_paper a_lastValue a_incoming a_visitCount : Nat → Int32}
theorem zf_link {post : SX → Prop} {n o b : Nat} (hn : n < 32) (ho : o < 32) (eb : a_home o = nI b) (K : post (nI B, f_nodeLimit, f_rowLimit, f_heldLimit, f_isSealed, nI N, nI R, f_phiMask, f_reachedMask, f_pendingNodes, f_pendingEnds, f_foundState, f_foundValue, f_heldCount, f_taken, f_prints, f_nextBlock, f_leftBlock, a_home, a_kinds, a_fieldA, a_fieldB, a_rowPhi, a_rowPred, a_rowValue, a_rowOf, a_endCond, a_endYes, a_endNo, a_nodesIn, a_edges, a_dom, a_liveOut, upd a_users o (a_users o ||| ((1 : Int32) <<< (nI n &&& 31))), a_branchers, upd a_needs n (a_needs n ||| ((1 : Int32) <<< (nI b &&& 31))), a_states, a_constants, a_held, a_paper, a_lastValue, a_incoming, a_visitCount)) : wpX_linkOperand post (nI B, f_nodeLimit, f_rowLimit, f_heldLimit, f_isSealed, nI N, nI R, f_phiMask, f_reachedMask, f_pendingNodes, f_pendingEnds, f_foundState, f_foundValue, f_heldCount, f_taken, f_prints, f_nextBlock, f_leftBlock, a_home, a_kinds, a_fieldA, a_fieldB, a_rowPhi, a_rowPred, a_rowValue, a_rowOf, a_endCond, a_endYes, a_endNo, a_nodesIn, a_edges, a_dom, a_liveOut, a_users, a_branchers, a_needs, a_states, a_constants, a_held, a_paper, a_lastValue, a_incoming, a_visitCount) (nI n) (nI o) := by
  have vn : vp_in (nI n) 32 := vp_in_nI hn (by omega)
  have vo : vp_in (nI o) 32 := vp_in_nI ho (by omega)
  refine ⟨vo, vo, fun us eus => ⟨vn, vo, vn, fun nd end' => ?_⟩⟩
  rw [nI_clamp (by omega)] at eus
  rw [nI_clamp (by omega), nI_clamp (by omega), eb] at end'
  subst eus end'
  exact K
theorem zf_121 {post : Int32 → SX → Prop} {h : Nat} {k a b x5 x6 : Int32} (hN : N < 32) (hh : h < 24) (K : wX_node_185 post a b x5 x6 (nI N) (if x6 = 0 then 0 else b) (if x5 = 0 then (if k = 1 then a else 0) else a) k (nI N) (nI B) f_nodeLimit f_rowLimit f_heldLimit f_isSealed (nI (N + 1)) (nI R) f_phiMask f_reachedMask f_pendingNodes f_pendingEnds f_foundState f_foundValue f_heldCount f_taken f_prints f_nextBlock f_leftBlock (upd a_home N (nI h)) a_kinds a_fieldA a_fieldB a_rowPhi a_rowPred a_rowValue a_rowOf a_endCond a_endYes a_endNo (upd a_nodesIn h (a_nodesIn h ||| ((1 : Int32) <<< (nI N &&& 31)))) a_edges a_dom a_liveOut a_users a_branchers a_needs a_states a_constants a_held a_paper a_lastValue a_incoming a_visitCount) : wX_node_121 post (nI h) k a b x5 x6 (nI B) f_nodeLimit f_rowLimit f_heldLimit f_isSealed (nI N) (nI R) f_phiMask f_reachedMask f_pendingNodes f_pendingEnds f_foundState f_foundValue f_heldCount f_taken f_prints f_nextBlock f_leftBlock a_home a_kinds a_fieldA a_fieldB a_rowPhi a_rowPred a_rowValue a_rowOf a_endCond a_endYes a_endNo a_nodesIn a_edges a_dom a_liveOut a_users a_branchers a_needs a_states a_constants a_held a_paper a_lastValue a_incoming a_visitCount := by
  have vn : vp_in (nI N) 32 := vp_in_nI hN (by omega)
  have vh : vp_in (nI h) 24 := vp_in_nI hh (by omega)
  have t174 : ∀ z hm ni : _, wX_node_185 post a b x5 x6 (nI N) (if x6 = 0 then 0 else b) z k (nI N) (nI B) f_nodeLimit f_rowLimit f_heldLimit f_isSealed (nI (N + 1)) (nI R) f_phiMask f_reachedMask f_pendingNodes f_pendingEnds f_foundState f_foundValue f_heldCount f_taken f_prints f_nextBlock f_leftBlock hm a_kinds a_fieldA a_fieldB a_rowPhi a_rowPred a_rowValue a_rowOf a_endCond a_endYes a_endNo ni a_edges a_dom a_liveOut a_users a_branchers a_needs a_states a_constants a_held a_paper a_lastValue a_incoming a_visitCount → wX_node_174 post a b x5 x6 (nI N) z k (nI N) (nI B) f_nodeLimit f_rowLimit f_heldLimit f_isSealed (nI (N + 1)) (nI R) f_phiMask f_reachedMask f_pendingNodes f_pendingEnds f_foundState f_foundValue f_heldCount f_taken f_prints f_nextBlock f_leftBlock hm a_kinds a_fieldA a_fieldB a_rowPhi a_rowPred a_rowValue a_rowOf a_endCond a_endYes a_endNo ni a_edges a_dom a_liveOut a_users a_branchers a_needs a_states a_constants a_held a_paper a_lastValue a_incoming a_visitCount := fun z hm ni K => by
    refine br_c (fun c => ?_) (fun c => ?_)
    · rw [if_pos c] at K; exact K
    · rw [if_neg c] at K; exact K
  refine fun nc enc => ⟨vn, fun hm ehm => ⟨vh, vh, fun ni eni => ?_⟩⟩
  rw [nI_1] at enc
  rw [nI_clamp (by omega)] at ehm
  rw [nI_clamp (by omega)] at eni
  subst enc ehm eni
  refine br_c (fun c5 => br_c (fun c1 => t174 _ _ _ ?_) (fun c1 => t174 _ _ _ ?_)) (fun c5 => t174 _ _ _ ?_)
  · rw [if_pos c5, if_pos c1] at K; exact K
  · rw [if_pos c5, if_neg c1] at K; exact K
  · rw [if_neg c5] at K; exact K
theorem zf_xpre {post : Int32 → SX → Prop} {v1 v2 v3 v4 : Int32} (hB : B ≤ 24) (hb : vp_in v1 B) (k0 : ¬ v2 < 0) (k8 : v2 ≤ 8) (kp : ¬ (v2 = 0 ∧ v1 = 0)) (K : wX_node_44 post v1 v2 v3 v4 (nI B) f_nodeLimit f_rowLimit f_heldLimit 0 (nI N) (nI R) f_phiMask f_reachedMask f_pendingNodes f_pendingEnds f_foundState f_foundValue f_heldCount f_taken f_prints f_nextBlock f_leftBlock a_home a_kinds a_fieldA a_fieldB a_rowPhi a_rowPred a_rowValue a_rowOf a_endCond a_endYes a_endNo a_nodesIn a_edges a_dom a_liveOut a_users a_branchers a_needs a_states a_constants a_held a_paper a_lastValue a_incoming a_visitCount) : wpX_node post (nI B, f_nodeLimit, f_rowLimit, f_heldLimit, 0, nI N, nI R, f_phiMask, f_reachedMask, f_pendingNodes, f_pendingEnds, f_foundState, f_foundValue, f_heldCount, f_taken, f_prints, f_nextBlock, f_leftBlock, a_home, a_kinds, a_fieldA, a_fieldB, a_rowPhi, a_rowPred, a_rowValue, a_rowOf, a_endCond, a_endYes, a_endNo, a_nodesIn, a_edges, a_dom, a_liveOut, a_users, a_branchers, a_needs, a_states, a_constants, a_held, a_paper, a_lastValue, a_incoming, a_visitCount) v1 v2 v3 v4 :=
  br_t rfl (xa_isB hB (fun c => absurd hb c) (fun _ => br_f qp_10 (br_f k0 (br_t k8 (br_c (fun a => br_f (fun b => kp ⟨a, b⟩) K) (fun _ => K))))))
end
section
variable {B N R : Nat} {g_nodeMax g_rowMax g_inputMax g_held g_next g_leftLast g_taken g_prints g_closed : Int32} {b_nodeBlock b_nodeKind b_nodeA b_nodeB b_rowPhi b_rowPred b_rowNode b_endCond b_endYes b_endNo b_heldInput b_factState b_factValue b_isReached b_mark b_lastValue b_pending b_visitCount b_kept : Nat → Int32}
theorem zf_ypre {post : Int32 → SY → Prop} {v1 v2 v3 v4 : Int32} (hB : B ≤ 24) (hb : vp_in v1 B) (k0 : ¬ v2 < 0) (k8 : v2 ≤ 8) (kp : ¬ (v2 = 0 ∧ v1 = 0)) (K : wY_node_44 post v1 v2 v3 v4 (nI B) g_nodeMax g_rowMax g_inputMax (nI N) (nI R) g_held g_next g_leftLast g_taken g_prints 0 b_nodeBlock b_nodeKind b_nodeA b_nodeB b_rowPhi b_rowPred b_rowNode b_endCond b_endYes b_endNo b_heldInput b_factState b_factValue b_isReached b_mark b_lastValue b_pending b_visitCount b_kept) : wpY_node post (nI B, g_nodeMax, g_rowMax, g_inputMax, nI N, nI R, g_held, g_next, g_leftLast, g_taken, g_prints, 0, b_nodeBlock, b_nodeKind, b_nodeA, b_nodeB, b_rowPhi, b_rowPred, b_rowNode, b_endCond, b_endYes, b_endNo, b_heldInput, b_factState, b_factValue, b_isReached, b_mark, b_lastValue, b_pending, b_visitCount, b_kept) v1 v2 v3 v4 :=
  br_t rfl (ya_isB hB (fun c => absurd hb c) (fun _ => br_f qp_10 (br_f k0 (br_t k8 (br_c (fun a => br_f (fun b => kp ⟨a, b⟩) K) (fun _ => K))))))
theorem zf_y97 {post : Int32 → SY → Prop} {h k a b : Int32} (hN : N < 32) (K : post (nI N) (nI B, g_nodeMax, g_rowMax, g_inputMax, nI (N + 1), nI R, g_held, g_next, g_leftLast, g_taken, g_prints, g_closed, upd b_nodeBlock N h, upd b_nodeKind N k, upd b_nodeA N (if k = 0 ∨ k = 2 then 0 else a), upd b_nodeB N (if k < 3 ∨ 7 < k then 0 else b), b_rowPhi, b_rowPred, b_rowNode, b_endCond, b_endYes, b_endNo, b_heldInput, b_factState, b_factValue, b_isReached, b_mark, b_lastValue, b_pending, b_visitCount, b_kept)) : wY_node_97 post h k a b (nI B) g_nodeMax g_rowMax g_inputMax (nI N) (nI R) g_held g_next g_leftLast g_taken g_prints g_closed b_nodeBlock b_nodeKind b_nodeA b_nodeB b_rowPhi b_rowPred b_rowNode b_endCond b_endYes b_endNo b_heldInput b_factState b_factValue b_isReached b_mark b_lastValue b_pending b_visitCount b_kept := by
  have vn : vp_in (nI N) 32 := vp_in_nI hN (by omega)
  have en : (nI N).toNatClampNeg = N := nI_clamp (by omega)
  have t165 : ∀ z : Int32, ∀ hm kd fa : Nat → Int32, post (nI N) (nI B, g_nodeMax, g_rowMax, g_inputMax, nI (N + 1), nI R, g_held, g_next, g_leftLast, g_taken, g_prints, g_closed, hm, kd, fa, upd b_nodeB N z, b_rowPhi, b_rowPred, b_rowNode, b_endCond, b_endYes, b_endNo, b_heldInput, b_factState, b_factValue, b_isReached, b_mark, b_lastValue, b_pending, b_visitCount, b_kept) → wY_node_165 post z (nI N) (nI B) g_nodeMax g_rowMax g_inputMax (nI N) (nI R) g_held g_next g_leftLast g_taken g_prints g_closed hm kd fa b_nodeB b_rowPhi b_rowPred b_rowNode b_endCond b_endYes b_endNo b_heldInput b_factState b_factValue b_isReached b_mark b_lastValue b_pending b_visitCount b_kept := fun z hm kd fa K => by
    refine ⟨vn, fun fb efb nc enc => ?_⟩
    rw [en] at efb
    rw [nI_1] at enc
    subst efb enc
    rw [nI_pred]; exact K
  have t139 : ∀ z : Int32, ∀ hm kd : Nat → Int32, post (nI N) (nI B, g_nodeMax, g_rowMax, g_inputMax, nI (N + 1), nI R, g_held, g_next, g_leftLast, g_taken, g_prints, g_closed, hm, kd, upd b_nodeA N z, upd b_nodeB N (if k < 3 ∨ 7 < k then 0 else b), b_rowPhi, b_rowPred, b_rowNode, b_endCond, b_endYes, b_endNo, b_heldInput, b_factState, b_factValue, b_isReached, b_mark, b_lastValue, b_pending, b_visitCount, b_kept) → wY_node_139 post k b z (nI N) (nI B) g_nodeMax g_rowMax g_inputMax (nI N) (nI R) g_held g_next g_leftLast g_taken g_prints g_closed hm kd b_nodeA b_nodeB b_rowPhi b_rowPred b_rowNode b_endCond b_endYes b_endNo b_heldInput b_factState b_factValue b_isReached b_mark b_lastValue b_pending b_visitCount b_kept := fun z hm kd K => by
    refine ⟨vn, fun fa efa => ?_⟩
    rw [en] at efa
    subst efa
    refine br_c (fun c => t165 _ _ _ _ ?_) (fun c => br_c (fun d => t165 _ _ _ _ ?_) (fun d => t165 _ _ _ _ ?_))
    · rw [if_pos (Or.inl c)] at K; exact K
    · rw [if_pos (Or.inr d)] at K; exact K
    · rw [if_neg (by rintro (e | e); exact c e; exact d e)] at K; exact K
  refine ⟨vn, fun hm ehm => ⟨vn, fun kd ekd => ?_⟩⟩
  rw [en] at ehm ekd
  subst ehm ekd
  refine br_c (fun c => t139 _ _ _ ?_) (fun c => br_c (fun d => t139 _ _ _ ?_) (fun d => t139 _ _ _ ?_))
  · rw [if_pos (Or.inl c)] at K; exact K
  · rw [if_pos (Or.inr d)] at K; exact K
  · rw [if_neg (by rintro (e | e); exact c e; exact d e)] at K; exact K
end
theorem zf_add {B NL RL HL N R H : Nat} {pm : Int32} {hm kd fa fb rp rq rv ro ec ey en ni us br nd : Nat → Int32} (h : zz_O B NL RL HL N R H pm hm kd fa fb rp rq rv ro ec ey en ni us br nd) (hN : N < NL) {h1 : Nat} (hh : h1 < B) {k a b : Int32} (k0 : ¬ k < 0) (k8 : k ≤ 8) (kp : k = 0 → 0 < h1) (ha : ¬ k < 3 → vp_in a N) (hb : ¬ k < 3 → ¬ 7 < k → vp_in b N) {pm' : Int32} {us' nd' : Nat → Int32} (bpm : ∀ i, i < 32 → bt pm' i = if i = N then decide (k = 0) else bt pm i) (bus : ∀ m i, i < 32 → (bt (us' m) i = true ↔ bt (us m) i = true ∨ (i = N ∧ ((¬ k < 3 ∧ a.toNatClampNeg = m) ∨ (¬ k < 3 ∧ ¬ 7 < k ∧ b.toNatClampNeg = m))))) (bnd1 : ∀ n, ¬ n = N → nd' n = nd n) (bnd : ∀ c, c < 32 → (bt (nd' N) c = true ↔ (¬ k < 3 ∧ (hm a.toNatClampNeg).toNatClampNeg = c) ∨ (¬ k < 3 ∧ ¬ 7 < k ∧ (hm b.toNatClampNeg).toNatClampNeg = c))) {a' b' : Int32} (ea : ¬ k < 3 → a' = a) (eb : ¬ k < 3 → ¬ 7 < k → b' = b) : zz_O B NL RL HL (N + 1) R H pm' (upd hm N (nI h1)) (upd kd N k) (upd fa N a') (upd fb N b') rp rq rv ro ec ey en (upd ni h1 (ni h1 ||| ((1 : Int32) <<< (nI N &&& 31)))) us' br nd' := by
  obtain ⟨⟨b2, b24, n1, n2, r1, r2, h1', h2⟩, We, Wn, Wr, Wu, Wi, Wp, Wb, Wd⟩ := h
  refine ⟨⟨b2, b24, by omega, n2, r1, r2, h1', h2⟩, fun p hp => ?_, fun n hn => ?_, ⟨fun r hr => ?_, Wr.2⟩, ⟨fun n hn => ⟨fun k3 => ?_, fun k3 k7 => ?_⟩, fun r hr => ?_, fun m i hi hx => ?_⟩, fun c i hc hi => ?_, fun i hi => ?_, Wb, ⟨fun n c hn hc => ?_, fun n hn => ?_⟩⟩
  · rcases We p hp with x | x | ⟨c, t, s, hc, x⟩
    · exact Or.inl x
    · exact Or.inr (Or.inl x)
    · exact Or.inr (Or.inr ⟨c, t, s, by omega, x⟩)
  · by_cases z : n = N
    · subst z
      rw [pk_us, pk_us, pk_us, pk_us]
      refine ⟨k0, k8, ⟨h1, hh, rfl, kp⟩, fun k3 => ?_, fun k3 k7 => ?_⟩
      · obtain ⟨j, hj, e⟩ := vp_in_of (ha k3) (by omega)
        exact ⟨j, hj, (ea k3).trans e⟩
      · obtain ⟨j, hj, e⟩ := vp_in_of (hb k3 k7) (by omega)
        exact ⟨j, hj, (eb k3 k7).trans e⟩
    · rw [pk_un z, pk_un z, pk_un z, pk_un z]
      exact Wn n (by omega)
  · obtain ⟨n, p, v, hn, hp, hv, e1, e2, e3, e4, e5⟩ := Wr.1 r hr
    exact ⟨n, p, v, by omega, hp, by omega, e1, e2, e3, by rw [pk_un (by omega)]; exact e4, e5⟩
  · by_cases z : n = N
    · subst z
      rw [pk_us] at k3
      rw [pk_us, ea k3]
      exact (bus _ n (by omega)).mpr (Or.inr ⟨rfl, Or.inl ⟨k3, rfl⟩⟩)
    · rw [pk_un z] at k3
      rw [pk_un z]
      exact (bus _ n (by omega)).mpr (Or.inl ((Wu.1 n (by omega)).1 k3))
  · by_cases z : n = N
    · subst z
      rw [pk_us] at k3 k7
      rw [pk_us, eb k3 k7]
      exact (bus _ n (by omega)).mpr (Or.inr ⟨rfl, Or.inr ⟨k3, k7, rfl⟩⟩)
    · rw [pk_un z] at k3 k7
      rw [pk_un z]
      exact (bus _ n (by omega)).mpr (Or.inl ((Wu.1 n (by omega)).2 k3 k7))
  · obtain ⟨n, p, v, hn, hp, hv, e1, _⟩ := Wr.1 r hr
    have hx : (rp r).toNatClampNeg < 32 := by rw [e1, nI_clamp (by omega)]; omega
    exact (bus _ _ hx).mpr (Or.inl (Wu.2.1 r hr))
  · rcases (bus m i hi).mp hx with y | ⟨y, _⟩
    · have := Wu.2.2 m i hi y; omega
    · omega
  · by_cases z : c = h1
    · subst z
      rw [pk_us, b_or, qa_sh (by omega) hi, Bool.or_eq_true, decide_eq_true_eq, Wi c i hc hi]
      constructor
      · rintro (⟨y, y'⟩ | y)
        · exact ⟨by omega, by rw [pk_un (by omega)]; exact y'⟩
        · subst y; exact ⟨by omega, pk_us⟩
      · rintro ⟨y, y'⟩
        by_cases w : i = N
        · exact Or.inr w
        · rw [pk_un w] at y'; exact Or.inl ⟨by omega, y'⟩
    · rw [pk_un z, Wi c i hc hi]
      constructor
      · rintro ⟨y, y'⟩
        exact ⟨by omega, by rw [pk_un (by omega)]; exact y'⟩
      · rintro ⟨y, y'⟩
        by_cases w : i = N
        · subst w
          rw [pk_us, nI_eq (by omega) (by omega)] at y'
          exact absurd y'.symm z
        · rw [pk_un w] at y'; exact ⟨by omega, y'⟩
  · rw [bpm i hi]
    by_cases w : i = N
    · subst w
      rw [if_pos rfl, pk_us, decide_eq_true_eq]
      exact ⟨fun y => ⟨by omega, y⟩, fun y => y.2⟩
    · rw [if_neg w, pk_un w, Wp i hi]
      exact ⟨fun y => ⟨by omega, y.2⟩, fun y => ⟨by omega, y.2⟩⟩
  · by_cases z : n = N
    · subst z
      rw [pk_us, pk_us, pk_us, bnd c hc]
      have xa : ¬ k < 3 → upd hm n (nI h1) a'.toNatClampNeg = hm a.toNatClampNeg := fun k3 => by
        obtain ⟨j, hj, e⟩ := vp_in_of (ha k3) (by omega)
        rw [ea k3, e, nI_clamp (by omega), pk_un (by omega)]
      have xb : ¬ k < 3 → ¬ 7 < k → upd hm n (nI h1) b'.toNatClampNeg = hm b.toNatClampNeg := fun k3 k7 => by
        obtain ⟨j, hj, e⟩ := vp_in_of (hb k3 k7) (by omega)
        rw [eb k3 k7, e, nI_clamp (by omega), pk_un (by omega)]
      constructor
      · rintro (⟨k3, y⟩ | ⟨k3, k7, y⟩)
        · exact Or.inl ⟨k3, by rw [xa k3]; exact y⟩
        · exact Or.inr ⟨k3, k7, by rw [xb k3 k7]; exact y⟩
      · rintro (⟨k3, y⟩ | ⟨k3, k7, y⟩)
        · exact Or.inl ⟨k3, by rw [xa k3] at y; exact y⟩
        · exact Or.inr ⟨k3, k7, by rw [xb k3 k7] at y; exact y⟩
    · obtain ⟨_, _, _, wa, wb⟩ := Wn n (by omega)
      have xa : ¬ kd n < 3 → upd hm N (nI h1) (fa n).toNatClampNeg = hm (fa n).toNatClampNeg := fun k3 => by
        obtain ⟨j, hj, e⟩ := wa k3
        rw [e, nI_clamp (by omega), pk_un (by omega)]
      have xb : ¬ kd n < 3 → ¬ 7 < kd n → upd hm N (nI h1) (fb n).toNatClampNeg = hm (fb n).toNatClampNeg := fun k3 k7 => by
        obtain ⟨j, hj, e⟩ := wb k3 k7
        rw [e, nI_clamp (by omega), pk_un (by omega)]
      rw [pk_un z, pk_un z, pk_un z, bnd1 n z, Wd.1 n c (by omega) hc]
      constructor
      · rintro (⟨k3, y⟩ | ⟨k3, k7, y⟩)
        · exact Or.inl ⟨k3, by rw [xa k3]; exact y⟩
        · exact Or.inr ⟨k3, k7, by rw [xb k3 k7]; exact y⟩
      · rintro (⟨k3, y⟩ | ⟨k3, k7, y⟩)
        · exact Or.inl ⟨k3, by rw [xa k3] at y; exact y⟩
        · exact Or.inr ⟨k3, k7, by rw [xb k3 k7] at y; exact y⟩
  · rw [bnd1 n (by omega)]; exact Wd.2 n (by omega)
theorem zf_node (B NL RL HL N R H : Nat) (pm fs fv t1 t2 t3 t4 s1 s2 s3 s4 : Int32) (hm kd fa fb rp rq rv ro ec ey en ni ed dm us br nd hd pp ic mk pd kp : Nat → Int32) (h : zz_O B NL RL HL N R H pm hm kd fa fb rp rq rv ro ec ey en ni us br nd) (k : Nat) (v1 v2 v3 v4 : Int32) : ∃ (r : Int32) (u' : SX) (v' : SY), i_Rel (k + 5) u' v' ∧ (∀ post : Int32 → SX → Prop, post r u' → wpX_node post (nI B, nI NL, nI RL, nI HL, 0, nI N, nI R, pm, 0, 0, 0, fs, fv, nI H, t1, t2, t3, t4, hm, kd, fa, fb, rp, rq, rv, ro, ec, ey, en, ni, ed, dm, (fun _ => 0), us, br, nd, (fun _ => 0), (fun _ => 0), hd, pp, (fun _ => 0), ic, (fun _ => 0)) v1 v2 v3 v4) ∧ (∀ post : Int32 → SY → Prop, post r v' → wpY_node post (nI B, nI NL, nI RL, nI HL, nI N, nI R, nI H, s1, s2, s3, s4, 0, hm, kd, fa, fb, rp, rq, rv, ec, ey, en, hd, (fun _ => 0), (fun _ => 0), (fun _ => 0), mk, (fun _ => 0), pd, (fun _ => 0), kp) v1 v2 v3 v4) := by
  have hb := h.1
  have Wd := h.2.2.2.2.2.2.2.2
  have Wn := h.2.2.1
  have b24 : B ≤ 24 := by omega
  have hN32 : N ≤ 32 := by omega
  by_cases hv1 : vp_in v1 B
  case neg => exact ⟨-3, (nI B, nI NL, nI RL, nI HL, 0, nI N, nI R, pm, 0, 0, 0, fs, fv, nI H, t1, t2, t3, t4, hm, kd, fa, fb, rp, rq, rv, ro, ec, ey, en, ni, ed, dm, (fun _ => 0), us, br, nd, (fun _ => 0), (fun _ => 0), hd, pp, (fun _ => 0), ic, (fun _ => 0)), (nI B, nI NL, nI RL, nI HL, nI N, nI R, nI H, s1, s2, s3, s4, 0, hm, kd, fa, fb, rp, rq, rv, ec, ey, en, hd, (fun _ => 0), (fun _ => 0), (fun _ => 0), mk, (fun _ => 0), pd, (fun _ => 0), kp), zz_inO h, fun post p => br_t rfl (xa_isB b24 (fun _ => br_t rfl p) (fun c => absurd c hv1)), fun post p => br_t rfl (ya_isB b24 (fun _ => br_t rfl p) (fun c => absurd c hv1))⟩
  by_cases k0 : v2 < 0
  · exact ⟨-5, (nI B, nI NL, nI RL, nI HL, 0, nI N, nI R, pm, 0, 0, 0, fs, fv, nI H, t1, t2, t3, t4, hm, kd, fa, fb, rp, rq, rv, ro, ec, ey, en, ni, ed, dm, (fun _ => 0), us, br, nd, (fun _ => 0), (fun _ => 0), hd, pp, (fun _ => 0), ic, (fun _ => 0)), (nI B, nI NL, nI RL, nI HL, nI N, nI R, nI H, s1, s2, s3, s4, 0, hm, kd, fa, fb, rp, rq, rv, ec, ey, en, hd, (fun _ => 0), (fun _ => 0), (fun _ => 0), mk, (fun _ => 0), pd, (fun _ => 0), kp), zz_inO h, fun post p => br_t rfl (xa_isB b24 (fun c => absurd hv1 c) (fun _ => br_f qp_10 (br_t k0 p))), fun post p => br_t rfl (ya_isB b24 (fun c => absurd hv1 c) (fun _ => br_f qp_10 (br_t k0 p)))⟩
  by_cases k8 : v2 ≤ 8
  case neg => exact ⟨-5, (nI B, nI NL, nI RL, nI HL, 0, nI N, nI R, pm, 0, 0, 0, fs, fv, nI H, t1, t2, t3, t4, hm, kd, fa, fb, rp, rq, rv, ro, ec, ey, en, ni, ed, dm, (fun _ => 0), us, br, nd, (fun _ => 0), (fun _ => 0), hd, pp, (fun _ => 0), ic, (fun _ => 0)), (nI B, nI NL, nI RL, nI HL, nI N, nI R, nI H, s1, s2, s3, s4, 0, hm, kd, fa, fb, rp, rq, rv, ec, ey, en, hd, (fun _ => 0), (fun _ => 0), (fun _ => 0), mk, (fun _ => 0), pd, (fun _ => 0), kp), zz_inO h, fun post p => br_t rfl (xa_isB b24 (fun c => absurd hv1 c) (fun _ => br_f qp_10 (br_f k0 (br_f k8 p)))), fun post p => br_t rfl (ya_isB b24 (fun c => absurd hv1 c) (fun _ => br_f qp_10 (br_f k0 (br_f k8 p))))⟩
  by_cases kz : v2 = 0 ∧ v1 = 0
  · exact ⟨-3, (nI B, nI NL, nI RL, nI HL, 0, nI N, nI R, pm, 0, 0, 0, fs, fv, nI H, t1, t2, t3, t4, hm, kd, fa, fb, rp, rq, rv, ro, ec, ey, en, ni, ed, dm, (fun _ => 0), us, br, nd, (fun _ => 0), (fun _ => 0), hd, pp, (fun _ => 0), ic, (fun _ => 0)), (nI B, nI NL, nI RL, nI HL, nI N, nI R, nI H, s1, s2, s3, s4, 0, hm, kd, fa, fb, rp, rq, rv, ec, ey, en, hd, (fun _ => 0), (fun _ => 0), (fun _ => 0), mk, (fun _ => 0), pd, (fun _ => 0), kp), zz_inO h, fun post p => br_t rfl (xa_isB b24 (fun c => absurd hv1 c) (fun _ => br_f qp_10 (br_f k0 (br_t k8 (br_t kz.1 (br_t kz.2 p)))))), fun post p => br_t rfl (ya_isB b24 (fun c => absurd hv1 c) (fun _ => br_f qp_10 (br_f k0 (br_t k8 (br_t kz.1 (br_t kz.2 p))))))⟩
  by_cases hl : N < NL
  case neg => exact ⟨-2, (nI B, nI NL, nI RL, nI HL, 0, nI N, nI R, pm, 0, 0, 0, fs, fv, nI H, t1, t2, t3, t4, hm, kd, fa, fb, rp, rq, rv, ro, ec, ey, en, ni, ed, dm, (fun _ => 0), us, br, nd, (fun _ => 0), (fun _ => 0), hd, pp, (fun _ => 0), ic, (fun _ => 0)), (nI B, nI NL, nI RL, nI HL, nI N, nI R, nI H, s1, s2, s3, s4, 0, hm, kd, fa, fb, rp, rq, rv, ec, ey, en, hd, (fun _ => 0), (fun _ => 0), (fun _ => 0), mk, (fun _ => 0), pd, (fun _ => 0), kp), zz_inO h, fun post p => zf_xpre b24 hv1 k0 k8 kz (pk_lt N NL (fun c => absurd c hl) (fun _ => p)), fun post p => zf_ypre b24 hv1 k0 k8 kz (pk_lt N NL (fun c => absurd c hl) (fun _ => p))⟩
  obtain ⟨h1, hh1, rfl⟩ := vp_in_of hv1 (by omega)
  have kz' : v2 = 0 → 0 < h1 := fun e => by
    rcases Nat.eq_zero_or_pos h1 with z | z
    · subst z; exact absurd ⟨e, rfl⟩ kz
    · exact z
  have nd0 : nd N = 0 := Wd.2 N (Nat.le_refl _)
  by_cases k3 : v2 < 3
  · -- no operands
    have ea : (if v2 = 0 ∨ v2 = 2 then (0 : Int32) else v3) = (if v2 = 1 then v3 else 0) := by
      rcases zq_2 k0 (by
        obtain ⟨j, hj, rfl⟩ := nI_of k0
        exact nI_le (b := 2) (by have := (nI_ltI (b := 3) hj (by omega)).mp k3; omega) (by omega)) with e | e | e
      · rw [if_pos (Or.inl e), if_neg (by rw [e]; decide)]
      · rw [if_neg (by rw [e]; decide), if_pos e]
      · rw [if_pos (Or.inr e), if_neg (by rw [e]; decide)]
    have eb : (if v2 < 3 ∨ 7 < v2 then (0 : Int32) else v4) = 0 := if_pos (Or.inl k3)
    have addn : ∀ pm' : Int32, (∀ i, i < 32 → bt pm' i = if i = N then decide (v2 = 0) else bt pm i) → zz_O B NL RL HL (N + 1) R H pm' (upd hm N (nI h1)) (upd kd N v2) (upd fa N (if v2 = 1 then v3 else 0)) (upd fb N 0) rp rq rv ro ec ey en (upd ni h1 (ni h1 ||| ((1 : Int32) <<< (nI N &&& 31)))) us br nd := fun pm' bpm => by
      refine zf_add h hl hh1 (a := 0) (b := 0) k0 k8 kz' (fun c => absurd k3 c) (fun c => absurd k3 c) bpm (fun m i hi => ⟨Or.inl, ?_⟩) (fun _ _ => rfl) (fun c hc => ⟨fun y => ?_, ?_⟩) (fun c => absurd k3 c) (fun c => absurd k3 c)
      · rintro (y | ⟨_, ⟨y, _⟩ | ⟨y, _⟩⟩)
        · exact y
        · exact absurd k3 y
        · exact absurd k3 y
      · rw [nd0, b_0] at y; cases y
      · rintro (⟨y, _⟩ | ⟨y, _⟩)
        · exact absurd k3 y
        · exact absurd k3 y
    have xw : ∃ pm' : Int32, (∀ i, i < 32 → bt pm' i = if i = N then decide (v2 = 0) else bt pm i) ∧ ∀ post : Int32 → SX → Prop, post (nI N) (nI B, nI NL, nI RL, nI HL, 0, nI (N + 1), nI R, pm', 0, 0, 0, fs, fv, nI H, t1, t2, t3, t4, upd hm N (nI h1), upd kd N v2, upd fa N (if v2 = 1 then v3 else 0), upd fb N 0, rp, rq, rv, ro, ec, ey, en, upd ni h1 (ni h1 ||| ((1 : Int32) <<< (nI N &&& 31))), ed, dm, (fun _ => 0), us, br, nd, (fun _ => 0), (fun _ => 0), hd, pp, (fun _ => 0), ic, (fun _ => 0)) → wpX_node post (nI B, nI NL, nI RL, nI HL, 0, nI N, nI R, pm, 0, 0, 0, fs, fv, nI H, t1, t2, t3, t4, hm, kd, fa, fb, rp, rq, rv, ro, ec, ey, en, ni, ed, dm, (fun _ => 0), us, br, nd, (fun _ => 0), (fun _ => 0), hd, pp, (fun _ => 0), ic, (fun _ => 0)) (nI h1) v2 v3 v4 := by
      by_cases hz : v2 = 0
      · refine ⟨pm ||| ((1 : Int32) <<< (nI N &&& 31)), fun i hi => ?_, fun post p => zf_xpre b24 hv1 k0 k8 kz (pk_lt N NL (fun _ => br_t k3 (br_t k3 (br_t rfl (br_t rfl ?_)))) (fun c => absurd hl (by omega)))⟩
        · rw [b_or, qa_sh (by omega) hi]
          by_cases y : i = N
          · rw [if_pos y, decide_eq_true y, decide_eq_true hz]; simp
          · rw [if_neg y, decide_eq_false y]; simp
        · refine zf_121 (by omega) (by omega) ?_
          rw [if_pos rfl, if_pos rfl]
          have vn : vp_in (nI N) 32 := vp_in_nI (by omega) (by omega)
          refine ⟨vn, fun kd' ekd => ⟨vn, fun fa' efa => ⟨vn, fun fb' efb => br_t hz fun pm' epm => ?_⟩⟩⟩
          rw [nI_clamp (by omega)] at ekd efa efb
          subst ekd efa efb epm
          exact br_t rfl (br_t rfl p)
      · refine ⟨pm &&& (((1 : Int32) <<< (nI N &&& 31)) ^^^ (-1)), fun i hi => ?_, fun post p => zf_xpre b24 hv1 k0 k8 kz (pk_lt N NL (fun _ => br_t k3 (br_t k3 (br_t rfl (br_t rfl ?_)))) (fun c => absurd hl (by omega)))⟩
        · rw [b_and, qa_not _ hi, qa_sh (by omega) hi]
          by_cases y : i = N
          · rw [if_pos y, decide_eq_true y, decide_eq_false hz]; simp
          · rw [if_neg y, decide_eq_false y]; simp
        · refine zf_121 (by omega) (by omega) ?_
          rw [if_pos rfl, if_pos rfl]
          have vn : vp_in (nI N) 32 := vp_in_nI (by omega) (by omega)
          refine ⟨vn, fun kd' ekd => ⟨vn, fun fa' efa => ⟨vn, fun fb' efb => br_f hz fun pm' epm => ?_⟩⟩⟩
          rw [nI_clamp (by omega)] at ekd efa efb
          subst ekd efa efb epm
          exact br_t rfl (br_t rfl p)
    obtain ⟨pm', bpm, xw⟩ := xw
    refine ⟨nI N, (nI B, nI NL, nI RL, nI HL, 0, nI (N + 1), nI R, pm', 0, 0, 0, fs, fv, nI H, t1, t2, t3, t4, upd hm N (nI h1), upd kd N v2, upd fa N (if v2 = 1 then v3 else 0), upd fb N 0, rp, rq, rv, ro, ec, ey, en, upd ni h1 (ni h1 ||| ((1 : Int32) <<< (nI N &&& 31))), ed, dm, (fun _ => 0), us, br, nd, (fun _ => 0), (fun _ => 0), hd, pp, (fun _ => 0), ic, (fun _ => 0)), (nI B, nI NL, nI RL, nI HL, nI (N + 1), nI R, nI H, s1, s2, s3, s4, 0, upd hm N (nI h1), upd kd N v2, upd fa N (if v2 = 1 then v3 else 0), upd fb N 0, rp, rq, rv, ec, ey, en, hd, (fun _ => 0), (fun _ => 0), (fun _ => 0), mk, (fun _ => 0), pd, (fun _ => 0), kp), zz_inO (addn pm' bpm), xw, fun post p => zf_ypre b24 hv1 k0 k8 kz (pk_lt N NL (fun _ => br_t k3 (br_t k3 (zf_y97 (by omega) ?_))) (fun c => absurd hl (by omega)))⟩
    rw [ea, eb]; exact p
  · -- one operand at least
    have nz : ¬ v2 = 0 := fun e => k3 (by rw [e]; decide)
    have ea : (if v2 = 0 ∨ v2 = 2 then (0 : Int32) else v3) = v3 := if_neg (by rintro (e | e); exact nz e; exact k3 (by rw [e]; decide))
    by_cases hv3 : vp_in v3 N
    case neg =>
      refine ⟨-4, (nI B, nI NL, nI RL, nI HL, 0, nI N, nI R, pm, 0, 0, 0, fs, fv, nI H, t1, t2, t3, t4, hm, kd, fa, fb, rp, rq, rv, ro, ec, ey, en, ni, ed, dm, (fun _ => 0), us, br, nd, (fun _ => 0), (fun _ => 0), hd, pp, (fun _ => 0), ic, (fun _ => 0)), (nI B, nI NL, nI RL, nI HL, nI N, nI R, nI H, s1, s2, s3, s4, 0, hm, kd, fa, fb, rp, rq, rv, ec, ey, en, hd, (fun _ => 0), (fun _ => 0), (fun _ => 0), mk, (fun _ => 0), pd, (fun _ => 0), kp), zz_inO h, fun post p => zf_xpre b24 hv1 k0 k8 kz (pk_lt N NL (fun _ => br_f k3 (br_f k3 ?_)) (fun c => absurd hl (by omega))), fun post p => zf_ypre b24 hv1 k0 k8 kz (pk_lt N NL (fun _ => br_f k3 (ya_isN hN32 (fun _ => br_t rfl p) (fun c => absurd c hv3))) (fun c => absurd hl (by omega)))⟩
      exact br_c (fun _ => br_f qp_10 (xa_isN hN32 (fun _ => br_t rfl p) (fun c => absurd c hv3))) (fun _ => br_f qp_10 (xa_isN hN32 (fun _ => br_t rfl p) (fun c => absurd c hv3)))
    obtain ⟨a, ha, rfl⟩ := vp_in_of hv3 (by omega)
    obtain ⟨_, _, ⟨ba, hba, eba, _⟩, _⟩ := Wn a ha
    have ebac : (hm a).toNatClampNeg = ba := by rw [eba, nI_clamp (by omega)]
    have eac : (nI a).toNatClampNeg = a := nI_clamp (by omega)
    have vn : vp_in (nI N) 32 := vp_in_nI (by omega) (by omega)
    have bpm : ∀ i, i < 32 → bt (pm &&& (((1 : Int32) <<< (nI N &&& 31)) ^^^ (-1))) i = if i = N then decide (v2 = 0) else bt pm i := fun i hi => by
      rw [b_and, qa_not _ hi, qa_sh (by omega) hi]
      by_cases y : i = N
      · rw [if_pos y, decide_eq_true y, decide_eq_false nz]; simp
      · rw [if_neg y, decide_eq_false y]; simp
    by_cases k7 : 7 < v2
    · have eb : (if v2 < 3 ∨ 7 < v2 then (0 : Int32) else v4) = 0 := if_pos (Or.inr k7)
      have R' := zf_add h hl hh1 (a := nI a) (b := 0) (a' := nI a) (b' := 0) (us' := upd us a (us a ||| ((1 : Int32) <<< (nI N &&& 31)))) (nd' := upd nd N (nd N ||| ((1 : Int32) <<< (nI ba &&& 31)))) k0 k8 kz' (fun _ => hv3) (fun _ c => absurd k7 c) bpm (fun m i hi => by
        by_cases y : m = a
        · subst y
          rw [pk_us, b_or, qa_sh (by omega) hi, Bool.or_eq_true, decide_eq_true_eq]
          constructor
          · rintro (w | w)
            · exact Or.inl w
            · exact Or.inr ⟨w, Or.inl ⟨k3, eac⟩⟩
          · rintro (w | ⟨w, _⟩)
            · exact Or.inl w
            · exact Or.inr w
        · rw [pk_un y]
          refine ⟨Or.inl, ?_⟩
          rintro (w | ⟨_, ⟨_, w⟩ | ⟨_, w, _⟩⟩)
          · exact w
          · rw [eac] at w; exact absurd w.symm y
          · exact absurd k7 w) (fun n hn => pk_un hn) (fun c hc => by
        rw [pk_us, nd0, b_or, b_0, qa_sh (by omega) hc, Bool.false_or, decide_eq_true_eq]
        constructor
        · intro w; exact Or.inl ⟨k3, by rw [eac, ebac]; exact w.symm⟩
        · rintro (⟨_, w⟩ | ⟨_, w, _⟩)
          · rw [eac, ebac] at w; exact w.symm
          · exact absurd k7 w) (fun _ => rfl) (fun _ c => absurd k7 c)
      refine ⟨nI N, (nI B, nI NL, nI RL, nI HL, 0, nI (N + 1), nI R, pm &&& (((1 : Int32) <<< (nI N &&& 31)) ^^^ (-1)), 0, 0, 0, fs, fv, nI H, t1, t2, t3, t4, upd hm N (nI h1), upd kd N v2, upd fa N (nI a), upd fb N (0), rp, rq, rv, ro, ec, ey, en, upd ni h1 (ni h1 ||| ((1 : Int32) <<< (nI N &&& 31))), ed, dm, (fun _ => 0), upd us a (us a ||| ((1 : Int32) <<< (nI N &&& 31))), br, upd nd N (nd N ||| ((1 : Int32) <<< (nI ba &&& 31))), (fun _ => 0), (fun _ => 0), hd, pp, (fun _ => 0), ic, (fun _ => 0)), (nI B, nI NL, nI RL, nI HL, nI (N + 1), nI R, nI H, s1, s2, s3, s4, 0, upd hm N (nI h1), upd kd N v2, upd fa N (nI a), upd fb N (0), rp, rq, rv, ec, ey, en, hd, (fun _ => 0), (fun _ => 0), (fun _ => 0), mk, (fun _ => 0), pd, (fun _ => 0), kp), zz_inO R', fun post p => zf_xpre b24 hv1 k0 k8 kz (pk_lt N NL (fun _ => br_f k3 (br_f k3 (br_t k7 (br_f qp_10 (xa_isN hN32 (fun c => absurd hv3 c) (fun _ => br_f qp_10 (br_t rfl ?_))))))) (fun c => absurd hl (by omega))), fun post p => zf_ypre b24 hv1 k0 k8 kz (pk_lt N NL (fun _ => br_f k3 (ya_isN hN32 (fun c => absurd hv3 c) (fun _ => br_f qp_10 (br_f k3 (br_t k7 (zf_y97 (by omega) ?_)))))) (fun c => absurd hl (by omega)))⟩
      · refine zf_121 (by omega) (by omega) ?_
        rw [if_pos rfl, if_neg qp_10]
        refine ⟨vn, fun kd' ekd => ⟨vn, fun fa' efa => ⟨vn, fun fb' efb => br_f nz fun pm' epm => ?_⟩⟩⟩
        rw [nI_clamp (by omega)] at ekd efa efb
        subst ekd efa efb epm
        refine br_f qp_10 (zf_link (b := ba) (by omega) (by omega) (by rw [pk_un (by omega)]; exact eba) (br_t rfl p))
      · rw [ea, eb]; exact p
    · have eb : (if v2 < 3 ∨ 7 < v2 then (0 : Int32) else v4) = v4 := if_neg (by rintro (e | e); exact k3 e; exact k7 e)
      by_cases hv4 : vp_in v4 N
      case neg =>
        exact ⟨-4, (nI B, nI NL, nI RL, nI HL, 0, nI N, nI R, pm, 0, 0, 0, fs, fv, nI H, t1, t2, t3, t4, hm, kd, fa, fb, rp, rq, rv, ro, ec, ey, en, ni, ed, dm, (fun _ => 0), us, br, nd, (fun _ => 0), (fun _ => 0), hd, pp, (fun _ => 0), ic, (fun _ => 0)), (nI B, nI NL, nI RL, nI HL, nI N, nI R, nI H, s1, s2, s3, s4, 0, hm, kd, fa, fb, rp, rq, rv, ec, ey, en, hd, (fun _ => 0), (fun _ => 0), (fun _ => 0), mk, (fun _ => 0), pd, (fun _ => 0), kp), zz_inO h, fun post p => zf_xpre b24 hv1 k0 k8 kz (pk_lt N NL (fun _ => br_f k3 (br_f k3 (br_f k7 (br_f qp_10 (xa_isN hN32 (fun c => absurd hv3 c) (fun _ => br_f qp_10 (br_f qp_10 (xa_isN hN32 (fun _ => br_t rfl p) (fun c => absurd c hv4))))))))) (fun c => absurd hl (by omega))), fun post p => zf_ypre b24 hv1 k0 k8 kz (pk_lt N NL (fun _ => br_f k3 (ya_isN hN32 (fun c => absurd hv3 c) (fun _ => br_f qp_10 (br_f k3 (br_f k7 (ya_isN hN32 (fun _ => br_t rfl p) (fun c => absurd c hv4))))))) (fun c => absurd hl (by omega)))⟩
      obtain ⟨b, hb', rfl⟩ := vp_in_of hv4 (by omega)
      obtain ⟨_, _, ⟨bb, hbb, ebb, _⟩, _⟩ := Wn b hb'
      have ebbc : (hm b).toNatClampNeg = bb := by rw [ebb, nI_clamp (by omega)]
      have ebc : (nI b).toNatClampNeg = b := nI_clamp (by omega)
      have R' := zf_add h hl hh1 (a := nI a) (b := nI b) (a' := nI a) (b' := nI b) (us' := upd (upd us a (us a ||| ((1 : Int32) <<< (nI N &&& 31)))) b (upd us a (us a ||| ((1 : Int32) <<< (nI N &&& 31))) b ||| ((1 : Int32) <<< (nI N &&& 31)))) (nd' := upd (upd nd N (nd N ||| ((1 : Int32) <<< (nI ba &&& 31)))) N (upd nd N (nd N ||| ((1 : Int32) <<< (nI ba &&& 31))) N ||| ((1 : Int32) <<< (nI bb &&& 31)))) k0 k8 kz' (fun _ => hv3) (fun _ _ => hv4) bpm (fun m i hi => by
        have one : ∀ m, (bt (upd us a (us a ||| ((1 : Int32) <<< (nI N &&& 31))) m) i = true ↔ bt (us m) i = true ∨ (i = N ∧ a = m)) := fun m => by
          by_cases y : m = a
          · subst y
            rw [pk_us, b_or, qa_sh (by omega) hi, Bool.or_eq_true, decide_eq_true_eq]
            constructor
            · rintro (w | w)
              · exact Or.inl w
              · exact Or.inr ⟨w, rfl⟩
            · rintro (w | ⟨w, _⟩)
              · exact Or.inl w
              · exact Or.inr w
          · rw [pk_un y]
            refine ⟨Or.inl, ?_⟩
            rintro (w | ⟨_, w⟩)
            · exact w
            · exact absurd w.symm y
        rw [eac, ebc]
        by_cases y : m = b
        · subst y
          rw [pk_us, b_or, qa_sh (by omega) hi, Bool.or_eq_true, decide_eq_true_eq, one]
          constructor
          · rintro ((w | ⟨w, w'⟩) | w)
            · exact Or.inl w
            · exact Or.inr ⟨w, Or.inl ⟨k3, w'⟩⟩
            · exact Or.inr ⟨w, Or.inr ⟨k3, k7, rfl⟩⟩
          · rintro (w | ⟨w, _⟩)
            · exact Or.inl (Or.inl w)
            · exact Or.inr w
        · rw [pk_un y, one]
          constructor
          · rintro (w | ⟨w, w'⟩)
            · exact Or.inl w
            · exact Or.inr ⟨w, Or.inl ⟨k3, w'⟩⟩
          · rintro (w | ⟨w, ⟨_, w'⟩ | ⟨_, _, w'⟩⟩)
            · exact Or.inl w
            · exact Or.inr ⟨w, w'⟩
            · exact absurd w'.symm y) (fun n hn => by rw [pk_un hn, pk_un hn]) (fun c hc => by
        rw [pk_us, pk_us, nd0, b_or, b_or, b_0, qa_sh (by omega) hc, qa_sh (by omega) hc, Bool.false_or, Bool.or_eq_true, decide_eq_true_eq, decide_eq_true_eq, eac, ebc, ebac, ebbc]
        constructor
        · rintro (w | w)
          · exact Or.inl ⟨k3, w.symm⟩
          · exact Or.inr ⟨k3, k7, w.symm⟩
        · rintro (⟨_, w⟩ | ⟨_, _, w⟩)
          · exact Or.inl w.symm
          · exact Or.inr w.symm) (fun _ => rfl) (fun _ _ => rfl)
      refine ⟨nI N, (nI B, nI NL, nI RL, nI HL, 0, nI (N + 1), nI R, pm &&& (((1 : Int32) <<< (nI N &&& 31)) ^^^ (-1)), 0, 0, 0, fs, fv, nI H, t1, t2, t3, t4, upd hm N (nI h1), upd kd N v2, upd fa N (nI a), upd fb N (nI b), rp, rq, rv, ro, ec, ey, en, upd ni h1 (ni h1 ||| ((1 : Int32) <<< (nI N &&& 31))), ed, dm, (fun _ => 0), upd (upd us a (us a ||| ((1 : Int32) <<< (nI N &&& 31)))) b (upd us a (us a ||| ((1 : Int32) <<< (nI N &&& 31))) b ||| ((1 : Int32) <<< (nI N &&& 31))), br, upd (upd nd N (nd N ||| ((1 : Int32) <<< (nI ba &&& 31)))) N (upd nd N (nd N ||| ((1 : Int32) <<< (nI ba &&& 31))) N ||| ((1 : Int32) <<< (nI bb &&& 31))), (fun _ => 0), (fun _ => 0), hd, pp, (fun _ => 0), ic, (fun _ => 0)), (nI B, nI NL, nI RL, nI HL, nI (N + 1), nI R, nI H, s1, s2, s3, s4, 0, upd hm N (nI h1), upd kd N v2, upd fa N (nI a), upd fb N (nI b), rp, rq, rv, ec, ey, en, hd, (fun _ => 0), (fun _ => 0), (fun _ => 0), mk, (fun _ => 0), pd, (fun _ => 0), kp), zz_inO R', fun post p => zf_xpre b24 hv1 k0 k8 kz (pk_lt N NL (fun _ => br_f k3 (br_f k3 (br_f k7 (br_f qp_10 (xa_isN hN32 (fun c => absurd hv3 c) (fun _ => br_f qp_10 (br_f qp_10 (xa_isN hN32 (fun c => absurd hv4 c) (fun _ => br_f qp_10 ?_))))))))) (fun c => absurd hl (by omega))), fun post p => zf_ypre b24 hv1 k0 k8 kz (pk_lt N NL (fun _ => br_f k3 (ya_isN hN32 (fun c => absurd hv3 c) (fun _ => br_f qp_10 (br_f k3 (br_f k7 (ya_isN hN32 (fun c => absurd hv4 c) (fun _ => br_f qp_10 (zf_y97 (by omega) ?_)))))))) (fun c => absurd hl (by omega)))⟩
      · refine zf_121 (by omega) (by omega) ?_
        rw [if_neg qp_10, if_neg qp_10]
        refine ⟨vn, fun kd' ekd => ⟨vn, fun fa' efa => ⟨vn, fun fb' efb => br_f nz fun pm' epm => ?_⟩⟩⟩
        rw [nI_clamp (by omega)] at ekd efa efb
        subst ekd efa efb epm
        refine br_f qp_10 (zf_link (b := ba) (by omega) (by omega) (by rw [pk_un (by omega)]; exact eba) (br_f qp_10 (zf_link (b := bb) (by omega) (by omega) (by rw [pk_un (by omega)]; exact ebb) p)))
      · rw [ea, eb]; exact p
theorem i_vc_node {k : Nat} {u : SX} {v : SY} (I : i_Rel k u v) (hk : k + 5 ≤ 2564) (v1 : Int32) (v2 : Int32) (v3 : Int32) (v4 : Int32) : wpX_node (fun r u' => wpY_node (fun r' v' => r' = r ∧ i_Rel (k + 5) u' v') v v1 v2 v3 v4) u v1 v2 v3 v4 := by
  refine zz_el (Q := fun u v => wpX_node (fun r u' => wpY_node (fun r' v' => r' = r ∧ i_Rel (k + 5) u' v') v v1 v2 v3 v4) u v1 v2 v3 v4) ?_ ?_ I
  · intro B NL RL HL N R H pm fs fv t1 t2 t3 t4 s1 s2 s3 s4 hm kd fa fb rp rq rv ro ec ey en ni ed dm us br nd hd pp ic mk pd kp h
    obtain ⟨r, u', v', R', x, y⟩ := zf_node B NL RL HL N R H pm fs fv t1 t2 t3 t4 s1 s2 s3 s4 hm kd fa fb rp rq rv ro ec ey en ni ed dm us br nd hd pp ic mk pd kp h k v1 v2 v3 v4
    exact x _ (y _ ⟨rfl, R'⟩)
  · intro B NL RL HL N R H T P pm rm fs fv nx lf hm kd fa fb rp rq rv ro ec ey en ni ed dm lo us br nd st cv hd pp lv ic vc rc mk pd kp h
    exact br_f qp_10 (br_f qp_10 ⟨rfl, zz_inS (zz_up (by omega) h)⟩)
end
section
/-! arg and end -/

theorem zh_new {B NL RL HL N R H : Nat} {pm : Int32} {hm kd fa fb rp rq rv ro ec ey en ni us br nd : Nat → Int32} (h : zz_O B NL RL HL N R H pm hm kd fa fb rp rq rv ro ec ey en ni us br nd) (hR : R < RL) {n p v : Nat} (hn : n < N) (hp : p < B) (hv : v < N) (kn : kd n = 0) (z : ro (n * 24 + p) = 0) : zz_O B NL RL HL N (R + 1) H pm hm kd fa fb (upd rp R (nI n)) (upd rq R (nI p)) (upd rv R (nI v)) (upd ro (n * 24 + p) (nI (R + 1))) ec ey en ni (upd us v (us v ||| ((1 : Int32) <<< (nI n &&& 31)))) br nd := by
  obtain ⟨⟨b2, b24, n1, n2, r1, r2, h1', h2⟩, We, Wn, Wr, Wu, rest⟩ := h
  have grow : ∀ m i, i < 32 → bt (us m) i = true → bt (upd us v (us v ||| ((1 : Int32) <<< (nI n &&& 31))) m) i = true := fun m i hi hx => by
    by_cases y : m = v
    · subst y; rw [pk_us, b_or, hx]; rfl
    · rw [pk_un y]; exact hx
  refine ⟨⟨b2, b24, n1, n2, by omega, r2, h1', h2⟩, We, Wn, ⟨fun r hr => ?_, fun m q hm' hq => ?_⟩, ⟨fun m hm' => ⟨fun k3 => grow _ _ (by omega) ((Wu.1 m hm').1 k3), fun k3 k7 => grow _ _ (by omega) ((Wu.1 m hm').2 k3 k7)⟩, fun r hr => ?_, fun m i hi hx => ?_⟩, rest⟩
  · by_cases y : r = R
    · subst y
      rw [pk_us, pk_us, pk_us]
      exact ⟨n, p, v, hn, hp, hv, rfl, rfl, rfl, kn, pk_us⟩
    · rw [pk_un y, pk_un y, pk_un y]
      obtain ⟨n', p', v', hn', hp', hv', e1, e2, e3, e4, e5⟩ := Wr.1 r (by omega)
      refine ⟨n', p', v', hn', hp', hv', e1, e2, e3, e4, ?_⟩
      rw [pk_un]
      · exact e5
      · intro c
        rw [c, z] at e5
        exact nI_ne0 (by omega) (by omega) e5.symm
  · by_cases y : m * 24 + q = n * 24 + p
    · obtain ⟨e1, e2⟩ := qn_24i hq (by omega) y
      subst e1 e2
      exact Or.inr ⟨R, by omega, pk_us, pk_us, pk_us⟩
    · rw [pk_un y]
      rcases Wr.2 m q hm' hq with c | ⟨r, hr, c1, c2, c3⟩
      · exact Or.inl c
      · exact Or.inr ⟨r, by omega, c1, by rw [pk_un (by omega)]; exact c2, by rw [pk_un (by omega)]; exact c3⟩
  · by_cases y : r = R
    · subst y
      rw [pk_us, pk_us, nI_clamp (by omega), nI_clamp (by omega), pk_us, b_or, qa_sh (by omega) (by omega)]
      simp
    · rw [pk_un y, pk_un y]
      obtain ⟨n', _, _, hn', _, _, e1, _⟩ := Wr.1 r (by omega)
      exact grow _ _ (by rw [e1, nI_clamp (by omega)]; omega) (Wu.2.1 r (by omega))
  · by_cases y : m = v
    · subst y
      rw [pk_us, b_or, qa_sh (by omega) hi, Bool.or_eq_true, decide_eq_true_eq] at hx
      rcases hx with hx | hx
      · exact Wu.2.2 m i hi hx
      · omega
    · rw [pk_un y] at hx; exact Wu.2.2 m i hi hx
theorem zh_old {B NL RL HL N R H : Nat} {pm : Int32} {hm kd fa fb rp rq rv ro ec ey en ni us br nd : Nat → Int32} (h : zz_O B NL RL HL N R H pm hm kd fa fb rp rq rv ro ec ey en ni us br nd) {n v r0 : Nat} (hn : n < N) (hv : v < N) (hr0 : r0 < R) (e0 : rp r0 = nI n) : zz_O B NL RL HL N R H pm hm kd fa fb rp rq (upd rv r0 (nI v)) ro ec ey en ni (upd us v (us v ||| ((1 : Int32) <<< (nI n &&& 31)))) br nd := by
  obtain ⟨⟨b2, b24, n1, n2, r1, r2, h1', h2⟩, We, Wn, Wr, Wu, rest⟩ := h
  have grow : ∀ m i, i < 32 → bt (us m) i = true → bt (upd us v (us v ||| ((1 : Int32) <<< (nI n &&& 31))) m) i = true := fun m i hi hx => by
    by_cases y : m = v
    · subst y; rw [pk_us, b_or, hx]; rfl
    · rw [pk_un y]; exact hx
  refine ⟨⟨b2, b24, n1, n2, r1, r2, h1', h2⟩, We, Wn, ⟨fun r hr => ?_, Wr.2⟩, ⟨fun m hm' => ⟨fun k3 => grow _ _ (by omega) ((Wu.1 m hm').1 k3), fun k3 k7 => grow _ _ (by omega) ((Wu.1 m hm').2 k3 k7)⟩, fun r hr => ?_, fun m i hi hx => ?_⟩, rest⟩
  · obtain ⟨n', p', v', hn', hp', hv', e1, e2, e3, e4, e5⟩ := Wr.1 r hr
    by_cases y : r = r0
    · subst y
      exact ⟨n', p', v, hn', hp', hv, e1, e2, pk_us, e4, e5⟩
    · exact ⟨n', p', v', hn', hp', hv', e1, e2, by rw [pk_un y]; exact e3, e4, e5⟩
  · by_cases y : r = r0
    · subst y
      rw [pk_us, e0, nI_clamp (by omega), nI_clamp (by omega), pk_us, b_or, qa_sh (by omega) (by omega)]
      simp
    · rw [pk_un y]
      obtain ⟨n', _, _, hn', _, _, e1, _⟩ := Wr.1 r hr
      exact grow _ _ (by rw [e1, nI_clamp (by omega)]; omega) (Wu.2.1 r hr)
  · by_cases y : m = v
    · subst y
      rw [pk_us, b_or, qa_sh (by omega) hi, Bool.or_eq_true, decide_eq_true_eq] at hx
      rcases hx with hx | hx
      · exact Wu.2.2 m i hi hx
      · omega
    · rw [pk_un y] at hx; exact Wu.2.2 m i hi hx
section
variable {B N R : Nat} {f_nodeLimit f_rowLimit f_heldLimit f_isSealed f_phiMask f_reachedMask f_pendingNodes f_pendingEnds f_foundState f_foundValue f_heldCount f_taken f_prints f_nextBlock f_leftBlock : Int32} {a_home a_kinds a_fieldA a_fieldB a_rowPhi a_rowPred a_rowValue a_rowOf a_endCond a_endYes a_endNo a_nodesIn a_edges a_dom a_liveOut a_users a_branchers a_needs a_states a_constants a_held a_paper a_lastValue a_incoming a_visitCount : Nat → Int32}
theorem zh_131 {post : Int32 → SX → Prop} {n p v r : Nat} (hn : n < 32) (hp : p < 24) (hv : v < 32) (hr : r < 48) (e : a_rowOf (n * 24 + p) = nI (r + 1)) (K : post (nI r) (nI B, f_nodeLimit, f_rowLimit, f_heldLimit, f_isSealed, nI N, nI R, f_phiMask, f_reachedMask, f_pendingNodes, f_pendingEnds, f_foundState, f_foundValue, f_heldCount, f_taken, f_prints, f_nextBlock, f_leftBlock, a_home, a_kinds, a_fieldA, a_fieldB, a_rowPhi, a_rowPred, upd a_rowValue r (nI v), a_rowOf, a_endCond, a_endYes, a_endNo, a_nodesIn, a_edges, a_dom, a_liveOut, upd a_users v (a_users v ||| ((1 : Int32) <<< (nI n &&& 31))), a_branchers, a_needs, a_states, a_constants, a_held, a_paper, a_lastValue, a_incoming, a_visitCount)) : wX_arg_131 post (nI n) (nI v) (nI (n * 24 + p)) (nI B) f_nodeLimit f_rowLimit f_heldLimit f_isSealed (nI N) (nI R) f_phiMask f_reachedMask f_pendingNodes f_pendingEnds f_foundState f_foundValue f_heldCount f_taken f_prints f_nextBlock f_leftBlock a_home a_kinds a_fieldA a_fieldB a_rowPhi a_rowPred a_rowValue a_rowOf a_endCond a_endYes a_endNo a_nodesIn a_edges a_dom a_liveOut a_users a_branchers a_needs a_states a_constants a_held a_paper a_lastValue a_incoming a_visitCount := by
  have v768 : vp_in (nI (n * 24 + p)) 768 := vp_in_nI (by omega) (by omega)
  have vv : vp_in (nI v) 32 := vp_in_nI hv (by omega)
  refine ⟨v768, ?_⟩
  rw [nI_clamp (show n * 24 + p < 2 ^ 31 by omega), e, nI_pred, nI_clamp (show r < 2 ^ 31 by omega), nI_clamp (show v < 2 ^ 31 by omega)]
  refine ⟨vp_in_nI hr (by omega), fun rv erv => ⟨vv, vv, fun us eus => ⟨v768, ?_⟩⟩⟩
  subst erv eus
  exact K
end
theorem zh_arg (B NL RL HL N R H : Nat) (pm fs fv t1 t2 t3 t4 s1 s2 s3 s4 : Int32) (hm kd fa fb rp rq rv ro ec ey en ni ed dm us br nd hd pp ic mk pd kp : Nat → Int32) (h : zz_O B NL RL HL N R H pm hm kd fa fb rp rq rv ro ec ey en ni us br nd) (k : Nat) (v1 v2 v3 : Int32) : ∃ (r : Int32) (u' : SX) (v' : SY), i_Rel (k + 5) u' v' ∧ (∀ post : Int32 → SX → Prop, post r u' → wpX_arg post (nI B, nI NL, nI RL, nI HL, 0, nI N, nI R, pm, 0, 0, 0, fs, fv, nI H, t1, t2, t3, t4, hm, kd, fa, fb, rp, rq, rv, ro, ec, ey, en, ni, ed, dm, (fun _ => 0), us, br, nd, (fun _ => 0), (fun _ => 0), hd, pp, (fun _ => 0), ic, (fun _ => 0)) v1 v2 v3) ∧ (∀ post : Int32 → SY → Prop, post r v' → wpY_arg post (nI B, nI NL, nI RL, nI HL, nI N, nI R, nI H, s1, s2, s3, s4, 0, hm, kd, fa, fb, rp, rq, rv, ec, ey, en, hd, (fun _ => 0), (fun _ => 0), (fun _ => 0), mk, (fun _ => 0), pd, (fun _ => 0), kp) v1 v2 v3) := by
  have hb := h.1
  have Wr := h.2.2.2.1
  have b24 : B ≤ 24 := by omega
  have hN : N ≤ 32 := by omega
  have hR : R ≤ 48 := by omega
  by_cases hv1 : vp_in v1 N
  case neg => exact ⟨-4, (nI B, nI NL, nI RL, nI HL, 0, nI N, nI R, pm, 0, 0, 0, fs, fv, nI H, t1, t2, t3, t4, hm, kd, fa, fb, rp, rq, rv, ro, ec, ey, en, ni, ed, dm, (fun _ => 0), us, br, nd, (fun _ => 0), (fun _ => 0), hd, pp, (fun _ => 0), ic, (fun _ => 0)), (nI B, nI NL, nI RL, nI HL, nI N, nI R, nI H, s1, s2, s3, s4, 0, hm, kd, fa, fb, rp, rq, rv, ec, ey, en, hd, (fun _ => 0), (fun _ => 0), (fun _ => 0), mk, (fun _ => 0), pd, (fun _ => 0), kp), zz_inO h, fun post p => br_t rfl (xa_isN hN (fun _ => br_t rfl p) (fun c => absurd c hv1)), fun post p => br_t rfl (ya_isN hN (fun _ => br_t rfl p) (fun c => absurd c hv1))⟩
  have v32 : vp_in v1 32 := qn_in hv1 hN
  by_cases kn : kd v1.toNatClampNeg = 0
  case neg => exact ⟨-4, (nI B, nI NL, nI RL, nI HL, 0, nI N, nI R, pm, 0, 0, 0, fs, fv, nI H, t1, t2, t3, t4, hm, kd, fa, fb, rp, rq, rv, ro, ec, ey, en, ni, ed, dm, (fun _ => 0), us, br, nd, (fun _ => 0), (fun _ => 0), hd, pp, (fun _ => 0), ic, (fun _ => 0)), (nI B, nI NL, nI RL, nI HL, nI N, nI R, nI H, s1, s2, s3, s4, 0, hm, kd, fa, fb, rp, rq, rv, ec, ey, en, hd, (fun _ => 0), (fun _ => 0), (fun _ => 0), mk, (fun _ => 0), pd, (fun _ => 0), kp), zz_inO h, fun post p => br_t rfl (xa_isN hN (fun c => absurd hv1 c) (fun _ => br_f qp_10 ⟨v32, br_f kn p⟩)), fun post p => br_t rfl (ya_isN hN (fun c => absurd hv1 c) (fun _ => br_f qp_10 ⟨v32, br_f kn p⟩))⟩
  by_cases hv2 : vp_in v2 B
  case neg => exact ⟨-3, (nI B, nI NL, nI RL, nI HL, 0, nI N, nI R, pm, 0, 0, 0, fs, fv, nI H, t1, t2, t3, t4, hm, kd, fa, fb, rp, rq, rv, ro, ec, ey, en, ni, ed, dm, (fun _ => 0), us, br, nd, (fun _ => 0), (fun _ => 0), hd, pp, (fun _ => 0), ic, (fun _ => 0)), (nI B, nI NL, nI RL, nI HL, nI N, nI R, nI H, s1, s2, s3, s4, 0, hm, kd, fa, fb, rp, rq, rv, ec, ey, en, hd, (fun _ => 0), (fun _ => 0), (fun _ => 0), mk, (fun _ => 0), pd, (fun _ => 0), kp), zz_inO h, fun post p => br_t rfl (xa_isN hN (fun c => absurd hv1 c) (fun _ => br_f qp_10 ⟨v32, br_t kn (xa_isB b24 (fun _ => br_t rfl p) (fun c => absurd c hv2))⟩)), fun post p => br_t rfl (ya_isN hN (fun c => absurd hv1 c) (fun _ => br_f qp_10 ⟨v32, br_t kn (ya_isB b24 (fun _ => br_t rfl p) (fun c => absurd c hv2))⟩))⟩
  by_cases hv3 : vp_in v3 N
  case neg => exact ⟨-4, (nI B, nI NL, nI RL, nI HL, 0, nI N, nI R, pm, 0, 0, 0, fs, fv, nI H, t1, t2, t3, t4, hm, kd, fa, fb, rp, rq, rv, ro, ec, ey, en, ni, ed, dm, (fun _ => 0), us, br, nd, (fun _ => 0), (fun _ => 0), hd, pp, (fun _ => 0), ic, (fun _ => 0)), (nI B, nI NL, nI RL, nI HL, nI N, nI R, nI H, s1, s2, s3, s4, 0, hm, kd, fa, fb, rp, rq, rv, ec, ey, en, hd, (fun _ => 0), (fun _ => 0), (fun _ => 0), mk, (fun _ => 0), pd, (fun _ => 0), kp), zz_inO h, fun post p => br_t rfl (xa_isN hN (fun c => absurd hv1 c) (fun _ => br_f qp_10 ⟨v32, br_t kn (xa_isB b24 (fun c => absurd hv2 c) (fun _ => br_f qp_10 (xa_isN hN (fun _ => br_t rfl p) (fun c => absurd c hv3))))⟩)), fun post p => br_t rfl (ya_isN hN (fun c => absurd hv1 c) (fun _ => br_f qp_10 ⟨v32, br_t kn (ya_isB b24 (fun c => absurd hv2 c) (fun _ => br_f qp_10 (ya_isN hN (fun _ => br_t rfl p) (fun c => absurd c hv3))))⟩))⟩
  obtain ⟨n, hn, rfl⟩ := vp_in_of hv1 (by omega)
  obtain ⟨p, hp, rfl⟩ := vp_in_of hv2 (by omega)
  obtain ⟨v, hv, rfl⟩ := vp_in_of hv3 (by omega)
  obtain ⟨x1, x2⟩ := qn_x24 (n := n) (p := p) (by omega) (by omega)
  have en' : (nI n).toNatClampNeg = n := nI_clamp (by omega)
  have kn' : kd n = 0 := by rw [en'] at kn; exact kn
  have v768 : vp_in (nI (n * 24 + p)) 768 := vp_in_nI x2 (by omega)
  have es : (nI (n * 24 + p)).toNatClampNeg = n * 24 + p := nI_clamp (by omega)
  have xpre : ∀ post : Int32 → SX → Prop, ((ro (n * 24 + p) = 0 → (nI R < nI RL → wX_arg_83 post (nI n) (nI p) (nI v) (nI (n * 24 + p)) (nI B) (nI NL) (nI RL) (nI HL) 0 (nI N) (nI R) pm 0 0 0 fs fv (nI H) t1 t2 t3 t4 hm kd fa fb rp rq rv ro ec ey en ni ed dm ((fun _ => 0)) us br nd ((fun _ => 0)) ((fun _ => 0)) hd pp ((fun _ => 0)) ic ((fun _ => 0))) ∧ (¬ nI R < nI RL → post (-2) (nI B, nI NL, nI RL, nI HL, 0, nI N, nI R, pm, 0, 0, 0, fs, fv, nI H, t1, t2, t3, t4, hm, kd, fa, fb, rp, rq, rv, ro, ec, ey, en, ni, ed, dm, (fun _ => 0), us, br, nd, (fun _ => 0), (fun _ => 0), hd, pp, (fun _ => 0), ic, (fun _ => 0)))) ∧ (¬ ro (n * 24 + p) = 0 → wX_arg_83 post (nI n) (nI p) (nI v) (nI (n * 24 + p)) (nI B) (nI NL) (nI RL) (nI HL) 0 (nI N) (nI R) pm 0 0 0 fs fv (nI H) t1 t2 t3 t4 hm kd fa fb rp rq rv ro ec ey en ni ed dm ((fun _ => 0)) us br nd ((fun _ => 0)) ((fun _ => 0)) hd pp ((fun _ => 0)) ic ((fun _ => 0)))) → wpX_arg post (nI B, nI NL, nI RL, nI HL, 0, nI N, nI R, pm, 0, 0, 0, fs, fv, nI H, t1, t2, t3, t4, hm, kd, fa, fb, rp, rq, rv, ro, ec, ey, en, ni, ed, dm, (fun _ => 0), us, br, nd, (fun _ => 0), (fun _ => 0), hd, pp, (fun _ => 0), ic, (fun _ => 0)) (nI n) (nI p) (nI v) := fun post K => by
    refine br_t rfl (xa_isN hN (fun c => absurd hv1 c) (fun _ => br_f qp_10 ⟨v32, br_t kn (xa_isB b24 (fun c => absurd hv2 c) (fun _ => br_f qp_10 (xa_isN hN (fun c => absurd hv3 c) (fun _ => br_f qp_10 fun x ex => ?_))))⟩))
    rw [x1] at ex
    subst ex
    rw [es]
    exact ⟨v768, K⟩
  have ypre : ∀ post : Int32 → SY → Prop, ((0 ≤ ro (n * 24 + p) - 1 → wY_arg_78 post (nI n) (nI p) (nI v) (ro (n * 24 + p) - 1) (nI B) (nI NL) (nI RL) (nI HL) (nI N) (nI R) (nI H) s1 s2 s3 s4 0 hm kd fa fb rp rq rv ec ey en hd ((fun _ => 0)) ((fun _ => 0)) ((fun _ => 0)) mk ((fun _ => 0)) pd ((fun _ => 0)) kp) ∧ (¬ 0 ≤ ro (n * 24 + p) - 1 → (nI R < nI RL → wY_arg_78 post (nI n) (nI p) (nI v) (ro (n * 24 + p) - 1) (nI B) (nI NL) (nI RL) (nI HL) (nI N) (nI R) (nI H) s1 s2 s3 s4 0 hm kd fa fb rp rq rv ec ey en hd ((fun _ => 0)) ((fun _ => 0)) ((fun _ => 0)) mk ((fun _ => 0)) pd ((fun _ => 0)) kp) ∧ (¬ nI R < nI RL → post (-2) (nI B, nI NL, nI RL, nI HL, nI N, nI R, nI H, s1, s2, s3, s4, 0, hm, kd, fa, fb, rp, rq, rv, ec, ey, en, hd, (fun _ => 0), (fun _ => 0), (fun _ => 0), mk, (fun _ => 0), pd, (fun _ => 0), kp)))) → wpY_arg post (nI B, nI NL, nI RL, nI HL, nI N, nI R, nI H, s1, s2, s3, s4, 0, hm, kd, fa, fb, rp, rq, rv, ec, ey, en, hd, (fun _ => 0), (fun _ => 0), (fun _ => 0), mk, (fun _ => 0), pd, (fun _ => 0), kp) (nI n) (nI p) (nI v) := fun post K => by
    exact br_t rfl (ya_isN hN (fun c => absurd hv1 c) (fun _ => br_f qp_10 ⟨v32, br_t kn (ya_isB b24 (fun c => absurd hv2 c) (fun _ => br_f qp_10 (ya_isN hN (fun c => absurd hv3 c) (fun _ => br_f qp_10 (ya_rowOf b24 hN hR Wr (by omega) (by omega) K)))))⟩))
  rcases Wr.2 n p (by omega) (by omega) with z | ⟨r0, hr0, z, e1, e2⟩
  · rw [z] at xpre ypre
    by_cases hl : R < RL
    · have v48 : vp_in (nI R) 48 := vp_in_nI (by omega) (by omega)
      have eR : (nI R).toNatClampNeg = R := nI_clamp (by omega)
      refine ⟨nI R, (nI B, nI NL, nI RL, nI HL, 0, nI N, nI (R + 1), pm, 0, 0, 0, fs, fv, nI H, t1, t2, t3, t4, hm, kd, fa, fb, upd rp R (nI n), upd rq R (nI p), upd rv R (nI v), upd ro (n * 24 + p) (nI (R + 1)), ec, ey, en, ni, ed, dm, (fun _ => 0), upd us v (us v ||| ((1 : Int32) <<< (nI n &&& 31))), br, nd, (fun _ => 0), (fun _ => 0), hd, pp, (fun _ => 0), ic, (fun _ => 0)), (nI B, nI NL, nI RL, nI HL, nI N, nI (R + 1), nI H, s1, s2, s3, s4, 0, hm, kd, fa, fb, upd rp R (nI n), upd rq R (nI p), upd rv R (nI v), ec, ey, en, hd, (fun _ => 0), (fun _ => 0), (fun _ => 0), mk, (fun _ => 0), pd, (fun _ => 0), kp), zz_inO (zh_new h hl hn hp hv kn' z), fun post q => xpre post (br_t rfl (pk_lt R RL (fun _ => ⟨v768, ?_⟩) (fun c => by omega))), fun post q => ypre post (br_f (by decide) (pk_lt R RL (fun _ => br_f (by decide) fun rc' erc => ⟨v48, fun rp' erp => ⟨v48, fun rq' erq => ⟨v48, fun rv' erv => ?_⟩⟩⟩) (fun c => by omega)))⟩
      · rw [es]
        refine br_t z ⟨v48, fun rp' erp => ⟨v48, fun rq' erq rc' erc => ⟨v768, fun ro' ero => ?_⟩⟩⟩
        rw [eR] at erp erq
        rw [nI_1] at erc ero
        subst erp erq erc ero
        exact zh_131 (r := R) (by omega) (by omega) (by omega) (by omega) pk_us q
      · rw [eR] at erp erq erv
        rw [nI_1] at erc
        subst erp erq erv erc
        exact q
    · exact ⟨-2, (nI B, nI NL, nI RL, nI HL, 0, nI N, nI R, pm, 0, 0, 0, fs, fv, nI H, t1, t2, t3, t4, hm, kd, fa, fb, rp, rq, rv, ro, ec, ey, en, ni, ed, dm, (fun _ => 0), us, br, nd, (fun _ => 0), (fun _ => 0), hd, pp, (fun _ => 0), ic, (fun _ => 0)), (nI B, nI NL, nI RL, nI HL, nI N, nI R, nI H, s1, s2, s3, s4, 0, hm, kd, fa, fb, rp, rq, rv, ec, ey, en, hd, (fun _ => 0), (fun _ => 0), (fun _ => 0), mk, (fun _ => 0), pd, (fun _ => 0), kp), zz_inO h, fun post q => xpre post (br_t rfl (pk_lt R RL (fun c => absurd c hl) (fun _ => q))), fun post q => ypre post (br_f (by decide) (pk_lt R RL (fun c => absurd c hl) (fun _ => q)))⟩
  · have nz : ¬ ro (n * 24 + p) = 0 := by rw [z]; exact nI_ne0 (by omega) (by omega)
    have v48 : vp_in (nI r0) 48 := vp_in_nI (by omega) (by omega)
    have er0 : (nI r0).toNatClampNeg = r0 := nI_clamp (by omega)
    have i1 : upd rp r0 (nI n) = rp := by rw [← e1]; exact qn_upd_id
    have i2 : upd rq r0 (nI p) = rq := by rw [← e2]; exact qn_upd_id
    refine ⟨nI r0, (nI B, nI NL, nI RL, nI HL, 0, nI N, nI R, pm, 0, 0, 0, fs, fv, nI H, t1, t2, t3, t4, hm, kd, fa, fb, rp, rq, upd rv r0 (nI v), ro, ec, ey, en, ni, ed, dm, (fun _ => 0), upd us v (us v ||| ((1 : Int32) <<< (nI n &&& 31))), br, nd, (fun _ => 0), (fun _ => 0), hd, pp, (fun _ => 0), ic, (fun _ => 0)), (nI B, nI NL, nI RL, nI HL, nI N, nI R, nI H, s1, s2, s3, s4, 0, hm, kd, fa, fb, rp, rq, upd rv r0 (nI v), ec, ey, en, hd, (fun _ => 0), (fun _ => 0), (fun _ => 0), mk, (fun _ => 0), pd, (fun _ => 0), kp), zz_inO (zh_old h hn hv hr0 e1), fun post q => xpre post (br_f nz ⟨v768, ?_⟩), fun post q => ypre post ?_⟩
    · rw [es]
      exact br_f nz (zh_131 (by omega) (by omega) (by omega) (by omega) z q)
    · rw [z, nI_pred]
      have p0 : 0 ≤ nI r0 := nI_pos' (by omega)
      refine br_t p0 (br_t p0 ⟨v48, fun rp' erp => ⟨v48, fun rq' erq => ⟨v48, fun rv' erv => ?_⟩⟩⟩)
      rw [er0] at erp erq erv
      rw [i1] at erp
      rw [i2] at erq
      subst erp erq erv
      exact q
theorem i_vc_arg {k : Nat} {u : SX} {v : SY} (I : i_Rel k u v) (hk : k + 5 ≤ 2564) (v1 : Int32) (v2 : Int32) (v3 : Int32) : wpX_arg (fun r u' => wpY_arg (fun r' v' => r' = r ∧ i_Rel (k + 5) u' v') v v1 v2 v3) u v1 v2 v3 := by
  refine zz_el (Q := fun u v => wpX_arg (fun r u' => wpY_arg (fun r' v' => r' = r ∧ i_Rel (k + 5) u' v') v v1 v2 v3) u v1 v2 v3) ?_ ?_ I
  · intro B NL RL HL N R H pm fs fv t1 t2 t3 t4 s1 s2 s3 s4 hm kd fa fb rp rq rv ro ec ey en ni ed dm us br nd hd pp ic mk pd kp h
    obtain ⟨r, u', v', R', x, y⟩ := zh_arg B NL RL HL N R H pm fs fv t1 t2 t3 t4 s1 s2 s3 s4 hm kd fa fb rp rq rv ro ec ey en ni ed dm us br nd hd pp ic mk pd kp h k v1 v2 v3
    exact x _ (y _ ⟨rfl, R'⟩)
  · intro B NL RL HL N R H T P pm rm fs fv nx lf hm kd fa fb rp rq rv ro ec ey en ni ed dm lo us br nd st cv hd pp lv ic vc rc mk pd kp h
    exact br_f qp_10 (br_f qp_10 ⟨rfl, zz_inS (zz_up (by omega) h)⟩)
theorem zi_bad {B : Nat} {x : Int32} {P Q : Prop} (hB : B < 2 ^ 31) (h : x = 0 ∨ ¬ vp_in x B) (p : P) : (x < 1 → P) ∧ (¬ x < 1 → (x < nI B → Q) ∧ (¬ x < nI B → P)) := by
  refine br_c (fun _ => p) (fun a => br_f (fun b => ?_) p)
  rcases h with e | e
  · exact a (by rw [e]; decide)
  · rcases (qn_nin hB).mp e with e | e
    · exact a (Int32.lt_trans e (by decide))
    · exact Int32.not_lt.mpr e b
theorem zi_ok {B t : Nat} {P Q : Prop} (hB : B < 2 ^ 31) (h0 : 0 < t) (h : t < B) (q : Q) : (nI t < 1 → P) ∧ (¬ nI t < 1 → (nI t < nI B → Q) ∧ (¬ nI t < nI B → P)) :=
  br_f (nI_nlt (b := 1) h0 (by omega)) (br_t (nI_lt h hB) q)
theorem zi_end {B NL RL HL N R H : Nat} {pm : Int32} {hm kd fa fb rp rq rv ro ec ey en ni us br nd : Nat → Int32} (h : zz_O B NL RL HL N R H pm hm kd fa fb rp rq rv ro ec ey en ni us br nd) {p : Nat} {c y n : Int32} {br' : Nat → Int32} (hw : c = -2 ∨ (c = -1 ∧ ∃ t, 0 < t ∧ t < B ∧ y = nI t) ∨ (∃ c' t s, c' < N ∧ 0 < t ∧ t < B ∧ 0 < s ∧ s < B ∧ c = nI c' ∧ y = nI t ∧ n = nI s)) (hbr : ∀ m i, bt (br m) i = true → bt (br' m) i = true) (hbp : ¬ c < 0 → bt (br' c.toNatClampNeg) p = true) : zz_O B NL RL HL N R H pm hm kd fa fb rp rq rv ro (upd ec p c) (upd ey p y) (upd en p n) ni us br' nd := by
  obtain ⟨b, We, Wn, Wr, Wu, Wi, Wp, Wb, Wd⟩ := h
  refine ⟨b, fun q hq => ?_, Wn, Wr, Wu, Wi, Wp, fun q hq hc => ?_, Wd⟩
  · by_cases e : q = p
    · subst e; rw [pk_us, pk_us, pk_us]; exact hw
    · rw [pk_un e, pk_un e, pk_un e]; exact We q hq
  · by_cases e : q = p
    · subst e; rw [pk_us] at hc ⊢; exact hbp hc
    · rw [pk_un e] at hc ⊢; exact hbr _ _ (Wb q hq hc)
theorem zi_X (B NL RL HL N R H : Nat) (pm fs fv t1 t2 t3 t4 s1 s2 s3 s4 : Int32) (hm kd fa fb rp rq rv ro ec ey en ni ed dm us br nd hd pp ic mk pd kp : Nat → Int32) (h : zz_O B NL RL HL N R H pm hm kd fa fb rp rq rv ro ec ey en ni us br nd) (k : Nat) (v1 v2 v3 v4 : Int32) : ∃ (r : Int32) (u' : SX) (v' : SY), i_Rel (k + 5) u' v' ∧ (∀ post : Int32 → SX → Prop, post r u' → wpX_end post (nI B, nI NL, nI RL, nI HL, 0, nI N, nI R, pm, 0, 0, 0, fs, fv, nI H, t1, t2, t3, t4, hm, kd, fa, fb, rp, rq, rv, ro, ec, ey, en, ni, ed, dm, (fun _ => 0), us, br, nd, (fun _ => 0), (fun _ => 0), hd, pp, (fun _ => 0), ic, (fun _ => 0)) v1 v2 v3 v4) ∧ (∀ post : Int32 → SY → Prop, post r v' → wpY_end post (nI B, nI NL, nI RL, nI HL, nI N, nI R, nI H, s1, s2, s3, s4, 0, hm, kd, fa, fb, rp, rq, rv, ec, ey, en, hd, (fun _ => 0), (fun _ => 0), (fun _ => 0), mk, (fun _ => 0), pd, (fun _ => 0), kp) v1 v2 v3 v4) := by
  have hb := h.1
  have b24 : B ≤ 24 := by omega
  have hN : N ≤ 32 := by omega
  have hB31 : B < 2 ^ 31 := by omega
  by_cases hv1 : vp_in v1 B
  case neg => exact ⟨-3, (nI B, nI NL, nI RL, nI HL, 0, nI N, nI R, pm, 0, 0, 0, fs, fv, nI H, t1, t2, t3, t4, hm, kd, fa, fb, rp, rq, rv, ro, ec, ey, en, ni, ed, dm, (fun _ => 0), us, br, nd, (fun _ => 0), (fun _ => 0), hd, pp, (fun _ => 0), ic, (fun _ => 0)), (nI B, nI NL, nI RL, nI HL, nI N, nI R, nI H, s1, s2, s3, s4, 0, hm, kd, fa, fb, rp, rq, rv, ec, ey, en, hd, (fun _ => 0), (fun _ => 0), (fun _ => 0), mk, (fun _ => 0), pd, (fun _ => 0), kp), zz_inO h, fun post p => br_t rfl (xa_isB b24 (fun _ => br_t rfl p) (fun c => absurd c hv1)), fun post p => br_t rfl (ya_isB b24 (fun _ => br_t rfl p) (fun c => absurd c hv1))⟩
  obtain ⟨p, hp, rfl⟩ := vp_in_of hv1 hB31
  have v24 : vp_in (nI p) 24 := vp_in_nI (by omega) (by omega)
  have ep : (nI p).toNatClampNeg = p := nI_clamp (by omega)
  by_cases c2 : v2 = -2
  · subst c2
    refine ⟨0, (nI B, nI NL, nI RL, nI HL, 0, nI N, nI R, pm, 0, 0, 0, fs, fv, nI H, t1, t2, t3, t4, hm, kd, fa, fb, rp, rq, rv, ro, upd ec p (-2), upd ey p 0, upd en p 0, ni, ed, dm, (fun _ => 0), us, br, nd, (fun _ => 0), (fun _ => 0), hd, pp, (fun _ => 0), ic, (fun _ => 0)), (nI B, nI NL, nI RL, nI HL, nI N, nI R, nI H, s1, s2, s3, s4, 0, hm, kd, fa, fb, rp, rq, rv, upd ec p (-2), upd ey p 0, upd en p 0, hd, (fun _ => 0), (fun _ => 0), (fun _ => 0), mk, (fun _ => 0), pd, (fun _ => 0), kp), zz_inO (zi_end h (Or.inl rfl) (fun _ _ x => x) (fun c => absurd (by decide) c)), fun post q => br_t rfl (xa_isB b24 (fun c => absurd hv1 c) (fun _ => br_f qp_10 (br_t rfl (xe_setEnd (by omega) q)))), fun post q => br_t rfl (ya_isB b24 (fun c => absurd hv1 c) (fun _ => br_f qp_10 (br_t rfl (br_t rfl (br_t (by decide) ⟨v24, fun ec' eec => br_t rfl ⟨v24, fun ey' eey => br_t (by decide) ⟨v24, fun en' een => ?_⟩⟩⟩)))))⟩
    rw [ep] at eec eey een
    subst eec eey een
    exact q
  by_cases c1 : v2 = -1
  · subst c1
    have x52 : ∀ post : Int32 → SX → Prop, wX_end_52 post (nI p) (-1) v3 v4 (nI B) (nI NL) (nI RL) (nI HL) 0 (nI N) (nI R) pm 0 0 0 fs fv (nI H) t1 t2 t3 t4 hm kd fa fb rp rq rv ro ec ey en ni ed dm ((fun _ => 0)) us br nd ((fun _ => 0)) ((fun _ => 0)) hd pp ((fun _ => 0)) ic ((fun _ => 0)) → wpX_end post (nI B, nI NL, nI RL, nI HL, 0, nI N, nI R, pm, 0, 0, 0, fs, fv, nI H, t1, t2, t3, t4, hm, kd, fa, fb, rp, rq, rv, ro, ec, ey, en, ni, ed, dm, (fun _ => 0), us, br, nd, (fun _ => 0), (fun _ => 0), hd, pp, (fun _ => 0), ic, (fun _ => 0)) (nI p) (-1) v3 v4 := fun post K => br_t rfl (xa_isB b24 (fun c => absurd hv1 c) (fun _ => br_f qp_10 (br_f c2 (br_t rfl K))))
    have y42 : ∀ post : Int32 → SY → Prop, wY_end_42 post (nI p) (-1) v3 v4 (nI B) (nI NL) (nI RL) (nI HL) (nI N) (nI R) (nI H) s1 s2 s3 s4 0 hm kd fa fb rp rq rv ec ey en hd ((fun _ => 0)) ((fun _ => 0)) ((fun _ => 0)) mk ((fun _ => 0)) pd ((fun _ => 0)) kp → wpY_end post (nI B, nI NL, nI RL, nI HL, nI N, nI R, nI H, s1, s2, s3, s4, 0, hm, kd, fa, fb, rp, rq, rv, ec, ey, en, hd, (fun _ => 0), (fun _ => 0), (fun _ => 0), mk, (fun _ => 0), pd, (fun _ => 0), kp) (nI p) (-1) v3 v4 := fun post K => br_t rfl (ya_isB b24 (fun c => absurd hv1 c) (fun _ => br_f qp_10 (br_f c2 (br_t rfl K))))
    by_cases b3 : v3 = 0 ∨ ¬ vp_in v3 B
    · refine ⟨-3, (nI B, nI NL, nI RL, nI HL, 0, nI N, nI R, pm, 0, 0, 0, fs, fv, nI H, t1, t2, t3, t4, hm, kd, fa, fb, rp, rq, rv, ro, ec, ey, en, ni, ed, dm, (fun _ => 0), us, br, nd, (fun _ => 0), (fun _ => 0), hd, pp, (fun _ => 0), ic, (fun _ => 0)), (nI B, nI NL, nI RL, nI HL, nI N, nI R, nI H, s1, s2, s3, s4, 0, hm, kd, fa, fb, rp, rq, rv, ec, ey, en, hd, (fun _ => 0), (fun _ => 0), (fun _ => 0), mk, (fun _ => 0), pd, (fun _ => 0), kp), zz_inO h, fun post q => x52 post (br_c (fun _ => q) (fun z => xa_isB b24 (fun _ => br_t rfl q) (fun c => ?_))), fun post q => y42 post (br_f c2 (zi_bad hB31 b3 q))⟩
      rcases b3 with b3 | b3
      · exact absurd b3 z
      · exact absurd c b3
    · have z3 : ¬ v3 = 0 := fun c => b3 (Or.inl c)
      have hv3 : vp_in v3 B := Classical.byContradiction fun c => b3 (Or.inr c)
      obtain ⟨t, ht, rfl⟩ := vp_in_of hv3 hB31
      have t0 : 0 < t := by
        rcases Nat.eq_zero_or_pos t with c | c
        · subst c; exact absurd rfl z3
        · exact c
      refine ⟨0, (nI B, nI NL, nI RL, nI HL, 0, nI N, nI R, pm, 0, 0, 0, fs, fv, nI H, t1, t2, t3, t4, hm, kd, fa, fb, rp, rq, rv, ro, upd ec p (-1), upd ey p (nI t), upd en p 0, ni, ed, dm, (fun _ => 0), us, br, nd, (fun _ => 0), (fun _ => 0), hd, pp, (fun _ => 0), ic, (fun _ => 0)), (nI B, nI NL, nI RL, nI HL, nI N, nI R, nI H, s1, s2, s3, s4, 0, hm, kd, fa, fb, rp, rq, rv, upd ec p (-1), upd ey p (nI t), upd en p 0, hd, (fun _ => 0), (fun _ => 0), (fun _ => 0), mk, (fun _ => 0), pd, (fun _ => 0), kp), zz_inO (zi_end h (Or.inr (Or.inl ⟨rfl, t, t0, ht, rfl⟩)) (fun _ _ x => x) (fun c => absurd (by decide) c)), fun post q => x52 post (br_f z3 (xa_isB b24 (fun c => absurd hv3 c) (fun _ => br_f qp_10 (br_t rfl (xe_setEnd (by omega) q))))), fun post q => y42 post (br_f c2 (zi_ok hB31 t0 ht (br_t (by decide) ⟨v24, fun ec' eec => br_f c2 ⟨v24, fun ey' eey => br_t (by decide) ⟨v24, fun en' een => ?_⟩⟩⟩)))⟩
      rw [ep] at eec eey een
      subst eec eey een
      exact q
  by_cases hv2 : vp_in v2 N
  case neg => exact ⟨-4, (nI B, nI NL, nI RL, nI HL, 0, nI N, nI R, pm, 0, 0, 0, fs, fv, nI H, t1, t2, t3, t4, hm, kd, fa, fb, rp, rq, rv, ro, ec, ey, en, ni, ed, dm, (fun _ => 0), us, br, nd, (fun _ => 0), (fun _ => 0), hd, pp, (fun _ => 0), ic, (fun _ => 0)), (nI B, nI NL, nI RL, nI HL, nI N, nI R, nI H, s1, s2, s3, s4, 0, hm, kd, fa, fb, rp, rq, rv, ec, ey, en, hd, (fun _ => 0), (fun _ => 0), (fun _ => 0), mk, (fun _ => 0), pd, (fun _ => 0), kp), zz_inO h, fun post q => br_t rfl (xa_isB b24 (fun c => absurd hv1 c) (fun _ => br_f qp_10 (br_f c2 (br_f c1 (xa_isN hN (fun _ => br_t rfl q) (fun c => absurd c hv2)))))), fun post q => br_t rfl (ya_isB b24 (fun c => absurd hv1 c) (fun _ => br_f qp_10 (br_f c2 (br_f c1 (ya_isN hN (fun _ => br_t rfl q) (fun c => absurd c hv2))))))⟩
  obtain ⟨c, hc, rfl⟩ := vp_in_of hv2 (by omega)
  have c0 : ¬ nI c < 0 := nI_pos (by omega)
  have x52 : ∀ post : Int32 → SX → Prop, wX_end_52 post (nI p) (nI c) v3 v4 (nI B) (nI NL) (nI RL) (nI HL) 0 (nI N) (nI R) pm 0 0 0 fs fv (nI H) t1 t2 t3 t4 hm kd fa fb rp rq rv ro ec ey en ni ed dm ((fun _ => 0)) us br nd ((fun _ => 0)) ((fun _ => 0)) hd pp ((fun _ => 0)) ic ((fun _ => 0)) → wpX_end post (nI B, nI NL, nI RL, nI HL, 0, nI N, nI R, pm, 0, 0, 0, fs, fv, nI H, t1, t2, t3, t4, hm, kd, fa, fb, rp, rq, rv, ro, ec, ey, en, ni, ed, dm, (fun _ => 0), us, br, nd, (fun _ => 0), (fun _ => 0), hd, pp, (fun _ => 0), ic, (fun _ => 0)) (nI p) (nI c) v3 v4 := fun post K => br_t rfl (xa_isB b24 (fun c => absurd hv1 c) (fun _ => br_f qp_10 (br_f c2 (br_f c1 (xa_isN hN (fun c => absurd hv2 c) (fun _ => br_f qp_10 K))))))
  have y42 : ∀ post : Int32 → SY → Prop, wY_end_42 post (nI p) (nI c) v3 v4 (nI B) (nI NL) (nI RL) (nI HL) (nI N) (nI R) (nI H) s1 s2 s3 s4 0 hm kd fa fb rp rq rv ec ey en hd ((fun _ => 0)) ((fun _ => 0)) ((fun _ => 0)) mk ((fun _ => 0)) pd ((fun _ => 0)) kp → wpY_end post (nI B, nI NL, nI RL, nI HL, nI N, nI R, nI H, s1, s2, s3, s4, 0, hm, kd, fa, fb, rp, rq, rv, ec, ey, en, hd, (fun _ => 0), (fun _ => 0), (fun _ => 0), mk, (fun _ => 0), pd, (fun _ => 0), kp) (nI p) (nI c) v3 v4 := fun post K => br_t rfl (ya_isB b24 (fun c => absurd hv1 c) (fun _ => br_f qp_10 (br_f c2 (br_f c1 (ya_isN hN (fun c => absurd hv2 c) (fun _ => br_f qp_10 K))))))
  by_cases b3 : v3 = 0 ∨ ¬ vp_in v3 B
  · refine ⟨-3, (nI B, nI NL, nI RL, nI HL, 0, nI N, nI R, pm, 0, 0, 0, fs, fv, nI H, t1, t2, t3, t4, hm, kd, fa, fb, rp, rq, rv, ro, ec, ey, en, ni, ed, dm, (fun _ => 0), us, br, nd, (fun _ => 0), (fun _ => 0), hd, pp, (fun _ => 0), ic, (fun _ => 0)), (nI B, nI NL, nI RL, nI HL, nI N, nI R, nI H, s1, s2, s3, s4, 0, hm, kd, fa, fb, rp, rq, rv, ec, ey, en, hd, (fun _ => 0), (fun _ => 0), (fun _ => 0), mk, (fun _ => 0), pd, (fun _ => 0), kp), zz_inO h, fun post q => x52 post (br_c (fun _ => q) (fun z => xa_isB b24 (fun _ => br_t rfl q) (fun c => ?_))), fun post q => y42 post (br_f c2 (zi_bad hB31 b3 q))⟩
    rcases b3 with b3 | b3
    · exact absurd b3 z
    · exact absurd c b3
  have z3 : ¬ v3 = 0 := fun c => b3 (Or.inl c)
  have hv3 : vp_in v3 B := Classical.byContradiction fun c => b3 (Or.inr c)
  obtain ⟨t, ht, rfl⟩ := vp_in_of hv3 hB31
  have t0 : 0 < t := by
    rcases Nat.eq_zero_or_pos t with c | c
    · subst c; exact absurd rfl z3
    · exact c
  by_cases b4 : v4 = 0 ∨ ¬ vp_in v4 B
  · refine ⟨-3, (nI B, nI NL, nI RL, nI HL, 0, nI N, nI R, pm, 0, 0, 0, fs, fv, nI H, t1, t2, t3, t4, hm, kd, fa, fb, rp, rq, rv, ro, ec, ey, en, ni, ed, dm, (fun _ => 0), us, br, nd, (fun _ => 0), (fun _ => 0), hd, pp, (fun _ => 0), ic, (fun _ => 0)), (nI B, nI NL, nI RL, nI HL, nI N, nI R, nI H, s1, s2, s3, s4, 0, hm, kd, fa, fb, rp, rq, rv, ec, ey, en, hd, (fun _ => 0), (fun _ => 0), (fun _ => 0), mk, (fun _ => 0), pd, (fun _ => 0), kp), zz_inO h, fun post q => x52 post (br_f z3 (xa_isB b24 (fun c => absurd hv3 c) (fun _ => br_f qp_10 (br_f c1 (br_c (fun _ => q) (fun z => xa_isB b24 (fun _ => br_t rfl q) (fun c => ?_))))))), fun post q => y42 post (br_f c2 (zi_ok hB31 t0 ht (br_f c0 (zi_bad hB31 b4 q))))⟩
    rcases b4 with b4 | b4
    · exact absurd b4 z
    · exact absurd c b4
  have z4 : ¬ v4 = 0 := fun c => b4 (Or.inl c)
  have hv4 : vp_in v4 B := Classical.byContradiction fun c => b4 (Or.inr c)
  obtain ⟨s, hs, rfl⟩ := vp_in_of hv4 hB31
  have s0 : 0 < s := by
    rcases Nat.eq_zero_or_pos s with c | c
    · subst c; exact absurd rfl z4
    · exact c
  have vc : vp_in (nI c) 32 := vp_in_nI (by omega) (by omega)
  have ecc : (nI c).toNatClampNeg = c := nI_clamp (by omega)
  refine ⟨0, (nI B, nI NL, nI RL, nI HL, 0, nI N, nI R, pm, 0, 0, 0, fs, fv, nI H, t1, t2, t3, t4, hm, kd, fa, fb, rp, rq, rv, ro, upd ec p (nI c), upd ey p (nI t), upd en p (nI s), ni, ed, dm, (fun _ => 0), us, upd br c (br c ||| ((1 : Int32) <<< (nI p &&& 31))), nd, (fun _ => 0), (fun _ => 0), hd, pp, (fun _ => 0), ic, (fun _ => 0)), (nI B, nI NL, nI RL, nI HL, nI N, nI R, nI H, s1, s2, s3, s4, 0, hm, kd, fa, fb, rp, rq, rv, upd ec p (nI c), upd ey p (nI t), upd en p (nI s), hd, (fun _ => 0), (fun _ => 0), (fun _ => 0), mk, (fun _ => 0), pd, (fun _ => 0), kp), zz_inO (zi_end h (Or.inr (Or.inr ⟨c, t, s, hc, t0, ht, s0, hs, rfl, rfl, rfl⟩)) (fun m i x => ?_) (fun _ => ?_)), fun post q => x52 post (br_f z3 (xa_isB b24 (fun c => absurd hv3 c) (fun _ => br_f qp_10 (br_f c1 (br_f z4 (xa_isB b24 (fun c => absurd hv4 c) (fun _ => br_f qp_10 ⟨vc, vc, fun br' ebr => ?_⟩))))))), fun post q => y42 post (br_f c2 (zi_ok hB31 t0 ht (br_f c0 (zi_ok hB31 s0 hs ⟨v24, fun ec' eec => br_f c2 ⟨v24, fun ey' eey => br_f c0 ⟨v24, fun en' een => ?_⟩⟩⟩))))⟩
  · by_cases y : m = c
    · subst y; rw [pk_us, b_or, x]; rfl
    · rw [pk_un y]; exact x
  · rw [ecc, pk_us, b_or, qa_sh (by omega) (by omega)]; simp
  · rw [ecc] at ebr
    subst ebr
    exact xe_setEnd (by omega) q
  · rw [ep] at eec eey een
    subst eec eey een
    exact q
theorem i_vc_end {k : Nat} {u : SX} {v : SY} (I : i_Rel k u v) (hk : k + 5 ≤ 2564) (v1 : Int32) (v2 : Int32) (v3 : Int32) (v4 : Int32) : wpX_end (fun r u' => wpY_end (fun r' v' => r' = r ∧ i_Rel (k + 5) u' v') v v1 v2 v3 v4) u v1 v2 v3 v4 := by
  refine zz_el (Q := fun u v => wpX_end (fun r u' => wpY_end (fun r' v' => r' = r ∧ i_Rel (k + 5) u' v') v v1 v2 v3 v4) u v1 v2 v3 v4) ?_ ?_ I
  · intro B NL RL HL N R H pm fs fv t1 t2 t3 t4 s1 s2 s3 s4 hm kd fa fb rp rq rv ro ec ey en ni ed dm us br nd hd pp ic mk pd kp h
    obtain ⟨r, u', v', R', x, y⟩ := zi_X B NL RL HL N R H pm fs fv t1 t2 t3 t4 s1 s2 s3 s4 hm kd fa fb rp rq rv ro ec ey en ni ed dm us br nd hd pp ic mk pd kp h k v1 v2 v3 v4
    exact x _ (y _ ⟨rfl, R'⟩)
  · intro B NL RL HL N R H T P pm rm fs fv nx lf hm kd fa fb rp rq rv ro ec ey en ni ed dm lo us br nd st cv hd pp lv ic vc rc mk pd kp h
    exact br_f qp_10 (br_f qp_10 ⟨rfl, zz_inS (zz_up (by omega) h)⟩)
end
section
/-! one block executed: the single steps of both sides -/
/-- what a phi reads along the edge from the block left last -/
def ze_pv (lf : Int32) (ro rv lv : Nat → Int32) (n : Nat) : Int32 := if lf = -1 then 0 else if ro (n * 24 + lf.toNatClampNeg) = 0 then 0 else lv (rv (ro (n * 24 + lf.toNatClampNeg) - 1).toNatClampNeg).toNatClampNeg
def ze_ph (i : Nat) (hm kd : Nat → Int32) (c : Int32) (pv lv : Nat → Int32) (n : Nat) : Int32 := if n < i ∧ hm n = c ∧ kd n = 0 then pv n else lv n
theorem ze_ph0 (hm kd : Nat → Int32) (c : Int32) (pv lv : Nat → Int32) : ze_ph 0 hm kd c pv lv = lv := funext fun n => if_neg fun h => absurd h.1 (Nat.not_lt_zero _)
theorem ze_phu {i : Nat} {hm kd : Nat → Int32} {c : Int32} {pv lv : Nat → Int32} (h : hm i = c ∧ kd i = 0) : upd (ze_ph i hm kd c pv lv) i (pv i) = ze_ph (i + 1) hm kd c pv lv := qr_up (c := fun n => hm n = c ∧ kd n = 0) (f := pv) _ h _ rfl
theorem ze_phi {i : Nat} {hm kd : Nat → Int32} {c : Int32} {pv lv : Nat → Int32} (h : ¬ (hm i = c ∧ kd i = 0)) : ze_ph i hm kd c pv lv = ze_ph (i + 1) hm kd c pv lv := qr_id (c := fun n => hm n = c ∧ kd n = 0) _ h
section
variable {B N R H T P : Nat} {f_nodeLimit f_rowLimit f_heldLimit f_isSealed f_phiMask f_reachedMask f_pendingNodes f_pendingEnds f_foundState f_foundValue f_heldCount f_taken f_prints f_nextBlock f_leftBlock : Int32} {a_home a_kinds a_fieldA a_fieldB a_rowPhi a_rowPred a_rowValue a_rowOf a_endCond a_endYes a_endNo a_nodesIn a_edges a_dom a_liveOut a_users a_branchers a_needs a_states a_constants a_held a_paper a_lastValue a_incoming a_visitCount : Nat → Int32}
theorem ze_xarg {post : Int32 → Prop} {kd : Nat → Int32} {n : Nat} (hB : B ≤ 24) (hN : N ≤ 32) (hR : R ≤ 48) (Wr : qg_Wr B N R kd a_rowPhi a_rowPred a_rowValue a_rowOf) (hl : f_leftBlock = -1 ∨ ∃ p, p < B ∧ f_leftBlock = nI p) (hn : n < N) (K : post (ze_pv f_leftBlock a_rowOf a_rowValue a_lastValue n)) : wpX_argument post (nI B, f_nodeLimit, f_rowLimit, f_heldLimit, f_isSealed, nI N, nI R, f_phiMask, f_reachedMask, f_pendingNodes, f_pendingEnds, f_foundState, f_foundValue, f_heldCount, f_taken, f_prints, f_nextBlock, f_leftBlock, a_home, a_kinds, a_fieldA, a_fieldB, a_rowPhi, a_rowPred, a_rowValue, a_rowOf, a_endCond, a_endYes, a_endNo, a_nodesIn, a_edges, a_dom, a_liveOut, a_users, a_branchers, a_needs, a_states, a_constants, a_held, a_paper, a_lastValue, a_incoming, a_visitCount) (nI n) := by
  unfold ze_pv at K
  rcases hl with e | ⟨p, hp, e⟩
  · rw [if_pos e] at K
    exact br_f (by rw [e]; decide) (br_f (by decide) K)
  · obtain ⟨x1, x2⟩ := qn_x24 (n := n) (p := p) (by omega) (by omega)
    rw [if_neg (by rw [e]; exact qn_m1 (by omega)), e, nI_clamp (by omega)] at K
    refine br_t (by rw [e]; exact nI_pos' (by omega)) ?_
    rw [e, x1]
    refine ⟨vp_in_nI x2 (by omega), ?_⟩
    rw [nI_clamp (show n * 24 + p < 2 ^ 31 by omega)]
    rcases Wr.2 n p (by omega) (by omega) with z | ⟨r, hr, z, _⟩
    · rw [if_pos z] at K
      rw [z]
      exact br_f (by decide) K
    · rw [if_neg (by rw [z]; exact nI_ne0 (by omega) (by omega)), z, nI_pred] at K
      rw [z, nI_pred]
      obtain ⟨_, _, v, _, _, hv, _, _, ev, _⟩ := Wr.1 r hr
      rw [nI_clamp (by omega)] at K
      refine br_t (nI_pos' (by omega)) ⟨vp_in_nI (by omega) (by omega), ?_⟩
      rw [nI_clamp (show r < 2 ^ 31 by omega)]
      exact ⟨by rw [ev]; exact vp_in_nI (by omega) (by omega), K⟩
theorem ze_xload {post : SX → Prop} {kd : Nat → Int32} {c : Nat} (hB : B ≤ 24) (hN : N ≤ 32) (hR : R ≤ 48) (Wr : qg_Wr B N R kd a_rowPhi a_rowPred a_rowValue a_rowOf) (Wi : qg_Wi B N a_home a_nodesIn) (Wp : ∀ i, i < 32 → (bt f_phiMask i = true ↔ i < N ∧ a_kinds i = 0)) (hl : f_leftBlock = -1 ∨ ∃ p, p < B ∧ f_leftBlock = nI p) (hc : c < B) (K : ∀ ic : Nat → Int32, post (nI B, f_nodeLimit, f_rowLimit, f_heldLimit, f_isSealed, nI N, nI R, f_phiMask, f_reachedMask, f_pendingNodes, f_pendingEnds, f_foundState, f_foundValue, f_heldCount, f_taken, f_prints, f_nextBlock, f_leftBlock, a_home, a_kinds, a_fieldA, a_fieldB, a_rowPhi, a_rowPred, a_rowValue, a_rowOf, a_endCond, a_endYes, a_endNo, a_nodesIn, a_edges, a_dom, a_liveOut, a_users, a_branchers, a_needs, a_states, a_constants, a_held, a_paper, ze_ph N a_home a_kinds (nI c) (ze_pv f_leftBlock a_rowOf a_rowValue a_lastValue) a_lastValue, ic, a_visitCount)) : wpX_loadPhis post (nI B, f_nodeLimit, f_rowLimit, f_heldLimit, f_isSealed, nI N, nI R, f_phiMask, f_reachedMask, f_pendingNodes, f_pendingEnds, f_foundState, f_foundValue, f_heldCount, f_taken, f_prints, f_nextBlock, f_leftBlock, a_home, a_kinds, a_fieldA, a_fieldB, a_rowPhi, a_rowPred, a_rowValue, a_rowOf, a_endCond, a_endYes, a_endNo, a_nodesIn, a_edges, a_dom, a_liveOut, a_users, a_branchers, a_needs, a_states, a_constants, a_held, a_paper, a_lastValue, a_incoming, a_visitCount) (nI c) := by
  refine ⟨vp_in_nI (by omega) (by omega), fun x2 ex2 => ?_⟩
  rw [nI_clamp (by omega)] at ex2
  have bx : ∀ i, i < N → (bt x2 i = true ↔ a_home i = nI c ∧ a_kinds i = 0) := fun i hi => by
    rw [ex2, b_and, Bool.and_eq_true, Wi c i hc (by omega), Wp i (by omega)]
    exact ⟨fun h => ⟨h.1.2, h.2.2⟩, fun h => ⟨⟨hi, h.1⟩, hi, h.2⟩⟩
  refine ql_0 (fun n i ic => wX_loadPhis_14 post x2 (nI B) f_nodeLimit f_rowLimit f_heldLimit f_isSealed (nI N) (nI R) f_phiMask f_reachedMask f_pendingNodes f_pendingEnds f_foundState f_foundValue f_heldCount f_taken f_prints f_nextBlock f_leftBlock n (nI i) a_home a_kinds a_fieldA a_fieldB a_rowPhi a_rowPred a_rowValue a_rowOf a_endCond a_endYes a_endNo a_nodesIn a_edges a_dom a_liveOut a_users a_branchers a_needs a_states a_constants a_held a_paper a_lastValue ic a_visitCount) (fun i ic => ∀ n, n < i → bt x2 n = true → ic n = ze_pv f_leftBlock a_rowOf a_rowValue a_lastValue n) N a_incoming (fun n h => absurd h (Nat.not_lt_zero _)) (fun n ic I => ?_) (fun n i ic hi I next => ?_)
  · refine pk_le N N (fun _ => ?_) (fun h => absurd h (Nat.lt_irrefl _))
    have main : ∃ n, wX_loadPhis_50 post x2 (nI B) f_nodeLimit f_rowLimit f_heldLimit f_isSealed (nI N) (nI R) f_phiMask f_reachedMask f_pendingNodes f_pendingEnds f_foundState f_foundValue f_heldCount f_taken f_prints f_nextBlock f_leftBlock n (nI 0) a_home a_kinds a_fieldA a_fieldB a_rowPhi a_rowPred a_rowValue a_rowOf a_endCond a_endYes a_endNo a_nodesIn a_edges a_dom a_liveOut a_users a_branchers a_needs a_states a_constants a_held a_paper (ze_ph 0 a_home a_kinds (nI c) (ze_pv f_leftBlock a_rowOf a_rowValue a_lastValue) a_lastValue) ic a_visitCount := by
      refine ql_0 (fun n i (_ : Unit) => wX_loadPhis_50 post x2 (nI B) f_nodeLimit f_rowLimit f_heldLimit f_isSealed (nI N) (nI R) f_phiMask f_reachedMask f_pendingNodes f_pendingEnds f_foundState f_foundValue f_heldCount f_taken f_prints f_nextBlock f_leftBlock n (nI i) a_home a_kinds a_fieldA a_fieldB a_rowPhi a_rowPred a_rowValue a_rowOf a_endCond a_endYes a_endNo a_nodesIn a_edges a_dom a_liveOut a_users a_branchers a_needs a_states a_constants a_held a_paper (ze_ph i a_home a_kinds (nI c) (ze_pv f_leftBlock a_rowOf a_rowValue a_lastValue) a_lastValue) ic a_visitCount) (fun _ _ => True) N () trivial (fun n _ _ => ?_) (fun n i _ hi _ next => ?_)
      · exact pk_le N N (fun _ => K ic) (fun h => absurd h (Nat.lt_irrefl _))
      · have hv : vp_in (nI i) 32 := vp_in_nI (by omega) (by omega)
        have nx := next () trivial
        refine pk_le N i (fun h => by omega) (fun _ => ?_)
        refine xa_hb (by omega) (fun hb => br_t rfl fun y ey => ?_) (fun hb => br_f qp_10 ⟨hv, hv, fun lv elv y ey => ?_⟩)
        · subst ey
          rw [nI_1, ze_phi fun h => by rw [(bx i hi).mpr h] at hb; cases hb]
          exact nx
        · rw [nI_clamp (by omega), I i hi hb, ze_phu ((bx i hi).mp hb)] at elv
          subst elv ey
          rw [nI_1]
          exact nx
    rw [ze_ph0] at main
    exact main
  · have hv : vp_in (nI i) 32 := vp_in_nI (by omega) (by omega)
    refine pk_le N i (fun h => by omega) (fun _ => ?_)
    refine xa_hb (by omega) (fun hb => br_t rfl fun y ey => ?_) (fun hb => br_f qp_10 ?_)
    · subst ey
      rw [nI_1]
      refine next ic (fun n hn hx => ?_)
      by_cases z : n = i
      · subst z; rw [hb] at hx; cases hx
      · exact I n (by omega) hx
    · refine ze_xarg hB hN hR Wr hl hi ⟨hv, fun ic' eic y ey => ?_⟩
      rw [nI_clamp (by omega)] at eic
      subst eic ey
      rw [nI_1]
      refine next _ (fun n hn hx => ?_)
      by_cases z : n = i
      · subst z; exact pk_us
      · rw [pk_un z]; exact I n (by omega) hx
theorem ze_xskip {post : SX → Prop} {x2 c : Int32} {n i : Nat} (hN : N ≤ 32) (hi : i < N) (hb : bt x2 i = false) (K : wX_execute_31 post c x2 n (nI (i + 1)) (nI B) f_nodeLimit f_rowLimit f_heldLimit f_isSealed (nI N) (nI R) f_phiMask f_reachedMask f_pendingNodes f_pendingEnds f_foundState f_foundValue f_heldCount f_taken f_prints f_nextBlock f_leftBlock a_home a_kinds a_fieldA a_fieldB a_rowPhi a_rowPred a_rowValue a_rowOf a_endCond a_endYes a_endNo a_nodesIn a_edges a_dom a_liveOut a_users a_branchers a_needs a_states a_constants a_held a_paper a_lastValue a_incoming a_visitCount) : wX_execute_31 post c x2 (n + 1) (nI i) (nI B) f_nodeLimit f_rowLimit f_heldLimit f_isSealed (nI N) (nI R) f_phiMask f_reachedMask f_pendingNodes f_pendingEnds f_foundState f_foundValue f_heldCount f_taken f_prints f_nextBlock f_leftBlock a_home a_kinds a_fieldA a_fieldB a_rowPhi a_rowPred a_rowValue a_rowOf a_endCond a_endYes a_endNo a_nodesIn a_edges a_dom a_liveOut a_users a_branchers a_needs a_states a_constants a_held a_paper a_lastValue a_incoming a_visitCount := by
  refine pk_le N i (fun h => by omega) (fun _ => xa_hb (by omega) (fun _ => br_t rfl fun y ey => ?_) (fun h => ?_))
  · subst ey; rw [nI_1]; exact K
  · rw [hb] at h; cases h
theorem ze_xeval {post : SX → Prop} {x2 c : Int32} {n i : Nat} (hN : N ≤ 32) (hi : i < N) (hb : bt x2 i = true) (K : wpX_evaluate (fun r u => match u with | (f_blockCount, f_nodeLimit, f_rowLimit, f_heldLimit, f_isSealed, f_nodeCount, f_rowCount, f_phiMask, f_reachedMask, f_pendingNodes, f_pendingEnds, f_foundState, f_foundValue, f_heldCount, f_taken, f_prints, f_nextBlock, f_leftBlock, a_home, a_kinds, a_fieldA, a_fieldB, a_rowPhi, a_rowPred, a_rowValue, a_rowOf, a_endCond, a_endYes, a_endNo, a_nodesIn, a_edges, a_dom, a_liveOut, a_users, a_branchers, a_needs, a_states, a_constants, a_held, a_paper, a_lastValue, a_incoming, a_visitCount) => wX_execute_31 post c x2 n (nI (i + 1)) f_blockCount f_nodeLimit f_rowLimit f_heldLimit f_isSealed f_nodeCount f_rowCount f_phiMask f_reachedMask f_pendingNodes f_pendingEnds f_foundState f_foundValue f_heldCount f_taken f_prints f_nextBlock f_leftBlock a_home a_kinds a_fieldA a_fieldB a_rowPhi a_rowPred a_rowValue a_rowOf a_endCond a_endYes a_endNo a_nodesIn a_edges a_dom a_liveOut a_users a_branchers a_needs a_states a_constants a_held a_paper (upd a_lastValue i r) a_incoming a_visitCount) (nI B, f_nodeLimit, f_rowLimit, f_heldLimit, f_isSealed, nI N, nI R, f_phiMask, f_reachedMask, f_pendingNodes, f_pendingEnds, f_foundState, f_foundValue, f_heldCount, f_taken, f_prints, f_nextBlock, f_leftBlock, a_home, a_kinds, a_fieldA, a_fieldB, a_rowPhi, a_rowPred, a_rowValue, a_rowOf, a_endCond, a_endYes, a_endNo, a_nodesIn, a_edges, a_dom, a_liveOut, a_users, a_branchers, a_needs, a_states, a_constants, a_held, a_paper, a_lastValue, a_incoming, a_visitCount) (nI i)) : wX_execute_31 post c x2 (n + 1) (nI i) (nI B) f_nodeLimit f_rowLimit f_heldLimit f_isSealed (nI N) (nI R) f_phiMask f_reachedMask f_pendingNodes f_pendingEnds f_foundState f_foundValue f_heldCount f_taken f_prints f_nextBlock f_leftBlock a_home a_kinds a_fieldA a_fieldB a_rowPhi a_rowPred a_rowValue a_rowOf a_endCond a_endYes a_endNo a_nodesIn a_edges a_dom a_liveOut a_users a_branchers a_needs a_states a_constants a_held a_paper a_lastValue a_incoming a_visitCount := by
  refine pk_le N i (fun h => by omega) (fun _ => xa_hb (by omega) (fun h => ?_) (fun _ => br_f qp_10 ?_))
  · rw [hb] at h; cases h
  · have e : (fun (r_141 : Int32) (u : SX) => match u with | (f_blockCount, f_nodeLimit, f_rowLimit, f_heldLimit, f_isSealed, f_nodeCount, f_rowCount, f_phiMask, f_reachedMask, f_pendingNodes, f_pendingEnds, f_foundState, f_foundValue, f_heldCount, f_taken, f_prints, f_nextBlock, f_leftBlock, a_home, a_kinds, a_fieldA, a_fieldB, a_rowPhi, a_rowPred, a_rowValue, a_rowOf, a_endCond, a_endYes, a_endNo, a_nodesIn, a_edges, a_dom, a_liveOut, a_users, a_branchers, a_needs, a_states, a_constants, a_held, a_paper, a_lastValue, a_incoming, a_visitCount) => (vp_in (nI i) 32 ∧ ∀ lv : Nat → Int32, lv = upd a_lastValue (nI i).toNatClampNeg r_141 → ∀ y : Int32, y = nI i + 1 → wX_execute_31 post c x2 n y f_blockCount f_nodeLimit f_rowLimit f_heldLimit f_isSealed f_nodeCount f_rowCount f_phiMask f_reachedMask f_pendingNodes f_pendingEnds f_foundState f_foundValue f_heldCount f_taken f_prints f_nextBlock f_leftBlock a_home a_kinds a_fieldA a_fieldB a_rowPhi a_rowPred a_rowValue a_rowOf a_endCond a_endYes a_endNo a_nodesIn a_edges a_dom a_liveOut a_users a_branchers a_needs a_states a_constants a_held a_paper lv a_incoming a_visitCount)) = (fun r u => match u with | (f_blockCount, f_nodeLimit, f_rowLimit, f_heldLimit, f_isSealed, f_nodeCount, f_rowCount, f_phiMask, f_reachedMask, f_pendingNodes, f_pendingEnds, f_foundState, f_foundValue, f_heldCount, f_taken, f_prints, f_nextBlock, f_leftBlock, a_home, a_kinds, a_fieldA, a_fieldB, a_rowPhi, a_rowPred, a_rowValue, a_rowOf, a_endCond, a_endYes, a_endNo, a_nodesIn, a_edges, a_dom, a_liveOut, a_users, a_branchers, a_needs, a_states, a_constants, a_held, a_paper, a_lastValue, a_incoming, a_visitCount) => wX_execute_31 post c x2 n (nI (i + 1)) f_blockCount f_nodeLimit f_rowLimit f_heldLimit f_isSealed f_nodeCount f_rowCount f_phiMask f_reachedMask f_pendingNodes f_pendingEnds f_foundState f_foundValue f_heldCount f_taken f_prints f_nextBlock f_leftBlock a_home a_kinds a_fieldA a_fieldB a_rowPhi a_rowPred a_rowValue a_rowOf a_endCond a_endYes a_endNo a_nodesIn a_edges a_dom a_liveOut a_users a_branchers a_needs a_states a_constants a_held a_paper (upd a_lastValue i r) a_incoming a_visitCount) := by
      funext r u
      obtain ⟨f_blockCount, f_nodeLimit, f_rowLimit, f_heldLimit, f_isSealed, f_nodeCount, f_rowCount, f_phiMask, f_reachedMask, f_pendingNodes, f_pendingEnds, f_foundState, f_foundValue, f_heldCount, f_taken, f_prints, f_nextBlock, f_leftBlock, a_home, a_kinds, a_fieldA, a_fieldB, a_rowPhi, a_rowPred, a_rowValue, a_rowOf, a_endCond, a_endYes, a_endNo, a_nodesIn, a_edges, a_dom, a_liveOut, a_users, a_branchers, a_needs, a_states, a_constants, a_held, a_paper, a_lastValue, a_incoming, a_visitCount⟩ := u
      dsimp only
      rw [nI_clamp (show i < 2 ^ 31 by omega), nI_1]
      exact propext ⟨fun h => h.2 _ rfl _ rfl, fun h => ⟨vp_in_nI (by omega) (by omega), fun lv elv y ey => by subst elv ey; exact h⟩⟩
    have K' := K
    rw [← e] at K'
    exact K'
end
end
section
/-! one node evaluated on both sides -/
section
variable {B N R H T P : Nat} {f_nodeLimit f_rowLimit f_heldLimit f_isSealed f_phiMask f_reachedMask f_pendingNodes f_pendingEnds f_foundState f_foundValue f_nextBlock f_leftBlock : Int32} {a_home a_kinds a_fieldA a_fieldB a_rowPhi a_rowPred a_rowValue a_rowOf a_endCond a_endYes a_endNo a_nodesIn a_edges a_dom a_liveOut a_users a_branchers a_needs a_states a_constants a_held a_paper a_lastValue a_incoming a_visitCount : Nat → Int32}
theorem zx_const {post : SX → Prop} {x2 c : Int32} {n i : Nat} (hN : N ≤ 32) (hi : i < N) (hb : bt x2 i = true) (k : a_kinds i = 1) (K : wX_execute_31 post c x2 n (nI (i + 1)) (nI B) f_nodeLimit f_rowLimit f_heldLimit f_isSealed (nI N) (nI R) f_phiMask f_reachedMask f_pendingNodes f_pendingEnds f_foundState f_foundValue (nI H) (nI T) (nI P) f_nextBlock f_leftBlock a_home a_kinds a_fieldA a_fieldB a_rowPhi a_rowPred a_rowValue a_rowOf a_endCond a_endYes a_endNo a_nodesIn a_edges a_dom a_liveOut a_users a_branchers a_needs a_states a_constants a_held a_paper (upd a_lastValue i (a_fieldA i)) a_incoming a_visitCount) : wX_execute_31 post c x2 (n + 1) (nI i) (nI B) f_nodeLimit f_rowLimit f_heldLimit f_isSealed (nI N) (nI R) f_phiMask f_reachedMask f_pendingNodes f_pendingEnds f_foundState f_foundValue (nI H) (nI T) (nI P) f_nextBlock f_leftBlock a_home a_kinds a_fieldA a_fieldB a_rowPhi a_rowPred a_rowValue a_rowOf a_endCond a_endYes a_endNo a_nodesIn a_edges a_dom a_liveOut a_users a_branchers a_needs a_states a_constants a_held a_paper a_lastValue a_incoming a_visitCount := by
  have hv : vp_in (nI i) 32 := vp_in_nI (by omega) (by omega)
  refine ze_xeval hN hi hb ⟨hv, fun k' ek => ⟨hv, fun a ea => ?_⟩⟩
  rw [nI_clamp (by omega)] at ek ea
  subst ek ea
  exact br_t k K
theorem zx_input {post : SX → Prop} {x2 c : Int32} {n i : Nat} (hN : N ≤ 32) (hi : i < N) (hH : H ≤ 16) (hT : T ≤ H) (hb : bt x2 i = true) (k : a_kinds i = 2) (K0 : ¬ T < H → wX_execute_31 post c x2 n (nI (i + 1)) (nI B) f_nodeLimit f_rowLimit f_heldLimit f_isSealed (nI N) (nI R) f_phiMask f_reachedMask f_pendingNodes f_pendingEnds f_foundState f_foundValue (nI H) (nI T) (nI P) f_nextBlock f_leftBlock a_home a_kinds a_fieldA a_fieldB a_rowPhi a_rowPred a_rowValue a_rowOf a_endCond a_endYes a_endNo a_nodesIn a_edges a_dom a_liveOut a_users a_branchers a_needs a_states a_constants a_held a_paper (upd a_lastValue i 0) a_incoming a_visitCount) (K1 : T < H → wX_execute_31 post c x2 n (nI (i + 1)) (nI B) f_nodeLimit f_rowLimit f_heldLimit f_isSealed (nI N) (nI R) f_phiMask f_reachedMask f_pendingNodes f_pendingEnds f_foundState f_foundValue (nI H) (nI (T + 1)) (nI P) f_nextBlock f_leftBlock a_home a_kinds a_fieldA a_fieldB a_rowPhi a_rowPred a_rowValue a_rowOf a_endCond a_endYes a_endNo a_nodesIn a_edges a_dom a_liveOut a_users a_branchers a_needs a_states a_constants a_held a_paper (upd a_lastValue i (a_held T)) a_incoming a_visitCount) : wX_execute_31 post c x2 (n + 1) (nI i) (nI B) f_nodeLimit f_rowLimit f_heldLimit f_isSealed (nI N) (nI R) f_phiMask f_reachedMask f_pendingNodes f_pendingEnds f_foundState f_foundValue (nI H) (nI T) (nI P) f_nextBlock f_leftBlock a_home a_kinds a_fieldA a_fieldB a_rowPhi a_rowPred a_rowValue a_rowOf a_endCond a_endYes a_endNo a_nodesIn a_edges a_dom a_liveOut a_users a_branchers a_needs a_states a_constants a_held a_paper a_lastValue a_incoming a_visitCount := by
  have hv : vp_in (nI i) 32 := vp_in_nI (by omega) (by omega)
  refine ze_xeval hN hi hb ⟨hv, fun k' ek => ⟨hv, fun a ea => ?_⟩⟩
  rw [nI_clamp (by omega)] at ek ea
  subst ek ea
  refine br_f (by rw [k]; decide) (br_t k (pk_le H T (fun z => K0 (by omega)) (fun z t et => ⟨vp_in_nI (by omega) (by omega), ?_⟩)))
  rw [nI_1] at et
  subst et
  rw [nI_clamp (show T < 2 ^ 31 by omega)]
  exact K1 z
theorem zx_print {post : SX → Prop} {x2 c : Int32} {n i a : Nat} (hN : N ≤ 32) (hi : i < N) (hP : P < 2 ^ 30) (ha : a < 32) (ea : a_fieldA i = nI a) (hb : bt x2 i = true) (k : a_kinds i = 8) (K : wX_execute_31 post c x2 n (nI (i + 1)) (nI B) f_nodeLimit f_rowLimit f_heldLimit f_isSealed (nI N) (nI R) f_phiMask f_reachedMask f_pendingNodes f_pendingEnds f_foundState f_foundValue (nI H) (nI T) (nI (P + 1)) f_nextBlock f_leftBlock a_home a_kinds a_fieldA a_fieldB a_rowPhi a_rowPred a_rowValue a_rowOf a_endCond a_endYes a_endNo a_nodesIn a_edges a_dom a_liveOut a_users a_branchers a_needs a_states a_constants a_held (upd a_paper (P % 32) (a_lastValue a)) (upd a_lastValue i (a_lastValue a)) a_incoming a_visitCount) : wX_execute_31 post c x2 (n + 1) (nI i) (nI B) f_nodeLimit f_rowLimit f_heldLimit f_isSealed (nI N) (nI R) f_phiMask f_reachedMask f_pendingNodes f_pendingEnds f_foundState f_foundValue (nI H) (nI T) (nI P) f_nextBlock f_leftBlock a_home a_kinds a_fieldA a_fieldB a_rowPhi a_rowPred a_rowValue a_rowOf a_endCond a_endYes a_endNo a_nodesIn a_edges a_dom a_liveOut a_users a_branchers a_needs a_states a_constants a_held a_paper a_lastValue a_incoming a_visitCount := by
  have hv : vp_in (nI i) 32 := vp_in_nI (by omega) (by omega)
  have va : vp_in (nI a) 32 := vp_in_nI ha (by omega)
  have e1 : nI P &&& 31 = nI (P % 32) := pk_andN (m := 31) (by omega) 5 (by decide)
  refine ze_xeval hN hi hb ⟨hv, fun k' ek => ⟨hv, fun a' ea' => ?_⟩⟩
  rw [nI_clamp (by omega)] at ek ea'
  rw [ea] at ea'
  subst ek ea'
  refine br_f (by rw [k]; decide) (br_f (by rw [k]; decide) (br_t k fun p ep => ⟨va, ?_⟩))
  rw [e1, nI_clamp (show a < 2 ^ 31 by omega), nI_clamp (show P % 32 < 2 ^ 31 by omega)]
  refine ⟨vp_in_nI (by omega) (by omega), fun pp epp => ⟨va, ?_⟩⟩
  rw [nI_1] at ep
  subst ep epp
  exact K
theorem zx_op {post : SX → Prop} {x2 c : Int32} {n i a b : Nat} (hN : N ≤ 32) (hi : i < N) (ha : a < 32) (hb' : b < 32) (ea : a_fieldA i = nI a) (eb : a_fieldB i = nI b) (hb : bt x2 i = true) (k3 : ¬ a_kinds i < 3) (k7 : ¬ 7 < a_kinds i) (K : wX_execute_31 post c x2 n (nI (i + 1)) (nI B) f_nodeLimit f_rowLimit f_heldLimit f_isSealed (nI N) (nI R) f_phiMask f_reachedMask f_pendingNodes f_pendingEnds f_foundState f_foundValue (nI H) (nI T) (nI P) f_nextBlock f_leftBlock a_home a_kinds a_fieldA a_fieldB a_rowPhi a_rowPred a_rowValue a_rowOf a_endCond a_endYes a_endNo a_nodesIn a_edges a_dom a_liveOut a_users a_branchers a_needs a_states a_constants a_held a_paper (upd a_lastValue i (qp_cp (a_kinds i) (a_lastValue a) (a_lastValue b))) a_incoming a_visitCount) : wX_execute_31 post c x2 (n + 1) (nI i) (nI B) f_nodeLimit f_rowLimit f_heldLimit f_isSealed (nI N) (nI R) f_phiMask f_reachedMask f_pendingNodes f_pendingEnds f_foundState f_foundValue (nI H) (nI T) (nI P) f_nextBlock f_leftBlock a_home a_kinds a_fieldA a_fieldB a_rowPhi a_rowPred a_rowValue a_rowOf a_endCond a_endYes a_endNo a_nodesIn a_edges a_dom a_liveOut a_users a_branchers a_needs a_states a_constants a_held a_paper a_lastValue a_incoming a_visitCount := by
  have hv : vp_in (nI i) 32 := vp_in_nI (by omega) (by omega)
  have va : vp_in (nI a) 32 := vp_in_nI ha (by omega)
  have vb : vp_in (nI b) 32 := vp_in_nI hb' (by omega)
  refine ze_xeval hN hi hb ⟨hv, fun k' ek => ⟨hv, fun a' ea' => ?_⟩⟩
  rw [nI_clamp (by omega)] at ek ea'
  rw [ea] at ea'
  subst ek ea'
  have n1 : ¬ a_kinds i = 1 := fun z => by rw [z] at k3; exact k3 (by decide)
  have n2 : ¬ a_kinds i = 2 := fun z => by rw [z] at k3; exact k3 (by decide)
  have n8 : ¬ a_kinds i = 8 := fun z => by rw [z] at k7; exact k7 (by decide)
  refine br_f n1 (br_f n2 (br_f n8 ⟨va, hv, ?_⟩))
  rw [nI_clamp (show i < 2 ^ 31 by omega), eb, nI_clamp (show a < 2 ^ 31 by omega), nI_clamp (show b < 2 ^ 31 by omega)]
  exact ⟨vb, xc_compute K⟩
end
def zy_sh (kp : Nat → Int32) (x : Int32) (j : Nat) : Int32 := if j < 31 then kp (j + 1) else if j = 31 then x else kp j
section
variable {B N R H T P : Nat} {g_nodeMax g_rowMax g_inputMax g_next g_leftLast g_closed : Int32} {b_nodeBlock b_nodeKind b_nodeA b_nodeB b_rowPhi b_rowPred b_rowNode b_endCond b_endYes b_endNo b_heldInput b_factState b_factValue b_isReached b_mark b_lastValue b_pending b_visitCount b_kept : Nat → Int32}
theorem zy_skip {post : SY → Prop} {c : Int32} {n i : Nat} (hN : N ≤ 32) (hi : i < N) (h : ¬ (b_nodeBlock i = c ∧ ¬ b_nodeKind i = 0)) (K : wY_execute_110 post c n (nI (i + 1)) (nI B) g_nodeMax g_rowMax g_inputMax (nI N) (nI R) (nI H) g_next g_leftLast (nI T) (nI P) g_closed b_nodeBlock b_nodeKind b_nodeA b_nodeB b_rowPhi b_rowPred b_rowNode b_endCond b_endYes b_endNo b_heldInput b_factState b_factValue b_isReached b_mark b_lastValue b_pending b_visitCount b_kept) : wY_execute_110 post c (n + 1) (nI i) (nI B) g_nodeMax g_rowMax g_inputMax (nI N) (nI R) (nI H) g_next g_leftLast (nI T) (nI P) g_closed b_nodeBlock b_nodeKind b_nodeA b_nodeB b_rowPhi b_rowPred b_rowNode b_endCond b_endYes b_endNo b_heldInput b_factState b_factValue b_isReached b_mark b_lastValue b_pending b_visitCount b_kept := by
  have hv : vp_in (nI i) 32 := vp_in_nI (by omega) (by omega)
  refine pk_le N i (fun h => by omega) (fun _ => ⟨hv, ?_⟩)
  rw [nI_clamp (show i < 2 ^ 31 by omega)]
  refine br_c (fun e => ⟨hv, br_t (Classical.byContradiction fun z => h ⟨e, z⟩) fun y ey => ?_⟩) (fun _ y ey => ?_)
  · subst ey; rw [nI_1]; exact K
  · subst ey; rw [nI_1]; exact K
theorem zy_eval {post : SY → Prop} {c : Int32} {n i : Nat} (hN : N ≤ 32) (hi : i < N) (hc : b_nodeBlock i = c) (hk : ¬ b_nodeKind i = 0) (K : wpY_evaluate (fun u => match u with | (g_blockCount, g_nodeMax, g_rowMax, g_inputMax, g_nodeCount, g_rowCount, g_held, g_next, g_leftLast, g_taken, g_prints, g_closed, b_nodeBlock, b_nodeKind, b_nodeA, b_nodeB, b_rowPhi, b_rowPred, b_rowNode, b_endCond, b_endYes, b_endNo, b_heldInput, b_factState, b_factValue, b_isReached, b_mark, b_lastValue, b_pending, b_visitCount, b_kept) => wY_execute_110 post c n (nI (i + 1)) g_blockCount g_nodeMax g_rowMax g_inputMax g_nodeCount g_rowCount g_held g_next g_leftLast g_taken g_prints g_closed b_nodeBlock b_nodeKind b_nodeA b_nodeB b_rowPhi b_rowPred b_rowNode b_endCond b_endYes b_endNo b_heldInput b_factState b_factValue b_isReached b_mark b_lastValue b_pending b_visitCount b_kept) (nI B, g_nodeMax, g_rowMax, g_inputMax, nI N, nI R, nI H, g_next, g_leftLast, nI T, nI P, g_closed, b_nodeBlock, b_nodeKind, b_nodeA, b_nodeB, b_rowPhi, b_rowPred, b_rowNode, b_endCond, b_endYes, b_endNo, b_heldInput, b_factState, b_factValue, b_isReached, b_mark, b_lastValue, b_pending, b_visitCount, b_kept) (nI i)) : wY_execute_110 post c (n + 1) (nI i) (nI B) g_nodeMax g_rowMax g_inputMax (nI N) (nI R) (nI H) g_next g_leftLast (nI T) (nI P) g_closed b_nodeBlock b_nodeKind b_nodeA b_nodeB b_rowPhi b_rowPred b_rowNode b_endCond b_endYes b_endNo b_heldInput b_factState b_factValue b_isReached b_mark b_lastValue b_pending b_visitCount b_kept := by
  have hv : vp_in (nI i) 32 := vp_in_nI (by omega) (by omega)
  refine pk_le N i (fun h => by omega) (fun _ => ⟨hv, ?_⟩)
  rw [nI_clamp (show i < 2 ^ 31 by omega)]
  refine br_t hc ⟨hv, br_f hk ?_⟩
  have e : (fun (u : SY) => match u with | (g_blockCount, g_nodeMax, g_rowMax, g_inputMax, g_nodeCount, g_rowCount, g_held, g_next, g_leftLast, g_taken, g_prints, g_closed, b_nodeBlock, b_nodeKind, b_nodeA, b_nodeB, b_rowPhi, b_rowPred, b_rowNode, b_endCond, b_endYes, b_endNo, b_heldInput, b_factState, b_factValue, b_isReached, b_mark, b_lastValue, b_pending, b_visitCount, b_kept) => (∀ y : Int32, y = nI i + 1 → wY_execute_110 post c n y g_blockCount g_nodeMax g_rowMax g_inputMax g_nodeCount g_rowCount g_held g_next g_leftLast g_taken g_prints g_closed b_nodeBlock b_nodeKind b_nodeA b_nodeB b_rowPhi b_rowPred b_rowNode b_endCond b_endYes b_endNo b_heldInput b_factState b_factValue b_isReached b_mark b_lastValue b_pending b_visitCount b_kept)) = (fun u => match u with | (g_blockCount, g_nodeMax, g_rowMax, g_inputMax, g_nodeCount, g_rowCount, g_held, g_next, g_leftLast, g_taken, g_prints, g_closed, b_nodeBlock, b_nodeKind, b_nodeA, b_nodeB, b_rowPhi, b_rowPred, b_rowNode, b_endCond, b_endYes, b_endNo, b_heldInput, b_factState, b_factValue, b_isReached, b_mark, b_lastValue, b_pending, b_visitCount, b_kept) => wY_execute_110 post c n (nI (i + 1)) g_blockCount g_nodeMax g_rowMax g_inputMax g_nodeCount g_rowCount g_held g_next g_leftLast g_taken g_prints g_closed b_nodeBlock b_nodeKind b_nodeA b_nodeB b_rowPhi b_rowPred b_rowNode b_endCond b_endYes b_endNo b_heldInput b_factState b_factValue b_isReached b_mark b_lastValue b_pending b_visitCount b_kept) := by
    funext u
    obtain ⟨g_blockCount, g_nodeMax, g_rowMax, g_inputMax, g_nodeCount, g_rowCount, g_held, g_next, g_leftLast, g_taken, g_prints, g_closed, b_nodeBlock, b_nodeKind, b_nodeA, b_nodeB, b_rowPhi, b_rowPred, b_rowNode, b_endCond, b_endYes, b_endNo, b_heldInput, b_factState, b_factValue, b_isReached, b_mark, b_lastValue, b_pending, b_visitCount, b_kept⟩ := u
    dsimp only
    rw [nI_1]
    exact propext ⟨fun h => h _ rfl, fun h y ey => by subst ey; exact h⟩
  have K' := K
  rw [← e] at K'
  exact K'
theorem zy_const {post : SY → Prop} {c : Int32} {n i : Nat} (hN : N ≤ 32) (hi : i < N) (hc : b_nodeBlock i = c) (k : b_nodeKind i = 1) (K : wY_execute_110 post c n (nI (i + 1)) (nI B) g_nodeMax g_rowMax g_inputMax (nI N) (nI R) (nI H) g_next g_leftLast (nI T) (nI P) g_closed b_nodeBlock b_nodeKind b_nodeA b_nodeB b_rowPhi b_rowPred b_rowNode b_endCond b_endYes b_endNo b_heldInput b_factState b_factValue b_isReached b_mark (upd b_lastValue i (b_nodeA i)) b_pending b_visitCount b_kept) : wY_execute_110 post c (n + 1) (nI i) (nI B) g_nodeMax g_rowMax g_inputMax (nI N) (nI R) (nI H) g_next g_leftLast (nI T) (nI P) g_closed b_nodeBlock b_nodeKind b_nodeA b_nodeB b_rowPhi b_rowPred b_rowNode b_endCond b_endYes b_endNo b_heldInput b_factState b_factValue b_isReached b_mark b_lastValue b_pending b_visitCount b_kept := by
  have hv : vp_in (nI i) 32 := vp_in_nI (by omega) (by omega)
  refine zy_eval hN hi hc (by rw [k]; decide) ⟨hv, fun k' ek => ?_⟩
  rw [nI_clamp (by omega)] at ek
  subst ek
  refine br_t k ⟨hv, hv, fun lv elv => ?_⟩
  rw [nI_clamp (by omega)] at elv
  subst elv
  exact K
theorem zy_input {post : SY → Prop} {c : Int32} {n i : Nat} (hN : N ≤ 32) (hi : i < N) (hH : H ≤ 16) (hT : T ≤ H) (hc : b_nodeBlock i = c) (k : b_nodeKind i = 2) (K0 : ¬ T < H → wY_execute_110 post c n (nI (i + 1)) (nI B) g_nodeMax g_rowMax g_inputMax (nI N) (nI R) (nI H) g_next g_leftLast (nI T) (nI P) g_closed b_nodeBlock b_nodeKind b_nodeA b_nodeB b_rowPhi b_rowPred b_rowNode b_endCond b_endYes b_endNo b_heldInput b_factState b_factValue b_isReached b_mark (upd b_lastValue i 0) b_pending b_visitCount b_kept) (K1 : T < H → wY_execute_110 post c n (nI (i + 1)) (nI B) g_nodeMax g_rowMax g_inputMax (nI N) (nI R) (nI H) g_next g_leftLast (nI (T + 1)) (nI P) g_closed b_nodeBlock b_nodeKind b_nodeA b_nodeB b_rowPhi b_rowPred b_rowNode b_endCond b_endYes b_endNo b_heldInput b_factState b_factValue b_isReached b_mark (upd b_lastValue i (b_heldInput T)) b_pending b_visitCount b_kept) : wY_execute_110 post c (n + 1) (nI i) (nI B) g_nodeMax g_rowMax g_inputMax (nI N) (nI R) (nI H) g_next g_leftLast (nI T) (nI P) g_closed b_nodeBlock b_nodeKind b_nodeA b_nodeB b_rowPhi b_rowPred b_rowNode b_endCond b_endYes b_endNo b_heldInput b_factState b_factValue b_isReached b_mark b_lastValue b_pending b_visitCount b_kept := by
  have hv : vp_in (nI i) 32 := vp_in_nI (by omega) (by omega)
  refine zy_eval hN hi hc (by rw [k]; decide) ⟨hv, fun k' ek => ?_⟩
  rw [nI_clamp (by omega)] at ek
  subst ek
  refine br_f (by rw [k]; decide) (br_t k (pk_le H T (fun z => br_t rfl ⟨hv, fun lv elv => br_t rfl ?_⟩) (fun z => br_f qp_10 ⟨vp_in_nI (by omega) (by omega), ?_⟩)))
  · rw [nI_clamp (by omega)] at elv
    subst elv
    exact K0 (by omega)
  · rw [nI_clamp (show T < 2 ^ 31 by omega)]
    refine ⟨hv, fun lv elv => br_f qp_10 fun t et => ?_⟩
    rw [nI_clamp (by omega)] at elv
    rw [nI_1] at et
    subst elv et
    exact K1 z
theorem zy_op {post : SY → Prop} {c : Int32} {n i a b : Nat} (hN : N ≤ 32) (hi : i < N) (ha : a < 32) (hb' : b < 32) (ea : b_nodeA i = nI a) (eb : b_nodeB i = nI b) (hc : b_nodeBlock i = c) (k3 : ¬ b_nodeKind i < 3) (k7 : ¬ 7 < b_nodeKind i) (K : wY_execute_110 post c n (nI (i + 1)) (nI B) g_nodeMax g_rowMax g_inputMax (nI N) (nI R) (nI H) g_next g_leftLast (nI T) (nI P) g_closed b_nodeBlock b_nodeKind b_nodeA b_nodeB b_rowPhi b_rowPred b_rowNode b_endCond b_endYes b_endNo b_heldInput b_factState b_factValue b_isReached b_mark (upd b_lastValue i (qp_cp (b_nodeKind i) (b_lastValue a) (b_lastValue b))) b_pending b_visitCount b_kept) : wY_execute_110 post c (n + 1) (nI i) (nI B) g_nodeMax g_rowMax g_inputMax (nI N) (nI R) (nI H) g_next g_leftLast (nI T) (nI P) g_closed b_nodeBlock b_nodeKind b_nodeA b_nodeB b_rowPhi b_rowPred b_rowNode b_endCond b_endYes b_endNo b_heldInput b_factState b_factValue b_isReached b_mark b_lastValue b_pending b_visitCount b_kept := by
  have hv : vp_in (nI i) 32 := vp_in_nI (by omega) (by omega)
  have va : vp_in (nI a) 32 := vp_in_nI ha (by omega)
  have vb : vp_in (nI b) 32 := vp_in_nI hb' (by omega)
  have n0 : ¬ b_nodeKind i = 0 := fun z => by rw [z] at k3; exact k3 (by decide)
  have n1 : ¬ b_nodeKind i = 1 := fun z => by rw [z] at k3; exact k3 (by decide)
  have n2 : ¬ b_nodeKind i = 2 := fun z => by rw [z] at k3; exact k3 (by decide)
  have n8 : ¬ b_nodeKind i = 8 := fun z => by rw [z] at k7; exact k7 (by decide)
  refine zy_eval hN hi hc n0 ⟨hv, fun k' ek => ?_⟩
  rw [nI_clamp (by omega)] at ek
  subst ek
  refine br_f n1 (br_f n2 (br_f n8 ⟨hv, ?_⟩))
  rw [nI_clamp (show i < 2 ^ 31 by omega), ea, eb, nI_clamp (show a < 2 ^ 31 by omega), nI_clamp (show b < 2 ^ 31 by omega)]
  refine ⟨va, hv, vb, ya_compute ⟨hv, fun lv elv => ?_⟩⟩
  subst elv
  exact K
theorem zy_print {post : SY → Prop} {c : Int32} {n i a : Nat} (hN : N ≤ 32) (hi : i < N) (ha : a < 32) (ea : b_nodeA i = nI a) (hc : b_nodeBlock i = c) (k : b_nodeKind i = 8) (K : wY_execute_110 post c n (nI (i + 1)) (nI B) g_nodeMax g_rowMax g_inputMax (nI N) (nI R) (nI H) g_next g_leftLast (nI T) (nI (P + 1)) g_closed b_nodeBlock b_nodeKind b_nodeA b_nodeB b_rowPhi b_rowPred b_rowNode b_endCond b_endYes b_endNo b_heldInput b_factState b_factValue b_isReached b_mark (upd b_lastValue i (b_lastValue a)) b_pending b_visitCount (zy_sh b_kept (b_lastValue a))) : wY_execute_110 post c (n + 1) (nI i) (nI B) g_nodeMax g_rowMax g_inputMax (nI N) (nI R) (nI H) g_next g_leftLast (nI T) (nI P) g_closed b_nodeBlock b_nodeKind b_nodeA b_nodeB b_rowPhi b_rowPred b_rowNode b_endCond b_endYes b_endNo b_heldInput b_factState b_factValue b_isReached b_mark b_lastValue b_pending b_visitCount b_kept := by
  have hv : vp_in (nI i) 32 := vp_in_nI (by omega) (by omega)
  have va : vp_in (nI a) 32 := vp_in_nI ha (by omega)
  refine zy_eval hN hi hc (by rw [k]; decide) ⟨hv, fun k' ek => ?_⟩
  rw [nI_clamp (by omega)] at ek
  subst ek
  refine br_f (by rw [k]; decide) (br_f (by rw [k]; decide) (br_t k ⟨hv, ?_⟩))
  rw [nI_clamp (show i < 2 ^ 31 by omega), ea, nI_clamp (show a < 2 ^ 31 by omega)]
  refine ⟨va, hv, fun lv elv => ?_⟩
  subst elv
  refine ql_0 (fun m j kp => wY_evaluate_114 (fun u => match u with | (g_blockCount, g_nodeMax, g_rowMax, g_inputMax, g_nodeCount, g_rowCount, g_held, g_next, g_leftLast, g_taken, g_prints, g_closed, b_nodeBlock, b_nodeKind, b_nodeA, b_nodeB, b_rowPhi, b_rowPred, b_rowNode, b_endCond, b_endYes, b_endNo, b_heldInput, b_factState, b_factValue, b_isReached, b_mark, b_lastValue, b_pending, b_visitCount, b_kept) => wY_execute_110 post c n (nI (i + 1)) g_blockCount g_nodeMax g_rowMax g_inputMax g_nodeCount g_rowCount g_held g_next g_leftLast g_taken g_prints g_closed b_nodeBlock b_nodeKind b_nodeA b_nodeB b_rowPhi b_rowPred b_rowNode b_endCond b_endYes b_endNo b_heldInput b_factState b_factValue b_isReached b_mark b_lastValue b_pending b_visitCount b_kept) (nI i) (nI B) g_nodeMax g_rowMax g_inputMax (nI N) (nI R) (nI H) g_next g_leftLast (nI T) (nI P) g_closed m (nI j) b_nodeBlock b_nodeKind b_nodeA b_nodeB b_rowPhi b_rowPred b_rowNode b_endCond b_endYes b_endNo b_heldInput b_factState b_factValue b_isReached b_mark (upd b_lastValue i (b_lastValue a)) b_pending b_visitCount kp) (fun j kp => (∀ q, q < j → kp q = b_kept (q + 1)) ∧ (∀ q, j ≤ q → kp q = b_kept q)) 31 b_kept ⟨fun q h => absurd h (Nat.not_lt_zero _), fun _ _ => rfl⟩ (fun m kp I => ?_) (fun m j kp hj I next => ?_)
  · refine pk_le 31 31 (fun _ => ⟨hv, fun kp' ekp p ep => ?_⟩) (fun h => absurd h (Nat.lt_irrefl _))
    rw [nI_clamp (by omega), pk_us] at ekp
    rw [nI_1] at ep
    have e2 : kp' = zy_sh b_kept (b_lastValue a) := by
      rw [ekp]
      funext q
      unfold zy_sh
      by_cases z : q = 31
      · subst z; rw [pk_us, if_neg (by omega), if_pos rfl]
      · rw [pk_un z]
        by_cases y : q < 31
        · rw [if_pos y]; exact I.1 q y
        · rw [if_neg y, if_neg z]; exact I.2 q (by omega)
    subst e2 ep
    exact K
  · refine pk_le 31 j (fun h => by omega) (fun _ => ?_)
    rw [nI_1]
    refine ⟨vp_in_nI (by omega) (by omega), vp_in_nI (by omega) (by omega), fun kp' ekp y ey => ?_⟩
    rw [nI_clamp (by omega), nI_clamp (by omega)] at ekp
    subst ekp ey
    refine next _ ⟨fun q hq => ?_, fun q hq => ?_⟩
    · by_cases z : q = j
      · subst z; rw [pk_us]; exact I.2 _ (by omega)
      · rw [pk_un z]; exact I.1 q (by omega)
    · rw [pk_un (by omega)]; exact I.2 q (by omega)
end
end
section
/-! the body of a block, both sides in step -/

section
variable (N c i : Nat) (E : Nat → Prop) (hm kd st cv lx ly : Nat → Int32)
/-- before node i of block c: the values agree but for folded phis of c still to come, and lie in their facts -/
def zb_B : Prop := (∀ n, lx n = ly n ∨ (n < N ∧ i ≤ n ∧ hm n = nI c ∧ kd n = 0 ∧ st n = 1)) ∧ (∀ n, n < N → ((E (hm n).toNatClampNeg ∧ ¬ hm n = nI c) ∨ (hm n = nI c ∧ (kd n = 0 ∨ n < i))) → qp_al (st n) (cv n) (ly n)) ∧ (∀ n, N ≤ n → ly n = 0)
end
section
variable {N c i : Nat} {E : Nat → Prop} {hm kd st cv lx ly : Nat → Int32}
theorem zb_skip (h : ¬ (hm i = nI c ∧ (¬ kd i = 0 ∨ st i = 1))) (I : zb_B N c i E hm kd st cv lx ly) : zb_B N c (i + 1) E hm kd st cv lx ly := by
  obtain ⟨I1, I2, I3⟩ := I
  refine ⟨fun n => ?_, fun n hn hx => I2 n hn ?_, I3⟩
  · rcases I1 n with a | ⟨a, b, d, e, f⟩
    · exact Or.inl a
    · refine Or.inr ⟨a, ?_, d, e, f⟩
      rcases Nat.lt_or_ge i n with z | z
      · exact z
      · have : n = i := by omega
        subst this
        exact absurd ⟨d, Or.inr f⟩ h
  · rcases hx with hx | ⟨a, b | b⟩
    · exact Or.inl hx
    · exact Or.inr ⟨a, Or.inl b⟩
    · rcases Nat.lt_or_ge n i with z | z
      · exact Or.inr ⟨a, Or.inr z⟩
      · have : n = i := by omega
        subst this
        by_cases k : kd n = 0
        · exact Or.inr ⟨a, Or.inl k⟩
        · exact absurd ⟨a, Or.inl k⟩ h
theorem zb_fold (hi : i < N) (hc : hm i = nI c) (k : kd i = 0) (s : st i = 1) (I : zb_B N c i E hm kd st cv lx ly) : zb_B N c (i + 1) E hm kd st cv (upd lx i (cv i)) ly := by
  obtain ⟨I1, I2, I3⟩ := I
  refine ⟨fun n => ?_, fun n hn hx => I2 n hn ?_, I3⟩
  · by_cases z : n = i
    · subst z
      rw [pk_us]
      refine Or.inl ?_
      rcases I2 n hi (Or.inr ⟨hc, Or.inl k⟩) with a | ⟨_, a⟩
      · rw [s] at a; exact absurd a qp_12
      · exact a.symm
    · rw [pk_un z]
      rcases I1 n with a | ⟨a, b, d, e, f⟩
      · exact Or.inl a
      · exact Or.inr ⟨a, by omega, d, e, f⟩
  · rcases hx with hx | ⟨a, b | b⟩
    · exact Or.inl hx
    · exact Or.inr ⟨a, Or.inl b⟩
    · rcases Nat.lt_or_ge n i with z | z
      · exact Or.inr ⟨a, Or.inr z⟩
      · have : n = i := by omega
        subst this
        exact Or.inr ⟨a, Or.inl k⟩
theorem zb_eval {x : Int32} (hi : i < N) (hc : hm i = nI c) (k : ¬ kd i = 0) (a : qp_al (st i) (cv i) x) (I : zb_B N c i E hm kd st cv lx ly) : zb_B N c (i + 1) E hm kd st cv (upd lx i x) (upd ly i x) := by
  obtain ⟨I1, I2, I3⟩ := I
  refine ⟨fun n => ?_, fun n hn hx => ?_, fun n hn => by rw [pk_un (by omega)]; exact I3 n hn⟩
  · by_cases z : n = i
    · subst z; rw [pk_us, pk_us]; exact Or.inl rfl
    · rw [pk_un z, pk_un z]
      rcases I1 n with a | ⟨a, b, d, e, f⟩
      · exact Or.inl a
      · exact Or.inr ⟨a, by omega, d, e, f⟩
  · by_cases z : n = i
    · subst z; rw [pk_us]; exact a
    · rw [pk_un z]
      refine I2 n hn ?_
      rcases hx with hx | ⟨a, b | b⟩
      · exact Or.inl hx
      · exact Or.inr ⟨a, Or.inl b⟩
      · exact Or.inr ⟨a, Or.inr (by omega)⟩
/-- an operand: evaluated before, the same on both sides -/
theorem zb_opd {B a : Nat} {ec ey en fa fb : Nat → Int32} (hB : B ≤ 24) (Wn : qg_Wn B N hm kd fa fb) (hE : ∀ x, x < B → ¬ qd_A B ec ey en x c → x = c ∨ E x) (hc : c < B) (I : zb_B N c i E hm kd st cv lx ly) (hi : i ≤ N) (ha : a < i) (hd : ¬ qd_A B ec ey en (hm a).toNatClampNeg c) : lx a = ly a ∧ qp_al (st a) (cv a) (ly a) := by
  obtain ⟨I1, I2, I3⟩ := I
  obtain ⟨_, _, ⟨b, hb, eb, _⟩, _⟩ := Wn a (by omega)
  have ebc : (hm a).toNatClampNeg = b := by rw [eb, nI_clamp (by omega)]
  refine ⟨?_, I2 a (by omega) ?_⟩
  · rcases I1 a with z | ⟨_, z, _⟩
    · exact z
    · omega
  · rw [ebc] at hd
    by_cases z : hm a = nI c
    · exact Or.inr ⟨z, Or.inr ha⟩
    · rcases hE b hb hd with y | y
      · exact absurd (by rw [eb, y]) z
      · exact Or.inl ⟨by rw [ebc]; exact y, z⟩
end
theorem zb_paper {P : Nat} {pp kp kp' : Nat → Int32} {x : Int32} (h : zz_P P pp kp) (h1 : ∀ j, j < 31 → kp' j = kp (j + 1)) (h2 : kp' 31 = x) : zz_P (P + 1) (upd pp (P % 32) x) kp' := by
  intro i hi hP
  by_cases z : i = P
  · subst z
    rw [pk_us, show i + 32 - (i + 1) = 31 by omega, h2]
  · rw [pk_un (by omega), h i (by omega) (by omega)]
    rw [h1 _ (by omega)]
    congr 1; omega
/-- the parts of a sealed pair that a block's body needs -/
def zb_G (B N R c : Nat) (E : Nat → Prop) (hm kd fa fb rp rq rv ro ec ey en st cv rc : Nat → Int32) : Prop := B ≤ 24 ∧ N ≤ 32 ∧ R ≤ 48 ∧ c < B ∧ qg_We B N ec ey en ∧ qg_Wn B N hm kd fa fb ∧ qg_Wr B N R kd rp rq rv ro ∧ qs_F N st cv ∧ qg_C B N R hm kd fa fb rv ro ec ey en (fun t => ¬ rc t = 0) st cv ∧ ¬ rc c = 0 ∧ qd_D B N R hm kd fa fb rq rv ec ey en ∧ (∀ x, x < B → ¬ qd_A B ec ey en x c → x = c ∨ E x)
def zb_nx (c : Nat) (ec ey en lv : Nat → Int32) : Int32 := if ec c = -2 then -1 else if ec c = -1 then ey c else if lv (ec c).toNatClampNeg = 0 then en c else ey c
section
variable {k B NL RL HL N R H T P c : Nat} {E : Nat → Prop} {pm rm fs fv nx lf x2 : Int32} {hm kd fa fb rp rq rv ro ec ey en ni ed dm lo us br nd st cv hd pp lv ic vc rc mk pd kp lx ly : Nat → Int32}
/-- one node -/
theorem zb_node {i : Nat} (G : zb_G B N R c E hm kd fa fb rp rq rv ro ec ey en st cv rc) (hH : H ≤ 16) (hP : P < 2 ^ 30) (hT : T ≤ H) (bx : ∀ i, i < N → (bt x2 i = true ↔ hm i = nI c ∧ ¬ qr_k N st kd i = 0)) (hi : i < N) (I : zb_B N c i E hm kd st cv lx ly) (hpk : zz_P P pp kp) : ∃ (T' P' : Nat) (lx' ly' pp' kp' : Nat → Int32), zb_B N c (i + 1) E hm kd st cv lx' ly' ∧ zz_P P' pp' kp' ∧ T' ≤ H ∧ P' ≤ P + 1 ∧ (∀ (ic : Nat → Int32) (post : SX → Prop) (n : Nat), wX_execute_31 post (nI c) x2 n (nI (i + 1)) (nI B) (nI NL) (nI RL) (nI HL) 1 (nI N) (nI R) pm rm 0 0 fs fv (nI H) (nI T') (nI P') nx lf hm (qr_k N st kd) (qr_a N st cv kd fa) (qr_b N st kd fb) rp rq rv ro (qr_c B st ec) (qr_y B st cv ec ey en) (qr_n B st ec en) ni ed dm lo us br nd st cv hd pp' lx' ic vc → wX_execute_31 post (nI c) x2 (n + 1) (nI i) (nI B) (nI NL) (nI RL) (nI HL) 1 (nI N) (nI R) pm rm 0 0 fs fv (nI H) (nI T) (nI P) nx lf hm (qr_k N st kd) (qr_a N st cv kd fa) (qr_b N st kd fb) rp rq rv ro (qr_c B st ec) (qr_y B st cv ec ey en) (qr_n B st ec en) ni ed dm lo us br nd st cv hd pp lx ic vc) ∧ (∀ (pd : Nat → Int32) (post : SY → Prop) (n : Nat), wY_execute_110 post (nI c) n (nI (i + 1)) (nI B) (nI NL) (nI RL) (nI HL) (nI N) (nI R) (nI H) nx lf (nI T') (nI P') 1 hm kd fa fb rp rq rv ec ey en hd st cv rc mk ly' pd vc kp' → wY_execute_110 post (nI c) (n + 1) (nI i) (nI B) (nI NL) (nI RL) (nI HL) (nI N) (nI R) (nI H) nx lf (nI T) (nI P) 1 hm kd fa fb rp rq rv ec ey en hd st cv rc mk ly pd vc kp) := by
  obtain ⟨b24, hN, hR, hcB, We, Wn, Wr, F, C, hrc, D, hE⟩ := G
  by_cases hc : hm i = nI c
  case neg =>
    have b0 : bt x2 i = false := qn_tf fun z => hc ((bx i hi).mp z).1
    exact ⟨T, P, lx, ly, pp, kp, zb_skip (fun z => hc z.1) I, hpk, hT, by omega, fun _ post n K => ze_xskip hN hi b0 K, fun _ post n K => zy_skip hN hi (fun z => hc z.1) K⟩
  have hcc : (hm i).toNatClampNeg = c := by rw [hc, nI_clamp (by omega)]
  have RR := C.2.2 i hi (by rw [hcc]; exact hrc)
  obtain ⟨k0, k8, _, wa, wb⟩ := Wn i hi
  by_cases kz : kd i = 0
  · by_cases s1 : st i = 1
    · have ek : qr_k N st kd i = 1 := if_pos ⟨hi, s1, by rw [kz]; decide⟩
      have ea : qr_a N st cv kd fa i = cv i := if_pos ⟨hi, s1, by rw [kz]; decide⟩
      have b1 : bt x2 i = true := (bx i hi).mpr ⟨hc, by rw [ek]; decide⟩
      refine ⟨T, P, upd lx i (cv i), ly, pp, kp, zb_fold hi hc kz s1 I, hpk, hT, by omega, fun _ post n K => zx_const hN hi b1 ek ?_, fun _ post n K => zy_skip hN hi (fun z => z.2 kz) K⟩
      rw [ea]; exact K
    · have ek : qr_k N st kd i = kd i := if_neg fun z => s1 z.2.1
      have b0 : bt x2 i = false := qn_tf fun z => ((bx i hi).mp z).2 (by rw [ek]; exact kz)
      refine ⟨T, P, lx, ly, pp, kp, zb_skip (fun z => ?_) I, hpk, hT, by omega, fun _ post n K => ze_xskip hN hi b0 K, fun _ post n K => zy_skip hN hi (fun z => z.2 kz) K⟩
      rcases z.2 with y | y
      · exact y kz
      · exact s1 y
  have nk0 : ¬ qr_k N st kd i = 0 := by
    unfold qr_k
    split
    · decide
    · exact kz
  have b1 : bt x2 i = true := (bx i hi).mpr ⟨hc, nk0⟩
  have opd : ∀ a, a < i → ¬ qd_A B ec ey en (hm a).toNatClampNeg c → lx a = ly a ∧ qp_al (st a) (cv a) (ly a) := fun a ha hd => zb_opd b24 Wn hE hcB I (Nat.le_of_lt hi) ha hd
  rcases qp_kc k0 k8 with e | e | e | e | ⟨k3, k7⟩
  · exact absurd e kz
  · -- a constant
    have al : qp_al (st i) (cv i) (fa i) := qp_al_le (Or.inr ⟨rfl, rfl⟩) (RR.2.1 e)
    have ek : qr_k N st kd i = 1 := by
      unfold qr_k
      split
      · rfl
      · exact e
    have ea : qr_a N st cv kd fa i = fa i := by
      unfold qr_a
      split
      · rename_i z
        rcases al with y | ⟨_, y⟩
        · rw [z.2.1] at y; exact absurd y qp_12
        · exact y.symm
      · rfl
    refine ⟨T, P, upd lx i (fa i), upd ly i (fa i), pp, kp, zb_eval hi hc kz al I, hpk, hT, by omega, fun _ post n K => zx_const hN hi b1 ek ?_, fun _ post n K => zy_const hN hi hc e K⟩
    rw [ea]; exact K
  · -- an input
    have s2 : st i = 2 := by
      rcases RR.2.2.1 e with z | z | ⟨z, _⟩
      · exact absurd z qp_20
      · exact z
      · exact absurd z qp_21
    have ek : qr_k N st kd i = 2 := by
      unfold qr_k
      rw [if_neg (fun z => by rw [s2] at z; exact qp_21 z.2.1)]; exact e
    by_cases z : T < H
    · exact ⟨T + 1, P, upd lx i (hd T), upd ly i (hd T), pp, kp, zb_eval hi hc kz (Or.inl s2) I, hpk, by omega, by omega, fun _ post n K => zx_input hN hi hH hT b1 ek (fun y => absurd z y) (fun _ => K), fun _ post n K => zy_input hN hi hH hT hc e (fun y => absurd z y) (fun _ => K)⟩
    · exact ⟨T, P, upd lx i 0, upd ly i 0, pp, kp, zb_eval hi hc kz (Or.inl s2) I, hpk, hT, by omega, fun _ post n K => zx_input hN hi hH hT b1 ek (fun _ => K) (fun y => absurd y z), fun _ post n K => zy_input hN hi hH hT hc e (fun _ => K) (fun y => absurd y z)⟩
  · -- a print
    obtain ⟨a, ha, ea⟩ := wa (by rw [e]; decide)
    have eac : (fa i).toNatClampNeg = a := by rw [ea, nI_clamp (by omega)]
    have hd' := (D.1 i hi).1 (by rw [e]; decide)
    rw [eac, hcc] at hd'
    obtain ⟨o1, o2⟩ := opd a ha hd'
    have r8 := RR.2.2.2.1 e
    rw [eac] at r8
    have ek : qr_k N st kd i = 8 := by
      unfold qr_k
      rw [if_neg (fun z => z.2.2 e)]; exact e
    have ea' : qr_a N st cv kd fa i = nI a := by
      unfold qr_a
      rw [if_neg (fun z => z.2.2 e)]; exact ea
    refine ⟨T, P + 1, upd lx i (ly a), upd ly i (ly a), upd pp (P % 32) (ly a), zy_sh kp (ly a), zb_eval hi hc kz (qp_al_le o2 r8) I, zb_paper hpk (fun j hj => if_pos hj) ((if_neg (by omega)).trans (if_pos rfl)), hT, by omega, fun _ post n K => zx_print (a := a) hN hi hP (by omega) ea' b1 ek ?_, fun _ post n K => zy_print (a := a) hN hi (by omega) ea hc e K⟩
    rw [o1]; exact K
  · -- an operation
    obtain ⟨a, ha, ea⟩ := wa k3
    obtain ⟨b, hb, eb⟩ := wb k3 k7
    have eac : (fa i).toNatClampNeg = a := by rw [ea, nI_clamp (by omega)]
    have ebc : (fb i).toNatClampNeg = b := by rw [eb, nI_clamp (by omega)]
    have hda := (D.1 i hi).1 k3
    have hdb := (D.1 i hi).2 k3 k7
    rw [eac, hcc] at hda
    rw [ebc, hcc] at hdb
    obtain ⟨o1, o2⟩ := opd a ha hda
    obtain ⟨o3, o4⟩ := opd b hb hdb
    have ro' := RR.2.2.2.2 k3 k7
    rw [eac, ebc] at ro'
    have al := qp_al_le (qp_al_op (k := kd i) o2 o4) ro'
    have n8 : ¬ kd i = 8 := fun z => by rw [z] at k7; exact k7 (by decide)
    by_cases s1 : st i = 1
    · have g : i < N ∧ st i = 1 ∧ ¬ kd i = 8 := ⟨hi, s1, n8⟩
      have ek : qr_k N st kd i = 1 := if_pos g
      have ea' : qr_a N st cv kd fa i = cv i := if_pos g
      have ev : qp_cp (kd i) (ly a) (ly b) = cv i := by
        rcases al with y | ⟨_, y⟩
        · rw [s1] at y; exact absurd y qp_12
        · exact y
      refine ⟨T, P, upd lx i (qp_cp (kd i) (ly a) (ly b)), upd ly i (qp_cp (kd i) (ly a) (ly b)), pp, kp, zb_eval hi hc kz al I, hpk, hT, by omega, fun _ post n K => zx_const hN hi b1 ek ?_, fun _ post n K => zy_op hN hi (by omega) (by omega) ea eb hc k3 k7 K⟩
      rw [ea', ← ev]; exact K
    · have g : ¬ (i < N ∧ st i = 1 ∧ ¬ kd i = 8) := fun z => s1 z.2.1
      have ek : qr_k N st kd i = kd i := if_neg g
      have ea' : qr_a N st cv kd fa i = nI a := by rw [← ea]; exact if_neg g
      have eb' : qr_b N st kd fb i = nI b := by rw [← eb]; exact if_neg g
      refine ⟨T, P, upd lx i (qp_cp (kd i) (ly a) (ly b)), upd ly i (qp_cp (kd i) (ly a) (ly b)), pp, kp, zb_eval hi hc kz al I, hpk, hT, by omega, fun _ post n K => zx_op hN hi (a := a) (b := b) (by omega) (by omega) ea' eb' b1 (by rw [ek]; exact k3) (by rw [ek]; exact k7) ?_, fun _ post n K => zy_op hN hi (by omega) (by omega) ea eb hc k3 k7 K⟩
      rw [ek, o1, o3]; exact K
end
end
section
/-! a block, and run -/

section
variable {k B NL RL HL N R H T P c : Nat} {E : Nat → Prop} {pm rm fs fv nx lf x2 : Int32} {hm kd fa fb rp rq rv ro ec ey en ni ed dm lo us br nd st cv hd pp lv ic vc rc mk pd kp lx ly : Nat → Int32}
/-- the value of the block's condition lies in its fact -/
theorem zr_cond (G : zb_G B N R c E hm kd fa fb rp rq rv ro ec ey en st cv rc) (I : zb_B N c N E hm kd st cv lx ly) {q : Nat} (hq : q < N) (h0 : ¬ ec c < 0) (e : ec c = nI q) : qp_al (st q) (cv q) (ly q) := by
  obtain ⟨b24, hN, hR, hcB, We, Wn, Wr, F, C, hrc, D, hE⟩ := G
  have hd := D.2.2 c hcB h0
  rw [e, nI_clamp (by omega)] at hd
  exact (zb_opd b24 Wn hE hcB I (Nat.le_refl _) hq hd).2
theorem zr_last {n : Nat} (G : zb_G B N R c E hm kd fa fb rp rq rv ro ec ey en st cv rc) (I : zb_B N c N E hm kd st cv lv lv) : (∀ post : SX → Prop, post (nI B, nI NL, nI RL, nI HL, 1, nI N, nI R, pm, rm, 0, 0, fs, fv, nI H, nI T, nI P, zb_nx c ec ey en lv, nI c, hm, qr_k N st kd, qr_a N st cv kd fa, qr_b N st kd fb, rp, rq, rv, ro, qr_c B st ec, qr_y B st cv ec ey en, qr_n B st ec en, ni, ed, dm, lo, us, br, nd, st, cv, hd, pp, lv, ic, vc) → wX_execute_31 post (nI c) x2 (n + 1) (nI N) (nI B) (nI NL) (nI RL) (nI HL) 1 (nI N) (nI R) pm rm 0 0 fs fv (nI H) (nI T) (nI P) nx lf hm (qr_k N st kd) (qr_a N st cv kd fa) (qr_b N st kd fb) rp rq rv ro (qr_c B st ec) (qr_y B st cv ec ey en) (qr_n B st ec en) ni ed dm lo us br nd st cv hd pp lv ic vc) ∧ (∀ post : SY → Prop, post (nI B, nI NL, nI RL, nI HL, nI N, nI R, nI H, zb_nx c ec ey en lv, nI c, nI T, nI P, 1, hm, kd, fa, fb, rp, rq, rv, ec, ey, en, hd, st, cv, rc, mk, lv, pd, vc, kp) → wY_execute_110 post (nI c) (n + 1) (nI N) (nI B) (nI NL) (nI RL) (nI HL) (nI N) (nI R) (nI H) nx lf (nI T) (nI P) 1 hm kd fa fb rp rq rv ec ey en hd st cv rc mk lv pd vc kp) := by
  have al := fun q => zr_cond (q := q) G I
  obtain ⟨b24, hN, hR, hcB, We, Wn, Wr, F, C, hrc, D, hE⟩ := G
  have v24 : vp_in (nI c) 24 := vp_in_nI (by omega) (by omega)
  have ecl : (nI c).toNatClampNeg = c := nI_clamp (by omega)
  unfold zb_nx
  rcases We c hcB with a | ⟨a, t, ht, ht', b⟩ | ⟨q, t, s, hq, ht, ht', hs, hs', a, b, d⟩
  · have lt : ec c < 0 := by rw [a]; decide
    have e1 : qr_c B st ec c = ec c := if_neg fun z => z.2.1 lt
    rw [if_pos a]
    refine ⟨fun post K => pk_le N N (fun _ => ⟨v24, fun x ex => ?_⟩) (fun h => absurd h (Nat.lt_irrefl _)), fun post K => pk_le N N (fun _ => ⟨v24, fun x ex => ?_⟩) (fun h => absurd h (Nat.lt_irrefl _))⟩
    · rw [ecl, e1, a] at ex
      exact br_t ex K
    · rw [ecl, a] at ex
      exact br_t ex K
  · have lt : ec c < 0 := by rw [a]; decide
    have e1 : qr_c B st ec c = ec c := if_neg fun z => z.2.1 lt
    have e2 : qr_y B st cv ec ey en c = ey c := if_neg fun z => z.2.1 lt
    rw [if_neg (by rw [a]; decide), if_pos a]
    refine ⟨fun post K => pk_le N N (fun _ => ⟨v24, fun x ex => ?_⟩) (fun h => absurd h (Nat.lt_irrefl _)), fun post K => pk_le N N (fun _ => ⟨v24, fun x ex => ?_⟩) (fun h => absurd h (Nat.lt_irrefl _))⟩
    · rw [ecl, e1, a] at ex
      refine br_f (by rw [ex]; decide) (br_t ex ⟨v24, ?_⟩)
      rw [ecl, e2]; exact K
    · rw [ecl, a] at ex
      refine br_f (by rw [ex]; decide) (br_t ex ⟨v24, fun y ey' => ?_⟩)
      rw [ecl] at ey'
      subst ey'
      exact K
  · have c0 : ¬ ec c < 0 := by rw [a]; exact nI_pos (by omega)
    have n2 : ¬ ec c = -2 := by rw [a]; exact qn_m2 (by omega)
    have n1 : ¬ ec c = -1 := by rw [a]; exact qn_m1 (by omega)
    have aq : (ec c).toNatClampNeg = q := by rw [a, nI_clamp (by omega)]
    have vq : vp_in (ec c) 32 := by rw [a]; exact vp_in_nI (by omega) (by omega)
    have hal := al q hq c0 a
    rw [if_neg n2, if_neg n1, aq]
    refine ⟨fun post K => pk_le N N (fun _ => ⟨v24, fun x ex => ?_⟩) (fun h => absurd h (Nat.lt_irrefl _)), fun post K => pk_le N N (fun _ => ⟨v24, fun x ex => ?_⟩) (fun h => absurd h (Nat.lt_irrefl _))⟩
    · rw [ecl] at ex
      by_cases s1 : st q = 1
      · have g : c < B ∧ ¬ ec c < 0 ∧ st (ec c).toNatClampNeg = 1 := ⟨hcB, c0, by rw [aq]; exact s1⟩
        have e1 : qr_c B st ec c = -1 := if_pos g
        have e2 : qr_y B st cv ec ey en c = if cv q = 0 then en c else ey c := by
          unfold qr_y; rw [if_pos g, aq]
        have ev : lv q = cv q := by
          rcases hal with y | ⟨_, y⟩
          · rw [s1] at y; exact absurd y qp_12
          · exact y
        rw [e1] at ex
        refine br_f (by rw [ex]; decide) (br_t ex ⟨v24, ?_⟩)
        rw [ecl, e2, ← ev]; exact K
      · have g : ¬ (c < B ∧ ¬ ec c < 0 ∧ st (ec c).toNatClampNeg = 1) := fun z => s1 (by rw [← aq]; exact z.2.2)
        have e1 : qr_c B st ec c = ec c := if_neg g
        have e2 : qr_y B st cv ec ey en c = ey c := if_neg g
        have e3 : qr_n B st ec en c = en c := if_neg g
        rw [e1] at ex
        subst ex
        refine br_f n2 (br_f n1 ⟨vq, xe_target (by omega) ?_⟩)
        rw [aq, e2, e3]; exact K
    · rw [ecl] at ex
      subst ex
      refine br_f n2 (br_f n1 ⟨vq, ?_⟩)
      rw [aq]
      refine br_c (fun z => ⟨v24, fun y ey' => ?_⟩) (fun z => ⟨v24, fun y ey' => ?_⟩)
      · rw [ecl] at ey'
        subst ey'
        rw [if_pos z] at K; exact K
      · rw [ecl] at ey'
        subst ey'
        rw [if_neg z] at K; exact K
theorem zr_body (G : zb_G B N R c E hm kd fa fb rp rq rv ro ec ey en st cv rc) (hH : H ≤ 16) (bx : ∀ i, i < N → (bt x2 i = true ↔ hm i = nI c ∧ ¬ qr_k N st kd i = 0)) : ∀ (d i T P : Nat) (lx ly pp kp : Nat → Int32), i + d = N → zb_B N c i E hm kd st cv lx ly → zz_P P pp kp → T ≤ H → P + d < 2 ^ 30 → ∃ (T' P' : Nat) (lv' pp' kp' : Nat → Int32), zb_B N c N E hm kd st cv lv' lv' ∧ zz_P P' pp' kp' ∧ T' ≤ H ∧ P' ≤ P + d ∧ (∀ (ic : Nat → Int32) (post : SX → Prop) (n : Nat), d < n → post (nI B, nI NL, nI RL, nI HL, 1, nI N, nI R, pm, rm, 0, 0, fs, fv, nI H, nI T', nI P', zb_nx c ec ey en lv', nI c, hm, qr_k N st kd, qr_a N st cv kd fa, qr_b N st kd fb, rp, rq, rv, ro, qr_c B st ec, qr_y B st cv ec ey en, qr_n B st ec en, ni, ed, dm, lo, us, br, nd, st, cv, hd, pp', lv', ic, vc) → wX_execute_31 post (nI c) x2 n (nI i) (nI B) (nI NL) (nI RL) (nI HL) 1 (nI N) (nI R) pm rm 0 0 fs fv (nI H) (nI T) (nI P) nx lf hm (qr_k N st kd) (qr_a N st cv kd fa) (qr_b N st kd fb) rp rq rv ro (qr_c B st ec) (qr_y B st cv ec ey en) (qr_n B st ec en) ni ed dm lo us br nd st cv hd pp lx ic vc) ∧ (∀ (pd : Nat → Int32) (post : SY → Prop) (n : Nat), d < n → post (nI B, nI NL, nI RL, nI HL, nI N, nI R, nI H, zb_nx c ec ey en lv', nI c, nI T', nI P', 1, hm, kd, fa, fb, rp, rq, rv, ec, ey, en, hd, st, cv, rc, mk, lv', pd, vc, kp') → wY_execute_110 post (nI c) n (nI i) (nI B) (nI NL) (nI RL) (nI HL) (nI N) (nI R) (nI H) nx lf (nI T) (nI P) 1 hm kd fa fb rp rq rv ec ey en hd st cv rc mk ly pd vc kp) := by
  intro d
  induction d with
  | zero =>
    intro i T P lx ly pp kp hdN I hpk hT hP
    have hi : i = N := by omega
    subst hi
    have e : lx = ly := funext fun n => by
      rcases I.1 n with z | ⟨z, z', _⟩
      · exact z
      · omega
    subst e
    refine ⟨T, P, lx, pp, kp, I, hpk, hT, by omega, fun ic post n hn K => ?_, fun pd post n hn K => ?_⟩
    · obtain ⟨m, rfl⟩ : ∃ m, n = m + 1 := ⟨n - 1, by omega⟩
      exact (zr_last (n := m) (lf := lf) (nx := nx) (mk := mk) (pd := fun _ => 0) (kp := kp) G I).1 post K
    · obtain ⟨m, rfl⟩ : ∃ m, n = m + 1 := ⟨n - 1, by omega⟩
      exact (zr_last (x2 := x2) (n := m) (lf := lf) (nx := nx) (pm := pm) (rm := rm) (fs := fs) (fv := fv) (ni := ni) (ed := ed) (dm := dm) (lo := lo) (us := us) (br := br) (nd := nd) (pp := pp) (ic := fun _ => 0) G I).2 post K
  | succ d ih =>
    intro i T P lx ly pp kp hdN I hpk hT hP
    obtain ⟨T1, P1, lx1, ly1, pp1, kp1, I1, hpk1, hT1, hP1, X1, Y1⟩ := zb_node (NL := NL) (RL := RL) (HL := HL) (pm := pm) (rm := rm) (fs := fs) (fv := fv) (nx := nx) (lf := lf) (ni := ni) (ed := ed) (dm := dm) (lo := lo) (us := us) (br := br) (nd := nd) (hd := hd) (vc := vc) (mk := mk) G hH (by omega) hT bx (show i < N by omega) I hpk
    obtain ⟨T', P', lv', pp', kp', I', hpk', hT', hP', X', Y'⟩ := ih (i + 1) T1 P1 lx1 ly1 pp1 kp1 (by omega) I1 hpk1 hT1 (by omega)
    refine ⟨T', P', lv', pp', kp', I', hpk', hT', by omega, fun ic post n hn K => ?_, fun pd post n hn K => ?_⟩
    · obtain ⟨m, rfl⟩ : ∃ m, n = m + 1 := ⟨n - 1, by omega⟩
      exact X1 ic post m (X' ic post m (by omega) K)
    · obtain ⟨m, rfl⟩ : ∃ m, n = m + 1 := ⟨n - 1, by omega⟩
      exact Y1 pd post m (Y' pd post m (by omega) K)
end
end
section
/-! run -/

section
variable {k B NL RL HL N R H T P c : Nat} {E : Nat → Prop} {pm rm fs fv nx lf : Int32} {hm kd fa fb rp rq rv ro ec ey en ni ed dm lo us br nd st cv hd pp lv ic vc rc mk pd kp : Nat → Int32}
theorem zl_pv (hB : B ≤ 24) (hN : N ≤ 32) (hR : R ≤ 48) (We : qg_We B N ec ey en) (Wn : qg_Wn B N hm kd fa fb) (Wr : qg_Wr B N R kd rp rq rv ro) (C : qg_C B N R hm kd fa fb rv ro ec ey en (fun t => ¬ rc t = 0) st cv) (hP : qd_P B N hm kd ro ec ey en) (D : qd_D B N R hm kd fa fb rq rv ec ey en) (hrc : ¬ rc c = 0) (hcB : c < B) (hlf : (lf = -1 ∧ c = 0) ∨ ∃ p, p < B ∧ lf = nI p ∧ ¬ rc p = 0 ∧ qg_L ec ey en st cv p c ∧ ∀ x, x < B → ¬ qd_A B ec ey en x p → E x) (hal : ∀ n, n < N → E (hm n).toNatClampNeg → qp_al (st n) (cv n) (lv n)) {n : Nat} (hn : n < N) (hc : hm n = nI c) (k0 : kd n = 0) : qp_al (st n) (cv n) (ze_pv lf ro rv lv n) := by
  obtain ⟨_, _, ⟨b, hb, eb, hb0⟩, _⟩ := Wn n hn
  have hbc : b = c := by rw [eb, nI_eq (by omega) (by omega)] at hc; exact hc
  subst hbc
  have ebc : (hm n).toNatClampNeg = b := by rw [eb, nI_clamp (by omega)]
  rcases hlf with ⟨_, z⟩ | ⟨p, hp, e, hrp, l, hEp⟩
  · have := hb0 k0; omega
  · have nz : ¬ ro (n * 24 + p) = 0 := (hP n p hn hp k0).mp (by rw [ebc]; exact qg_L_E l)
    obtain ⟨r, hr, e1, e2, e3⟩ := qg_row0 Wr hN hB hR (by omega) (by omega) nz
    obtain ⟨_, _, v, _, _, hv, _, _, ev, _⟩ := Wr.1 r hr
    have evc : (rv r).toNatClampNeg = v := by rw [ev, nI_clamp (by omega)]
    have pe : ze_pv lf ro rv lv n = lv v := by
      unfold ze_pv
      rw [if_neg (by rw [e]; exact qn_m1 (by omega)), e, nI_clamp (by omega), if_neg nz, e1, nI_pred, nI_clamp (by omega), evc]
    rw [pe]
    have dm' := D.2.1 r hr
    rw [evc, e3, nI_clamp (by omega)] at dm'
    obtain ⟨_, _, ⟨b', hb', eb', _⟩, _⟩ := Wn v hv
    have hE' : E (hm v).toNatClampNeg := hEp _ (by rw [eb', nI_clamp (by omega)]; exact hb') dm'
    have RR := (C.2.2 n hn (by rw [ebc]; exact hrc)).1 k0 p r hp hr e1 ⟨hrp, by rw [ebc]; exact l⟩
    rw [evc] at RR
    exact qp_al_le (hal v hv hE') RR
/-- the next block is reached by a live edge -/
theorem zl_next (G : zb_G B N R c E hm kd fa fb rp rq rv ro ec ey en st cv rc) (I : zb_B N c N E hm kd st cv lv lv) : zz_D B N (zb_nx c ec ey en lv) (nI c) hm ec ey en st cv rc lv (fun x => x = c ∨ E x) := by
  have al := fun q => zr_cond (q := q) G I
  obtain ⟨b24, hN, hR, hcB, We, Wn, Wr, F, C, hrc, D, hE⟩ := G
  refine ⟨?_, fun n hn hx => I.2.1 n hn ?_⟩
  · have fin : ∀ t, t < B → zb_nx c ec ey en lv = nI t → qg_L ec ey en st cv c t → (zb_nx c ec ey en lv = -1 ∨ ∃ c', c' < B ∧ zb_nx c ec ey en lv = nI c' ∧ ¬ rc c' = 0 ∧ (∀ x, x < B → ¬ qd_A B ec ey en x c' → x = c' ∨ (x = c ∨ E x)) ∧ ((nI c = -1 ∧ c' = 0) ∨ ∃ p, p < B ∧ nI c = nI p ∧ ¬ rc p = 0 ∧ qg_L ec ey en st cv p c' ∧ ∀ x, x < B → ¬ qd_A B ec ey en x p → (x = c ∨ E x))) := fun t ht e l => by
      refine Or.inr ⟨t, ht, e, C.2.1 c hcB hrc t l, fun x hx na => ?_, Or.inr ⟨c, hcB, rfl, hrc, l, hE⟩⟩
      by_cases z : x = t
      · exact Or.inl z
      · exact Or.inr (hE x hx fun a => na (qd_As hcB a (qg_L_E l) fun y => z y.symm))
    rcases We c hcB with a | ⟨a, t, ht, ht', b⟩ | ⟨q, t, s, hq, ht, ht', hs, hs', a, b, d⟩
    · exact Or.inl (if_pos a)
    · refine fin t ht' ?_ (Or.inl ⟨a, by rw [b, nI_clamp (by omega)]⟩)
      unfold zb_nx
      rw [if_neg (by rw [a]; decide), if_pos a, b]
    · have c0 : ¬ ec c < 0 := by rw [a]; exact nI_pos (by omega)
      have aq : (ec c).toNatClampNeg = q := by rw [a, nI_clamp (by omega)]
      have hal := al q hq c0 a
      have en' : zb_nx c ec ey en lv = if lv q = 0 then en c else ey c := by
        unfold zb_nx
        rw [if_neg (by rw [a]; exact qn_m2 (by omega)), if_neg (by rw [a]; exact qn_m1 (by omega)), aq]
      have bc : (ey c).toNatClampNeg = t := by rw [b, nI_clamp (by omega)]
      have dc : (en c).toNatClampNeg = s := by rw [d, nI_clamp (by omega)]
      by_cases z : lv q = 0
      · rw [if_pos z] at en'
        refine fin s hs' (en'.trans d) (Or.inr ⟨c0, ?_⟩)
        rw [aq]
        rcases hal with y | ⟨y, y'⟩
        · exact Or.inl ⟨y, Or.inr dc⟩
        · exact Or.inr ⟨y, Or.inl ⟨by rw [← y']; exact z, dc⟩⟩
      · rw [if_neg z] at en'
        refine fin t ht' (en'.trans b) (Or.inr ⟨c0, ?_⟩)
        rw [aq]
        rcases hal with y | ⟨y, y'⟩
        · exact Or.inl ⟨y, Or.inl bc⟩
        · exact Or.inr ⟨y, Or.inr ⟨by rw [← y']; exact z, bc⟩⟩
  · obtain ⟨_, _, ⟨b, hb, eb, _⟩, _⟩ := Wn n hn
    have ebc : (hm n).toNatClampNeg = b := by rw [eb, nI_clamp (by omega)]
    by_cases y : hm n = nI c
    · exact Or.inr ⟨y, Or.inr hn⟩
    · rcases hx with z | z
      · exact absurd (by rw [eb, ← ebc, z]) y
      · exact Or.inl ⟨z, y⟩
theorem zl_exec (g : zz_G B NL RL HL N R H pm rm hm kd fa fb rp rq rv ro ec ey en ni lo st cv rc) (hvc : ∀ b, B ≤ b → vc b = 0) (hlv : ∀ n, N ≤ n → lv n = 0) (hT : T ≤ H) (hP30 : P + 32 < 2 ^ 30) (hpk : zz_P P pp kp) (hcB : c < B) (hD : zz_D B N (nI c) lf hm ec ey en st cv rc lv E) : ∃ (T' P' : Nat) (nx' : Int32) (lv' vc' pp' kp' : Nat → Int32), (∀ b, B ≤ b → vc' b = 0) ∧ (∀ n, N ≤ n → lv' n = 0) ∧ T' ≤ H ∧ P' ≤ P + 32 ∧ zz_P P' pp' kp' ∧ (∃ E', zz_D B N nx' (nI c) hm ec ey en st cv rc lv' E') ∧ (∀ (ic : Nat → Int32) (post : SX → Prop), (∀ ic', post (nI B, nI NL, nI RL, nI HL, 1, nI N, nI R, pm, rm, 0, 0, fs, fv, nI H, nI T', nI P', nx', nI c, hm, qr_k N st kd, qr_a N st cv kd fa, qr_b N st kd fb, rp, rq, rv, ro, qr_c B st ec, qr_y B st cv ec ey en, qr_n B st ec en, ni, ed, dm, lo, us, br, nd, st, cv, hd, pp', lv', ic', vc')) → wpX_execute post (nI B, nI NL, nI RL, nI HL, 1, nI N, nI R, pm, rm, 0, 0, fs, fv, nI H, nI T, nI P, nI c, lf, hm, qr_k N st kd, qr_a N st cv kd fa, qr_b N st kd fb, rp, rq, rv, ro, qr_c B st ec, qr_y B st cv ec ey en, qr_n B st ec en, ni, ed, dm, lo, us, br, nd, st, cv, hd, pp, lv, ic, vc) (nI c)) ∧ (∀ (pd : Nat → Int32) (post : SY → Prop), (∀ pd', post (nI B, nI NL, nI RL, nI HL, nI N, nI R, nI H, nx', nI c, nI T', nI P', 1, hm, kd, fa, fb, rp, rq, rv, ec, ey, en, hd, st, cv, rc, mk, lv', pd', vc', kp')) → wpY_execute post (nI B, nI NL, nI RL, nI HL, nI N, nI R, nI H, nI c, lf, nI T, nI P, 1, hm, kd, fa, fb, rp, rq, rv, ec, ey, en, hd, st, cv, rc, mk, lv, pd, vc, kp) (nI c)) := by
  obtain ⟨⟨b2, b24, n1, n2, r1, r2, h1, h2⟩, We, Wn, Wr, Wi, Wp, F, C, hrm, hlo, hP, D⟩ := g
  have hN : N ≤ 32 := by omega
  have hR : R ≤ 48 := by omega
  obtain ⟨hD1, hal⟩ := hD
  rcases hD1 with hD1 | ⟨c', hc', ec', hrc, hE, hlf⟩
  · exact absurd hD1 (qn_m1 (by omega))
  rw [nI_eq (by omega) (by omega)] at ec'
  subst ec'
  have v24 : vp_in (nI c) 24 := vp_in_nI (by omega) (by omega)
  have ecl : (nI c).toNatClampNeg = c := nI_clamp (by omega)
  have hl : lf = -1 ∨ ∃ p, p < B ∧ lf = nI p := by
    rcases hlf with ⟨z, _⟩ | ⟨p, hp, z, _⟩
    · exact Or.inl z
    · exact Or.inr ⟨p, hp, z⟩
  have G : zb_G B N R c E hm kd fa fb rp rq rv ro ec ey en st cv rc := ⟨b24, hN, hR, hcB, We, Wn, Wr, F, C, hrc, D, hE⟩
  have bx : ∀ i, i < N → (bt (ni c &&& (pm ^^^ (-1))) i = true ↔ hm i = nI c ∧ ¬ qr_k N st kd i = 0) := fun i hi => by
    rw [b_and, qa_not _ (by omega), Bool.and_eq_true, Bool.not_eq_true', Wi c i hcB (by omega)]
    constructor
    · rintro ⟨⟨_, a⟩, b⟩
      exact ⟨a, fun z => by rw [(Wp i (by omega)).mpr ⟨hi, z⟩] at b; cases b⟩
    · rintro ⟨a, b⟩
      exact ⟨⟨hi, a⟩, qn_tf fun z => b ((Wp i (by omega)).mp z).2⟩
  have qk : ∀ n, qr_k N st kd n = 0 → kd n = 0 := fun n h => by
    unfold qr_k at h
    split at h
    · exact absurd h qp_10
    · exact h
  have I0 : zb_B N c 0 E hm kd st cv (ze_ph N hm (qr_k N st kd) (nI c) (ze_pv lf ro rv lv) lv) (ze_ph N hm kd (nI c) (ze_pv lf ro rv lv) lv) := by
    refine ⟨fun n => ?_, fun n hn hx => ?_, fun n hn => ?_⟩
    · by_cases z : n < N ∧ hm n = nI c ∧ kd n = 0
      · by_cases s1 : st n = 1
        · exact Or.inr ⟨z.1, Nat.zero_le _, z.2.1, z.2.2, s1⟩
        · have ek : qr_k N st kd n = 0 := by
            unfold qr_k
            rw [if_neg (fun y => s1 y.2.1)]; exact z.2.2
          refine Or.inl ?_
          unfold ze_ph
          rw [if_pos z, if_pos ⟨z.1, z.2.1, ek⟩]
      · refine Or.inl ?_
        unfold ze_ph
        rw [if_neg z, if_neg (fun y => z ⟨y.1, y.2.1, qk n y.2.2⟩)]
    · unfold ze_ph
      rcases hx with ⟨a, b⟩ | ⟨a, b | b⟩
      · rw [if_neg (fun y => b y.2.1)]; exact hal n hn a
      · rw [if_pos ⟨hn, a, b⟩]
        exact zl_pv b24 hN hR We Wn Wr C hP D hrc hcB hlf hal hn a b
      · omega
    · unfold ze_ph
      rw [if_neg (fun y => absurd y.1 (by omega))]; exact hlv n hn
  obtain ⟨T', P', lv', pp', kp', I', hpk', hT', hP', X', Y'⟩ := zr_body (NL := NL) (RL := RL) (HL := HL) (pm := pm) (rm := rm) (fs := fs) (fv := fv) (nx := nI c) (lf := lf) (ni := ni) (ed := ed) (dm := dm) (lo := lo) (us := us) (br := br) (nd := nd) (hd := hd) (vc := upd vc c (vc c + 1)) (mk := mk) G (show H ≤ 16 by omega) bx N 0 T P _ _ pp kp (by omega) I0 hpk hT (by omega)
  refine ⟨T', P', zb_nx c ec ey en lv', lv', upd vc c (vc c + 1), pp', kp', fun b hb => by rw [pk_un (by omega)]; exact hvc b hb, I'.2.2, hT', by omega, hpk', ⟨_, zl_next G I'⟩, fun ic post K => ?_, fun pd post K => ?_⟩
  · refine ⟨v24, v24, fun vc' evc => ?_⟩
    rw [ecl] at evc
    subst evc
    refine ze_xload (kd := kd) b24 hN hR Wr Wi Wp hl hcB (fun ic' => ⟨v24, fun x ex => ⟨N + 1, ?_⟩⟩)
    rw [ecl] at ex
    subst ex
    exact X' ic' post (N + 1) (by omega) (K ic')
  · refine ⟨v24, v24, fun vc' evc => ?_⟩
    rw [ecl] at evc
    subst evc
    refine ql_0 (fun n i pd => wY_execute_12 post (nI c) (nI B) (nI NL) (nI RL) (nI HL) (nI N) (nI R) (nI H) (nI c) lf (nI T) (nI P) 1 n (nI i) hm kd fa fb rp rq rv ec ey en hd st cv rc mk lv pd (upd vc c (vc c + 1)) kp) (fun i pd => ∀ n, n < i → pd n = ze_pv lf ro rv lv n) N pd (fun n h => absurd h (Nat.not_lt_zero _)) (fun n pd I => ?_) (fun n i pd hi I next => ?_)
    · refine pk_le N N (fun _ => ?_) (fun h => absurd h (Nat.lt_irrefl _))
      have main : ∃ n, wY_execute_63 post (nI c) (nI B) (nI NL) (nI RL) (nI HL) (nI N) (nI R) (nI H) (nI c) lf (nI T) (nI P) 1 n (nI 0) hm kd fa fb rp rq rv ec ey en hd st cv rc mk (ze_ph 0 hm kd (nI c) (ze_pv lf ro rv lv) lv) pd (upd vc c (vc c + 1)) kp := by
        refine ql_0 (fun n i (_ : Unit) => wY_execute_63 post (nI c) (nI B) (nI NL) (nI RL) (nI HL) (nI N) (nI R) (nI H) (nI c) lf (nI T) (nI P) 1 n (nI i) hm kd fa fb rp rq rv ec ey en hd st cv rc mk (ze_ph i hm kd (nI c) (ze_pv lf ro rv lv) lv) pd (upd vc c (vc c + 1)) kp) (fun _ _ => True) N () trivial (fun n _ _ => ?_) (fun n i _ hi _ next => ?_)
        · refine pk_le N N (fun _ => ⟨N + 1, ?_⟩) (fun h => absurd h (Nat.lt_irrefl _))
          exact Y' pd post (N + 1) (by omega) (K pd)
        · have hv : vp_in (nI i) 32 := vp_in_nI (by omega) (by omega)
          have nx' := next () trivial
          refine pk_le N i (fun h => by omega) (fun _ => ⟨hv, ?_⟩)
          rw [nI_clamp (show i < 2 ^ 31 by omega)]
          refine br_c (fun e1 => ⟨hv, br_c (fun e2 => ⟨hv, hv, fun lv2 elv y ey => ?_⟩) (fun e2 y ey => ?_)⟩) (fun e1 y ey => ?_)
          · rw [I i hi, ze_phu ⟨e1, e2⟩] at elv
            subst elv ey
            rw [nI_1]; exact nx'
          · subst ey
            rw [nI_1, ze_phi fun h => e2 h.2]; exact nx'
          · subst ey
            rw [nI_1, ze_phi fun h => e1 h.1]; exact nx'
      rw [ze_ph0] at main
      exact main
    · have hv : vp_in (nI i) 32 := vp_in_nI (by omega) (by omega)
      have go : wY_execute_12 post (nI c) (nI B) (nI NL) (nI RL) (nI HL) (nI N) (nI R) (nI H) (nI c) lf (nI T) (nI P) 1 n (nI i + 1) hm kd fa fb rp rq rv ec ey en hd st cv rc mk lv (upd pd i (ze_pv lf ro rv lv i)) (upd vc c (vc c + 1)) kp := by
        rw [nI_1]
        refine next _ (fun n hn => ?_)
        by_cases z : n = i
        · subst z; exact pk_us
        · rw [pk_un z]; exact I n (by omega)
      refine pk_le N i (fun h => by omega) (fun _ => ?_)
      rcases hl with e | ⟨p, hp, e⟩
      · have pe : ze_pv lf ro rv lv i = 0 := if_pos e
        rw [pe] at go
        subst e
        refine ya_rowOfm b24 hR Wr (br_t (by decide) ⟨hv, fun pd' epd y ey => ?_⟩)
        rw [nI_clamp (by omega)] at epd
        subst epd ey
        exact go
      · have pe : ze_pv lf ro rv lv i = if ro (i * 24 + p) = 0 then 0 else lv (rv (ro (i * 24 + p) - 1).toNatClampNeg).toNatClampNeg := by
          unfold ze_pv
          rw [if_neg (by rw [e]; exact qn_m1 (by omega)), e, nI_clamp (by omega)]
        rw [pe] at go
        subst e
        refine ya_rowOf b24 hN hR Wr (by omega) (by omega) ?_
        rcases Wr.2 i p (by omega) (by omega) with z | ⟨r, hr, z, _⟩
        · rw [if_pos z] at go
          rw [z]
          refine br_t (by decide) ⟨hv, fun pd' epd y ey => ?_⟩
          rw [nI_clamp (by omega)] at epd
          subst epd ey
          exact go
        · obtain ⟨_, _, v, _, _, hv', _, _, ev, _⟩ := Wr.1 r hr
          rw [if_neg (by rw [z]; exact nI_ne0 (by omega) (by omega)), z, nI_pred, nI_clamp (by omega)] at go
          rw [z, nI_pred]
          refine br_f (nI_pos (by omega)) ⟨vp_in_nI (by omega) (by omega), ?_⟩
          rw [nI_clamp (show r < 2 ^ 31 by omega)]
          refine ⟨by rw [ev]; exact vp_in_nI (by omega) (by omega), hv, fun pd' epd y ey => ?_⟩
          rw [nI_clamp (by omega)] at epd
          subst epd ey
          exact go
end
theorem zl_run {k L B NL RL HL N R H : Nat} {pm rm fs fv : Int32} {hm kd fa fb rp rq rv ro ec ey en ni ed dm lo us br nd st cv hd rc mk : Nat → Int32} (hL : L ≤ 32) (hk : k ≤ 2564) (g : zz_G B NL RL HL N R H pm rm hm kd fa fb rp rq rv ro ec ey en ni lo st cv rc) : ∀ (d i T P : Nat) (nx lf : Int32) (pp lv vc kp : Nat → Int32), i + d = L → (∀ b, B ≤ b → vc b = 0) → (∀ n, N ≤ n → lv n = 0) → T ≤ H → P ≤ 1024 * k + 32 * i → zz_P P pp kp → (∃ E, zz_D B N nx lf hm ec ey en st cv rc lv E) → ∃ (j T' P' : Nat) (nx' lf' : Int32) (pp' lv' vc' kp' : Nat → Int32), zz_S (k + 5) B NL RL HL N R H T' P' pm rm nx' lf' hm kd fa fb rp rq rv ro ec ey en ni lo st cv pp' lv' vc' rc kp' ∧ (∀ (ic : Nat → Int32) (post : Int32 → SX → Prop) (n : Nat), d < n → (∀ ic', post (nI j) (nI B, nI NL, nI RL, nI HL, 1, nI N, nI R, pm, rm, 0, 0, fs, fv, nI H, nI T', nI P', nx', lf', hm, qr_k N st kd, qr_a N st cv kd fa, qr_b N st kd fb, rp, rq, rv, ro, qr_c B st ec, qr_y B st cv ec ey en, qr_n B st ec en, ni, ed, dm, lo, us, br, nd, st, cv, hd, pp', lv', ic', vc')) → wX_run_21 post (nI L) n (nI i) (nI B) (nI NL) (nI RL) (nI HL) 1 (nI N) (nI R) pm rm 0 0 fs fv (nI H) (nI T) (nI P) nx lf hm (qr_k N st kd) (qr_a N st cv kd fa) (qr_b N st kd fb) rp rq rv ro (qr_c B st ec) (qr_y B st cv ec ey en) (qr_n B st ec en) ni ed dm lo us br nd st cv hd pp lv ic vc) ∧ (∀ (pd : Nat → Int32) (post : Int32 → SY → Prop) (n : Nat), d < n → (∀ pd', post (nI j) (nI B, nI NL, nI RL, nI HL, nI N, nI R, nI H, nx', lf', nI T', nI P', 1, hm, kd, fa, fb, rp, rq, rv, ec, ey, en, hd, st, cv, rc, mk, lv', pd', vc', kp')) → wY_run_21 post (nI L) n (nI i) (nI B) (nI NL) (nI RL) (nI HL) (nI N) (nI R) (nI H) nx lf (nI T) (nI P) 1 hm kd fa fb rp rq rv ec ey en hd st cv rc mk lv pd vc kp) := by
  intro d
  induction d with
  | zero =>
    intro i T P nx lf pp lv vc kp hi hvc hlv hT hP hpk hD
    have hi : i = L := by omega
    subst hi
    refine ⟨i, T, P, nx, lf, pp, lv, vc, kp, ⟨g, hvc, hlv, hT, by omega, hpk, hD⟩, fun ic post n hn K => ?_, fun pd post n hn K => ?_⟩
    · obtain ⟨m, rfl⟩ : ∃ m, n = m + 1 := ⟨n - 1, by omega⟩
      exact pk_le i i (fun _ => K ic) (fun h => absurd h (Nat.lt_irrefl _))
    · obtain ⟨m, rfl⟩ : ∃ m, n = m + 1 := ⟨n - 1, by omega⟩
      exact pk_le i i (fun _ => K pd) (fun h => absurd h (Nat.lt_irrefl _))
  | succ d ih =>
    intro i T P nx lf pp lv vc kp hi hvc hlv hT hP hpk hD
    have hD' := hD
    obtain ⟨E, hD1, hal⟩ := hD
    rcases hD1 with e | ⟨c, hc, e, hrest⟩
    · refine ⟨i, T, P, nx, lf, pp, lv, vc, kp, ⟨g, hvc, hlv, hT, by omega, hpk, hD'⟩, fun ic post n hn K => ?_, fun pd post n hn K => ?_⟩
      · obtain ⟨m, rfl⟩ : ∃ m, n = m + 1 := ⟨n - 1, by omega⟩
        exact pk_le L i (fun h => by omega) (fun _ => br_t (by rw [e]; decide) (K ic))
      · obtain ⟨m, rfl⟩ : ∃ m, n = m + 1 := ⟨n - 1, by omega⟩
        exact pk_le L i (fun h => by omega) (fun _ => br_t e (K pd))
    · have b24 := g.1
      subst e
      obtain ⟨T1, P1, nx1, lv1, vc1, pp1, kp1, a1, a2, a3, a4, a5, a6, X1, Y1⟩ := zl_exec (fs := fs) (fv := fv) (ed := ed) (dm := dm) (us := us) (br := br) (nd := nd) (hd := hd) (mk := mk) g hvc hlv hT (by omega) hpk hc ⟨Or.inr ⟨c, hc, rfl, hrest⟩, hal⟩
      obtain ⟨j, T', P', nx', lf', pp', lv', vc', kp', S', X', Y'⟩ := ih (i + 1) T1 P1 nx1 (nI c) pp1 lv1 vc1 kp1 (by omega) a1 a2 a3 (by omega) a5 a6
      refine ⟨j, T', P', nx', lf', pp', lv', vc', kp', S', fun ic post n hn K => ?_, fun pd post n hn K => ?_⟩
      · obtain ⟨m, rfl⟩ : ∃ m, n = m + 1 := ⟨n - 1, by omega⟩
        refine pk_le L i (fun h => by omega) (fun _ => br_f (nI_pos (by omega)) ?_)
        refine X1 ic _ (fun ic' y ey => ?_)
        subst ey
        rw [nI_1]
        exact X' ic' post m (by omega) K
      · obtain ⟨m, rfl⟩ : ∃ m, n = m + 1 := ⟨n - 1, by omega⟩
        refine pk_le L i (fun h => by omega) (fun _ => br_f (qn_m1 (by omega)) ?_)
        refine Y1 pd _ (fun pd' y ey => ?_)
        subst ey
        rw [nI_1]
        exact Y' pd' post m (by omega) K
theorem i_vc_run {k : Nat} {u : SX} {v : SY} (I : i_Rel k u v) (hk : k + 5 ≤ 2564) (v1 : Int32) : wpX_run (fun r u' => wpY_run (fun r' v' => r' = r ∧ i_Rel (k + 5) u' v') v v1) u v1 := by
  refine zz_el (Q := fun u v => wpX_run (fun r u' => wpY_run (fun r' v' => r' = r ∧ i_Rel (k + 5) u' v') v v1) u v1) ?_ ?_ I
  · intro B NL RL HL N R H pm fs fv t1 t2 t3 t4 s1 s2 s3 s4 hm kd fa fb rp rq rv ro ec ey en ni ed dm us br nd hd pp ic mk pd kp h
    exact br_t rfl (br_t rfl ⟨rfl, zz_inO h⟩)
  · intro B NL RL HL N R H T P pm rm fs fv nx lf hm kd fa fb rp rq rv ro ec ey en ni ed dm lo us br nd st cv hd pp lv ic vc rc mk pd kp h
    obtain ⟨g, hvc, hlv, hT, hP, hpk, hD⟩ := h
    obtain ⟨L, _, hL, xL, yL⟩ := zc_clamp v1 0 32 (by omega) (by omega)
    obtain ⟨j, T', P', nx', lf', pp', lv', vc', kp', S', X', Y'⟩ := zl_run (fs := fs) (fv := fv) (ed := ed) (dm := dm) (us := us) (br := br) (nd := nd) (hd := hd) (mk := mk) hL (show k ≤ 2564 by omega) g L 0 T P nx lf pp lv vc kp (by omega) hvc hlv hT (by omega) hpk hD
    refine br_f qp_10 (xL _ _ ⟨L + 1, X' ic _ (L + 1) (by omega) fun ic' => ?_⟩)
    refine br_f qp_10 (yL _ _ ⟨L + 1, Y' pd _ (L + 1) (by omega) fun pd' => ⟨rfl, ?_⟩⟩)
    exact zz_inS S'
end
