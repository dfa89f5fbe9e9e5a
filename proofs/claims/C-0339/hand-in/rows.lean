section
/-! rows of the kit, pasted (starting text) -/
/-! ===== Int32 by its bits: bt x i ===== -/
def bt (x : Int32) (i : Nat) : Bool := x.toBitVec.getLsbD i
theorem b_ext {x y : Int32} (h : ∀ i, i < 32 → bt x i = bt y i) : x = y := Int32.toBitVec_inj.mp (BitVec.eq_of_getLsbD_eq (fun i hi => h i hi))
theorem b_or (x y : Int32) (i : Nat) : bt (x ||| y) i = (bt x i || bt y i) := by unfold bt; rw [Int32.toBitVec_or, BitVec.getLsbD_or]
theorem b_and (x y : Int32) (i : Nat) : bt (x &&& y) i = (bt x i && bt y i) := by unfold bt; rw [Int32.toBitVec_and, BitVec.getLsbD_and]
theorem b_xor (x y : Int32) (i : Nat) : bt (x ^^^ y) i = (bt x i ^^ bt y i) := by unfold bt; rw [Int32.toBitVec_xor, BitVec.getLsbD_xor]
theorem b_big {x : Int32} {i : Nat} (h : 32 ≤ i) : bt x i = false := BitVec.getLsbD_of_ge _ _ h
theorem b_255 (i : Nat) : bt 255 i = decide (i < 8) := by
  rcases Nat.lt_or_ge i 32 with h | h
  · exact (by decide +kernel : ∀ i, i < 32 → bt 255 i = decide (i < 8)) i h
  · rw [b_big h, decide_eq_false (by omega)]
theorem b_65535 (i : Nat) : bt 65535 i = decide (i < 16) := by
  rcases Nat.lt_or_ge i 32 with h | h
  · exact (by decide +kernel : ∀ i, i < 32 → bt 65535 i = decide (i < 16)) i h
  · rw [b_big h, decide_eq_false (by omega)]
theorem b_m1 : ∀ i, i < 32 → bt (-1) i = true := by decide +kernel
theorem b_0 (i : Nat) : bt 0 i = false := BitVec.getLsbD_zero
theorem s_l : ∀ n, n < 32 → ((nI n &&& 31).toBitVec.smod 32).toNat = n := by decide +kernel
theorem s_u : ∀ n, n < 32 → (((nI n).toUInt32 &&& Int32.toUInt32 31).toBitVec % 32).toNat = n := by decide +kernel
theorem b_shl (n : Nat) (hn : n < 32) (x : Int32) {i : Nat} (hi : i < 32) : bt (x <<< (nI n &&& 31)) i = (decide (n ≤ i) && bt x (i - n)) := by
  unfold bt
  rw [Int32.toBitVec_shiftLeft]
  show (x.toBitVec <<< ((nI n &&& 31).toBitVec.smod 32).toNat).getLsbD i = _
  rw [s_l n hn, BitVec.getLsbD_shiftLeft]
  rcases Nat.lt_or_ge i n with h | h
  · simp [h, Nat.not_le.mpr h]
  · simp [hi, h, Nat.not_lt.mpr h]
theorem b_ushr (n : Nat) (hn : n < 32) (x : Int32) (i : Nat) : bt ((x.toUInt32 >>> ((nI n).toUInt32 &&& Int32.toUInt32 31)).toInt32) i = bt x (n + i) := by
  show (x.toUInt32 >>> ((nI n).toUInt32 &&& Int32.toUInt32 31)).toBitVec.getLsbD i = x.toUInt32.toBitVec.getLsbD (n + i)
  rw [UInt32.toBitVec_shiftRight]
  show (x.toUInt32.toBitVec >>> (((nI n).toUInt32 &&& Int32.toUInt32 31).toBitVec % 32).toNat).getLsbD i = _
  rw [s_u n hn, BitVec.getLsbD_ushiftRight]
theorem b_sshr (n : Nat) (hn : n < 32) (x : Int32) {i : Nat} (hi : i < 32) : bt (x >>> (nI n &&& 31)) i = if n + i < 32 then bt x (n + i) else bt x 31 := by
  unfold bt
  rw [Int32.toBitVec_shiftRight]
  show (x.toBitVec.sshiftRight ((nI n &&& 31).toBitVec.smod 32).toNat).getLsbD i = _
  rw [s_l n hn, BitVec.getLsbD_sshiftRight, BitVec.msb_eq_getLsbD_last]
  simp [hi]
theorem b_shl8 (x : Int32) {i : Nat} (hi : i < 32) : bt (x <<< ((8 : Int32) &&& 31)) i = (decide (8 ≤ i) && bt x (i - 8)) := b_shl 8 (by omega) x hi
theorem b_shl16 (x : Int32) {i : Nat} (hi : i < 32) : bt (x <<< ((16 : Int32) &&& 31)) i = (decide (16 ≤ i) && bt x (i - 16)) := b_shl 16 (by omega) x hi
theorem b_shl24 (x : Int32) {i : Nat} (hi : i < 32) : bt (x <<< ((24 : Int32) &&& 31)) i = (decide (24 ≤ i) && bt x (i - 24)) := b_shl 24 (by omega) x hi
theorem b_sshr8 (x : Int32) {i : Nat} (hi : i < 32) : bt (x >>> ((8 : Int32) &&& 31)) i = if 8 + i < 32 then bt x (8 + i) else bt x 31 := b_sshr 8 (by omega) x hi
theorem pk_us {f : Nat → Int32} {k : Nat} {x : Int32} : upd f k x k = x := if_pos rfl
theorem pk_un {f : Nat → Int32} {k j : Nat} {x : Int32} (h : j ≠ k) : upd f k x j = f j := if_neg h
theorem pk_sub {a b : Nat} (h : b ≤ a) : nI a - nI b = nI (a - b) := by
  obtain ⟨c, rfl⟩ : ∃ c, a = c + b := ⟨a - b, by omega⟩
  rw [← nI_add, Int32.add_sub_cancel, Nat.add_sub_cancel]
theorem pk_mul (a b : Nat) : nI a * nI b = nI (a * b) := (Int32.ofNat_mul a b).symm
theorem pk_div {a d : Nat} (ha : a < 2 ^ 31) (h0 : 0 < d) (hd : d < 2 ^ 31) : nI a / nI d = nI (a / d) := by
  apply Int32.toInt_inj.mp
  rw [lg_idiv_nonneg (by rw [nI_toInt ha]; omega) (by rw [nI_toInt hd]; omega), nI_toInt ha, nI_toInt hd, nI_toInt (Nat.lt_of_le_of_lt (Nat.div_le_self a d) ha)]
  first | rfl | exact (Int.natCast_ediv _ _).symm
theorem pk_rem {a d : Nat} (ha : a < 2 ^ 31) (h0 : 0 < d) (hd : d < 2 ^ 31) : nI a - nI a / nI d * nI d = nI (a % d) := by
  rw [pk_div ha h0 hd, pk_mul, pk_sub (Nat.div_mul_le_self a d)]
  exact congrArg nI (by have := Nat.div_add_mod' a d; omega)
theorem pk_le {x y : Int32} {A B : Prop} (a b : Nat) (f : a ≤ b → A) (g : b < a → B) (hx : x = nI a := by rfl) (hy : y = nI b := by rfl) (ha : a < 2 ^ 31 := by omega) (hb : b < 2 ^ 31 := by omega) : (x ≤ y → A) ∧ (¬ x ≤ y → B) := by
  subst hx hy
  rw [nI_leI ha hb]
  exact ⟨f, fun z => g (by omega)⟩
theorem pk_lt {x y : Int32} {A B : Prop} (a b : Nat) (f : a < b → A) (g : b ≤ a → B) (hx : x = nI a := by rfl) (hy : y = nI b := by rfl) (ha : a < 2 ^ 31 := by omega) (hb : b < 2 ^ 31 := by omega) : (x < y → A) ∧ (¬ x < y → B) := by
  subst hx hy
  rw [nI_ltI ha hb]
  exact ⟨f, fun z => g (by omega)⟩
theorem pk_eq {x y : Int32} {A B : Prop} (a b : Nat) (f : a = b → A) (g : a ≠ b → B) (hx : x = nI a := by rfl) (hy : y = nI b := by rfl) (ha : a < 2 ^ 31 := by omega) (hb : b < 2 ^ 31 := by omega) : (x = y → A) ∧ (¬ x = y → B) := by
  subst hx hy
  rw [nI_eq ha hb]
  exact ⟨f, g⟩
theorem pk_in {x : Int32} (n N : Nat) (h : n < N) (hx : x = nI n := by rfl) (hN : N < 2 ^ 31 := by omega) : vp_in x N := by
  subst hx
  exact vp_in_nI h hN
theorem pk_cl {x : Int32} (n : Nat) (hx : x = nI n := by rfl) (h : n < 2 ^ 31 := by omega) : x.toNatClampNeg = n := by
  subst hx
  exact nI_clamp h
theorem pk_tn {n : Nat} (h : n < 2 ^ 32) : (nI n).toBitVec.toNat = n := Nat.mod_eq_of_lt h
theorem pk_nb (z : Int32) : narrow .byte (.int z.toInt8.toInt32) = .int z.toInt8.toInt32 := congrArg Value.int (by simp)
theorem pk_vb (z : Int32) : vp_nar .byte z.toInt8.toInt32 = z.toInt8.toInt32 := by rw [vp_nar_byte]; simp
end
section
/-! counts of sets that are given by Bool functions -/
def dm_cnt (f : Nat → Bool) : Nat → Nat
  | 0 => 0
  | n + 1 => dm_cnt f n + (if f n = true then 1 else 0)
def dm_ex (f : Nat → Bool) : Nat → Bool
  | 0 => false
  | n + 1 => dm_ex f n || f n
def dm_sum (g : Nat → Nat) : Nat → Nat
  | 0 => 0
  | n + 1 => dm_sum g n + g n
theorem dm_nt {x : Bool} (h : ¬ x = true) : x = false := by cases x <;> simp_all
theorem dm_nf {x : Bool} (h : ¬ x = false) : x = true := by cases x <;> simp_all
theorem dm_tf {x : Bool} (h : x = true) (g : x = false) : False := by rw [h] at g; cases g
theorem dm_ex_iff (f : Nat → Bool) (n : Nat) : dm_ex f n = true ↔ ∃ i, i < n ∧ f i = true := by
  induction n with
  | zero => simp [dm_ex]
  | succ n ih =>
    rw [dm_ex, Bool.or_eq_true, ih]
    constructor
    · rintro (⟨i, hi, h⟩ | h)
      · exact ⟨i, by omega, h⟩
      · exact ⟨n, by omega, h⟩
    · rintro ⟨i, hi, h⟩
      by_cases e : i = n
      · rw [e] at h; exact Or.inr h
      · exact Or.inl ⟨i, by omega, h⟩
theorem dm_ex_t {f : Nat → Bool} {n : Nat} (i : Nat) (hi : i < n) (h : f i = true) : dm_ex f n = true := (dm_ex_iff f n).mpr ⟨i, hi, h⟩
theorem dm_ex_congr {f g : Nat → Bool} {n : Nat} (h : ∀ i, i < n → f i = g i) : dm_ex f n = dm_ex g n := by
  induction n with
  | zero => rfl
  | succ n ih => rw [dm_ex, dm_ex, ih (fun i hi => h i (by omega)), h n (by omega)]
theorem dm_cnt_le (f : Nat → Bool) (n : Nat) : dm_cnt f n ≤ n := by
  induction n with
  | zero => exact Nat.le_refl _
  | succ n ih => simp only [dm_cnt]; split <;> omega
theorem dm_cnt_congr {f g : Nat → Bool} {n : Nat} (h : ∀ i, i < n → f i = g i) : dm_cnt f n = dm_cnt g n := by
  induction n with
  | zero => rfl
  | succ n ih => rw [dm_cnt, dm_cnt, ih (fun i hi => h i (by omega)), h n (by omega)]
theorem dm_cnt_mono {f g : Nat → Bool} : ∀ {n : Nat}, (∀ i, i < n → f i = true → g i = true) → dm_cnt f n ≤ dm_cnt g n := by
  intro n
  induction n with
  | zero => intro _; exact Nat.le_refl _
  | succ n ih =>
    intro h
    have h1 := ih (fun i hi => h i (by omega))
    have h2 := h n (by omega)
    simp only [dm_cnt]
    by_cases hf : f n = true
    · rw [if_pos hf, if_pos (h2 hf)]; omega
    · rw [if_neg hf]; split <;> omega
theorem dm_cnt_lt {f g : Nat → Bool} : ∀ {n : Nat}, (∀ i, i < n → f i = true → g i = true) → ∀ k, k < n → f k = false → g k = true → dm_cnt f n < dm_cnt g n := by
  intro n
  induction n with
  | zero => intro _ k hk; omega
  | succ n ih =>
    intro h k hk hf hg
    have hm : dm_cnt f n ≤ dm_cnt g n := dm_cnt_mono (fun i hi => h i (by omega))
    simp only [dm_cnt]
    by_cases e : k = n
    · rw [e] at hf hg
      rw [if_pos hg, if_neg (by rw [hf]; exact Bool.false_ne_true)]
      omega
    · have h1 := ih (fun i hi => h i (by omega)) k (by omega) hf hg
      have h2 := h n (by omega)
      by_cases z : f n = true
      · rw [if_pos z, if_pos (h2 z)]; omega
      · rw [if_neg z]; split <;> omega
theorem dm_cnt_oa (f g : Nat → Bool) (n : Nat) : dm_cnt (fun i => f i || g i) n + dm_cnt (fun i => f i && g i) n = dm_cnt f n + dm_cnt g n := by
  induction n with
  | zero => rfl
  | succ n ih => simp only [dm_cnt]; rcases Bool.eq_false_or_eq_true (f n) with hf | hf <;> rcases Bool.eq_false_or_eq_true (g n) with hg | hg <;> simp [hf, hg] <;> omega
theorem dm_cnt_split (f g : Nat → Bool) (n : Nat) : dm_cnt f n = dm_cnt (fun i => f i && g i) n + dm_cnt (fun i => f i && !g i) n := by
  induction n with
  | zero => rfl
  | succ n ih => simp only [dm_cnt]; rcases Bool.eq_false_or_eq_true (f n) with hf | hf <;> rcases Bool.eq_false_or_eq_true (g n) with hg | hg <;> simp [hf, hg] <;> omega
theorem dm_cnt_not (f : Nat → Bool) (n : Nat) : dm_cnt f n + dm_cnt (fun i => !f i) n = n := by
  induction n with
  | zero => rfl
  | succ n ih => simp only [dm_cnt]; rcases Bool.eq_false_or_eq_true (f n) with hf | hf <;> simp [hf] <;> omega
theorem dm_cnt_rm {f : Nat → Bool} {k : Nat} (hf : f k = true) : ∀ {n : Nat}, k < n → dm_cnt f n = dm_cnt (fun i => f i && !decide (i = k)) n + 1 := by
  intro n
  induction n with
  | zero => intro h; omega
  | succ n ih =>
    intro hk
    simp only [dm_cnt]
    by_cases e : k = n
    · have h1 : dm_cnt (fun i => f i && !decide (i = k)) n = dm_cnt f n := dm_cnt_congr (fun i hi => by
        have : ¬ i = k := by omega
        simp [this])
      rw [h1, ← e]
      simp [hf]
    · have h1 := ih (by omega)
      have h2 : ¬ n = k := fun z => e z.symm
      simp only [h2, decide_false, Bool.not_false, Bool.and_true]
      split <;> omega
theorem dm_cnt_one (k n : Nat) : dm_cnt (fun i => decide (i = k)) n = if k < n then 1 else 0 := by
  induction n with
  | zero => rfl
  | succ n ih =>
    simp only [dm_cnt, ih]
    by_cases h : n = k
    · rw [if_neg (by omega), if_pos (by simp [h]), if_pos (by omega)]
    · rw [if_neg (c := decide (n = k) = true) (by simp [h])]
      by_cases h2 : k < n
      · rw [if_pos h2, if_pos (by omega)]
      · rw [if_neg h2, if_neg (by omega)]
theorem dm_cnt_add_le (f : Nat → Bool) (k n : Nat) : dm_cnt (fun i => f i || decide (i = k)) n ≤ dm_cnt f n + 1 := by
  have h1 := dm_cnt_oa f (fun i => decide (i = k)) n
  have h2 := dm_cnt_one k n
  have h3 : dm_cnt (fun i => decide (i = k)) n ≤ 1 := by rw [h2]; split <;> omega
  omega
theorem dm_cnt_add {f : Nat → Bool} {k n : Nat} (hk : k < n) (hf : f k = false) : dm_cnt (fun i => f i || decide (i = k)) n = dm_cnt f n + 1 := by
  have h := dm_cnt_rm (f := fun i => f i || decide (i = k)) (k := k) (by simp) hk
  rw [h]
  congr 1
  apply dm_cnt_congr
  intro i _
  by_cases e : i = k
  · rw [e]; simp [hf]
  · simp [e]
theorem dm_inj {P : Nat → Bool} {f : Nat → Nat} {m : Nat} : ∀ (n : Nat) (B : Nat → Bool), (∀ i, i < n → P i = true → f i < m ∧ B (f i) = true) → (∀ i j, i < n → j < n → P i = true → P j = true → f i = f j → i = j) → dm_cnt P n ≤ dm_cnt B m := by
  intro n
  induction n with
  | zero => intro B _ _; exact Nat.zero_le _
  | succ n ih =>
    intro B h1 h2
    by_cases hp : P n = true
    · have hb := h1 n (by omega) hp
      have h3 := ih (fun i => B i && !decide (i = f n)) (fun i hi hpi => ⟨(h1 i (by omega) hpi).1, by
          have hne : ¬ f i = f n := fun z => by
            have := h2 i n (by omega) (by omega) hpi hp z
            omega
          simp [hne, (h1 i (by omega) hpi).2]⟩) (fun i j hi hj => h2 i j (by omega) (by omega))
      have h4 := dm_cnt_rm hb.2 hb.1
      simp only [dm_cnt]
      rw [if_pos hp]
      omega
    · have h3 := ih B (fun i hi => h1 i (by omega)) (fun i j hi hj => h2 i j (by omega) (by omega))
      simp only [dm_cnt]
      rw [if_neg hp]
      omega
theorem dm_sum_le {g h : Nat → Nat} : ∀ {n : Nat}, (∀ i, i < n → g i ≤ h i) → dm_sum g n ≤ dm_sum h n := by
  intro n
  induction n with
  | zero => intro _; exact Nat.le_refl _
  | succ n ih =>
    intro H
    have h1 := ih (fun i hi => H i (by omega))
    have h2 := H n (by omega)
    simp only [dm_sum]
    omega
theorem dm_sum_lt {g h : Nat → Nat} : ∀ {n : Nat}, (∀ i, i < n → g i ≤ h i) → ∀ k, k < n → g k < h k → dm_sum g n < dm_sum h n := by
  intro n
  induction n with
  | zero => intro _ k hk; omega
  | succ n ih =>
    intro H k hk hg
    simp only [dm_sum]
    by_cases e : k = n
    · have h1 := dm_sum_le (g := g) (h := h) (n := n) (fun i hi => H i (by omega))
      rw [e] at hg
      omega
    · have h1 := ih (fun i hi => H i (by omega)) k (by omega) hg
      have h2 := H n (by omega)
      omega
end
section
/-! matchings and covers; a largest matching and a smallest cover have one size -/
def dm_Cov (E : Nat → Nat → Bool) (A B : Nat → Bool) : Prop := ∀ r c, r < 7 → c < 7 → E r c = true → A r = true ∨ B c = true
def dm_Mat (E : Nat → Nat → Bool) (p : Nat → Nat) : Prop := (∀ r, r < 7 → p r < 7 → E r (p r) = true) ∧ (∀ r s, r < 7 → s < 7 → p r < 7 → p r = p s → r = s)
def dm_sz (p : Nat → Nat) : Nat := dm_cnt (fun r => decide (p r < 7)) 7
def dm_Kon (E : Nat → Nat → Bool) : Prop := ∃ p A B, dm_Mat E p ∧ dm_Cov E A B ∧ dm_cnt A 7 + dm_cnt B 7 ≤ dm_sz p
def dm_rm (E : Nat → Nat → Bool) (a b r c : Nat) : Bool := E r c && !(decide (r = a) && decide (c = b))
def dm_ec (E : Nat → Nat → Bool) : Nat := dm_sum (fun r => dm_cnt (E r) 7) 7
theorem dm_weak {E : Nat → Nat → Bool} {p : Nat → Nat} {A B : Nat → Bool} (hM : dm_Mat E p) (hC : dm_Cov E A B) : dm_sz p ≤ dm_cnt A 7 + dm_cnt B 7 := by
  have s0 := dm_cnt_split (fun r => decide (p r < 7)) A 7
  have s1 : dm_cnt (fun r => decide (p r < 7) && A r) 7 ≤ dm_cnt A 7 := dm_cnt_mono (fun i _ h => (Bool.and_eq_true _ _ ▸ h).2)
  have s2 : dm_cnt (fun r => decide (p r < 7) && !A r) 7 ≤ dm_cnt B 7 := by
    refine dm_inj (f := p) 7 B ?_ ?_
    · intro r hr h
      simp only [Bool.and_eq_true, decide_eq_true_eq, Bool.not_eq_true'] at h
      refine ⟨h.1, ?_⟩
      rcases hC r (p r) hr h.1 (hM.1 r hr h.1) with z | z
      · exact absurd h.2 (by rw [z]; exact Bool.noConfusion)
      · exact z
    · intro i j hi hj h1 _ e
      simp only [Bool.and_eq_true, decide_eq_true_eq, Bool.not_eq_true'] at h1
      exact hM.2 i j hi hj h1.1 e
  unfold dm_sz
  omega
theorem dm_rm_of {E : Nat → Nat → Bool} {a b r c : Nat} (h : E r c = true) (e : ¬ (r = a ∧ c = b)) : dm_rm E a b r c = true := by
  unfold dm_rm
  by_cases e1 : r = a
  · by_cases e2 : c = b
    · exact absurd ⟨e1, e2⟩ e
    · simp [h, e2]
  · simp [h, e1]
theorem dm_rm_sub {E : Nat → Nat → Bool} {a b r c : Nat} (h : dm_rm E a b r c = true) : E r c = true := by
  simp only [dm_rm, Bool.and_eq_true] at h
  exact h.1
theorem dm_Mat_mono {E E' : Nat → Nat → Bool} {p : Nat → Nat} (h : ∀ r c, r < 7 → c < 7 → E r c = true → E' r c = true) (hM : dm_Mat E p) : dm_Mat E' p :=
  ⟨fun r hr hp => h r (p r) hr hp (hM.1 r hr hp), hM.2⟩
theorem dm_ec_lt {E : Nat → Nat → Bool} {a b : Nat} (ha : a < 7) (hb : b < 7) (h : E a b = true) : dm_ec (dm_rm E a b) < dm_ec E := by
  refine dm_sum_lt (fun r _ => dm_cnt_mono (fun c _ hc => dm_rm_sub hc)) a ha ?_
  exact dm_cnt_lt (fun c _ hc => dm_rm_sub hc) b hb (by simp [dm_rm]) h
theorem dm_cov_rm {E : Nat → Nat → Bool} {a b : Nat} {A B : Nat → Bool} (C : dm_Cov (dm_rm E a b) A B) (x : A a = true ∨ B b = true) : dm_Cov E A B := by
  intro r c hr hc h
  by_cases e : r = a ∧ c = b
  · rw [e.1, e.2]; exact x
  · exact C r c hr hc (dm_rm_of h e)
theorem dm_kon_col {E : Nat → Nat → Bool} {a u v : Nat} (ha : a < 7) (hu : u < 7) (hv : v < 7) (huv : u ≠ v) (hau : E u a = true) (hav : E v a = true)
    {p1 p2 : Nat → Nat} {A1 B1 A2 B2 : Nat → Bool} (M1 : dm_Mat (dm_rm E u a) p1) (C1 : dm_Cov (dm_rm E u a) A1 B1) (s1 : dm_cnt A1 7 + dm_cnt B1 7 ≤ dm_sz p1)
    (M2 : dm_Mat (dm_rm E v a) p2) (C2 : dm_Cov (dm_rm E v a) A2 B2) (s2 : dm_cnt A2 7 + dm_cnt B2 7 ≤ dm_sz p2) : dm_Kon E := by
  have m1 : dm_Mat E p1 := dm_Mat_mono (fun _ _ _ _ h => dm_rm_sub h) M1
  have m2 : dm_Mat E p2 := dm_Mat_mono (fun _ _ _ _ h => dm_rm_sub h) M2
  by_cases x1 : A1 u = true ∨ B1 a = true
  · exact ⟨p1, A1, B1, m1, dm_cov_rm C1 x1, s1⟩
  by_cases x2 : A2 v = true ∨ B2 a = true
  · exact ⟨p2, A2, B2, m2, dm_cov_rm C2 x2, s2⟩
  have K1 : dm_Cov E (fun r => A1 r && A2 r) (fun c => (B1 c || B2 c) || decide (c = a)) := by
    intro r c hr hc h
    by_cases e : c = a
    · right; simp [e]
    · have q1 := C1 r c hr hc (dm_rm_of h (fun z => e z.2))
      have q2 := C2 r c hr hc (dm_rm_of h (fun z => e z.2))
      simp only [Bool.or_eq_true, Bool.and_eq_true, decide_eq_true_eq]
      rcases q1 with q1 | q1
      · rcases q2 with q2 | q2
        · exact Or.inl ⟨q1, q2⟩
        · exact Or.inr (Or.inl (Or.inr q2))
      · exact Or.inr (Or.inl (Or.inl q1))
  have K2 : dm_Cov E (fun r => A1 r || A2 r) (fun c => B1 c && B2 c) := by
    intro r c hr hc h
    simp only [Bool.or_eq_true, Bool.and_eq_true]
    by_cases e1 : r = u ∧ c = a
    · left; right
      rcases C2 u a hu ha (dm_rm_of hau (fun z => huv z.1)) with q2 | q2
      · rw [e1.1]; exact q2
      · exact absurd (Or.inr q2) x2
    · by_cases e2 : r = v ∧ c = a
      · left; left
        rcases C1 v a hv ha (dm_rm_of hav (fun z => huv z.1.symm)) with q1 | q1
        · rw [e2.1]; exact q1
        · exact absurd (Or.inr q1) x1
      · have q1 := C1 r c hr hc (dm_rm_of h e1)
        have q2 := C2 r c hr hc (dm_rm_of h e2)
        rcases q1 with q1 | q1
        · exact Or.inl (Or.inl q1)
        · rcases q2 with q2 | q2
          · exact Or.inl (Or.inr q2)
          · exact Or.inr ⟨q1, q2⟩
  have n1 := dm_cnt_oa A1 A2 7
  have n2 := dm_cnt_oa B1 B2 7
  have n3 := dm_cnt_add_le (fun c => B1 c || B2 c) a 7
  by_cases y1 : dm_cnt (fun r => A1 r && A2 r) 7 + dm_cnt (fun c => (B1 c || B2 c) || decide (c = a)) 7 ≤ dm_sz p1
  · exact ⟨p1, _, _, m1, K1, y1⟩
  by_cases y2 : dm_cnt (fun r => A1 r && A2 r) 7 + dm_cnt (fun c => (B1 c || B2 c) || decide (c = a)) 7 ≤ dm_sz p2
  · exact ⟨p2, _, _, m2, K1, y2⟩
  by_cases y3 : dm_cnt (fun r => A1 r || A2 r) 7 + dm_cnt (fun c => B1 c && B2 c) 7 ≤ dm_sz p1
  · exact ⟨p1, _, _, m1, K2, y3⟩
  by_cases y4 : dm_cnt (fun r => A1 r || A2 r) 7 + dm_cnt (fun c => B1 c && B2 c) 7 ≤ dm_sz p2
  · exact ⟨p2, _, _, m2, K2, y4⟩
  exfalso
  omega
theorem dm_konig : ∀ (n : Nat) (E : Nat → Nat → Bool), dm_ec E < n → dm_Kon E := by
  intro n
  induction n with
  | zero => intro E h; omega
  | succ n ih =>
    intro E hn
    by_cases h2 : ∃ a u v, a < 7 ∧ u < 7 ∧ v < 7 ∧ u ≠ v ∧ E u a = true ∧ E v a = true
    · obtain ⟨a, u, v, ha, hu, hv, huv, hau, hav⟩ := h2
      have l1 := dm_ec_lt hu ha hau
      have l2 := dm_ec_lt hv ha hav
      obtain ⟨p1, A1, B1, M1, C1, s1⟩ := ih (dm_rm E u a) (by omega)
      obtain ⟨p2, A2, B2, M2, C2, s2⟩ := ih (dm_rm E v a) (by omega)
      exact dm_kon_col ha hu hv huv hau hav M1 C1 s1 M2 C2 s2
    · have hs : ∀ r, ∃ c, (c < 7 ∧ E r c = true) ∨ (c = 7 ∧ ∀ d, d < 7 → E r d = false) := by
        intro r
        by_cases z : ∃ c, c < 7 ∧ E r c = true
        · obtain ⟨c, hc⟩ := z
          exact ⟨c, Or.inl hc⟩
        · refine ⟨7, Or.inr ⟨rfl, fun d hd => ?_⟩⟩
          exact dm_nt (fun w => z ⟨d, hd, w⟩)
      obtain ⟨p, hp⟩ : ∃ p : Nat → Nat, ∀ r, (p r < 7 ∧ E r (p r) = true) ∨ (p r = 7 ∧ ∀ d, d < 7 → E r d = false) := ⟨fun r => (hs r).choose, fun r => (hs r).choose_spec⟩
      have hpE : ∀ r, p r < 7 → E r (p r) = true := fun r h => by
        rcases hp r with q | q
        · exact q.2
        · omega
      refine ⟨p, fun r => decide (p r < 7), fun _ => false, ⟨fun r _ h => hpE r h, ?_⟩, ?_, ?_⟩
      · intro r s hr hs' hlt e
        by_cases rs : r = s
        · exact rs
        · exfalso
          exact h2 ⟨p r, r, s, hlt, hr, hs', rs, hpE r hlt, by rw [e]; exact hpE s (by omega)⟩
      · intro r c hr hc h
        left
        rcases hp r with q | q
        · simp [q.1]
        · exact absurd h (by rw [q.2 c hc]; exact Bool.noConfusion)
      · exact Nat.le_refl _
theorem dm_nu_ex (E : Nat → Nat → Bool) : ∃ n, (∃ p, dm_Mat E p ∧ dm_sz p = n) ∧ (∃ A B, dm_Cov E A B ∧ dm_cnt A 7 + dm_cnt B 7 ≤ n) := by
  obtain ⟨p, A, B, hM, hC, h⟩ := dm_konig (dm_ec E + 1) E (by omega)
  exact ⟨dm_sz p, ⟨p, hM, rfl⟩, ⟨A, B, hC, h⟩⟩
noncomputable def dm_nu (E : Nat → Nat → Bool) : Nat := (dm_nu_ex E).choose
theorem dm_nu_mat (E : Nat → Nat → Bool) : ∃ p, dm_Mat E p ∧ dm_sz p = dm_nu E := (dm_nu_ex E).choose_spec.1
theorem dm_nu_cov (E : Nat → Nat → Bool) : ∃ A B, dm_Cov E A B ∧ dm_cnt A 7 + dm_cnt B 7 ≤ dm_nu E := (dm_nu_ex E).choose_spec.2
theorem dm_nu_ge {E : Nat → Nat → Bool} {p : Nat → Nat} (h : dm_Mat E p) : dm_sz p ≤ dm_nu E := by
  obtain ⟨A, B, hC, hs⟩ := dm_nu_cov E
  exact Nat.le_trans (dm_weak h hC) hs
theorem dm_nu_le {E : Nat → Nat → Bool} {A B : Nat → Bool} (h : dm_Cov E A B) : dm_nu E ≤ dm_cnt A 7 + dm_cnt B 7 := by
  obtain ⟨p, hM, hs⟩ := dm_nu_mat E
  rw [← hs]
  exact dm_weak hM h
theorem dm_nu_mono {E E' : Nat → Nat → Bool} (h : ∀ r c, r < 7 → c < 7 → E r c = true → E' r c = true) : dm_nu E ≤ dm_nu E' := by
  obtain ⟨p, hM, hs⟩ := dm_nu_mat E
  rw [← hs]
  exact dm_nu_ge (dm_Mat_mono h hM)
theorem dm_nu_congr {E E' : Nat → Nat → Bool} (h : ∀ r c, r < 7 → c < 7 → E r c = E' r c) : dm_nu E = dm_nu E' :=
  Nat.le_antisymm (dm_nu_mono (fun r c hr hc z => by rw [← h r c hr hc]; exact z)) (dm_nu_mono (fun r c hr hc z => by rw [h r c hr hc]; exact z))
theorem dm_nu_7 (E : Nat → Nat → Bool) : dm_nu E ≤ 7 := by
  obtain ⟨p, hM, hs⟩ := dm_nu_mat E
  rw [← hs]
  exact dm_cnt_le _ 7
/-- the graph seen from the columns -/
def dm_tr (E : Nat → Nat → Bool) (c r : Nat) : Bool := E r c
theorem dm_nu_tr (E : Nat → Nat → Bool) : dm_nu (dm_tr E) = dm_nu E := by
  apply Nat.le_antisymm
  · obtain ⟨A, B, hC, hs⟩ := dm_nu_cov E
    have h : dm_nu (dm_tr E) ≤ dm_cnt B 7 + dm_cnt A 7 := dm_nu_le (fun c r hc hr h => (hC r c hr hc h).symm)
    omega
  · obtain ⟨A, B, hC, hs⟩ := dm_nu_cov (dm_tr E)
    have h : dm_nu E ≤ dm_cnt B 7 + dm_cnt A 7 := dm_nu_le (fun r c hr hc h => (hC c r hc hr h).symm)
    omega
end
section
/-! what alternating paths lead to, by closed sets and smallest covers -/
def dm_Sys (E : Nat → Nat → Bool) (p q : Nat → Nat) : Prop := (∀ r c, r < 7 → c < 7 → (p r = c ↔ q c = r)) ∧ (∀ r, r < 7 → p r < 7 → E r (p r) = true)
def dm_N (E : Nat → Nat → Bool) (Z : Nat → Bool) (c : Nat) : Bool := dm_ex (fun r => Z r && E r c) 7
def dm_Clos (E : Nat → Nat → Bool) (p q : Nat → Nat) (R : Nat → Bool) : Prop := (∀ r, r < 7 → 7 ≤ p r → R r = true) ∧ (∀ r c, r < 7 → c < 7 → R r = true → E r c = true → q c < 7 → R (q c) = true)
def dm_Least (E : Nat → Nat → Bool) (p q : Nat → Nat) (R : Nat → Bool) : Prop := ∀ S : Nat → Prop, (∀ r, r < 7 → 7 ≤ p r → S r) → (∀ r c, r < 7 → c < 7 → S r → E r c = true → q c < 7 → S (q c)) → ∀ r, r < 7 → R r = true → S r
def dm_Max (E : Nat → Nat → Bool) (q : Nat → Nat) (R : Nat → Bool) : Prop := ∀ r c, r < 7 → c < 7 → R r = true → E r c = true → q c < 7
def dm_Tc (E : Nat → Nat → Bool) (q : Nat → Nat) (T : Nat → Nat → Bool) : Prop :=
  (∀ r c, r < 7 → c < 7 → E r c = true → q c < 7 → T r (q c) = true) ∧ (∀ a b c, a < 7 → b < 7 → c < 7 → T a b = true → T b c = true → T a c = true) ∧
  (∀ S : Nat → Prop, (∀ r c, r < 7 → c < 7 → S r → E r c = true → q c < 7 → S (q c)) → ∀ a b, a < 7 → b < 7 → T a b = true → S a → S b)
theorem dm_N_iff {E : Nat → Nat → Bool} {Z : Nat → Bool} {c : Nat} : dm_N E Z c = true ↔ ∃ r, r < 7 ∧ Z r = true ∧ E r c = true := by
  unfold dm_N
  rw [dm_ex_iff]
  simp only [Bool.and_eq_true]
theorem dm_Sys_mat {E : Nat → Nat → Bool} {p q : Nat → Nat} (hS : dm_Sys E p q) : dm_Mat E p := by
  refine ⟨hS.2, fun r s hr hs hp e => ?_⟩
  have h1 := (hS.1 r (p r) hr hp).mp rfl
  have h2 := (hS.1 s (p r) hs hp).mp e.symm
  omega
theorem dm_Sys_tr {E : Nat → Nat → Bool} {p q : Nat → Nat} (hS : dm_Sys E p q) : dm_Sys (dm_tr E) q p := by
  refine ⟨fun c r hc hr => (hS.1 r c hr hc).symm, fun c hc hq => ?_⟩
  have h1 := (hS.1 (q c) c hq hc).mpr rfl
  have h2 := hS.2 (q c) hq (by omega)
  rw [h1] at h2
  exact h2
theorem dm_sz_tr {E : Nat → Nat → Bool} {p q : Nat → Nat} (hS : dm_Sys E p q) : dm_sz q = dm_sz p := by
  have key : ∀ {E : Nat → Nat → Bool} {p q : Nat → Nat}, dm_Sys E p q → dm_sz p ≤ dm_sz q := by
    intro E p q hS
    refine dm_inj (f := p) 7 _ ?_ ?_
    · intro r hr h
      simp only [decide_eq_true_eq] at h
      have h1 := (hS.1 r (p r) hr h).mp rfl
      exact ⟨h, by simp only [decide_eq_true_eq]; omega⟩
    · intro r s hr hs h _ e
      simp only [decide_eq_true_eq] at h
      exact (dm_Sys_mat hS).2 r s hr hs h e
  exact Nat.le_antisymm (key (dm_Sys_tr hS)) (key hS)
theorem dm_zcov {E : Nat → Nat → Bool} {p q : Nat → Nat} (hS : dm_Sys E p q) {Z : Nat → Bool} (hf : ∀ r, r < 7 → 7 ≤ p r → Z r = true)
    (hc : ∀ r c, r < 7 → c < 7 → Z r = true → E r c = true → q c < 7 ∧ Z (q c) = true) :
    dm_Cov E (fun r => !Z r) (dm_N E Z) ∧ dm_cnt (fun r => !Z r) 7 + dm_cnt (dm_N E Z) 7 ≤ dm_sz p := by
  constructor
  · intro r c hr hc' h
    by_cases z : Z r = true
    · exact Or.inr (dm_N_iff.mpr ⟨r, hr, z, h⟩)
    · left; simp [dm_nt z]
  · have s0 := dm_cnt_split (fun r => decide (p r < 7)) Z 7
    have s1 : dm_cnt (fun r => !Z r) 7 ≤ dm_cnt (fun r => decide (p r < 7) && !Z r) 7 := by
      refine dm_cnt_mono (fun r hr h => ?_)
      simp only [Bool.not_eq_true'] at h
      have hp : p r < 7 := by
        rcases Nat.lt_or_ge (p r) 7 with z | z
        · exact z
        · exact (dm_tf (hf r hr z) h).elim
      simp [hp, h]
    have s2 : dm_cnt (dm_N E Z) 7 ≤ dm_cnt (fun r => decide (p r < 7) && Z r) 7 := by
      refine dm_inj (f := q) 7 _ ?_ ?_
      · intro c hc' h
        obtain ⟨r, hr, hz, he⟩ := dm_N_iff.mp h
        have h1 := hc r c hr hc' hz he
        have h2 := (hS.1 (q c) c h1.1 hc').mpr rfl
        refine ⟨h1.1, ?_⟩
        simp only [Bool.and_eq_true, decide_eq_true_eq]
        exact ⟨by omega, h1.2⟩
      · intro c d hc' hd h _ e
        obtain ⟨r, hr, hz, he⟩ := dm_N_iff.mp h
        have h1 := hc r c hr hc' hz he
        have h2 := (hS.1 (q c) c h1.1 hc').mpr rfl
        have h3 := (hS.1 (q c) d h1.1 hd).mpr e.symm
        omega
    unfold dm_sz
    omega
theorem dm_slc {E : Nat → Nat → Bool} {p q : Nat → Nat} (hS : dm_Sys E p q) {A B : Nat → Bool} (hC : dm_Cov E A B) (hs : dm_cnt A 7 + dm_cnt B 7 ≤ dm_sz p) :
    ∀ c, c < 7 → B c = true → q c < 7 ∧ A (q c) = false := by
  intro c hc hb
  by_cases h : q c < 7 ∧ A (q c) = false
  · exact h
  exfalso
  have s0 := dm_cnt_split (fun r => decide (p r < 7)) A 7
  have s1 : dm_cnt (fun r => decide (p r < 7) && A r) 7 ≤ dm_cnt A 7 := dm_cnt_mono (fun i _ h => (Bool.and_eq_true _ _ ▸ h).2)
  have s2 : dm_cnt (fun r => decide (p r < 7) && !A r) 7 ≤ dm_cnt (fun d => B d && !decide (d = c)) 7 := by
    refine dm_inj (f := p) 7 _ ?_ ?_
    · intro r hr h1
      simp only [Bool.and_eq_true, decide_eq_true_eq, Bool.not_eq_true'] at h1
      have hne : ¬ p r = c := fun e => by
        have h2 := (hS.1 r c hr hc).mp e
        rw [h2] at h
        exact h ⟨hr, h1.2⟩
      refine ⟨h1.1, ?_⟩
      rcases hC r (p r) hr h1.1 (hS.2 r hr h1.1) with z | z
      · exact (dm_tf z h1.2).elim
      · simp [z, hne]
    · intro r s hr hs' h1 _ e
      simp only [Bool.and_eq_true, decide_eq_true_eq, Bool.not_eq_true'] at h1
      exact (dm_Sys_mat hS).2 r s hr hs' h1.1 e
  have s3 := dm_cnt_rm hb hc
  unfold dm_sz at hs
  omega
theorem dm_slr {E : Nat → Nat → Bool} {p q : Nat → Nat} (hS : dm_Sys E p q) {A B : Nat → Bool} (hC : dm_Cov E A B) (hs : dm_cnt A 7 + dm_cnt B 7 ≤ dm_sz p) :
    ∀ r, r < 7 → A r = true → p r < 7 ∧ B (p r) = false := by
  have hC' : dm_Cov (dm_tr E) B A := fun c r hc hr h => (hC r c hr hc h).symm
  have hz := dm_sz_tr hS
  exact dm_slc (dm_Sys_tr hS) hC' (by omega)
/-- no smallest cover holds a row that free rows lead to -/
theorem dm_loA {E : Nat → Nat → Bool} {p q : Nat → Nat} (hS : dm_Sys E p q) {A B R : Nat → Bool} (hC : dm_Cov E A B) (hs : dm_cnt A 7 + dm_cnt B 7 ≤ dm_sz p)
    (hR : dm_Least E p q R) : ∀ r, r < 7 → R r = true → A r = false := by
  refine hR (fun r => A r = false) ?_ ?_
  · intro r hr hp
    apply dm_nt
    intro h
    have := (dm_slr hS hC hs r hr h).1
    omega
  · intro r c hr hc h he _
    rcases hC r c hr hc he with z | z
    · exact (dm_tf z h).elim
    · exact (dm_slc hS hC hs c hc z).2
theorem dm_TA {E : Nat → Nat → Bool} {p q : Nat → Nat} (hS : dm_Sys E p q) {A B : Nat → Bool} {T : Nat → Nat → Bool} (hC : dm_Cov E A B) (hs : dm_cnt A 7 + dm_cnt B 7 ≤ dm_sz p)
    (hT : dm_Tc E q T) : ∀ a b, a < 7 → b < 7 → T a b = true → A a = false → A b = false := by
  refine hT.2.2 (fun r => A r = false) ?_
  intro r c hr hc h he _
  rcases hC r c hr hc he with z | z
  · exact (dm_tf z h).elim
  · exact (dm_slc hS hC hs c hc z).2
theorem dm_Rcov {E : Nat → Nat → Bool} {p q : Nat → Nat} (hS : dm_Sys E p q) {R : Nat → Bool} (hR : dm_Clos E p q R) (hm : dm_Max E q R) :
    dm_Cov E (fun r => !R r) (dm_N E R) ∧ dm_cnt (fun r => !R r) 7 + dm_cnt (dm_N E R) 7 ≤ dm_sz p :=
  dm_zcov hS hR.1 (fun r c hr hc h he => ⟨hm r c hr hc h he, hR.2 r c hr hc h he (hm r c hr hc h he)⟩)
theorem dm_nu_sz {E : Nat → Nat → Bool} {p q : Nat → Nat} (hS : dm_Sys E p q) {R : Nat → Bool} (hR : dm_Clos E p q R) (hm : dm_Max E q R) : dm_nu E = dm_sz p := by
  have h := dm_Rcov hS hR hm
  exact Nat.le_antisymm (Nat.le_trans (dm_nu_le h.1) h.2) (dm_nu_ge (dm_Sys_mat hS))
theorem dm_Rcov_eq {E : Nat → Nat → Bool} {p q : Nat → Nat} (hS : dm_Sys E p q) {R : Nat → Bool} (hR : dm_Clos E p q R) (hm : dm_Max E q R) :
    dm_cnt (fun r => !R r) 7 + dm_cnt (dm_N E R) 7 = dm_nu E := by
  have h := dm_Rcov hS hR hm
  have h2 := dm_nu_sz hS hR hm
  have h3 := dm_nu_le h.1
  omega
/-- the graph without a row, a column, an edge -/
def dm_wo (E : Nat → Nat → Bool) (x y r0 c0 r c : Nat) : Bool := E r c && !decide (r = x) && !decide (c = y) && !(decide (r = r0) && decide (c = c0))
theorem dm_wo_sub {E : Nat → Nat → Bool} {x y r0 c0 r c : Nat} (h : dm_wo E x y r0 c0 r c = true) : E r c = true ∧ r ≠ x ∧ c ≠ y ∧ ¬ (r = r0 ∧ c = c0) := by
  simp only [dm_wo, Bool.and_eq_true, Bool.not_eq_true', decide_eq_false_iff_not] at h
  refine ⟨h.1.1.1, h.1.1.2, h.1.2, fun z => ?_⟩
  have := h.2
  simp [z.1, z.2] at this
theorem dm_wo_of {E : Nat → Nat → Bool} {x y r0 c0 r c : Nat} (h : E r c = true) (h1 : r ≠ x) (h2 : c ≠ y) (h3 : ¬ (r = r0 ∧ c = c0)) : dm_wo E x y r0 c0 r c = true := by
  unfold dm_wo
  by_cases e1 : r = r0
  · by_cases e2 : c = c0
    · exact absurd ⟨e1, e2⟩ h3
    · simp [h, h1, h2, e2]
  · simp [h, h1, h2, e1]
theorem dm_wo_le (E : Nat → Nat → Bool) (x y r0 c0 : Nat) : dm_nu (dm_wo E x y r0 c0) ≤ dm_nu E := dm_nu_mono (fun _ _ _ _ h => (dm_wo_sub h).1)
noncomputable def dm_LR (E : Nat → Nat → Bool) (r : Nat) : Bool := dm_nu (dm_wo E r 7 7 7) == dm_nu E
noncomputable def dm_LC (E : Nat → Nat → Bool) (c : Nat) : Bool := dm_nu (dm_wo E 7 c 7 7) == dm_nu E
noncomputable def dm_US (E : Nat → Nat → Bool) (r c : Nat) : Bool := E r c && (dm_nu (dm_wo E r c 7 7) + 1 == dm_nu E)
noncomputable def dm_FO (E : Nat → Nat → Bool) (r c : Nat) : Bool := E r c && decide (dm_nu (dm_wo E 7 7 r c) < dm_nu E)
theorem dm_loose {E : Nat → Nat → Bool} {p q : Nat → Nat} (hS : dm_Sys E p q) {R : Nat → Bool} (hR : dm_Clos E p q R) (hL : dm_Least E p q R) (hm : dm_Max E q R) :
    ∀ r, r < 7 → R r = dm_LR E r := by
  intro r0 h0
  have hn := dm_nu_sz hS hR hm
  have hle := dm_wo_le E r0 7 7 7
  by_cases h : R r0 = true
  · rw [h]
    symm
    simp only [dm_LR, beq_iff_eq]
    apply Nat.le_antisymm hle
    apply Nat.le_of_not_lt
    intro hlt
    obtain ⟨A, B, hC, hs⟩ := dm_nu_cov (dm_wo E r0 7 7 7)
    have hC' : dm_Cov E (fun r => A r || decide (r = r0)) B := by
      intro r c hr hc he
      by_cases e : r = r0
      · left; simp [e]
      · rcases hC r c hr hc (dm_wo_of he e (by omega) (by omega)) with z | z
        · left; simp [z]
        · exact Or.inr z
    have h1 := dm_cnt_add_le A r0 7
    have h2 := dm_loA hS hC' (by omega) hL r0 h0 h
    simp at h2
  · rw [dm_nt h]
    symm
    simp only [dm_LR, beq_eq_false_iff_ne]
    have hK := dm_Rcov hS hR hm
    have hC : dm_Cov (dm_wo E r0 7 7 7) (fun r => (!R r) && !decide (r = r0)) (dm_N E R) := by
      intro r c hr hc he
      obtain ⟨he, h1, _⟩ := dm_wo_sub he
      rcases hK.1 r c hr hc he with z | z
      · left; simp only [z, h1, decide_false, Bool.not_false, Bool.and_self]
      · exact Or.inr z
    have h1 := dm_nu_le hC
    have h2 := dm_cnt_rm (f := fun r => !R r) (k := r0) (by simp [dm_nt h]) h0
    have h3 := hK.2
    omega
theorem dm_maxT {E : Nat → Nat → Bool} {p q : Nat → Nat} (hS : dm_Sys E p q) {R C : Nat → Bool} (hR : dm_Clos E p q R) (hm : dm_Max E q R)
    (hL : dm_Least (dm_tr E) q p C) : dm_Max (dm_tr E) p C := by
  intro c r hc hr h he
  have hK := dm_Rcov hS hR hm
  have hz := dm_sz_tr hS
  have hC' : dm_Cov (dm_tr E) (dm_N E R) (fun r => !R r) := fun c r hc hr h => (hK.1 r c hr hc h).symm
  have h1 := dm_loA (dm_Sys_tr hS) hC' (by have := hK.2; omega) hL c hc h
  rcases hK.1 r c hr hc he with z | z
  · exact (dm_slr hS hK.1 hK.2 r hr z).1
  · exact (dm_tf z h1).elim
theorem dm_looseC {E : Nat → Nat → Bool} {p q : Nat → Nat} (hS : dm_Sys E p q) {R C : Nat → Bool} (hR : dm_Clos E p q R) (hm : dm_Max E q R)
    (hC : dm_Clos (dm_tr E) q p C) (hL : dm_Least (dm_tr E) q p C) : ∀ c, c < 7 → C c = dm_LC E c := by
  intro c hc
  have h := dm_loose (dm_Sys_tr hS) hC hL (dm_maxT hS hR hm hL) c hc
  rw [h]
  unfold dm_LR dm_LC
  rw [dm_nu_tr E, ← dm_nu_tr (dm_wo E 7 c 7 7)]
  congr 1
  apply dm_nu_congr
  intro c' r hc' hr
  unfold dm_wo dm_tr
  have e1 : ¬ r = 7 := by omega
  have e2 : ¬ c' = 7 := by omega
  simp only [e1, e2, decide_false, Bool.not_false, Bool.and_true, Bool.false_and]
end
section
/-! usable and forced edges -/
theorem dm_ext {E : Nat → Nat → Bool} {r0 c0 : Nat} (hr0 : r0 < 7) (hc0 : c0 < 7) (he : E r0 c0 = true) : dm_nu (dm_wo E r0 c0 7 7) + 1 ≤ dm_nu E := by
  obtain ⟨p, hM, hs⟩ := dm_nu_mat (dm_wo E r0 c0 7 7)
  have hp0 : ¬ p r0 < 7 := fun h => (dm_wo_sub (hM.1 r0 hr0 h)).2.1 rfl
  have hM' : dm_Mat E (fun r => if r = r0 then c0 else p r) := by
    constructor
    · intro r hr hp
      by_cases e : r = r0
      · simp only [e, if_true]; exact he
      · simp only [e, if_false] at hp ⊢
        exact (dm_wo_sub (hM.1 r hr hp)).1
    · intro r s hr hs' hp
      by_cases e : r = r0
      · by_cases e2 : s = r0
        · intro _; omega
        · simp only [e, e2, if_true, if_false]
          intro z
          have h1 := dm_wo_sub (hM.1 s hs' (by omega))
          exact absurd z.symm h1.2.2.1
      · by_cases e2 : s = r0
        · simp only [e, e2, if_true, if_false] at hp ⊢
          intro z
          have h1 := dm_wo_sub (hM.1 r hr hp)
          exact absurd z h1.2.2.1
        · simp only [e, e2, if_false] at hp ⊢
          intro z
          exact hM.2 r s hr hs' hp z
  have h1 := dm_nu_ge hM'
  have h2 : dm_sz (fun r => if r = r0 then c0 else p r) = dm_sz p + 1 := by
    unfold dm_sz
    rw [← dm_cnt_add (f := fun r => decide (p r < 7)) hr0 (by simp only [hp0, decide_false])]
    apply dm_cnt_congr
    intro r _
    by_cases e : r = r0
    · simp [e, hc0]
    · simp [e]
  omega
theorem dm_wo2 (E : Nat → Nat → Bool) (r0 c0 : Nat) {A B : Nat → Bool} (hC : dm_Cov (dm_wo E r0 c0 7 7) A B) : dm_Cov E (fun r => A r || decide (r = r0)) (fun c => B c || decide (c = c0)) := by
  intro r c hr hc he
  by_cases e : r = r0
  · left; simp [e]
  · by_cases e2 : c = c0
    · right; simp [e2]
    · rcases hC r c hr hc (dm_wo_of he e e2 (by omega)) with z | z
      · left; simp [z]
      · right; simp [z]
theorem dm_usable {E : Nat → Nat → Bool} {p q : Nat → Nat} (hS : dm_Sys E p q) {R C : Nat → Bool} {T : Nat → Nat → Bool} (hR : dm_Clos E p q R) (hL : dm_Least E p q R) (hm : dm_Max E q R)
    (hC : dm_Clos (dm_tr E) q p C) (hCL : dm_Least (dm_tr E) q p C) (hT : dm_Tc E q T) {r0 c0 : Nat} (hr0 : r0 < 7) (hc0 : c0 < 7) (he : E r0 c0 = true) :
    (p r0 = c0 ∨ R r0 = true ∨ C c0 = true ∨ (q c0 < 7 ∧ T (q c0) r0 = true)) ↔ dm_nu (dm_wo E r0 c0 7 7) + 1 = dm_nu E := by
  have hn := dm_nu_sz hS hR hm
  have hle := dm_ext hr0 hc0 he
  have hz := dm_sz_tr hS
  constructor
  · intro hU
    apply Nat.le_antisymm hle
    apply Nat.le_of_not_lt
    intro hlt
    obtain ⟨A, B, hK, hs⟩ := dm_nu_cov (dm_wo E r0 c0 7 7)
    have hK' := dm_wo2 E r0 c0 hK
    have h1 := dm_cnt_add_le A r0 7
    have h2 := dm_cnt_add_le B c0 7
    have hs' : dm_cnt (fun r => A r || decide (r = r0)) 7 + dm_cnt (fun c => B c || decide (c = c0)) 7 ≤ dm_sz p := by omega
    have hAr : (fun r => A r || decide (r = r0)) r0 = true := by simp
    have hBc : (fun c => B c || decide (c = c0)) c0 = true := by simp
    rcases hU with h | h | h | h
    · have z := (dm_slr hS hK' hs' r0 hr0 hAr).2
      rw [h] at z
      exact dm_tf hBc z
    · exact dm_tf hAr (dm_loA hS hK' hs' hL r0 hr0 h)
    · have hK'' : dm_Cov (dm_tr E) (fun c => B c || decide (c = c0)) (fun r => A r || decide (r = r0)) := fun c r hc hr h => (hK' r c hr hc h).symm
      exact dm_tf hBc (dm_loA (dm_Sys_tr hS) hK'' (by omega) hCL c0 hc0 h)
    · have z := (dm_slc hS hK' hs' c0 hc0 hBc).2
      exact dm_tf hAr (dm_TA hS hK' hs' hT (q c0) r0 h.1 hr0 h.2 z)
  · intro hnu
    by_cases hU : p r0 = c0 ∨ R r0 = true ∨ C c0 = true ∨ (q c0 < 7 ∧ T (q c0) r0 = true)
    · exact hU
    exfalso
    have u1 : ¬ p r0 = c0 := fun z => hU (Or.inl z)
    have u2 : R r0 = false := dm_nt (fun z => hU (Or.inr (Or.inl z)))
    have u3 : C c0 = false := dm_nt (fun z => hU (Or.inr (Or.inr (Or.inl z))))
    have hq : q c0 < 7 := by
      rcases Nat.lt_or_ge (q c0) 7 with z | z
      · exact z
      · exact (dm_tf (hC.1 c0 hc0 z) u3).elim
    have u4 : T (q c0) r0 = false := dm_nt (fun z => hU (Or.inr (Or.inr (Or.inr ⟨hq, z⟩))))
    have hpq : p (q c0) = c0 := (hS.1 (q c0) c0 hq hc0).mpr rfl
    have hstep : ∀ r c, r < 7 → c < 7 → (p r < 7 ∧ C (p r) = false) → E r c = true → C c = false := by
      intro r c hr hc h he'
      apply dm_nt
      intro z
      exact dm_tf (hC.2 c r hc hr z he' h.1) h.2
    have hTs : ∀ r, r < 7 → (r = q c0 ∨ T (q c0) r = true) → p r < 7 ∧ C (p r) = false := by
      intro r hr h
      have hb : p (q c0) < 7 ∧ C (p (q c0)) = false := by rw [hpq]; exact ⟨hc0, u3⟩
      rcases h with h | h
      · rw [h]; exact hb
      · refine hT.2.2 (fun r => p r < 7 ∧ C (p r) = false) ?_ (q c0) r hq hr h hb
        intro r c hr hc h' he' hqc
        have e : p (q c) = c := (hS.1 (q c) c hqc hc).mpr rfl
        rw [e]
        exact ⟨hc, hstep r c hr hc h' he'⟩
    have hK := dm_zcov hS (Z := fun r => R r || (decide (r = q c0) || T (q c0) r)) (fun r hr h => by simp [hR.1 r hr h]) (by
      intro r c hr hc h he'
      simp only [Bool.or_eq_true, decide_eq_true_eq] at h ⊢
      rcases h with h | h
      · have z := hm r c hr hc h he'
        exact ⟨z, Or.inl (hR.2 r c hr hc h he' z)⟩
      · have z1 := hTs r hr h
        have z2 := hstep r c hr hc z1 he'
        have z3 : q c < 7 := by
          rcases Nat.lt_or_ge (q c) 7 with z | z
          · exact z
          · exact (dm_tf (hC.1 c hc z) z2).elim
        refine ⟨z3, Or.inr (Or.inr ?_)⟩
        have z4 := hT.1 r c hr hc he' z3
        rcases h with h | h
        · rw [← h]; exact z4
        · exact hT.2.1 (q c0) r (q c) hq hr z3 h z4)
    have hA : (fun r => !(R r || (decide (r = q c0) || T (q c0) r))) r0 = true := by
      have : ¬ r0 = q c0 := fun z => u1 ((hS.1 r0 c0 hr0 hc0).mpr z.symm)
      simp [u2, u4, this]
    have hB : dm_N E (fun r => R r || (decide (r = q c0) || T (q c0) r)) c0 = true := by
      refine dm_N_iff.mpr ⟨q c0, hq, by simp, ?_⟩
      have z := hS.2 (q c0) hq (by omega)
      rw [hpq] at z
      exact z
    have k1 := dm_cnt_rm (f := fun r => !(R r || (decide (r = q c0) || T (q c0) r))) hA hr0
    have k2 := dm_cnt_rm hB hc0
    have hC2 : dm_Cov (dm_wo E r0 c0 7 7) (fun r => (!(R r || (decide (r = q c0) || T (q c0) r))) && !decide (r = r0)) (fun c => dm_N E (fun r => R r || (decide (r = q c0) || T (q c0) r)) c && !decide (c = c0)) := by
      intro r c hr hc h
      obtain ⟨h1, h2, h3, _⟩ := dm_wo_sub h
      rcases hK.1 r c hr hc h1 with z | z
      · left
        simp only [h2, decide_false, Bool.not_false, Bool.and_true]
        exact z
      · right
        simp only [h3, decide_false, Bool.not_false, Bool.and_true]
        exact z
    have k3 := dm_nu_le hC2
    have k4 := hK.2
    omega
theorem dm_forced {E : Nat → Nat → Bool} {p q : Nat → Nat} (hS : dm_Sys E p q) (hn : dm_sz p = dm_nu E) {r0 c0 : Nat} (hr0 : r0 < 7) (hc0 : c0 < 7) :
    dm_FO E r0 c0 = true ↔ (p r0 = c0 ∧ dm_LR E r0 = false ∧ dm_LC E c0 = false ∧ ∀ c, c < 7 → c ≠ c0 → dm_US E r0 c = false) := by
  constructor
  · intro h
    simp only [dm_FO, Bool.and_eq_true, decide_eq_true_eq] at h
    obtain ⟨he, hlt⟩ := h
    refine ⟨?_, ?_, ?_, ?_⟩
    · by_cases e : p r0 = c0
      · exact e
      · exfalso
        have hM : dm_Mat (dm_wo E 7 7 r0 c0) p := by
          refine ⟨fun r hr hp => dm_wo_of (hS.2 r hr hp) (by omega) (by omega) ?_, (dm_Sys_mat hS).2⟩
          intro z
          exact e (by rw [← z.1]; exact z.2)
        have := dm_nu_ge hM
        omega
    · apply dm_nt
      intro z
      simp only [dm_LR, beq_iff_eq] at z
      have : dm_nu (dm_wo E r0 7 7 7) ≤ dm_nu (dm_wo E 7 7 r0 c0) := dm_nu_mono (fun r c hr hc h => by
        obtain ⟨h1, h2, _⟩ := dm_wo_sub h
        exact dm_wo_of h1 (by omega) (by omega) (fun w => h2 w.1))
      omega
    · apply dm_nt
      intro z
      simp only [dm_LC, beq_iff_eq] at z
      have : dm_nu (dm_wo E 7 c0 7 7) ≤ dm_nu (dm_wo E 7 7 r0 c0) := dm_nu_mono (fun r c hr hc h => by
        obtain ⟨h1, _, h2, _⟩ := dm_wo_sub h
        exact dm_wo_of h1 (by omega) (by omega) (fun w => h2 w.2))
      omega
    · intro c hc hne
      apply dm_nt
      intro z
      simp only [dm_US, Bool.and_eq_true, beq_iff_eq] at z
      have h1 : dm_wo E 7 7 r0 c0 r0 c = true := dm_wo_of z.1 (by omega) (by omega) (fun w => hne w.2)
      have h2 := dm_ext hr0 hc h1
      have h3 : dm_nu (dm_wo E r0 c 7 7) ≤ dm_nu (dm_wo (dm_wo E 7 7 r0 c0) r0 c 7 7) := dm_nu_mono (fun r c' hr hc' h => by
        obtain ⟨g1, g2, g3, _⟩ := dm_wo_sub h
        exact dm_wo_of (dm_wo_of g1 (by omega) (by omega) (fun w => g2 w.1)) g2 g3 (by omega))
      omega
  · rintro ⟨h1, h2, h3, h4⟩
    have he : E r0 c0 = true := by
      have := hS.2 r0 hr0 (by omega)
      rw [h1] at this
      exact this
    simp only [dm_FO, Bool.and_eq_true, decide_eq_true_eq]
    refine ⟨he, ?_⟩
    apply Nat.lt_of_not_le
    intro hge
    obtain ⟨p', hM, hs⟩ := dm_nu_mat (dm_wo E 7 7 r0 c0)
    by_cases hp : p' r0 < 7
    · have g1 := dm_wo_sub (hM.1 r0 hr0 hp)
      have g2 : p' r0 ≠ c0 := fun z => g1.2.2.2 ⟨rfl, z⟩
      have g3 := h4 (p' r0) hp g2
      have hM2 : dm_Mat (dm_wo E r0 (p' r0) 7 7) (fun r => if r = r0 then 7 else p' r) := by
        constructor
        · intro r hr hp'
          by_cases e : r = r0
          · simp only [e, if_true] at hp'; omega
          · simp only [e, if_false] at hp' ⊢
            refine dm_wo_of (dm_wo_sub (hM.1 r hr hp')).1 e (fun z => ?_) (by omega)
            exact e (hM.2 r r0 hr hr0 hp' z)
        · intro r s hr hs' hp'
          by_cases e : r = r0
          · simp only [e, if_true] at hp'; omega
          · by_cases e2 : s = r0
            · simp only [e, e2, if_true, if_false] at hp' ⊢
              intro z; omega
            · simp only [e, e2, if_false] at hp' ⊢
              exact hM.2 r s hr hs' hp'
      have k1 := dm_nu_ge hM2
      have k2 : dm_sz p' = dm_sz (fun r => if r = r0 then 7 else p' r) + 1 := by
        unfold dm_sz
        rw [dm_cnt_rm (f := fun r => decide (p' r < 7)) (k := r0) (by simp [hp]) hr0]
        congr 1
        apply dm_cnt_congr
        intro r _
        by_cases e : r = r0
        · simp [e]
        · simp [e]
      have k3 := dm_ext hr0 hp g1.1
      simp only [dm_US, g1.1, Bool.true_and, beq_eq_false_iff_ne] at g3
      omega
    · have hM2 : dm_Mat (dm_wo E r0 7 7 7) p' := by
        refine ⟨fun r hr hp' => ?_, hM.2⟩
        refine dm_wo_of (dm_wo_sub (hM.1 r hr hp')).1 (fun z => hp (by rw [← z]; exact hp')) (by omega) (by omega)
      have k1 := dm_nu_ge hM2
      have k2 := dm_wo_le E r0 7 7 7
      simp only [dm_LR, beq_eq_false_iff_ne] at h2
      omega
end
section
/-! sets as masks of seven bits -/
def dm_mN (f : Nat → Bool) : Nat → Nat
  | 0 => 0
  | n + 1 => dm_mN f n ||| (if f n = true then 2 ^ n else 0)
def dm_mk (f : Nat → Bool) : Int32 := nI (dm_mN f 7)
theorem dm_mN_tb (f : Nat → Bool) (n i : Nat) : (dm_mN f n).testBit i = (decide (i < n) && f i) := by
  induction n with
  | zero => simp [dm_mN]
  | succ n ih =>
    rw [dm_mN, Nat.testBit_or, ih]
    by_cases e : i = n
    · rw [e]
      by_cases h : f n = true
      · rw [if_pos h, Nat.testBit_two_pow]; simp [h]
      · rw [if_neg h, Nat.zero_testBit]; simp [dm_nt h]
    · have e1 : decide (i < n + 1) = decide (i < n) := decide_eq_decide.mpr (by omega)
      have e2 : ¬ n = i := fun z => e z.symm
      rw [e1]
      by_cases h : f n = true
      · rw [if_pos h, Nat.testBit_two_pow]; simp [e2]
      · rw [if_neg h, Nat.zero_testBit]; simp
theorem dm_mN_lt (f : Nat → Bool) (n : Nat) : dm_mN f n < 2 ^ n := by
  induction n with
  | zero => exact Nat.one_pos
  | succ n ih =>
    have h : 2 ^ n < 2 ^ (n + 1) := Nat.pow_lt_pow_right (by omega) (by omega)
    rw [dm_mN]
    refine Nat.or_lt_two_pow (by omega) ?_
    split
    · exact h
    · omega
theorem dm_bn {k i : Nat} (hi : i < 32) : bt (nI k) i = k.testBit i := by
  show (BitVec.ofNat 32 k).getLsbD i = _
  rw [BitVec.getLsbD_ofNat]
  simp [hi]
theorem dm_bt (f : Nat → Bool) {i : Nat} (hi : i < 32) : bt (dm_mk f) i = (decide (i < 7) && f i) := by
  unfold dm_mk
  rw [dm_bn hi, dm_mN_tb]
theorem dm_eqm {x : Int32} {f : Nat → Bool} (h : ∀ i, i < 32 → bt x i = (decide (i < 7) && f i)) : x = dm_mk f := b_ext (fun i hi => by rw [h i hi, dm_bt f hi])
theorem dm_mkx {f g : Nat → Bool} (h : ∀ i, i < 7 → f i = g i) : dm_mk f = dm_mk g := by
  apply dm_eqm
  intro i hi
  rw [dm_bt f hi]
  by_cases e : i < 7
  · rw [h i e]
  · simp [e]
theorem dm_mki {f g : Nat → Bool} (h : dm_mk f = dm_mk g) : ∀ i, i < 7 → f i = g i := by
  intro i hi
  have h1 := dm_bt f (i := i) (by omega)
  rw [h, dm_bt g (by omega)] at h1
  simp only [hi, decide_true, Bool.true_and] at h1
  exact h1.symm
theorem dm_or (f g : Nat → Bool) : dm_mk f ||| dm_mk g = dm_mk (fun i => f i || g i) := by
  apply dm_eqm
  intro i hi
  rw [b_or, dm_bt f hi, dm_bt g hi]
  cases decide (i < 7) <;> simp
theorem dm_and (f g : Nat → Bool) : dm_mk f &&& dm_mk g = dm_mk (fun i => f i && g i) := by
  apply dm_eqm
  intro i hi
  rw [b_and, dm_bt f hi, dm_bt g hi]
  cases decide (i < 7) <;> simp
theorem dm_0 : (0 : Int32) = dm_mk (fun _ => false) := by decide +kernel
theorem dm_one : ∀ c, c < 7 → (1 : Int32) <<< (nI c &&& 31) = dm_mk (fun i => decide (i = c)) := by decide +kernel
theorem dm_oneN : ∀ c, c < 7 → (1 : Int32) <<< (nI c &&& 31) = nI (2 ^ c) := by decide +kernel
theorem dm_b1 : ∀ i, i < 32 → bt 1 i = decide (i = 0) := by decide +kernel
theorem dm_mk0 {f : Nat → Bool} : dm_mk f = 0 ↔ ∀ i, i < 7 → f i = false := by
  rw [dm_0]
  exact ⟨fun h => dm_mki h, fun h => dm_mkx h⟩
theorem dm_sb (x : Int32) {i : Nat} (hi : i < 32) : (x >>> (nI i &&& 31)) &&& 1 = if bt x i = true then 1 else 0 := by
  by_cases h : bt x i = true
  · rw [if_pos h]
    apply b_ext
    intro j hj
    rw [b_and, b_sshr i hi x hj, dm_b1 j hj]
    by_cases e : j = 0
    · rw [e]; simp [h, hi]
    · simp [e]
  · have h := dm_nt h
    rw [if_neg (by rw [h]; exact Bool.false_ne_true)]
    apply b_ext
    intro j hj
    rw [b_and, b_sshr i hi x hj, dm_b1 j hj, b_0]
    by_cases e : j = 0
    · rw [e]; simp [h, hi]
    · simp [e]
theorem dm_bit (f : Nat → Bool) {i : Nat} (hi : i < 7) : (dm_mk f >>> (nI i &&& 31)) &&& 1 = if f i = true then 1 else 0 := by
  rw [dm_sb _ (by omega), dm_bt f (by omega)]
  simp [hi]
/-- the branch on one bit -/
theorem dm_br {x : Int32} {f : Nat → Bool} {i : Nat} {A B : Prop} (hx : x = dm_mk f) (hi : i < 7) (a : f i = false → A) (b : f i = true → B) :
    ((((x >>> (nI i &&& 31)) &&& 1) = 0 → A) ∧ (¬ ((x >>> (nI i &&& 31)) &&& 1) = 0 → B)) := by
  rw [hx, dm_bit f hi]
  by_cases h : f i = true
  · rw [if_pos h]; exact br_f (by decide) (b h)
  · rw [if_neg h]; exact br_t rfl (a (dm_nt h))
theorem dm_clr (f : Nat → Bool) : ∀ c, c < 32 → dm_mk f &&& (((1 : Int32) <<< (nI c &&& 31)) ^^^ (-1)) = dm_mk (fun i => f i && !decide (i = c)) := by
  intro c hc
  apply dm_eqm
  intro i hi
  rw [b_and, b_xor, b_shl c hc _ hi, b_m1 i hi, dm_bt f hi, dm_b1 (i - c) (by omega)]
  have e : (decide (c ≤ i) && decide (i - c = 0)) = decide (i = c) := by
    by_cases z : i = c
    · simp [z]
    · by_cases z2 : c ≤ i
      · have : ¬ i - c = 0 := by omega
        simp [z, this]
      · simp [z, z2]
  rw [e]
  cases decide (i < 7) <;> cases f i <;> cases decide (i = c) <;> rfl
theorem dm_not (f g : Nat → Bool) : dm_mk f &&& (dm_mk g ^^^ (-1)) = dm_mk (fun i => f i && !g i) := by
  apply dm_eqm
  intro i hi
  rw [b_and, b_xor, b_m1 i hi, dm_bt f hi, dm_bt g hi]
  cases decide (i < 7) <;> cases f i <;> cases g i <;> rfl
theorem dm_seen (f g : Nat → Bool) {c : Nat} (hc : c < 7) : ((dm_mk f &&& (dm_mk g ^^^ (-1))) &&& ((1 : Int32) <<< (nI c &&& 31))) = 0 ↔ ¬ (f c = true ∧ g c = false) := by
  rw [dm_not, dm_one c hc, dm_and, dm_mk0]
  constructor
  · intro h z
    have := h c hc
    simp [z.1, z.2] at this
  · intro h i _
    by_cases e : i = c
    · rw [e]
      by_cases z1 : f c = true
      · by_cases z2 : g c = true
        · simp [z2]
        · exact absurd ⟨z1, dm_nt z2⟩ h
      · simp [dm_nt z1]
    · simp [e]
theorem dm_nat {s : Nat} (h : s < 128) : nI s = dm_mk (fun i => s.testBit i) := by
  apply dm_eqm
  intro i hi
  rw [dm_bn hi]
  by_cases e : i < 7
  · simp [e]
  · have : s.testBit i = false := Nat.testBit_lt_two_pow (Nat.lt_of_lt_of_le h (Nat.pow_le_pow_right (n := 2) (by omega) (show 7 ≤ i by omega)))
    simp [e, this]
theorem dm_nor (a b : Nat) : nI a ||| nI b = nI (a ||| b) := by
  apply Int32.toBitVec_inj.1
  show BitVec.ofNat 32 a ||| BitVec.ofNat 32 b = BitVec.ofNat 32 (a ||| b)
  apply BitVec.eq_of_getLsbD_eq
  intro i hi
  simp [hi]
theorem dm_oix {s c : Nat} (hc : c < 7) : nI s ||| ((1 : Int32) <<< (nI c &&& 31)) = nI (s ||| 2 ^ c) := by
  rw [dm_oneN c hc, dm_nor]
theorem dm_olt {s c : Nat} (hs : s < 128) (hc : c < 7) : s ||| 2 ^ c < 128 :=
  Nat.or_lt_two_pow (n := 7) hs (Nat.pow_lt_pow_right (by omega) hc)
/-! counters -/
theorem dm_7 : (7 : Int32) ≤ nI 7 := by decide
theorem dm_8 : (8 : Int32) ≤ nI 8 := by decide
theorem dm_49 : (49 : Int32) ≤ nI 49 := by decide
theorem dm_128 : (128 : Int32) ≤ nI 128 := by decide
theorem dm_n7 {i : Nat} (h : i < 7) : ¬ (7 : Int32) ≤ nI i := nI_ge (b := 7) h (by decide)
theorem dm_n8 {i : Nat} (h : i < 8) : ¬ (8 : Int32) ≤ nI i := nI_ge (b := 8) h (by decide)
theorem dm_n49 {i : Nat} (h : i < 49) : ¬ (49 : Int32) ≤ nI i := nI_ge (b := 49) h (by decide)
theorem dm_n128 {i : Nat} (h : i < 128) : ¬ (128 : Int32) ≤ nI i := nI_ge (b := 128) h (by decide)
theorem dm_in7 {i : Nat} (h : i < 7) : vp_in (nI i) 7 := vp_in_nI h (by decide)
theorem dm_in128 {i : Nat} (h : i < 128) : vp_in (nI i) 128 := vp_in_nI h (by decide)
theorem dm_c7 {i : Nat} (h : i < 7) : (nI i).toNatClampNeg = i := nI_clamp (by omega)
theorem dm_c128 {i : Nat} (h : i < 128) : (nI i).toNatClampNeg = i := nI_clamp (by omega)
/-! partners: 7 and beyond stand for none -/
def dm_pm (k : Nat) : Int32 := if k < 7 then nI k else -1
theorem dm_pm_lo {k : Nat} (h : k < 7) : dm_pm k = nI k := if_pos h
theorem dm_pm_hi {k : Nat} (h : 7 ≤ k) : dm_pm k = -1 := if_neg (by omega)
theorem dm_pm_7 : dm_pm 7 = -1 := dm_pm_hi (Nat.le_refl 7)
theorem dm_pm_neg {x : Int32} {k : Nat} {A B : Prop} (hx : x = dm_pm k) (a : 7 ≤ k → A) (b : k < 7 → B) : (x < 0 → A) ∧ (¬ x < 0 → B) := by
  rw [hx]
  rcases Nat.lt_or_ge k 7 with h | h
  · rw [dm_pm_lo h]; exact br_f (nI_pos (by omega)) (b h)
  · rw [dm_pm_hi h]; exact br_t (by decide) (a h)
theorem dm_pm_pos {x : Int32} {k : Nat} {A B : Prop} (hx : x = dm_pm k) (a : k < 7 → A) (b : 7 ≤ k → B) : (0 ≤ x → A) ∧ (¬ 0 ≤ x → B) := by
  rw [hx]
  rcases Nat.lt_or_ge k 7 with h | h
  · rw [dm_pm_lo h]; exact br_t (nI_pos' (by omega)) (a h)
  · rw [dm_pm_hi h]; exact br_f (by decide) (b h)
theorem dm_pm_eq {x : Int32} {k c : Nat} {A B : Prop} (hx : x = dm_pm k) (hc : c < 7) (a : k = c → A) (b : k ≠ c → B) : (x = nI c → A) ∧ (¬ x = nI c → B) := by
  rw [hx]
  rcases Nat.lt_or_ge k 7 with h | h
  · rw [dm_pm_lo h, nI_eq (by omega) (by omega)]; exact ⟨a, b⟩
  · rw [dm_pm_hi h]
    have : ¬ (-1 : Int32) = nI c := (by decide +kernel : ∀ c, c < 7 → ¬ (-1 : Int32) = nI c) c hc
    exact br_f this (b (by omega))
theorem dm_nbk : ∀ k, k < 7 → (nI k).toInt8.toInt32 = nI k := by decide +kernel
theorem dm_nb {k : Nat} (h : k < 7) : vp_nar .byte (nI k).toInt8.toInt32 = nI k := by rw [pk_vb, dm_nbk k h]
theorem dm_nb' {k : Nat} (h : k < 7) : vp_nar .byte (nI k) = nI k := by rw [vp_nar_byte, dm_nbk k h]
theorem dm_nbm : vp_nar .byte (-1) = -1 := by rw [vp_nar_byte]; decide
theorem dm_us {f : Nat → Int32} {k : Nat} {x : Int32} : upd f k x k = x := if_pos rfl
theorem dm_un {f : Nat → Int32} {k j : Nat} {x : Int32} (h : j ≠ k) : upd f k x j = f j := if_neg h
end
section
/-! X: the helpers that read sets -/
section
variable {fr rr cr rc cc : Int32} {ae ap ac aq af ar au : Nat → Int32} {E : Nat → Nat → Bool} {p q : Nat → Nat}
def dm_P (q : Nat → Nat) (f : Nat → Bool) (r : Nat) : Bool := dm_ex (fun c => f c && decide (q c = r)) 7
theorem dm_P_iff {q : Nat → Nat} {f : Nat → Bool} {r : Nat} : dm_P q f r = true ↔ ∃ c, c < 7 ∧ f c = true ∧ q c = r := by
  unfold dm_P
  rw [dm_ex_iff]
  simp only [Bool.and_eq_true, decide_eq_true_eq]
theorem dm_w_cn {post : Int32 → Prop} (R : Nat → Bool) (hE : ∀ r, r < 7 → ae r = dm_mk (E r)) (h : post (dm_mk (dm_N E R))) : wpX_columnsNextTo post (fr, rr, cr, rc, cc, ae, ap, ac, aq, af, ar, au) (dm_mk R) := by
  refine loop_0 (fun n i x => wX_columnsNextTo_4 post (dm_mk R) fr rr cr rc cc ae ap ac aq af ar au n x (nI i)) (fun i x => x = dm_mk (fun c => dm_ex (fun r => R r && E r c) i)) 7 0 dm_0 ?_ ?_
  · intro n x hx
    refine br_t dm_7 ?_
    rw [hx]
    exact h
  · intro n i x hi hx K
    refine br_f (dm_n7 hi) (dm_br rfl hi (fun hz => nm_r (nI_1 i) (K x ?_)) (fun hz => ⟨dm_in7 hi, nm_r (e' := dm_mk (fun c => dm_ex (fun r => R r && E r c) (i + 1))) ?_ (nm_r (nI_1 i) (K _ rfl))⟩))
    · rw [hx]
      apply dm_mkx
      intro c _
      simp [dm_ex, hz]
    · rw [dm_c7 hi, hE i hi, hx, dm_or]
      apply dm_mkx
      intro c _
      simp [dm_ex, hz]
theorem dm_w_pc {post : Int32 → Prop} (f : Nat → Bool) (hc : ∀ c, c < 7 → ac c = dm_pm (q c)) (h : post (dm_mk (dm_P q f))) : wpX_partnersOfColumns post (fr, rr, cr, rc, cc, ae, ap, ac, aq, af, ar, au) (dm_mk f) := by
  refine loop_0 (fun n i x => wX_partnersOfColumns_4 post (dm_mk f) fr rr cr rc cc ae ap ac aq af ar au n x (nI i)) (fun i x => x = dm_mk (fun r => dm_ex (fun c => f c && decide (q c = r)) i)) 7 0 dm_0 ?_ ?_
  · intro n x hx
    refine br_t dm_7 ?_
    rw [hx]
    exact h
  · intro n i x hi hx K
    have ei : ac (nI i).toNatClampNeg = dm_pm (q i) := by rw [dm_c7 hi, hc i hi]
    refine br_f (dm_n7 hi) (dm_br rfl hi (fun hz => nm_r (nI_1 i) (K x ?_)) (fun hz => ⟨dm_in7 hi, dm_pm_neg ei (fun hq => nm_r (nI_1 i) (K x ?_)) (fun hq => ⟨dm_in7 hi, nm_r (e' := dm_mk (fun r => dm_ex (fun c => f c && decide (q c = r)) (i + 1))) ?_ (nm_r (nI_1 i) (K _ rfl))⟩)⟩))
    · rw [hx]
      apply dm_mkx
      intro c _
      simp [dm_ex, hz]
    · rw [hx]
      apply dm_mkx
      intro c _
      have : ¬ q i = c := by omega
      simp [dm_ex, this]
    · rw [ei, dm_pm_lo hq, dm_one _ hq, hx, dm_or]
      apply dm_mkx
      intro c _
      simp only [dm_ex, hz, Bool.true_and]
      congr 1
      exact decide_eq_decide.mpr ⟨fun z => z.symm, fun z => z.symm⟩
theorem dm_w_pr {post : Int32 → Prop} (f : Nat → Bool) (hc : ∀ c, c < 7 → ap c = dm_pm (p c)) (h : post (dm_mk (dm_P p f))) : wpX_partnersOfRows post (fr, rr, cr, rc, cc, ae, ap, ac, aq, af, ar, au) (dm_mk f) := by
  refine loop_0 (fun n i x => wX_partnersOfRows_4 post (dm_mk f) fr rr cr rc cc ae ap ac aq af ar au n x (nI i)) (fun i x => x = dm_mk (fun r => dm_ex (fun c => f c && decide (p c = r)) i)) 7 0 dm_0 ?_ ?_
  · intro n x hx
    refine br_t dm_7 ?_
    rw [hx]
    exact h
  · intro n i x hi hx K
    have ei : ap (nI i).toNatClampNeg = dm_pm (p i) := by rw [dm_c7 hi, hc i hi]
    refine br_f (dm_n7 hi) (dm_br rfl hi (fun hz => nm_r (nI_1 i) (K x ?_)) (fun hz => ⟨dm_in7 hi, dm_pm_neg ei (fun hq => nm_r (nI_1 i) (K x ?_)) (fun hq => ⟨dm_in7 hi, nm_r (e' := dm_mk (fun r => dm_ex (fun c => f c && decide (p c = r)) (i + 1))) ?_ (nm_r (nI_1 i) (K _ rfl))⟩)⟩))
    · rw [hx]
      apply dm_mkx
      intro c _
      simp [dm_ex, hz]
    · rw [hx]
      apply dm_mkx
      intro c _
      have : ¬ p i = c := by omega
      simp [dm_ex, this]
    · rw [ei, dm_pm_lo hq, dm_one _ hq, hx, dm_or]
      apply dm_mkx
      intro c _
      simp only [dm_ex, hz, Bool.true_and]
      congr 1
      exact decide_eq_decide.mpr ⟨fun z => z.symm, fun z => z.symm⟩
theorem dm_sh0 : ∀ i, i < 7 → (0 : Int32) <<< (nI i &&& 31) = 0 := by decide +kernel
theorem dm_w_re {post : Int32 → Prop} {c : Nat} (hc : c < 7) (hE : ∀ r, r < 7 → ae r = dm_mk (E r)) (h : post (dm_mk (fun r => E r c))) : wpX_rowsWithEdgeTo post (fr, rr, cr, rc, cc, ae, ap, ac, aq, af, ar, au) (nI c) := by
  refine loop_0 (fun n i x => wX_rowsWithEdgeTo_4 post (nI c) fr rr cr rc cc ae ap ac aq af ar au n x (nI i)) (fun i x => x = dm_mk (fun r => decide (r < i) && E r c)) 7 0 ?_ ?_ ?_
  · rw [dm_0]
    apply dm_mkx
    intro i _
    simp
  · intro n x hx
    refine br_t dm_7 ?_
    have : x = dm_mk (fun r => E r c) := by
      rw [hx]
      apply dm_mkx
      intro i hi
      simp [hi]
    rw [this]
    exact h
  · intro n i x hi hx K
    refine br_f (dm_n7 hi) ⟨dm_in7 hi, nm_r (e' := dm_mk (fun r => decide (r < i + 1) && E r c)) ?_ (nm_r (nI_1 i) (K _ rfl))⟩
    rw [dm_c7 hi, hE i hi, dm_bit _ hc, hx]
    by_cases z : E i c = true
    · rw [if_pos z, dm_one i hi, dm_or]
      apply dm_mkx
      intro j _
      by_cases e : j = i
      · rw [e]; simp [z]
      · have : decide (j < i + 1) = decide (j < i) := decide_eq_decide.mpr (by omega)
        rw [this]; simp [e]
    · rw [if_neg z, dm_sh0 i hi, dm_0, dm_or]
      apply dm_mkx
      intro j _
      by_cases e : j = i
      · rw [e]; simp [dm_nt z]
      · have : decide (j < i + 1) = decide (j < i) := decide_eq_decide.mpr (by omega)
        rw [this]; simp
theorem dm_w_rn {post : Int32 → Prop} (f : Nat → Bool) (hE : ∀ r, r < 7 → ae r = dm_mk (E r)) (h : post (dm_mk (dm_N (dm_tr E) f))) : wpX_rowsNextTo post (fr, rr, cr, rc, cc, ae, ap, ac, aq, af, ar, au) (dm_mk f) := by
  refine loop_0 (fun n i x => wX_rowsNextTo_4 post (dm_mk f) fr rr cr rc cc ae ap ac aq af ar au n x (nI i)) (fun i x => x = dm_mk (fun r => dm_ex (fun c => f c && dm_tr E c r) i)) 7 0 dm_0 ?_ ?_
  · intro n x hx
    refine br_t dm_7 ?_
    rw [hx]
    exact h
  · intro n i x hi hx K
    refine br_f (dm_n7 hi) (dm_br rfl hi (fun hz => nm_r (nI_1 i) (K x ?_)) (fun hz => dm_w_re hi hE (nm_r (e' := dm_mk (fun r => dm_ex (fun c => f c && dm_tr E c r) (i + 1))) ?_ (nm_r (nI_1 i) (K _ rfl)))))
    · rw [hx]
      apply dm_mkx
      intro c _
      simp [dm_ex, hz]
    · rw [hx, dm_or]
      apply dm_mkx
      intro c _
      simp [dm_ex, hz, dm_tr]
end
end
section
/-! X: findReach -/
section
variable {fr rr cr rc cc : Int32} {ae ap ac aq af ar au : Nat → Int32} {E : Nat → Nat → Bool} {p q : Nat → Nat}
/-- one round of the search -/
theorem dm_step {k : Nat} {R : Nat → Bool} (hb : ∀ r, r < 7 → 7 ≤ p r → R r = true) (hL : dm_Least E p q R)
    (hk : (∀ r c, r < 7 → c < 7 → R r = true → E r c = true → q c < 7 → R (q c) = true) ∨ k ≤ dm_cnt R 7) :
    (∀ r, r < 7 → 7 ≤ p r → (R r || dm_P q (dm_N E R) r) = true) ∧ dm_Least E p q (fun r => R r || dm_P q (dm_N E R) r) ∧
    ((dm_Clos E p q (fun r => R r || dm_P q (dm_N E R) r) ∧ ∀ c, c < 7 → dm_N E R c = dm_N E (fun r => R r || dm_P q (dm_N E R) r) c) ∨ k + 1 ≤ dm_cnt (fun r => R r || dm_P q (dm_N E R) r) 7) := by
  have hb' : ∀ r, r < 7 → 7 ≤ p r → (R r || dm_P q (dm_N E R) r) = true := fun r hr h => by simp [hb r hr h]
  refine ⟨hb', ?_, ?_⟩
  · intro S h1 h2 r hr h
    simp only [Bool.or_eq_true] at h
    rcases h with h | h
    · exact hL S h1 h2 r hr h
    · obtain ⟨c, hc, hn, e⟩ := dm_P_iff.mp h
      obtain ⟨r1, hr1, hR, hE⟩ := dm_N_iff.mp hn
      rw [← e]
      exact h2 r1 c hr1 hc (hL S h1 h2 r1 hr1 hR) hE (by omega)
  · by_cases hg : ∃ r, r < 7 ∧ R r = false ∧ dm_P q (dm_N E R) r = true
    · right
      obtain ⟨r, hr, hf, ht⟩ := hg
      have hlt : dm_cnt R 7 < dm_cnt (fun r => R r || dm_P q (dm_N E R) r) 7 := dm_cnt_lt (fun i _ h => by simp [h]) r hr hf (by simp [ht])
      rcases hk with hk | hk
      · exfalso
        obtain ⟨c, hc, hn, e⟩ := dm_P_iff.mp ht
        obtain ⟨r1, hr1, hR, hE⟩ := dm_N_iff.mp hn
        have := hk r1 c hr1 hc hR hE (by omega)
        rw [e] at this
        exact dm_tf this hf
      · omega
    · left
      have he : ∀ r, r < 7 → (R r || dm_P q (dm_N E R) r) = R r := by
        intro r hr
        by_cases h : R r = true
        · simp [h]
        · have : dm_P q (dm_N E R) r = false := dm_nt (fun z => hg ⟨r, hr, dm_nt h, z⟩)
          simp [this]
      refine ⟨⟨hb', ?_⟩, ?_⟩
      · intro r c hr hc h hE hq
        have h1 : R r = true := by rw [← he r hr]; exact h
        have h2 : dm_P q (dm_N E R) (q c) = true := dm_P_iff.mpr ⟨c, hc, dm_N_iff.mpr ⟨r, hr, h1, hE⟩, rfl⟩
        simp [h2]
      · intro c _
        show dm_ex (fun r => R r && E r c) 7 = dm_ex (fun r => (R r || dm_P q (dm_N E R) r) && E r c) 7
        exact dm_ex_congr (fun r hr => by rw [he r hr])
/-! the closure of the steps, row by row -/
def dm_War (E : Nat → Nat → Bool) (q : Nat → Nat) (m : Nat) (T : Nat → Nat → Bool) : Prop :=
  (∀ r c, r < 7 → c < 7 → E r c = true → q c < 7 → T r (q c) = true) ∧ (∀ a b c, a < 7 → b < 7 → c < 7 → b < m → T a b = true → T b c = true → T a c = true) ∧
  (∀ S : Nat → Prop, (∀ r c, r < 7 → c < 7 → S r → E r c = true → q c < 7 → S (q c)) → ∀ a b, a < 7 → b < 7 → T a b = true → S a → S b)
theorem dm_war_step {m : Nat} {T : Nat → Nat → Bool} (hm : m < 7) (h : dm_War E q m T) : dm_War E q (m + 1) (fun r j => T r j || (T r m && T m j)) := by
  refine ⟨fun r c hr hc he hq => by simp [h.1 r c hr hc he hq], ?_, ?_⟩
  · intro a b c ha hb hc hbm h1 h2
    simp only [Bool.or_eq_true, Bool.and_eq_true] at h1 h2 ⊢
    by_cases e : b = m
    · rw [e] at h1 h2
      have t1 : T a m = true := by
        rcases h1 with z | z
        · exact z
        · exact z.1
      have t2 : T m c = true := by
        rcases h2 with z | z
        · exact z
        · exact z.2
      exact Or.inr ⟨t1, t2⟩
    · have hb' : b < m := by omega
      rcases h1 with z | z
      · rcases h2 with w | w
        · exact Or.inl (h.2.1 a b c ha hb hc hb' z w)
        · exact Or.inr ⟨h.2.1 a b m ha hb hm hb' z w.1, w.2⟩
      · rcases h2 with w | w
        · exact Or.inr ⟨z.1, h.2.1 m b c hm hb hc hb' z.2 w⟩
        · exact Or.inr ⟨z.1, w.2⟩
  · intro S hS a b ha hb hT hSa
    simp only [Bool.or_eq_true, Bool.and_eq_true] at hT
    rcases hT with z | z
    · exact h.2.2 S hS a b ha hb z hSa
    · exact h.2.2 S hS m b hm hb z.2 (h.2.2 S hS a m ha hm z.1 hSa)
theorem dm_w_178 {post : SX → Prop} {J : Int32 → (Nat → Int32) → (Nat → Int32) → (Nat → Int32) → (Nat → Int32) → (Nat → Int32) → (Nat → Int32) → (Nat → Int32) → Prop} {m : Nat} (hm : m < 7) (T : Nat → Nat → Bool)
    (hT : ∀ r, r < 7 → ar r = dm_mk (T r)) (hJ : ∀ s : Nat → Int32, (∀ r, r < 7 → s r = dm_mk (fun j => T r j || (T r m && T m j))) → J (nI (m + 1)) ae ap ac aq af s au) :
    ∃ n, wX_findReach_178 post J (nI m) fr rr cr rc cc n 0 ae ap ac aq af ar au := by
  refine loop_0 (fun n i s => wX_findReach_178 post J (nI m) fr rr cr rc cc n (nI i) ae ap ac aq af s au) (fun i s => ∀ r, r < 7 → s r = dm_mk (fun j => T r j || (decide (r < i) && (T r m && T m j)))) 7 ar ?_ ?_ ?_
  · intro r hr
    rw [hT r hr]
    apply dm_mkx
    intro j _
    simp
  · intro n s hs
    refine br_t dm_7 (nm_r (nI_1 m) (hJ s ?_))
    intro r hr
    rw [hs r hr]
    apply dm_mkx
    intro j _
    simp [hr]
  · intro n i s hi hs K
    have ei : s (nI i).toNatClampNeg = dm_mk (T i) := by
      rw [dm_c7 hi, hs i hi]
      apply dm_mkx
      intro j _
      simp
    have em : s (nI m).toNatClampNeg = dm_mk (T m) := by
      rw [dm_c7 hm, hs m hm]
      apply dm_mkx
      intro j _
      cases T m j <;> simp
    refine br_f (dm_n7 hi) ⟨dm_in7 hi, dm_br ei hm (fun hz => nm_r (nI_1 i) (K s ?_)) (fun hz => ⟨dm_in7 hi, dm_in7 hm, dm_in7 hi, nm_r (e' := upd s i (dm_mk (fun j => T i j || (T i m && T m j)))) ?_ (nm_r (nI_1 i) (K _ ?_))⟩)⟩
    · intro r hr
      rw [hs r hr]
      apply dm_mkx
      intro j _
      by_cases e : r = i
      · rw [e]; simp [hz]
      · have : decide (r < i + 1) = decide (r < i) := decide_eq_decide.mpr (by omega)
        rw [this]
    · rw [ei, em, dm_or, dm_c7 hi]
      congr 1
      apply dm_mkx
      intro j _
      simp [hz]
    · intro r hr
      by_cases e : r = i
      · rw [e, dm_us]
        apply dm_mkx
        intro j _
        simp
      · rw [dm_un e, hs r hr]
        apply dm_mkx
        intro j _
        have : decide (r < i + 1) = decide (r < i) := decide_eq_decide.mpr (by omega)
        rw [this]
theorem dm_w_170 {post : SX → Prop} (T : Nat → Nat → Bool) (hT : ∀ r, r < 7 → ar r = dm_mk (T r)) (hW : dm_War E q 0 T)
    (hp : ∀ (s : Nat → Int32) (T : Nat → Nat → Bool), (∀ r, r < 7 → s r = dm_mk (T r)) → dm_Tc E q T → post (fr, rr, cr, rc, cc, ae, ap, ac, aq, af, s, au)) :
    ∃ n, wX_findReach_170 post fr rr cr rc cc n 0 ae ap ac aq af ar au := by
  refine loop_0 (fun n i s => wX_findReach_170 post fr rr cr rc cc n (nI i) ae ap ac aq af s au) (fun i s => ∃ T : Nat → Nat → Bool, (∀ r, r < 7 → s r = dm_mk (T r)) ∧ dm_War E q i T) 7 ar ⟨T, hT, hW⟩ ?_ ?_
  · rintro n s ⟨T, hT, hW⟩
    refine br_t dm_7 (hp s T hT ⟨hW.1, fun a b c ha hb hc => hW.2.1 a b c ha hb hc hb, hW.2.2⟩)
  · rintro n i s hi ⟨T, hT, hW⟩ K
    refine br_f (dm_n7 hi) (dm_w_178 hi T hT ?_)
    intro s' hs'
    exact K s' ⟨_, hs', dm_war_step hi hW⟩
theorem dm_w_140 {post : SX → Prop} (hE : ∀ r, r < 7 → ae r = dm_mk (E r)) (hc : ∀ c, c < 7 → ac c = dm_pm (q c))
    (hp : ∀ (s : Nat → Int32) (T : Nat → Nat → Bool), (∀ r, r < 7 → s r = dm_mk (T r)) → dm_Tc E q T → post (fr, rr, cr, rc, cc, ae, ap, ac, aq, af, s, au)) :
    ∃ n, wX_findReach_140 post fr rr cr rc cc n 0 ae ap ac aq af ar au := by
  refine loop_0 (fun n i s => wX_findReach_140 post fr rr cr rc cc n (nI i) ae ap ac aq af s au) (fun i s => ∀ r, r < i → s r = dm_mk (dm_P q (E r))) 7 ar ?_ ?_ ?_
  · intro r hr
    omega
  · intro n s hs
    refine br_t dm_7 (dm_w_170 (fun r => dm_P q (E r)) hs ⟨?_, ?_, ?_⟩ hp)
    · intro r c hr hc he hq
      exact dm_P_iff.mpr ⟨c, hc, he, rfl⟩
    · intro a b c ha hb hc hb0
      omega
    · intro S hS a b ha hb hT hSa
      obtain ⟨c, hc, he, e⟩ := dm_P_iff.mp hT
      rw [← e]
      exact hS a c ha hc hSa he (by omega)
  · intro n i s hi hs K
    have ei : ae (nI i).toNatClampNeg = dm_mk (E i) := by rw [dm_c7 hi, hE i hi]
    refine br_f (dm_n7 hi) ⟨dm_in7 hi, ?_⟩
    rw [ei]
    refine dm_w_pc (E i) hc ⟨dm_in7 hi, nm_r (e' := upd s i (dm_mk (dm_P q (E i)))) (by rw [dm_c7 hi]) (nm_r (nI_1 i) (K _ ?_))⟩
    intro r hr
    by_cases e : r = i
    · rw [e, dm_us]
    · rw [dm_un e]
      exact hs r (by omega)
theorem dm_w_68 {post : SX → Prop} (hE : ∀ r, r < 7 → ae r = dm_mk (E r)) (hr : ∀ c, c < 7 → ap c = dm_pm (p c)) (hc : ∀ c, c < 7 → ac c = dm_pm (q c))
    (R C : Nat → Bool) (hR : ∀ r, r < 7 → 7 ≤ p r → R r = true) (hRL : dm_Least E p q R) (hC : ∀ r, r < 7 → 7 ≤ q r → C r = true) (hCL : dm_Least (dm_tr E) q p C)
    (er : rr = dm_mk R) (ec : cc = dm_mk C)
    (hp : ∀ (rc' : Int32) (s : Nat → Int32) (R C : Nat → Bool) (T : Nat → Nat → Bool), dm_Clos E p q R → dm_Least E p q R → dm_Clos (dm_tr E) q p C → dm_Least (dm_tr E) q p C → (∀ r, r < 7 → s r = dm_mk (T r)) → dm_Tc E q T →
      post (fr, dm_mk R, dm_mk (dm_N E R), rc', dm_mk C, ae, ap, ac, aq, af, s, au)) :
    ∃ n, wX_findReach_68 post fr ae ap ac aq af ar au n 0 rr cr rc cc := by
  refine loop_0 (fun n i (s : Int32 × Int32 × Int32 × Int32) => wX_findReach_68 post fr ae ap ac aq af ar au n (nI i) s.1 s.2.1 s.2.2.1 s.2.2.2)
    (fun i s => ∃ R C : Nat → Bool, s.1 = dm_mk R ∧ s.2.2.2 = dm_mk C ∧ (∀ r, r < 7 → 7 ≤ p r → R r = true) ∧ dm_Least E p q R ∧ (∀ r, r < 7 → 7 ≤ q r → C r = true) ∧ dm_Least (dm_tr E) q p C ∧
      ((dm_Clos E p q R ∧ s.2.1 = dm_mk (dm_N E R)) ∨ i ≤ dm_cnt R 7) ∧ (dm_Clos (dm_tr E) q p C ∨ i ≤ dm_cnt C 7)) 8 (rr, cr, rc, cc) ?_ ?_ ?_
  · exact ⟨R, C, er, ec, hR, hRL, hC, hCL, Or.inr (Nat.zero_le _), Or.inr (Nat.zero_le _)⟩
  · rintro n ⟨s1, s2, s3, s4⟩ ⟨R, C, e1, e4, hR, hRL, hC, hCL, h1, h2⟩
    dsimp only at e1 e4 h1 h2 ⊢
    have b1 := dm_cnt_le R 7
    have b2 := dm_cnt_le C 7
    rcases h1 with ⟨k1, e2⟩ | h1
    · rcases h2 with k2 | h2
      · rw [e1, e2, e4]
        exact br_t dm_8 (dm_w_140 hE hc (fun s T hs hT => hp s3 s R C T k1 hRL k2 hCL hs hT))
      · omega
    · omega
  · rintro n i ⟨s1, s2, s3, s4⟩ hi ⟨R, C, e1, e4, hR, hRL, hC, hCL, h1, h2⟩ K
    dsimp only at e1 e4 h1 h2 K ⊢
    subst e1 e4
    obtain ⟨g1, g2, g3⟩ := dm_step (k := i) hR hRL (h1.elim (fun z => Or.inl z.1.2) Or.inr)
    obtain ⟨l1, l2, l3⟩ := dm_step (k := i) hC hCL (h2.elim (fun z => Or.inl z.2) Or.inr)
    refine br_f (dm_n8 hi) (dm_w_cn R hE (dm_w_pc _ hc (nm_r (dm_or _ _) (dm_w_rn C hE (dm_w_pr _ hr (nm_r (dm_or _ _) (nm_r (nI_1 i) ?_)))))))
    refine K (_, _, _, _) ⟨_, _, rfl, rfl, g1, g2, l1, l2, ?_, l3.elim (fun z => Or.inl z.1) Or.inr⟩
    rcases g3 with g3 | g3
    · exact Or.inl ⟨g3.1, dm_mkx g3.2⟩
    · exact Or.inr g3
theorem dm_w_fr {post : SX → Prop} (hE : ∀ r, r < 7 → ae r = dm_mk (E r)) (hr : ∀ c, c < 7 → ap c = dm_pm (p c)) (hc : ∀ c, c < 7 → ac c = dm_pm (q c))
    (hp : ∀ (rc' : Int32) (s : Nat → Int32) (R C : Nat → Bool) (T : Nat → Nat → Bool), dm_Clos E p q R → dm_Least E p q R → dm_Clos (dm_tr E) q p C → dm_Least (dm_tr E) q p C → (∀ r, r < 7 → s r = dm_mk (T r)) → dm_Tc E q T →
      post (fr, dm_mk R, dm_mk (dm_N E R), rc', dm_mk C, ae, ap, ac, aq, af, s, au)) :
    wpX_findReach post (fr, rr, cr, rc, cc, ae, ap, ac, aq, af, ar, au) := by
  refine loop_0 (fun n i (s : Int32 × Int32) => wX_findReach_12 post fr cr rc ae ap ac aq af ar au n (nI i) s.1 s.2)
    (fun i s => s.1 = dm_mk (fun r => decide (r < i) && decide (7 ≤ p r)) ∧ s.2 = dm_mk (fun r => decide (r < i) && decide (7 ≤ q r))) 7 (0, 0) ?_ ?_ ?_
  · constructor
    · rw [dm_0]
      apply dm_mkx
      intro i _
      simp
    · rw [dm_0]
      apply dm_mkx
      intro i _
      simp
  · rintro n ⟨s1, s2⟩ ⟨e1, e2⟩
    dsimp only at e1 e2 ⊢
    refine br_t dm_7 (dm_w_68 hE hr hc _ _ ?_ ?_ ?_ ?_ e1 e2 hp)
    · intro r hr' h
      simp [hr', h]
    · intro S h1 _ r hr' h
      simp only [Bool.and_eq_true, decide_eq_true_eq] at h
      exact h1 r hr' h.2
    · intro r hr' h
      simp [hr', h]
    · intro S h1 _ r hr' h
      simp only [Bool.and_eq_true, decide_eq_true_eq] at h
      exact h1 r hr' h.2
  · rintro n i ⟨s1, s2⟩ hi ⟨e1, e2⟩ K
    dsimp only at e1 e2 K ⊢
    have a1 : ap (nI i).toNatClampNeg = dm_pm (p i) := by rw [dm_c7 hi, hr i hi]
    have a2 : ac (nI i).toNatClampNeg = dm_pm (q i) := by rw [dm_c7 hi, hc i hi]
    have keep : ∀ (g : Nat → Nat), ¬ 7 ≤ g i → dm_mk (fun r => decide (r < i) && decide (7 ≤ g r)) = dm_mk (fun r => decide (r < i + 1) && decide (7 ≤ g r)) := by
      intro g hg
      apply dm_mkx
      intro r _
      by_cases e : r = i
      · rw [e]; simp [hg]
      · have : decide (r < i + 1) = decide (r < i) := decide_eq_decide.mpr (by omega)
        rw [this]
    have add : ∀ (g : Nat → Nat), 7 ≤ g i → dm_mk (fun r => decide (r < i) && decide (7 ≤ g r)) ||| ((1 : Int32) <<< (nI i &&& 31)) = dm_mk (fun r => decide (r < i + 1) && decide (7 ≤ g r)) := by
      intro g hg
      rw [dm_one i hi, dm_or]
      apply dm_mkx
      intro r _
      by_cases e : r = i
      · rw [e]; simp [hg]
      · have : decide (r < i + 1) = decide (r < i) := decide_eq_decide.mpr (by omega)
        rw [this]; simp [e]
    have tail : ∀ s1' : Int32, s1' = dm_mk (fun r => decide (r < i + 1) && decide (7 ≤ p r)) → wX_findReach_39 post (wX_findReach_12 post fr cr rc ae ap ac aq af ar au n) (nI i) fr s1' cr rc s2 ae ap ac aq af ar au := by
      intro s1' e1'
      refine And.intro (dm_in7 hi) (dm_pm_pos a2 (fun h => nm_r (nI_1 i) (K (s1', s2) ⟨e1', ?_⟩)) (fun h => nm_e (nm_r (nI_1 i) (K (s1', _) ⟨e1', ?_⟩))))
      · dsimp only
        rw [e2]
        exact keep q (by omega)
      · dsimp only
        rw [e2]
        exact add q h
    refine br_f (dm_n7 hi) ⟨dm_in7 hi, dm_pm_pos a1 (fun h => tail s1 ?_) (fun h => nm_e (tail _ ?_))⟩
    · rw [e1]
      exact keep p (by omega)
    · rw [e1]
      exact add p h
end
end
section
/-! X: findUsable, and the end of prepare -/
section
variable {fr rr cr rc cc : Int32} {ae ap ac aq af ar au : Nat → Int32} {E : Nat → Nat → Bool} {p q : Nat → Nat} {R C : Nat → Bool} {T : Nat → Nat → Bool}
def dm_U (E : Nat → Nat → Bool) (p q : Nat → Nat) (R C : Nat → Bool) (T : Nat → Nat → Bool) (r c : Nat) : Bool := E r c && (decide (p r = c) || (R r || (C c || (decide (q c < 7) && T (q c) r))))
theorem dm_w_iu {post : Int32 → Prop} {r c : Nat} (hr7 : r < 7) (hc7 : c < 7) (hr : ∀ c, c < 7 → ap c = dm_pm (p c)) (hc : ∀ c, c < 7 → ac c = dm_pm (q c)) (hT : ∀ r, r < 7 → ar r = dm_mk (T r))
    (er : rr = dm_mk R) (ec : cc = dm_mk C) (h1 : (p r = c ∨ R r = true ∨ C c = true ∨ (q c < 7 ∧ T (q c) r = true)) → post 1) (h0 : ¬ (p r = c ∨ R r = true ∨ C c = true ∨ (q c < 7 ∧ T (q c) r = true)) → post 0) :
    wpX_isUsable post (fr, rr, cr, rc, cc, ae, ap, ac, aq, af, ar, au) (nI r) (nI c) := by
  have a1 : ap (nI r).toNatClampNeg = dm_pm (p r) := by rw [dm_c7 hr7, hr r hr7]
  have a2 : ac (nI c).toNatClampNeg = dm_pm (q c) := by rw [dm_c7 hc7, hc c hc7]
  refine And.intro (dm_in7 hr7) (dm_pm_eq a1 hc7 (fun e => h1 (Or.inl e)) (fun n1 => dm_br er hr7 (fun n2 => dm_br ec hc7 (fun n3 => ⟨dm_in7 hc7, nm_r a2 (dm_pm_neg rfl (fun hq => h0 ?_) (fun hq => ⟨?_, dm_br (f := T (q c)) ?_ hr7 (fun n4 => h0 ?_) (fun z => h1 (Or.inr (Or.inr (Or.inr ⟨hq, z⟩))))⟩))⟩) (fun z => h1 (Or.inr (Or.inr (Or.inl z))))) (fun z => h1 (Or.inr (Or.inl z)))))
  · rintro (z | z | z | z)
    · exact n1 z
    · exact dm_tf z n2
    · exact dm_tf z n3
    · omega
  · rw [dm_pm_lo hq]
    exact dm_in7 hq
  · rw [dm_pm_lo hq, dm_c7 hq, hT _ hq]
  · rintro (z | z | z | z)
    · exact n1 z
    · exact dm_tf z n2
    · exact dm_tf z n3
    · exact dm_tf z.2 n4
theorem dm_w_17 {post : SX → Prop} {J : Int32 → (Nat → Int32) → (Nat → Int32) → (Nat → Int32) → (Nat → Int32) → (Nat → Int32) → (Nat → Int32) → (Nat → Int32) → Prop} {r : Nat} (hr7 : r < 7)
    (hE : ∀ r, r < 7 → ae r = dm_mk (E r)) (hr : ∀ c, c < 7 → ap c = dm_pm (p c)) (hc : ∀ c, c < 7 → ac c = dm_pm (q c)) (hT : ∀ r, r < 7 → ar r = dm_mk (T r)) (er : rr = dm_mk R) (ec : cc = dm_mk C)
    (h0 : au r = 0) (hJ : ∀ s : Nat → Int32, s r = dm_mk (dm_U E p q R C T r) → (∀ k, k ≠ r → s k = au k) → J (nI (r + 1)) ae ap ac aq af ar s) :
    ∃ n, wX_findUsable_17 post J (nI r) fr rr cr rc cc n 0 ae ap ac aq af ar au := by
  refine loop_0 (fun n i s => wX_findUsable_17 post J (nI r) fr rr cr rc cc n (nI i) ae ap ac aq af ar s) (fun i s => s r = dm_mk (fun c => decide (c < i) && dm_U E p q R C T r c) ∧ ∀ k, k ≠ r → s k = au k) 7 au ⟨?_, fun _ _ => rfl⟩ ?_ ?_
  · rw [h0, dm_0]
    apply dm_mkx
    intro i _
    simp
  · rintro n s ⟨h1, h2⟩
    refine br_t dm_7 (nm_r (nI_1 r) (hJ s ?_ h2))
    rw [h1]
    apply dm_mkx
    intro i hi
    simp [hi]
  · rintro n i s hi ⟨h1, h2⟩ K
    have ei : ae (nI r).toNatClampNeg = dm_mk (E r) := by rw [dm_c7 hr7, hE r hr7]
    have keep : dm_U E p q R C T r i = false → s r = dm_mk (fun c => decide (c < i + 1) && dm_U E p q R C T r c) := by
      intro hz
      rw [h1]
      apply dm_mkx
      intro j _
      by_cases e : j = i
      · rw [e]; simp [hz]
      · have : decide (j < i + 1) = decide (j < i) := decide_eq_decide.mpr (by omega)
        rw [this]
    refine br_f (dm_n7 hi) ⟨dm_in7 hr7, dm_br ei hi (fun hz => nm_r (nI_1 i) (K s ⟨keep ?_, h2⟩)) (fun hz => dm_w_iu hr7 hi hr hc hT er ec (fun hu => br_f (by decide) ⟨dm_in7 hr7, dm_in7 hr7, nm_r (e' := upd s r (dm_mk (fun c => decide (c < i + 1) && dm_U E p q R C T r c))) ?_ (nm_r (nI_1 i) (K _ ⟨?_, ?_⟩))⟩) (fun hu => br_t rfl (nm_r (nI_1 i) (K s ⟨keep ?_, h2⟩))))⟩
    · simp [dm_U, hz]
    · rw [dm_c7 hr7, h1, dm_one i hi, dm_or]
      congr 1
      apply dm_mkx
      intro j _
      have hU : dm_U E p q R C T r i = true := by
        simp only [dm_U, hz, Bool.true_and, Bool.or_eq_true, Bool.and_eq_true, decide_eq_true_eq]
        exact hu
      by_cases e : j = i
      · rw [e]; simp [hU]
      · have : decide (j < i + 1) = decide (j < i) := decide_eq_decide.mpr (by omega)
        rw [this]; simp [e]
    · rw [dm_us]
    · intro k hk
      rw [dm_un hk]
      exact h2 k hk
    · apply dm_nt
      intro z
      simp only [dm_U, hz, Bool.true_and, Bool.or_eq_true, Bool.and_eq_true, decide_eq_true_eq] at z
      exact hu z
theorem dm_w_fu {post : SX → Prop} (hE : ∀ r, r < 7 → ae r = dm_mk (E r)) (hr : ∀ c, c < 7 → ap c = dm_pm (p c)) (hc : ∀ c, c < 7 → ac c = dm_pm (q c)) (hT : ∀ r, r < 7 → ar r = dm_mk (T r)) (er : rr = dm_mk R) (ec : cc = dm_mk C)
    (hp : ∀ s : Nat → Int32, (∀ r, r < 7 → s r = dm_mk (dm_U E p q R C T r)) → post (fr, rr, cr, rc, cc, ae, ap, ac, aq, af, ar, s)) : wpX_findUsable post (fr, rr, cr, rc, cc, ae, ap, ac, aq, af, ar, au) := by
  refine loop_0 (fun n i s => wX_findUsable_2 post fr rr cr rc cc n (nI i) ae ap ac aq af ar s) (fun i s => ∀ r, r < i → s r = dm_mk (dm_U E p q R C T r)) 7 au ?_ ?_ ?_
  · intro r h
    omega
  · intro n s hs
    exact br_t dm_7 (hp s hs)
  · intro n i s hi hs K
    refine br_f (dm_n7 hi) ⟨dm_in7 hi, nm_r (e' := upd s i 0) (by rw [dm_c7 hi]) (dm_w_17 hi hE hr hc hT er ec dm_us ?_)⟩
    intro s' h1 h2
    refine K s' ?_
    intro r h
    by_cases e : r = i
    · rw [e]; exact h1
    · rw [h2 r e, dm_un e]
      exact hs r (by omega)
def dm_Rd (E : Nat → Nat → Bool) (p q : Nat → Nat) (rr cr cc : Int32) (au : Nat → Int32) : Prop :=
  dm_Sys E p q ∧ dm_sz p = dm_nu E ∧ rr = dm_mk (dm_LR E) ∧ cr = dm_mk (dm_N E (dm_LR E)) ∧ cc = dm_mk (dm_LC E) ∧ (∀ r, r < 7 → au r = dm_mk (dm_US E r)) ∧ dm_cnt (fun r => !dm_LR E r) 7 + dm_cnt (dm_N E (dm_LR E)) 7 = dm_nu E
theorem dm_Ncg {E : Nat → Nat → Bool} {R R' : Nat → Bool} (h : ∀ r, r < 7 → R r = R' r) (c : Nat) : dm_N E R c = dm_N E R' c := by
  unfold dm_N
  exact dm_ex_congr (fun r hr => by rw [h r hr])
theorem dm_w_123 {post : SX → Prop} (hE : ∀ r, r < 7 → ae r = dm_mk (E r)) (hr : ∀ c, c < 7 → ap c = dm_pm (p c)) (hc : ∀ c, c < 7 → ac c = dm_pm (q c)) (hS : dm_Sys E p q)
    (hZ : ∃ Z : Nat → Prop, (∀ r, r < 7 → 7 ≤ p r → Z r) ∧ (∀ r c, r < 7 → c < 7 → Z r → E r c = true → q c < 7 ∧ Z (q c)))
    (hp : ∀ (rr' cr' rc' cc' : Int32) (ar' au' : Nat → Int32), dm_Rd E p q rr' cr' cc' au' → post (fr, rr', cr', rc', cc', ae, ap, ac, aq, af, ar', au')) :
    wX_prepare_123 post fr rr cr rc cc ae ap ac aq af ar au := by
  refine dm_w_fr hE hr hc ?_
  intro rc' s R C T hR hRL hC hCL hs hT
  refine dm_w_fu (R := R) (C := C) hE hr hc hs rfl rfl ?_
  intro s' hs'
  refine hp _ _ _ _ _ _ ?_
  obtain ⟨Z, z1, z2⟩ := hZ
  have hm : dm_Max E q R := by
    intro r c hr' hc' h he
    exact (z2 r c hr' hc' (hRL Z z1 (fun r c hr hc h he _ => (z2 r c hr hc h he).2) r hr' h) he).1
  have k1 := dm_loose hS hR hRL hm
  have k2 := dm_looseC hS hR hm hC hCL
  have k3 := dm_nu_sz hS hR hm
  have k4 := dm_Rcov_eq hS hR hm
  refine ⟨hS, k3.symm, dm_mkx k1, dm_mkx (fun c _ => dm_Ncg k1 c), dm_mkx k2, ?_, ?_⟩
  · intro r hr'
    rw [hs' r hr']
    apply dm_mkx
    intro c hc'
    unfold dm_U dm_US
    by_cases he : E r c = true
    · rw [he, Bool.true_and, Bool.true_and]
      have k5 := dm_usable hS hR hRL hm hC hCL hT hr' hc' he
      rw [Bool.eq_iff_iff, beq_iff_eq, ← k5]
      simp only [Bool.or_eq_true, Bool.and_eq_true, decide_eq_true_eq]
    · rw [dm_nt he, Bool.false_and, Bool.false_and]
  · rw [← k4]
    congr 1
    · exact dm_cnt_congr (fun r hr' => by rw [k1 r hr'])
    · exact dm_cnt_congr (fun c _ => (dm_Ncg k1 c).symm)
end
end
section
/-! turning a path, without the program -/
def dm_fu (f : Nat → Nat) (k x : Nat) : Nat → Nat := fun j => if j = k then x else f j
theorem dm_fus {f : Nat → Nat} {k x : Nat} : dm_fu f k x k = x := if_pos rfl
theorem dm_fun {f : Nat → Nat} {k x j : Nat} (h : j ≠ k) : dm_fu f k x j = f j := if_neg h
theorem dm_upm {a : Nat → Int32} {f : Nat → Nat} {k x : Nat} (h : ∀ r, r < 7 → a r = dm_pm (f r)) (hx : x < 7) : ∀ r, r < 7 → upd a k (nI x) r = dm_pm (dm_fu f k x r) := by
  intro r hr
  by_cases e : r = k
  · rw [e, dm_us, dm_fus, dm_pm_lo hx]
  · rw [dm_un e, dm_fun e, h r hr]
theorem dm_upn {a : Nat → Int32} {f : Nat → Nat} {k : Nat} (h : ∀ r, r < 7 → a r = dm_pm (f r)) : ∀ r, r < 7 → upd a k (-1) r = dm_pm (dm_fu f k 7 r) := by
  intro r hr
  by_cases e : r = k
  · rw [e, dm_us, dm_fus, dm_pm_7]
  · rw [dm_un e, dm_fun e, h r hr]
def dm_Ch (E : Nat → Nat → Bool) (s0 e : Nat) (Q K : Nat → Nat) (af : Nat → Int32) : Prop :=
  Q 0 = s0 ∧ e ≤ 7 ∧ (∀ j, j < e → Q j < 7) ∧ (∀ i j, i < e → j < e → Q i = Q j → i = j) ∧
  (∀ j, 1 ≤ j → j ≤ e → K j < 7 ∧ ∃ i, i < j ∧ af (K j) = nI (Q i) ∧ E (Q i) (K j) = true) ∧ (∀ i j, 1 ≤ i → i ≤ e → 1 ≤ j → j ≤ e → K i = K j → i = j)
def dm_TP (E : Nat → Nat → Bool) (Q K : Nat → Nat) (z k : Nat) (p1 q1 : Nat → Nat) : Prop :=
  (∀ r c, r < 7 → c < 7 → (p1 r = c ↔ (q1 c = r ∧ c ≠ K k))) ∧ (∀ r, r < 7 → p1 r < 7 → E r (p1 r) = true) ∧ (∀ j, 1 ≤ j → j < k → p1 (Q j) = K j) ∧ 7 ≤ p1 (Q 0) ∧ dm_sz p1 = z
theorem dm_tp_step {E : Nat → Nat → Bool} {s0 e : Nat} {Q K : Nat → Nat} {af : Nat → Int32} (hC : dm_Ch E s0 e Q K af) {z k i : Nat} {p1 q1 : Nat → Nat} (hT : dm_TP E Q K z k p1 q1)
    (hi : 1 ≤ i) (hik : i < k) (hk : k ≤ e) (hE : E (Q i) (K k) = true) : dm_TP E Q K z i (dm_fu p1 (Q i) (K k)) (dm_fu q1 (K k) (Q i)) := by
  obtain ⟨c0, c1, c2, c3, c4, c5⟩ := hC
  obtain ⟨t1, t2, t3, t4, t5⟩ := hT
  have hKk : K k < 7 := (c4 k (by omega) hk).1
  have hKi : K i < 7 := (c4 i (by omega) (by omega)).1
  have hne : K k ≠ K i := fun w => by
    have := c5 k i (by omega) hk hi (by omega) w
    omega
  have hQi : Q i < 7 := c2 i (by omega)
  have hpi : p1 (Q i) = K i := t3 i hi hik
  refine ⟨?_, ?_, ?_, ?_, ?_⟩
  · intro r c hr hc
    by_cases er : r = Q i
    · rw [er, dm_fus]
      by_cases ec : c = K k
      · rw [ec, dm_fus]
        exact ⟨fun _ => ⟨rfl, hne⟩, fun _ => rfl⟩
      · rw [dm_fun ec]
        refine ⟨fun w => absurd w.symm ec, fun w => ?_⟩
        have := (t1 (Q i) c hQi hc).mpr ⟨w.1, ec⟩
        rw [hpi] at this
        exact absurd this.symm w.2
    · rw [dm_fun er]
      by_cases ec : c = K k
      · rw [ec, dm_fus]
        refine ⟨fun w => absurd rfl ((t1 r (K k) hr hKk).mp w).2, fun w => absurd w.1.symm er⟩
      · rw [dm_fun ec]
        refine ⟨fun w => ?_, fun w => (t1 r c hr hc).mpr ⟨w.1, ec⟩⟩
        have h1 := (t1 r c hr hc).mp w
        refine ⟨h1.1, fun w2 => ?_⟩
        have h2 := ((t1 (Q i) (K i) hQi hKi).mp hpi).1
        rw [w2, h2] at h1
        exact er h1.1.symm
  · intro r hr
    by_cases er : r = Q i
    · rw [er, dm_fus]
      exact fun _ => hE
    · rw [dm_fun er]
      exact t2 r hr
  · intro j hj hji
    have : Q j ≠ Q i := fun w => by
      have := c3 j i (by omega) (by omega) w
      omega
    rw [dm_fun this]
    exact t3 j hj (by omega)
  · have : Q 0 ≠ Q i := fun w => by
      have := c3 0 i (by omega) (by omega) w
      omega
    rw [dm_fun this]
    exact t4
  · rw [← t5]
    unfold dm_sz
    apply dm_cnt_congr
    intro r _
    by_cases er : r = Q i
    · rw [er, dm_fus, hpi]
      simp [hKk, hKi]
    · rw [dm_fun er]
theorem dm_tp_end {E : Nat → Nat → Bool} {s0 e : Nat} {Q K : Nat → Nat} {af : Nat → Int32} (hC : dm_Ch E s0 e Q K af) {z k : Nat} {p1 q1 : Nat → Nat} (hT : dm_TP E Q K z k p1 q1)
    (h1k : 1 ≤ k) (hk : k ≤ e) (hE : E (Q 0) (K k) = true) : dm_Sys E (dm_fu p1 (Q 0) (K k)) (dm_fu q1 (K k) (Q 0)) ∧ dm_sz (dm_fu p1 (Q 0) (K k)) = z + 1 := by
  obtain ⟨c0, c1, c2, c3, c4, c5⟩ := hC
  obtain ⟨t1, t2, t3, t4, t5⟩ := hT
  have hKk : K k < 7 := (c4 k (by omega) hk).1
  have hQ0 : Q 0 < 7 := c2 0 (by omega)
  refine ⟨⟨?_, ?_⟩, ?_⟩
  · intro r c hr hc
    by_cases er : r = Q 0
    · rw [er, dm_fus]
      by_cases ec : c = K k
      · rw [ec, dm_fus]
        exact ⟨fun _ => rfl, fun _ => rfl⟩
      · rw [dm_fun ec]
        refine ⟨fun w => absurd w.symm ec, fun w => ?_⟩
        have := (t1 (Q 0) c hQ0 hc).mpr ⟨w, ec⟩
        omega
    · rw [dm_fun er]
      by_cases ec : c = K k
      · rw [ec, dm_fus]
        refine ⟨fun w => absurd rfl ((t1 r (K k) hr hKk).mp w).2, fun w => absurd w.symm er⟩
      · rw [dm_fun ec]
        exact ⟨fun w => ((t1 r c hr hc).mp w).1, fun w => (t1 r c hr hc).mpr ⟨w, ec⟩⟩
  · intro r hr
    by_cases er : r = Q 0
    · rw [er, dm_fus]
      exact fun _ => hE
    · rw [dm_fun er]
      exact t2 r hr
  · rw [← t5]
    unfold dm_sz
    rw [← dm_cnt_add (f := fun r => decide (p1 r < 7)) hQ0 (by simp; omega)]
    apply dm_cnt_congr
    intro r _
    by_cases er : r = Q 0
    · rw [er, dm_fus]
      simp [hKk]
    · rw [dm_fun er]
      simp [er]
/-! the search -/
def dm_BF (E : Nat → Nat → Bool) (q : Nat → Nat) (s0 : Nat) (S : Nat → Bool) (e : Nat) (aq af : Nat → Int32) (Q K : Nat → Nat) : Prop :=
  1 ≤ e ∧ Q 0 = s0 ∧ (∀ j, j < e → aq j = nI (Q j) ∧ Q j < 7) ∧ (∀ j, 1 ≤ j → j < e → K j < 7 ∧ q (K j) = Q j ∧ S (K j) = true ∧ ∃ i, i < j ∧ af (K j) = nI (Q i) ∧ E (Q i) (K j) = true) ∧
  (∀ c, c < 7 → S c = true → ∃ j, 1 ≤ j ∧ j < e ∧ K j = c) ∧ (∀ i j, 1 ≤ i → i < e → 1 ≤ j → j < e → K i = K j → i = j)
section
variable {E : Nat → Nat → Bool} {p q : Nat → Nat} {s0 : Nat} {S : Nat → Bool} {e : Nat} {aq af : Nat → Int32} {Q K : Nat → Nat}
theorem dm_bf_p (hS : dm_Sys E p q) (hB : dm_BF E q s0 S e aq af Q K) : ∀ j, 1 ≤ j → j < e → p (Q j) = K j := by
  intro j h1 h2
  obtain ⟨b0, b1, b2, b3, b4, b5⟩ := hB
  exact (hS.1 (Q j) (K j) (b2 j h2).2 (b3 j h1 h2).1).mpr (b3 j h1 h2).2.1
theorem dm_bf_inj (hS : dm_Sys E p q) (h0 : 7 ≤ p s0) (hB : dm_BF E q s0 S e aq af Q K) : ∀ i j, i < e → j < e → Q i = Q j → i = j := by
  intro i j hi hj w
  have hp := dm_bf_p hS hB
  obtain ⟨b0, b1, b2, b3, b4, b5⟩ := hB
  by_cases ei : i = 0
  · by_cases ej : j = 0
    · omega
    · have h1 := hp j (by omega) hj
      have h2 := (b3 j (by omega) hj).1
      rw [← w, ei, b1] at h1
      omega
  · by_cases ej : j = 0
    · have h1 := hp i (by omega) hi
      have h2 := (b3 i (by omega) hi).1
      rw [w, ej, b1] at h1
      omega
    · refine b5 i j (by omega) hi (by omega) hj ?_
      rw [← hp i (by omega) hi, ← hp j (by omega) hj, w]
theorem dm_cnt_tt (n : Nat) : dm_cnt (fun _ => true) n = n := by
  induction n with
  | zero => rfl
  | succ n ih => simp only [dm_cnt, ih, if_true]
theorem dm_bf_e7 (hS : dm_Sys E p q) (h0 : 7 ≤ p s0) (hB : dm_BF E q s0 S e aq af Q K) : e ≤ 7 := by
  have h := dm_inj (P := fun _ => true) (f := Q) (m := 7) e (fun _ => true) (fun i hi _ => ⟨(hB.2.2.1 i hi).2, rfl⟩) (fun i j hi hj _ _ => dm_bf_inj hS h0 hB i j hi hj)
  rw [dm_cnt_tt, dm_cnt_tt] at h
  exact h
theorem dm_bf_e6 (hS : dm_Sys E p q) (h0 : 7 ≤ p s0) (hB : dm_BF E q s0 S e aq af Q K) {c : Nat} (hc : c < 7) (hs : S c = false) (hq : q c < 7) : e ≤ 6 := by
  have h := dm_inj (P := fun _ => true) (f := Q) (m := 7) e (fun i => true && !decide (i = q c)) (fun i hi _ => ⟨(hB.2.2.1 i hi).2, ?_⟩) (fun i j hi hj _ _ => dm_bf_inj hS h0 hB i j hi hj)
  · have h2 := dm_cnt_rm (f := fun _ => true) (k := q c) rfl hq
    rw [dm_cnt_tt] at h h2
    omega
  · have : ¬ Q i = q c := by
      intro w
      have hp := (hS.1 (q c) c hq hc).mpr rfl
      by_cases ei : i = 0
      · rw [ei, hB.2.1] at w
        rw [← w] at hp
        omega
      · have h1 := dm_bf_p hS hB i (by omega) hi
        rw [w, hp] at h1
        have h2 := (hB.2.2.2.1 i (by omega) hi).2.2.1
        rw [← h1] at h2
        exact dm_tf h2 hs
    simp [this]
theorem dm_bf_add (hB : dm_BF E q s0 S e aq af Q K) {a c : Nat} (hc : c < 7) (hs : S c = false) (hq : q c < 7) (ha : a < e) (he : E (Q a) c = true) :
    dm_BF E q s0 (fun x => S x || decide (x = c)) (e + 1) (upd aq e (nI (q c))) (upd af c (nI (Q a))) (dm_fu Q e (q c)) (dm_fu K e c) := by
  obtain ⟨b0, b1, b2, b3, b4, b5⟩ := hB
  have hK : ∀ j, 1 ≤ j → j < e → K j ≠ c := fun j h1 h2 w => by
    have := (b3 j h1 h2).2.2.1
    rw [w] at this
    exact dm_tf this hs
  refine ⟨by omega, ?_, ?_, ?_, ?_, ?_⟩
  · rw [dm_fun (by omega)]; exact b1
  · intro j hj
    by_cases ej : j = e
    · rw [ej, dm_us, dm_fus]; exact ⟨rfl, hq⟩
    · rw [dm_un ej, dm_fun ej]; exact b2 j (by omega)
  · intro j h1 hj
    by_cases ej : j = e
    · rw [ej, dm_fus, dm_fus]
      refine ⟨hc, rfl, by simp, a, ha, ?_, ?_⟩
      · rw [dm_us, dm_fun (by omega)]
      · rw [dm_fun (by omega)]; exact he
    · rw [dm_fun ej, dm_fun ej]
      obtain ⟨k1, k2, k3, i, k4, k5, k6⟩ := b3 j h1 (by omega)
      refine ⟨k1, k2, by simp [k3], i, k4, ?_, ?_⟩
      · rw [dm_un (hK j h1 (by omega)), dm_fun (by omega)]; exact k5
      · rw [dm_fun (by omega)]; exact k6
  · intro x hx h
    simp only [Bool.or_eq_true, decide_eq_true_eq] at h
    by_cases ex : x = c
    · exact ⟨e, b0, by omega, by rw [dm_fus]; exact ex.symm⟩
    · obtain ⟨j, h1, h2, h3⟩ := b4 x hx (h.resolve_right ex)
      exact ⟨j, h1, by omega, by rw [dm_fun (by omega)]; exact h3⟩
  · intro i j h1 h2 h3 h4
    by_cases ei : i = e
    · by_cases ej : j = e
      · intro _; omega
      · rw [ei, dm_fus, dm_fun ej]
        intro w
        exact absurd w.symm (hK j h3 (by omega))
    · by_cases ej : j = e
      · rw [ej, dm_fus, dm_fun ei]
        intro w
        exact absurd w (hK i h1 (by omega))
      · rw [dm_fun ei, dm_fun ej]
        exact b5 i j h1 (by omega) h3 (by omega)
theorem dm_bf_ch (hS : dm_Sys E p q) (h0 : 7 ≤ p s0) (hB : dm_BF E q s0 S e aq af Q K) {a c : Nat} (hc : c < 7) (hs : S c = false) (hq : 7 ≤ q c) (ha : a < e) (he : E (Q a) c = true) :
    dm_Ch E s0 e Q (dm_fu K e c) (upd af c (nI (Q a))) ∧ dm_TP E Q (dm_fu K e c) (dm_sz p) e p q := by
  have e7 := dm_bf_e7 hS h0 hB
  have hinj := dm_bf_inj hS h0 hB
  have hp := dm_bf_p hS hB
  obtain ⟨b0, b1, b2, b3, b4, b5⟩ := hB
  have hK : ∀ j, 1 ≤ j → j < e → K j ≠ c := fun j h1 h2 w => by
    have := (b3 j h1 h2).2.2.1
    rw [w] at this
    exact dm_tf this hs
  refine ⟨⟨b1, e7, fun j hj => (b2 j hj).2, hinj, ?_, ?_⟩, ?_, hS.2, ?_, ?_, rfl⟩
  · intro j h1 hj
    by_cases ej : j = e
    · rw [ej, dm_fus]
      exact ⟨hc, a, ha, dm_us, he⟩
    · rw [dm_fun ej]
      obtain ⟨k1, k2, k3, i, k4, k5, k6⟩ := b3 j h1 (by omega)
      exact ⟨k1, i, k4, by rw [dm_un (hK j h1 (by omega))]; exact k5, k6⟩
  · intro i j h1 h2 h3 h4
    by_cases ei : i = e
    · by_cases ej : j = e
      · intro _; omega
      · rw [ei, dm_fus, dm_fun ej]
        intro w
        exact absurd w.symm (hK j h3 (by omega))
    · by_cases ej : j = e
      · rw [ej, dm_fus, dm_fun ei]
        intro w
        exact absurd w (hK i h1 (by omega))
      · rw [dm_fun ei, dm_fun ej]
        exact b5 i j h1 (by omega) h3 (by omega)
  · intro r x hr hx
    rw [dm_fus, hS.1 r x hr hx]
    refine ⟨fun w => ⟨w, fun w2 => ?_⟩, fun w => w.1⟩
    rw [w2] at w
    omega
  · intro j h1 hj
    rw [dm_fun (by omega)]
    exact hp j h1 hj
  · rw [b1]; exact h0
def dm_Fail (E : Nat → Nat → Bool) (q : Nat → Nat) (r : Nat) : Prop := ∃ Z : Nat → Prop, Z r ∧ (∀ r c, r < 7 → c < 7 → Z r → E r c = true → q c < 7 ∧ Z (q c))
theorem dm_bf_fail (hB : dm_BF E q s0 S e aq af Q K) (hd : ∀ j, j < e → ∀ c, c < 7 → E (Q j) c = true → S c = true) : dm_Fail E q s0 := by
  obtain ⟨b0, b1, b2, b3, b4, b5⟩ := hB
  refine ⟨fun r => ∃ j, j < e ∧ Q j = r, ⟨0, by omega, b1⟩, ?_⟩
  rintro r c hr hc ⟨j, hj, ej⟩ he
  rw [← ej] at he
  obtain ⟨i, h1, h2, h3⟩ := b4 c hc (hd j hj c hc he)
  have h4 := (b3 i h1 h2).2.1
  rw [h3] at h4
  rw [h4]
  exact ⟨(b2 i h2).2, i, h2, rfl⟩
end
end
section
/-! X: turnPath, augment, prepare -/
section
variable {fr rr cr rc cc : Int32} {ae ap ac aq af ar au : Nat → Int32} {E : Nat → Nat → Bool} {p q : Nat → Nat}
theorem dm_w_tp {post : SX → Prop} {s0 e z : Nat} {Q K : Nat → Nat} (hs0 : s0 < 7) (hC : dm_Ch E s0 e Q K af)
    (hp : ∀ (ap' ac' : Nat → Int32) (p' q' : Nat → Nat), (∀ r, r < 7 → ap' r = dm_pm (p' r)) → (∀ r, r < 7 → ac' r = dm_pm (q' r)) → dm_Sys E p' q' → dm_sz p' = z + 1 → post (fr, rr, cr, rc, cc, ae, ap', ac', aq, af, ar, au)) :
    ∀ (n k t : Nat) (ap ac : Nat → Int32) (p1 q1 : Nat → Nat), 1 ≤ k → k ≤ e → t + k ≤ 7 → k < n + 1 → (∀ r, r < 7 → ap r = dm_pm (p1 r)) → (∀ r, r < 7 → ac r = dm_pm (q1 r)) → dm_TP E Q K z k p1 q1 →
      wX_turnPath_5 post (nI s0) fr rr cr rc cc n (nI (K k)) (nI t) ae ap ac aq af ar au := by
  intro n
  induction n with
  | zero => intro k t ap ac p1 q1 h1 h2 h3 h4; omega
  | succ n ih =>
    intro k t ap ac p1 q1 h1 h2 h3 h4 hap hac hT
    obtain ⟨hKk, i, hik, hF, hE⟩ := hC.2.2.2.2.1 k h1 h2
    have hQi : Q i < 7 := hC.2.2.1 i (by omega)
    refine br_f (dm_n7 (by omega)) ⟨dm_in7 hKk, nm_r (e' := nI (Q i)) (by rw [dm_c7 hKk]; exact hF) ⟨dm_in7 hQi, nm_r (e' := dm_pm (p1 (Q i))) (by rw [dm_c7 hQi, hap _ hQi]) ⟨dm_in7 hQi, nm_r (e' := upd ap (Q i) (nI (K k))) (by rw [dm_c7 hQi, dm_nb hKk]) ⟨dm_in7 hKk, nm_r (e' := upd ac (K k) (nI (Q i))) (by rw [dm_c7 hKk, dm_nb hQi]) ?_⟩⟩⟩⟩
    by_cases ei : i = 0
    · rw [ei] at hE ⊢
      have h := dm_tp_end hC hT h1 h2 hE
      refine br_t (by rw [hC.1]) (hp _ _ _ _ (dm_upm hap hKk) (dm_upm hac ?_) h.1 h.2)
      rw [ei] at hQi
      exact hQi
    · have hne : ¬ nI (Q i) = nI s0 := by
        rw [nI_eq (by omega) (by omega), ← hC.1]
        intro w
        exact ei (hC.2.2.2.1 i 0 (by omega) (by omega) w)
      have hKi : K i < 7 := (hC.2.2.2.2.1 i (by omega) (by omega)).1
      have ex : dm_pm (p1 (Q i)) = nI (K i) := by rw [hT.2.2.1 i (by omega) hik, dm_pm_lo hKi]
      refine br_f hne (nm_r (nI_1 t) ?_)
      rw [ex]
      exact ih i (t + 1) _ _ _ _ (by omega) (by omega) (by omega) (by omega) (dm_upm hap hKk) (dm_upm hac hQi) (dm_tp_step hC hT (by omega) hik h2 hE)
theorem dm_w_33 {post : Int32 → SX → Prop} {J : Int32 → Int32 → Int32 → (Nat → Int32) → (Nat → Int32) → (Nat → Int32) → (Nat → Int32) → (Nat → Int32) → (Nat → Int32) → (Nat → Int32) → Prop} {s0 a r0 : Nat} (hs0 : s0 < 7) (h0 : 7 ≤ p s0) (hr0 : r0 < 7)
    (hE : ∀ r, r < 7 → ae r = dm_mk (E r)) (hap : ∀ r, r < 7 → ap r = dm_pm (p r)) (hac : ∀ r, r < 7 → ac r = dm_pm (q r)) (hS : dm_Sys E p q)
    (hok : ∀ (ap' ac' aq' af' : Nat → Int32) (p' q' : Nat → Nat), (∀ r, r < 7 → ap' r = dm_pm (p' r)) → (∀ r, r < 7 → ac' r = dm_pm (q' r)) → dm_Sys E p' q' → dm_sz p' = dm_sz p + 1 → post 1 (fr, rr, cr, rc, cc, ae, ap', ac', aq', af', ar, au))
    {x3 : Int32} {e : Nat} {S : Nat → Bool} {Q K : Nat → Nat} (hx3 : x3 = dm_mk S) (hB : dm_BF E q s0 S e aq af Q K) (ha : a < e) (hQ : Q a = r0) (hd : ∀ j, j < a → ∀ c, c < 7 → E (Q j) c = true → S c = true)
    (hJ : ∀ (x3 : Int32) (e : Nat) (S : Nat → Bool) (aq af : Nat → Int32) (Q K : Nat → Nat), x3 = dm_mk S → dm_BF E q s0 S e aq af Q K → a < e → (∀ j, j < a + 1 → ∀ c, c < 7 → E (Q j) c = true → S c = true) → J (nI e) x3 (nI (a + 1)) ae ap ac aq af ar au) :
    ∃ n, wX_augment_33 post J (nI s0) (nI a) (nI r0) fr rr cr rc cc n (nI e) x3 0 ae ap ac aq af ar au := by
  refine loop_0 (fun n i (s : Int32 × Int32 × (Nat → Int32) × (Nat → Int32)) => wX_augment_33 post J (nI s0) (nI a) (nI r0) fr rr cr rc cc n s.1 s.2.1 (nI i) ae ap ac s.2.2.1 s.2.2.2 ar au)
    (fun i s => ∃ (e : Nat) (S : Nat → Bool) (Q K : Nat → Nat), s.1 = nI e ∧ s.2.1 = dm_mk S ∧ dm_BF E q s0 S e s.2.2.1 s.2.2.2 Q K ∧ a < e ∧ Q a = r0 ∧ (∀ j, j < a → ∀ c, c < 7 → E (Q j) c = true → S c = true) ∧ (∀ c, c < i → E r0 c = true → S c = true))
    7 (nI e, x3, aq, af) ⟨e, S, Q, K, rfl, hx3, hB, ha, hQ, hd, fun c hc => by omega⟩ ?_ ?_
  · rintro n ⟨s1, s2, s3, s4⟩ ⟨e, S, Q, K, e1, e2, hB, ha, hQ, hd, hi⟩
    dsimp only at e1 e2 hB ⊢
    rw [e1]
    refine br_t dm_7 (nm_r (nI_1 a) (hJ s2 e S s3 s4 Q K e2 hB ha ?_))
    intro j hj c hc he
    by_cases ej : j = a
    · rw [ej, hQ] at he
      exact hi c hc he
    · exact hd j (by omega) c hc he
  · rintro n i ⟨s1, s2, s3, s4⟩ hi ⟨e, S, Q, K, e1, e2, hB, ha, hQ, hd, hdone⟩ KK
    dsimp only at e1 e2 hB KK ⊢
    subst e1 e2
    have er : ae (nI r0).toNatClampNeg = dm_mk (E r0) := by rw [dm_c7 hr0, hE r0 hr0]
    have ei : ac (nI i).toNatClampNeg = dm_pm (q i) := by rw [dm_c7 hi, hac i hi]
    refine br_f (dm_n7 hi) (And.intro (dm_in7 hr0) ?_)
    rw [er]
    refine br_c (fun hz => nm_r (nI_1 i) (KK (nI e, dm_mk S, s3, s4) ⟨e, S, Q, K, rfl, rfl, hB, ha, hQ, hd, ?_⟩)) (fun hz => ?_)
    · intro c hc he
      by_cases ec : c = i
      · rw [dm_seen _ _ hi] at hz
        rw [ec] at he ⊢
        exact dm_nf (fun w => hz ⟨he, w⟩)
      · exact hdone c (by omega) he
    · rw [dm_seen _ _ hi] at hz
      obtain ⟨he, hs⟩ := Decidable.not_not.mp hz
      have he' : E (Q a) i = true := by rw [hQ]; exact he
      refine nm_r (e' := dm_mk (fun x => S x || decide (x = i))) (by rw [dm_one i hi, dm_or]) ⟨dm_in7 hi, nm_r (e' := upd s4 i (nI (Q a))) (by rw [dm_c7 hi, hQ, dm_nb hr0]) ⟨dm_in7 hi, dm_pm_pos ei (fun hq => ⟨dm_in7 hi, ?_⟩) (fun hq => ?_)⟩⟩
      · have e6 := dm_bf_e6 hS h0 hB hi hs hq
        refine ⟨dm_in7 (by omega), nm_r (e' := upd s3 e (nI (q i))) (by rw [ei, dm_pm_lo hq, dm_c7 (by omega), dm_nb' hq]) (nm_r (nI_1 e) (nm_r (nI_1 i) ?_))⟩
        refine KK (nI (e + 1), _, _, _) ⟨e + 1, _, _, _, rfl, rfl, dm_bf_add hB hi hs hq ha he', by omega, ?_, ?_, ?_⟩
        · rw [dm_fun (by omega)]; exact hQ
        · intro j hj c hc hec
          rw [dm_fun (by omega)] at hec
          simp [hd j hj c hc hec]
        · intro c hc hec
          by_cases ec : c = i
          · simp [ec]
          · simp [hdone c (by omega) hec]
      · have hch := dm_bf_ch hS h0 hB hi hs hq ha he'
        have e7 := hch.1.2.1
        have eK : nI i = nI (dm_fu K e i e) := by rw [dm_fus]
        refine ⟨e + 1, ?_⟩
        show wX_turnPath_5 _ (nI s0) fr rr cr rc cc (e + 1) (nI i) (nI 0) ae ap ac s3 (upd s4 i (nI (Q a))) ar au
        rw [eK]
        exact dm_w_tp hs0 hch.1 (fun ap' ac' p' q' k1 k2 k3 k4 => hok ap' ac' _ _ p' q' k1 k2 k3 k4) (e + 1) e 0 _ _ p q hB.1 (Nat.le_refl _) (by omega) (by omega) hap hac hch.2
theorem dm_w_15 {post : Int32 → SX → Prop} {s0 : Nat} (hs0 : s0 < 7) (h0 : 7 ≤ p s0)
    (hE : ∀ r, r < 7 → ae r = dm_mk (E r)) (hap : ∀ r, r < 7 → ap r = dm_pm (p r)) (hac : ∀ r, r < 7 → ac r = dm_pm (q r)) (hS : dm_Sys E p q)
    (hok : ∀ (ap' ac' aq' af' : Nat → Int32) (p' q' : Nat → Nat), (∀ r, r < 7 → ap' r = dm_pm (p' r)) → (∀ r, r < 7 → ac' r = dm_pm (q' r)) → dm_Sys E p' q' → dm_sz p' = dm_sz p + 1 → post 1 (fr, rr, cr, rc, cc, ae, ap', ac', aq', af', ar, au))
    (hno : ∀ (aq' af' : Nat → Int32), dm_Fail E q s0 → post 0 (fr, rr, cr, rc, cc, ae, ap, ac, aq', af', ar, au)) :
    ∀ (n a e : Nat) (x3 : Int32) (S : Nat → Bool) (aq af : Nat → Int32) (Q K : Nat → Nat), 8 ≤ n + a → a ≤ e → x3 = dm_mk S → dm_BF E q s0 S e aq af Q K → (∀ j, j < a → ∀ c, c < 7 → E (Q j) c = true → S c = true) →
      wX_augment_15 post (nI s0) fr rr cr rc cc n (nI e) x3 (nI a) ae ap ac aq af ar au := by
  intro n
  induction n with
  | zero =>
    intro a e x3 S aq af Q K h1 h2 h3 hB
    have := dm_bf_e7 hS h0 hB
    omega
  | succ n ih =>
    intro a e x3 S aq af Q K h1 h2 h3 hB hd
    have e7 := dm_bf_e7 hS h0 hB
    refine pk_le e a (fun h => hno aq af (dm_bf_fail hB (fun j hj => hd j (by omega)))) (fun h => ⟨dm_in7 (by omega), nm_r (e' := nI (Q a)) (by rw [dm_c7 (by omega)]; exact (hB.2.2.1 a h).1) ?_⟩)
    refine dm_w_33 hs0 h0 (hB.2.2.1 a h).2 hE hap hac hS hok h3 hB h rfl hd ?_
    intro x3' e' S' aq' af' Q' K' k1 k2 k3 k4
    exact ih (a + 1) e' x3' S' aq' af' Q' K' (by omega) (by omega) k1 k2 k4
theorem dm_w_aug {post : Int32 → SX → Prop} {s0 : Nat} (hs0 : s0 < 7) (h0 : 7 ≤ p s0)
    (hE : ∀ r, r < 7 → ae r = dm_mk (E r)) (hap : ∀ r, r < 7 → ap r = dm_pm (p r)) (hac : ∀ r, r < 7 → ac r = dm_pm (q r)) (hS : dm_Sys E p q)
    (hok : ∀ (ap' ac' aq' af' : Nat → Int32) (p' q' : Nat → Nat), (∀ r, r < 7 → ap' r = dm_pm (p' r)) → (∀ r, r < 7 → ac' r = dm_pm (q' r)) → dm_Sys E p' q' → dm_sz p' = dm_sz p + 1 → post 1 (fr, rr, cr, rc, cc, ae, ap', ac', aq', af', ar, au))
    (hno : ∀ (aq' af' : Nat → Int32), dm_Fail E q s0 → post 0 (fr, rr, cr, rc, cc, ae, ap, ac, aq', af', ar, au)) : wpX_augment post (fr, rr, cr, rc, cc, ae, ap, ac, aq, af, ar, au) (nI s0) := by
  refine nm_r (e' := upd aq 0 (nI s0)) (by rw [dm_nb hs0]) ⟨8, ?_⟩
  refine dm_w_15 hs0 h0 hE hap hac hS hok hno 8 0 1 0 (fun _ => false) _ _ (fun _ => s0) (fun _ => 0) (by omega) (by omega) dm_0 ⟨by omega, rfl, ?_, ?_, ?_, ?_⟩ ?_
  · intro j hj
    have : j = 0 := by omega
    rw [this, dm_us]
    exact ⟨rfl, hs0⟩
  · intro j h1 h2; omega
  · intro c hc h
    cases h
  · intro i j h1 h2; omega
  · intro j hj; omega
/-- the state that all calls keep: the edges and a matching -/
def dm_St (E : Nat → Nat → Bool) (p q : Nat → Nat) (ae ap ac : Nat → Int32) : Prop :=
  (∀ r, r < 7 → ae r = dm_mk (E r)) ∧ (∀ r, r < 7 → ap r = dm_pm (p r)) ∧ (∀ r, r < 7 → ac r = dm_pm (q r)) ∧ (∀ r c, r < 7 → c < 7 → (p r = c ↔ q c = r))
theorem dm_w_86 {post : SX → Prop} {J : Int32 → Int32 → Int32 → Int32 → Int32 → Int32 → Int32 → (Nat → Int32) → (Nat → Int32) → (Nat → Int32) → (Nat → Int32) → (Nat → Int32) → (Nat → Int32) → (Nat → Int32) → Prop} {k : Nat}
    (hE : ∀ r, r < 7 → ae r = dm_mk (E r)) (hap : ∀ r, r < 7 → ap r = dm_pm (p r)) (hac : ∀ r, r < 7 → ac r = dm_pm (q r)) (hS : dm_Sys E p q) (hk : k ≤ dm_sz p)
    (hJ : ∀ (g : Int32) (ap ac aq af : Nat → Int32) (p q : Nat → Nat), (∀ r, r < 7 → ap r = dm_pm (p r)) → (∀ r, r < 7 → ac r = dm_pm (q r)) → dm_Sys E p q →
      ((g = 0 ∧ ∀ r, r < 7 → 7 ≤ p r → dm_Fail E q r) ∨ (g = 1 ∧ k + 1 ≤ dm_sz p)) → J g (nI (k + 1)) fr rr cr rc cc ae ap ac aq af ar au) :
    ∃ n, wX_prepare_86 post J (nI k) n 0 0 fr rr cr rc cc ae ap ac aq af ar au := by
  refine loop_0 (fun n i (s : Int32 × (Nat → Int32) × (Nat → Int32) × (Nat → Int32) × (Nat → Int32)) => wX_prepare_86 post J (nI k) n s.1 (nI i) fr rr cr rc cc ae s.2.1 s.2.2.1 s.2.2.2.1 s.2.2.2.2 ar au)
    (fun i s => ∃ p q : Nat → Nat, (∀ r, r < 7 → s.2.1 r = dm_pm (p r)) ∧ (∀ r, r < 7 → s.2.2.1 r = dm_pm (q r)) ∧ dm_Sys E p q ∧ ((s.1 = 0 ∧ k ≤ dm_sz p ∧ ∀ r, r < i → 7 ≤ p r → dm_Fail E q r) ∨ (s.1 = 1 ∧ k + 1 ≤ dm_sz p)))
    7 (0, ap, ac, aq, af) ⟨p, q, hap, hac, hS, Or.inl ⟨rfl, hk, fun r hr => by omega⟩⟩ ?_ ?_
  · rintro n ⟨g, s1, s2, s3, s4⟩ ⟨p, q, h1, h2, hS, h3⟩
    dsimp only at h1 h2 h3 ⊢
    refine br_t dm_7 (nm_r (nI_1 k) (hJ g s1 s2 s3 s4 p q h1 h2 hS ?_))
    rcases h3 with h3 | h3
    · exact Or.inl ⟨h3.1, h3.2.2⟩
    · exact Or.inr h3
  · rintro n i ⟨g, s1, s2, s3, s4⟩ hi ⟨p, q, h1, h2, hS, h3⟩ K
    dsimp only at h1 h2 h3 K ⊢
    have ei : s1 (nI i).toNatClampNeg = dm_pm (p i) := by rw [dm_c7 hi, h1 i hi]
    refine br_f (dm_n7 hi) ⟨dm_in7 hi, dm_pm_pos ei (fun h => nm_r (nI_1 i) (K (g, s1, s2, s3, s4) ⟨p, q, h1, h2, hS, ?_⟩)) (fun h => dm_w_aug hi h hE h1 h2 hS ?_ ?_)⟩
    · rcases h3 with h3 | h3
      · refine Or.inl ⟨h3.1, h3.2.1, fun r hr hp => ?_⟩
        by_cases er : r = i
        · rw [er] at hp; omega
        · exact h3.2.2 r (by omega) hp
      · exact Or.inr h3
    · intro ap' ac' aq' af' p' q' k1 k2 k3 k4
      refine br_f (by decide) (nm_r (nI_1 i) (K (1, ap', ac', aq', af') ⟨p', q', k1, k2, k3, Or.inr ⟨rfl, ?_⟩⟩))
      rcases h3 with h3 | h3
      · omega
      · omega
    · intro aq' af' hf
      refine br_t rfl (nm_r (nI_1 i) (K (g, s1, s2, aq', af') ⟨p, q, h1, h2, hS, ?_⟩))
      rcases h3 with h3 | h3
      · refine Or.inl ⟨h3.1, h3.2.1, fun r hr hp => ?_⟩
        by_cases er : r = i
        · rw [er]; exact hf
        · exact h3.2.2 r (by omega) hp
      · exact Or.inr h3
theorem dm_fails (h : ∀ r, r < 7 → 7 ≤ p r → dm_Fail E q r) : ∃ Z : Nat → Prop, (∀ r, r < 7 → 7 ≤ p r → Z r) ∧ (∀ r c, r < 7 → c < 7 → Z r → E r c = true → q c < 7 ∧ Z (q c)) := by
  refine ⟨fun x => ∃ Z : Nat → Prop, Z x ∧ (∀ r c, r < 7 → c < 7 → Z r → E r c = true → q c < 7 ∧ Z (q c)), fun r hr hp => h r hr hp, ?_⟩
  rintro r c hr hc ⟨Z, hz, hcl⟩ he
  have := hcl r c hr hc hz he
  exact ⟨this.1, Z, this.2, hcl⟩
theorem dm_w_72 {post : SX → Prop} (hE : ∀ r, r < 7 → ae r = dm_mk (E r)) (hap : ∀ r, r < 7 → ap r = dm_pm (p r)) (hac : ∀ r, r < 7 → ac r = dm_pm (q r)) (hS : dm_Sys E p q)
    (hp : ∀ (rr cr rc cc : Int32) (ap ac aq af ar au : Nat → Int32) (p q : Nat → Nat), (∀ r, r < 7 → ap r = dm_pm (p r)) → (∀ r, r < 7 → ac r = dm_pm (q r)) → dm_Rd E p q rr cr cc au → post (fr, rr, cr, rc, cc, ae, ap, ac, aq, af, ar, au)) :
    ∃ n, wX_prepare_72 post n 1 0 fr rr cr rc cc ae ap ac aq af ar au := by
  refine loop_0 (fun n i (s : Int32 × (Nat → Int32) × (Nat → Int32) × (Nat → Int32) × (Nat → Int32)) => wX_prepare_72 post n s.1 (nI i) fr rr cr rc cc ae s.2.1 s.2.2.1 s.2.2.2.1 s.2.2.2.2 ar au)
    (fun i s => ∃ p q : Nat → Nat, (∀ r, r < 7 → s.2.1 r = dm_pm (p r)) ∧ (∀ r, r < 7 → s.2.2.1 r = dm_pm (q r)) ∧ dm_Sys E p q ∧ ((s.1 = 0 ∧ ∀ r, r < 7 → 7 ≤ p r → dm_Fail E q r) ∨ (s.1 = 1 ∧ i ≤ dm_sz p)))
    8 (1, ap, ac, aq, af) ⟨p, q, hap, hac, hS, Or.inr ⟨rfl, Nat.zero_le _⟩⟩ ?_ ?_
  · rintro n ⟨g, s1, s2, s3, s4⟩ ⟨p, q, h1, h2, hS, h3⟩
    dsimp only at h1 h2 h3 ⊢
    have hz : dm_sz p ≤ 7 := dm_cnt_le _ 7
    rcases h3 with h3 | h3
    · exact br_t dm_8 (dm_w_123 hE h1 h2 hS (dm_fails h3.2) (fun rr' cr' rc' cc' ar' au' hR => hp _ _ _ _ _ _ _ _ _ _ p q h1 h2 hR))
    · omega
  · rintro n i ⟨g, s1, s2, s3, s4⟩ hi ⟨p, q, h1, h2, hS, h3⟩ K
    dsimp only at h1 h2 h3 K ⊢
    rcases h3 with h3 | h3
    · exact br_f (dm_n8 hi) (br_t h3.1 (dm_w_123 hE h1 h2 hS (dm_fails h3.2) (fun rr' cr' rc' cc' ar' au' hR => hp _ _ _ _ _ _ _ _ _ _ p q h1 h2 hR)))
    · refine br_f (dm_n8 hi) (br_f (by rw [h3.1]; decide) (dm_w_86 hE h1 h2 hS h3.2 ?_))
      intro g' ap' ac' aq' af' p' q' k1 k2 k3 k4
      exact K (g', ap', ac', aq', af') ⟨p', q', k1, k2, k3, k4⟩
theorem dm_w_prep {post : SX → Prop} (hSt : dm_St E p q ae ap ac) (hRd : ¬ fr = 0 → dm_Rd E p q rr cr cc au)
    (hp : ∀ (fr rr cr rc cc : Int32) (ap ac aq af ar au : Nat → Int32) (p q : Nat → Nat), ¬ fr = 0 → dm_St E p q ae ap ac → dm_Rd E p q rr cr cc au → post (fr, rr, cr, rc, cc, ae, ap, ac, aq, af, ar, au)) : wpX_prepare post (fr, rr, cr, rc, cc, ae, ap, ac, aq, af, ar, au) := by
  refine br_c (fun _ => ?_) (fun h => hp _ _ _ _ _ _ _ _ _ _ _ p q h hSt (hRd h))
  obtain ⟨hE, hap, hac, hM⟩ := hSt
  refine loop_0 (fun n i (s : (Nat → Int32) × (Nat → Int32)) => wX_prepare_15 post 1 rr cr rc cc n (nI i) ae s.1 s.2 aq af ar au)
    (fun i s => ∃ p q : Nat → Nat, (∀ r, r < 7 → s.1 r = dm_pm (p r)) ∧ (∀ r, r < 7 → s.2 r = dm_pm (q r)) ∧ (∀ r c, r < 7 → c < 7 → (p r = c ↔ q c = r)) ∧ (∀ r, r < i → p r < 7 → E r (p r) = true))
    7 (ap, ac) ⟨p, q, hap, hac, hM, fun r hr => by omega⟩ ?_ ?_
  · rintro n ⟨s1, s2⟩ ⟨p, q, h1, h2, h3, h4⟩
    dsimp only at h1 h2 ⊢
    refine br_t dm_7 (dm_w_72 hE h1 h2 ⟨h3, h4⟩ ?_)
    intro rr cr rc cc ap ac aq af ar au p q k1 k2 k3
    exact hp 1 rr cr rc cc ap ac aq af ar au p q (by decide) ⟨hE, k1, k2, k3.1.1⟩ k3
  · rintro n i ⟨s1, s2⟩ hi ⟨p, q, h1, h2, h3, h4⟩ K
    dsimp only at h1 h2 K ⊢
    have ei : s1 (nI i).toNatClampNeg = dm_pm (p i) := by rw [dm_c7 hi, h1 i hi]
    have ee : ae (nI i).toNatClampNeg = dm_mk (E i) := by rw [dm_c7 hi, hE i hi]
    refine br_f (dm_n7 hi) ⟨dm_in7 hi, nm_r ei (dm_pm_neg rfl (fun h => nm_r (nI_1 i) (K (s1, s2) ⟨p, q, h1, h2, h3, ?_⟩)) (fun h => ⟨dm_in7 hi, ?_⟩))⟩
    · intro r hr hp'
      by_cases er : r = i
      · rw [er] at hp'; omega
      · exact h4 r (by omega) hp'
    · rw [dm_pm_lo h]
      refine dm_br ee h (fun hz => ⟨dm_in7 hi, nm_r (e' := upd s1 i (-1)) (by rw [dm_c7 hi, dm_nbm]) ⟨dm_in7 h, nm_r (e' := upd s2 (p i) (-1)) (by rw [dm_c7 h, dm_nbm]) (nm_r (nI_1 i) (K (_, _) ⟨dm_fu p i 7, dm_fu q (p i) 7, dm_upn h1, dm_upn h2, ?_, ?_⟩))⟩⟩) (fun hz => nm_r (nI_1 i) (K (s1, s2) ⟨p, q, h1, h2, h3, ?_⟩))
      · intro r c hr hc
        by_cases er : r = i
        · rw [er, dm_fus]
          by_cases ec : c = p i
          · rw [ec, dm_fus]; omega
          · rw [dm_fun ec]
            refine ⟨fun w => by omega, fun w => ?_⟩
            exact absurd ((h3 i c hi hc).mpr w).symm ec
        · rw [dm_fun er]
          by_cases ec : c = p i
          · rw [ec, dm_fus]
            refine ⟨fun w => ?_, fun w => by omega⟩
            have w1 := (h3 r (p i) hr h).mp w
            have w2 := (h3 i (p i) hi h).mp rfl
            omega
          · rw [dm_fun ec]; exact h3 r c hr hc
      · intro r hr
        by_cases er : r = i
        · rw [er, dm_fus]; intro w; omega
        · rw [dm_fun er]; exact h4 r (by omega)
      · intro r hr hp'
        by_cases er : r = i
        · rw [er]; exact hz
        · exact h4 r (by omega) hp'
end
end
section
/-! blocks, without the program -/
def dm_lk (G : Nat → Nat → Bool) (a b : Nat) : Bool := dm_ex (fun c => G a c && G b c) 7
def dm_nz (G : Nat → Nat → Bool) (a : Nat) : Bool := dm_ex (G a) 7
def dm_cl (G : Nat → Nat → Bool) (S : Nat → Prop) : Prop := ∀ a b, a < 7 → b < 7 → S a → dm_lk G a b = true → S b
noncomputable def dm_blk (G : Nat → Nat → Bool) (r k : Nat) : Bool := @decide (∀ S : Nat → Prop, S r → dm_cl G S → S k) (Classical.propDecidable _)
theorem dm_blk_iff {G : Nat → Nat → Bool} {r k : Nat} : dm_blk G r k = true ↔ ∀ S : Nat → Prop, S r → dm_cl G S → S k := by
  unfold dm_blk
  exact @decide_eq_true_iff _ (Classical.propDecidable _)
def dm_Bp (G : Nat → Nat → Bool) (r k : Nat) (S : Nat → Bool) : Prop := S r = true ∧ (∀ Z : Nat → Prop, Z r → dm_cl G Z → ∀ x, x < 7 → S x = true → Z x) ∧ (dm_cl G (fun x => S x = true) ∨ k + 1 ≤ dm_cnt S 7)
theorem dm_bp_0 {G : Nat → Nat → Bool} {r : Nat} (hr : r < 7) : dm_Bp G r 0 (fun i => decide (i = r)) := by
  refine ⟨by simp, ?_, Or.inr ?_⟩
  · intro Z hz _ x _ h
    simp only [decide_eq_true_eq] at h
    rw [h]; exact hz
  · rw [dm_cnt_one, if_pos hr]; exact Nat.le_refl _
theorem dm_bp_s {G : Nat → Nat → Bool} {r k : Nat} {S S' : Nat → Bool} (h : dm_Bp G r k S) (h1 : ∀ x, x < 7 → S x = true → S' x = true) (hr : S' r = true) (h2 : ∀ a b, a < 7 → b < 7 → S a = true → dm_lk G a b = true → S' b = true)
    (h3 : ∀ Z : Nat → Prop, Z r → dm_cl G Z → ∀ x, x < 7 → S' x = true → Z x) : dm_Bp G r (k + 1) S' := by
  refine ⟨hr, h3, ?_⟩
  by_cases hg : ∃ x, x < 7 ∧ S x = false ∧ S' x = true
  · obtain ⟨x, hx, hf, ht⟩ := hg
    have hlt := dm_cnt_lt (f := S) (g := S') (n := 7) h1 x hx hf ht
    rcases h.2.2 with w | w
    · exact (dm_tf (h3 (fun x => S x = true) h.1 w x hx ht) hf).elim
    · right; omega
  · left
    intro a b ha hb hs hl
    by_cases w : S a = true
    · exact h2 a b ha hb w hl
    · exact absurd ⟨a, ha, dm_nt w, hs⟩ hg
theorem dm_bp_7 {G : Nat → Nat → Bool} {r : Nat} {S : Nat → Bool} (h : dm_Bp G r 7 S) : ∀ k, k < 7 → S k = dm_blk G r k := by
  intro k hk
  have hc : dm_cl G (fun x => S x = true) := by
    rcases h.2.2 with w | w
    · exact w
    · have := dm_cnt_le S 7
      omega
  rw [Bool.eq_iff_iff, dm_blk_iff]
  exact ⟨fun hs Z hz hcl => h.2.1 Z hz hcl k hk hs, fun hz => hz (fun x => S x = true) h.1 hc⟩
theorem dm_lk_iff {G : Nat → Nat → Bool} {a b : Nat} : dm_lk G a b = true ↔ ∃ c, c < 7 ∧ G a c = true ∧ G b c = true := by
  unfold dm_lk
  rw [dm_ex_iff]
  simp only [Bool.and_eq_true]
theorem dm_lk_sym {G : Nat → Nat → Bool} {a b : Nat} (h : dm_lk G a b = true) : dm_lk G b a = true := by
  obtain ⟨c, hc, h1, h2⟩ := dm_lk_iff.mp h
  exact dm_lk_iff.mpr ⟨c, hc, h2, h1⟩
theorem dm_blk_rfl (G : Nat → Nat → Bool) (r : Nat) : dm_blk G r r = true := dm_blk_iff.mpr (fun _ h _ => h)
theorem dm_blk_tr {G : Nat → Nat → Bool} {a b c : Nat} (h1 : dm_blk G a b = true) (h2 : dm_blk G b c = true) : dm_blk G a c = true :=
  dm_blk_iff.mpr (fun S ha hc => dm_blk_iff.mp h2 S (dm_blk_iff.mp h1 S ha hc) hc)
theorem dm_blk_sym {G : Nat → Nat → Bool} {a b : Nat} (h : dm_blk G a b = true) : dm_blk G b a = true := by
  refine dm_blk_iff.mp h (fun x => dm_blk G x a = true) (dm_blk_rfl G a) ?_
  intro x y hx hy hxa hl
  refine dm_blk_tr (dm_blk_iff.mpr (fun S hs hc => hc y x hy hx hs (dm_lk_sym hl))) hxa
theorem dm_blk_nz {G : Nat → Nat → Bool} {a b : Nat} (h : dm_blk G a b = true) (hn : dm_nz G a = true) : dm_nz G b = true := by
  refine dm_blk_iff.mp h (fun x => dm_nz G x = true) hn ?_
  intro x y hx hy _ hl
  obtain ⟨c, hc, h1, h2⟩ := dm_lk_iff.mp hl
  exact dm_ex_t c hc h2
theorem dm_free_LR {E : Nat → Nat → Bool} {p q : Nat → Nat} (hS : dm_Sys E p q) (hn : dm_sz p = dm_nu E) {r : Nat} (hr : r < 7) (h : 7 ≤ p r) : dm_LR E r = true := by
  have hM : dm_Mat (dm_wo E r 7 7 7) p := by
    refine ⟨fun x hx hp => dm_wo_of (hS.2 x hx hp) (fun w => ?_) (by omega) (by omega), (dm_Sys_mat hS).2⟩
    rw [w] at hp
    omega
  have h1 := dm_nu_ge hM
  have h2 := dm_wo_le E r 7 7 7
  simp only [dm_LR, beq_iff_eq]
  omega
theorem dm_US_p {E : Nat → Nat → Bool} {p q : Nat → Nat} (hS : dm_Sys E p q) (hn : dm_sz p = dm_nu E) {r : Nat} (hr : r < 7) (h : p r < 7) : dm_US E r (p r) = true := by
  have he := hS.2 r hr h
  have h1 := dm_ext hr h he
  have hM : dm_Mat (dm_wo E r (p r) 7 7) (dm_fu p r 7) := by
    constructor
    · intro x hx hp
      by_cases e : x = r
      · rw [e, dm_fus] at hp; omega
      · rw [dm_fun e] at hp ⊢
        refine dm_wo_of (hS.2 x hx hp) e (fun w => ?_) (by omega)
        exact e ((dm_Sys_mat hS).2 x r hx hr hp w)
    · intro x y hx hy hp
      by_cases e : x = r
      · rw [e, dm_fus] at hp; omega
      · rw [dm_fun e] at hp ⊢
        by_cases e2 : y = r
        · rw [e2, dm_fus]; intro w; omega
        · rw [dm_fun e2]; exact (dm_Sys_mat hS).2 x y hx hy hp
  have h2 := dm_nu_ge hM
  have h3 : dm_sz p = dm_sz (dm_fu p r 7) + 1 := by
    unfold dm_sz
    rw [dm_cnt_rm (f := fun x => decide (p x < 7)) (k := r) (by simp [h]) hr]
    congr 1
    apply dm_cnt_congr
    intro x _
    by_cases e : x = r
    · rw [e, dm_fus]; simp
    · rw [dm_fun e]; simp [e]
  simp only [dm_US, he, Bool.true_and, beq_iff_eq]
  omega
/-! X: the answers -/
section
variable {fr rr cr rc cc : Int32} {ae ap ac aq af ar au : Nat → Int32} {E : Nat → Nat → Bool} {p q : Nat → Nat} {G : Nat → Nat → Bool}
theorem dm_cnt_s (f : Nat → Bool) (n : Nat) : dm_cnt f (n + 1) = dm_cnt f n + (if f n = true then 1 else 0) := rfl
theorem dm_w_la {post : Int32 → SX → Prop} (hap : ∀ r, r < 7 → ap r = dm_pm (p r)) (h : post (nI (dm_sz p)) (fr, rr, cr, rc, cc, ae, ap, ac, aq, af, ar, au)) : ∃ n, wX_largest_8 post fr rr cr rc cc ae ap ac aq af ar au n 0 0 := by
  refine loop_0 (fun n i x => wX_largest_8 post fr rr cr rc cc ae ap ac aq af ar au n x (nI i)) (fun i x => x = nI (dm_cnt (fun r => decide (p r < 7)) i)) 7 0 rfl ?_ ?_
  · intro n x hx
    rw [hx]
    exact br_t dm_7 h
  · intro n i x hi hx K
    have ei : ap (nI i).toNatClampNeg = dm_pm (p i) := by rw [dm_c7 hi, hap i hi]
    refine br_f (dm_n7 hi) ⟨dm_in7 hi, dm_pm_neg ei (fun h7 => nm_r (nI_1 i) (K x ?_)) (fun h7 => nm_r (e' := nI (dm_cnt (fun r => decide (p r < 7)) (i + 1))) ?_ (nm_r (nI_1 i) (K _ rfl)))⟩
    · rw [hx, dm_cnt_s, if_neg (by simp; omega)]
      rfl
    · rw [hx, nI_1, dm_cnt_s, if_pos (by simp [h7])]
theorem dm_w_co {post : Int32 → SX → Prop} {L N : Nat → Bool} (hE : ∀ r, r < 7 → ae r = dm_mk (E r)) (er : rr = dm_mk L) (ec : cr = dm_mk N) (hne : ∀ r, r < 7 → L r = false → ∃ c, c < 7 ∧ E r c = true)
    (h : post (nI (dm_cnt (fun r => !L r) 7 + dm_cnt N 7)) (fr, rr, cr, rc, cc, ae, ap, ac, aq, af, ar, au)) : ∃ n, wX_cover_8 post fr rr cr rc cc ae ap ac aq af ar au n 0 0 := by
  refine loop_0 (fun n i x => wX_cover_8 post fr rr cr rc cc ae ap ac aq af ar au n x (nI i)) (fun i x => x = nI (dm_cnt (fun r => !L r) i + dm_cnt N i)) 7 0 rfl ?_ ?_
  · intro n x hx
    rw [hx]
    exact br_t dm_7 h
  · intro n i x hi hx K
    have ei : ae (nI i).toNatClampNeg = dm_mk (E i) := by rw [dm_c7 hi, hE i hi]
    have tail : ∀ y : Int32, y = nI (dm_cnt (fun r => !L r) (i + 1) + dm_cnt N i) → wX_cover_37 post (wX_cover_8 post fr rr cr rc cc ae ap ac aq af ar au n) y (nI i) fr rr cr rc cc ae ap ac aq af ar au := by
      intro y hy
      refine dm_br ec hi (fun hz => nm_r (nI_1 i) (K y ?_)) (fun hz => nm_r (e' := nI (dm_cnt (fun r => !L r) (i + 1) + dm_cnt N (i + 1))) ?_ (nm_r (nI_1 i) (K _ rfl)))
      · rw [hy, dm_cnt_s N, if_neg (by rw [hz]; exact Bool.false_ne_true)]
        rfl
      · rw [hy, nI_1, dm_cnt_s N, if_pos hz]
        rfl
    refine br_f (dm_n7 hi) ⟨dm_in7 hi, br_c (fun hz => tail x ?_) (fun hz => dm_br er hi (fun hl => nm_r (e' := nI (dm_cnt (fun r => !L r) (i + 1) + dm_cnt N i)) ?_ (tail _ rfl)) (fun hl => tail x ?_))⟩
    · rw [ei, dm_mk0] at hz
      have hl : L i = true := by
        apply dm_nf
        intro w
        obtain ⟨c, hc, he⟩ := hne i hi w
        exact dm_tf he (hz c hc)
      rw [hx, dm_cnt_s (fun r => !L r), if_neg (by simp [hl])]
      rfl
    · rw [hx, nI_1, dm_cnt_s (fun r => !L r), if_pos (by simp [hl])]
      congr 1
      omega
    · rw [hx, dm_cnt_s (fun r => !L r), if_neg (by simp [hl])]
      rfl
theorem dm_w_if {post : Int32 → Prop} {L C : Nat → Bool} {r : Nat} (hr : r < 7) (hap : ∀ r, r < 7 → ap r = dm_pm (p r)) (hau : ∀ r, r < 7 → au r = dm_mk (G r)) (er : rr = dm_mk L) (ec : cc = dm_mk C)
    (h1 : p r < 7 → L r = false → C (p r) = false → (∀ c, c < 7 → G r c = decide (c = p r)) → post 1)
    (h0 : ¬ (p r < 7 ∧ L r = false ∧ C (p r) = false ∧ ∀ c, c < 7 → G r c = decide (c = p r)) → post 0) : wpX_isForced post (fr, rr, cr, rc, cc, ae, ap, ac, aq, af, ar, au) (nI r) := by
  have e1 : ap (nI r).toNatClampNeg = dm_pm (p r) := by rw [dm_c7 hr, hap r hr]
  have e2 : au (nI r).toNatClampNeg = dm_mk (G r) := by rw [dm_c7 hr, hau r hr]
  refine And.intro (dm_in7 hr) (nm_r e1 (dm_pm_neg rfl (fun h => h0 ?_) (fun h => dm_br er hr (fun hl => ?_) (fun hl => h0 ?_))))
  · rintro ⟨w, _⟩; omega
  · rw [dm_pm_lo h]
    refine dm_br ec h (fun hc => ⟨dm_in7 hr, ?_⟩) (fun hc => h0 ?_)
    · rw [e2, dm_one _ h]
      refine br_c (fun hz => h1 h hl hc (dm_mki hz)) (fun hz => h0 ?_)
      rintro ⟨_, _, _, w⟩
      exact hz (dm_mkx w)
    · rintro ⟨_, _, w, _⟩
      exact dm_tf hc w
  · rintro ⟨_, w, _⟩
    exact dm_tf hl w
theorem dm_w_55 {post : Int32 → Prop} {J : Int32 → Int32 → Prop} {t : Nat} (S N : Nat → Bool) (hau : ∀ r, r < 7 → au r = dm_mk (G r))
    (hJ : J (dm_mk (fun k => S k || dm_ex (fun c => G k c && N c) 7)) (nI (t + 1))) : ∃ n, wX_rowsOfBlock_55 post J (nI t) (dm_mk N) fr rr cr rc cc ae ap ac aq af ar au n (dm_mk S) 0 := by
  refine loop_0 (fun n i x => wX_rowsOfBlock_55 post J (nI t) (dm_mk N) fr rr cr rc cc ae ap ac aq af ar au n x (nI i)) (fun i x => x = dm_mk (fun k => S k || (decide (k < i) && dm_ex (fun c => G k c && N c) 7))) 7 (dm_mk S) ?_ ?_ ?_
  · apply dm_mkx
    intro k _
    simp
  · intro n x hx
    refine br_t dm_7 (nm_r (nI_1 t) ?_)
    have : x = dm_mk (fun k => S k || dm_ex (fun c => G k c && N c) 7) := by
      rw [hx]
      apply dm_mkx
      intro k hk
      simp [hk]
    rw [this]
    exact hJ
  · intro n i x hi hx K
    have ei : au (nI i).toNatClampNeg &&& dm_mk N = dm_mk (fun c => G i c && N c) := by rw [dm_c7 hi, hau i hi, dm_and]
    refine br_f (dm_n7 hi) ⟨dm_in7 hi, br_c (fun hz => nm_r (nI_1 i) (K x ?_)) (fun hz => nm_r (e' := dm_mk (fun k => S k || (decide (k < i + 1) && dm_ex (fun c => G k c && N c) 7))) ?_ (nm_r (nI_1 i) (K _ rfl)))⟩
    · rw [ei, dm_mk0] at hz
      rw [hx]
      apply dm_mkx
      intro k _
      by_cases e : k = i
      · have : dm_ex (fun c => G i c && N c) 7 = false := dm_nt (fun w => by
          obtain ⟨c, hc, h⟩ := (dm_ex_iff _ _).mp w
          exact dm_tf h (hz c hc))
        rw [e, this]; simp
      · have : decide (k < i + 1) = decide (k < i) := decide_eq_decide.mpr (by omega)
        rw [this]
    · rw [ei, dm_mk0] at hz
      have ht : dm_ex (fun c => G i c && N c) 7 = true := dm_nf (fun w => hz (fun c hc => dm_nt (fun h => dm_tf (dm_ex_t (f := fun c => G i c && N c) c hc h) w)))
      rw [hx, dm_one i hi, dm_or]
      apply dm_mkx
      intro k _
      by_cases e : k = i
      · rw [e, ht]; simp
      · have : decide (k < i + 1) = decide (k < i) := decide_eq_decide.mpr (by omega)
        rw [this]; simp [e]
theorem dm_w_18 {post : Int32 → Prop} {J : Int32 → Int32 → Prop} {t : Nat} (S : Nat → Bool) (hau : ∀ r, r < 7 → au r = dm_mk (G r))
    (hJ : J (dm_mk (fun k => S k || dm_ex (fun c => G k c && dm_N G S c) 7)) (nI (t + 1))) : ∃ n, wX_rowsOfBlock_18 post J (dm_mk S) (nI t) fr rr cr rc cc ae ap ac aq af ar au n 0 0 := by
  refine loop_0 (fun n i x => wX_rowsOfBlock_18 post J (dm_mk S) (nI t) fr rr cr rc cc ae ap ac aq af ar au n x (nI i)) (fun i x => x = dm_mk (fun c => dm_ex (fun r => S r && G r c) i)) 7 0 dm_0 ?_ ?_
  · intro n x hx
    rw [hx]
    exact br_t dm_7 (dm_w_55 S (dm_N G S) hau hJ)
  · intro n i x hi hx K
    refine br_f (dm_n7 hi) (dm_br rfl hi (fun hz => nm_r (nI_1 i) (K x ?_)) (fun hz => ⟨dm_in7 hi, nm_r (e' := dm_mk (fun c => dm_ex (fun r => S r && G r c) (i + 1))) ?_ (nm_r (nI_1 i) (K _ rfl))⟩))
    · rw [hx]
      apply dm_mkx
      intro c _
      simp [dm_ex, hz]
    · rw [dm_c7 hi, hau i hi, hx, dm_or]
      apply dm_mkx
      intro c _
      simp [dm_ex, hz]
theorem dm_w_rb {post : Int32 → Prop} {r : Nat} (hr : r < 7) (hau : ∀ r, r < 7 → au r = dm_mk (G r)) (h : post (dm_mk (dm_blk G r))) : wpX_rowsOfBlock post (fr, rr, cr, rc, cc, ae, ap, ac, aq, af, ar, au) (nI r) := by
  refine nm_r (dm_one r hr) ?_
  refine loop_0 (fun n i x => wX_rowsOfBlock_6 post fr rr cr rc cc ae ap ac aq af ar au n x (nI i)) (fun i x => ∃ S : Nat → Bool, x = dm_mk S ∧ dm_Bp G r i S) 7 _ ⟨_, rfl, dm_bp_0 hr⟩ ?_ ?_
  · rintro n x ⟨S, hx, hB⟩
    rw [hx, dm_mkx (dm_bp_7 hB)]
    exact br_t dm_7 h
  · rintro n i x hi ⟨S, hx, hB⟩ K
    rw [hx]
    refine br_f (dm_n7 hi) (dm_w_18 S hau (K _ ⟨_, rfl, ?_⟩))
    refine dm_bp_s hB (fun x _ h => by simp [h]) (by simp [hB.1]) ?_ ?_
    · intro a b ha hb hs hl
      obtain ⟨c, hc, h1, h2⟩ := dm_lk_iff.mp hl
      have : dm_ex (fun c => G b c && dm_N G S c) 7 = true := dm_ex_t c hc (by
        have : dm_N G S c = true := dm_N_iff.mpr ⟨a, ha, hs, h1⟩
        simp [h2, this])
      simp [this]
    · intro Z hz hcl x hx' h
      simp only [Bool.or_eq_true] at h
      rcases h with h | h
      · exact hB.2.1 Z hz hcl x hx' h
      · obtain ⟨c, hc, h⟩ := (dm_ex_iff _ _).mp h
        simp only [Bool.and_eq_true] at h
        obtain ⟨a, ha, hs, hg⟩ := dm_N_iff.mp h.2
        exact hcl a x ha hx' (hB.2.1 Z hz hcl a ha hs) (dm_lk_iff.mpr ⟨c, hc, hg, h.1⟩)
theorem dm_w_bl {post : Int32 → SX → Prop} (hau : ∀ r, r < 7 → au r = dm_mk (G r)) (h : post (nI (dm_cnt (fun r => dm_nz G r && !dm_ex (dm_blk G r) r) 7)) (fr, rr, cr, rc, cc, ae, ap, ac, aq, af, ar, au)) : ∃ n, wX_blocks_10 post fr rr cr rc cc ae ap ac aq af ar au n 0 0 0 := by
  refine loop_0 (fun n i (s : Int32 × Int32) => wX_blocks_10 post fr rr cr rc cc ae ap ac aq af ar au n s.1 s.2 (nI i))
    (fun i s => s.1 = nI (dm_cnt (fun r => dm_nz G r && !dm_ex (dm_blk G r) r) i) ∧ ∃ D : Nat → Bool, s.2 = dm_mk D ∧ ∀ k, k < 7 → (D k = true ↔ ∃ r, r < i ∧ dm_nz G r = true ∧ dm_blk G r k = true)) 7 (0, 0) ⟨rfl, fun _ => false, dm_0, ?_⟩ ?_ ?_
  · intro k _
    constructor
    · intro w; cases w
    · rintro ⟨r, hr, _⟩; omega
  · rintro n ⟨x, y⟩ ⟨hx, _⟩
    dsimp only at hx ⊢
    rw [hx]
    exact br_t dm_7 h
  · rintro n i ⟨x, y⟩ hi ⟨hx, D, hy, hD⟩ K
    dsimp only at hx hy K ⊢
    have ei : au (nI i).toNatClampNeg = dm_mk (G i) := by rw [dm_c7 hi, hau i hi]
    have hDi : dm_nz G i = true → (D i = true ↔ dm_ex (dm_blk G i) i = true) := by
      intro hn
      rw [hD i hi, dm_ex_iff]
      constructor
      · rintro ⟨r, hr, _, hb⟩
        exact ⟨r, hr, dm_blk_sym hb⟩
      · rintro ⟨r, hr, hb⟩
        exact ⟨r, hr, dm_blk_nz hb hn, dm_blk_sym hb⟩
    refine br_f (dm_n7 hi) ⟨dm_in7 hi, br_c (fun hz => nm_r (nI_1 i) (K (x, y) ⟨?_, D, hy, ?_⟩)) (fun hz => ?_)⟩
    · rw [ei, dm_mk0] at hz
      have hn : dm_nz G i = false := dm_nt (fun w => by
        obtain ⟨c, hc, hg⟩ := (dm_ex_iff _ _).mp w
        exact dm_tf hg (hz c hc))
      dsimp only
      rw [hx, dm_cnt_s, if_neg (by simp [hn])]
      rfl
    · rw [ei, dm_mk0] at hz
      have hn : dm_nz G i = false := dm_nt (fun w => by
        obtain ⟨c, hc, hg⟩ := (dm_ex_iff _ _).mp w
        exact dm_tf hg (hz c hc))
      intro k hk
      rw [hD k hk]
      constructor
      · rintro ⟨r, hr, h1, h2⟩; exact ⟨r, by omega, h1, h2⟩
      · rintro ⟨r, hr, h1, h2⟩
        by_cases e : r = i
        · rw [e] at h1; exact (dm_tf h1 hn).elim
        · exact ⟨r, by omega, h1, h2⟩
    · rw [ei, dm_mk0] at hz
      have hn : dm_nz G i = true := dm_nf (fun w => hz (fun c hc => dm_nt (fun hg => dm_tf (dm_ex_t (f := G i) c hc hg) w)))
      refine dm_br hy hi (fun hd => dm_w_rb hi hau (nm_r (e' := dm_mk (fun k => D k || dm_blk G i k)) (by rw [hy, dm_or]) (nm_r (e' := nI (dm_cnt (fun r => dm_nz G r && !dm_ex (dm_blk G r) r) (i + 1))) ?_ (nm_r (nI_1 i) (K (_, _) ⟨rfl, _, rfl, ?_⟩))))) (fun hd => nm_r (nI_1 i) (K (x, y) ⟨?_, D, hy, ?_⟩))
      · have : dm_ex (dm_blk G i) i = false := dm_nt (fun w => dm_tf ((hDi hn).mpr w) hd)
        rw [hx, nI_1, dm_cnt_s, if_pos (by simp [hn, this])]
      · intro k hk
        simp only [Bool.or_eq_true]
        rw [hD k hk]
        constructor
        · rintro (⟨r, hr, h1, h2⟩ | h2)
          · exact ⟨r, by omega, h1, h2⟩
          · exact ⟨i, by omega, hn, h2⟩
        · rintro ⟨r, hr, h1, h2⟩
          by_cases e : r = i
          · rw [e] at h2; exact Or.inr h2
          · exact Or.inl ⟨r, by omega, h1, h2⟩
      · dsimp only
        rw [hx, dm_cnt_s, if_neg (by simp [(hDi hn).mp hd])]
        rfl
      · intro k hk
        rw [hD k hk]
        constructor
        · rintro ⟨r, hr, h1, h2⟩; exact ⟨r, by omega, h1, h2⟩
        · rintro ⟨r, hr, h1, h2⟩
          by_cases e : r = i
          · obtain ⟨r0, hr0, k1, k2⟩ := (hD i hi).mp hd
            rw [e] at h2
            exact ⟨r0, hr0, k1, dm_blk_tr k2 h2⟩
          · exact ⟨r, by omega, h1, h2⟩
end
end
section
/-! sets of columns that matchings cover, without the program -/
def dm_pop (s : Nat) : Nat := dm_cnt (fun i => s.testBit i) 7
def dm_Can (G : Nat → Nat → Bool) : Nat → Nat → Prop
  | 0 => fun x => x = 0
  | k + 1 => fun x => dm_Can G k x ∨ ∃ s, s < 128 ∧ dm_Can G k s ∧ ∃ d, d < 7 ∧ G k d = true ∧ s.testBit d = false ∧ x = s ||| 2 ^ d
theorem dm_tbo (s d c : Nat) : (s ||| 2 ^ d).testBit c = (s.testBit c || decide (c = d)) := by
  rw [Nat.testBit_or, Nat.testBit_two_pow]
  congr 1
  exact decide_eq_decide.mpr ⟨fun w => w.symm, fun w => w.symm⟩
theorem dm_pop_o {s d : Nat} (hd : d < 7) (h : s.testBit d = false) : dm_pop (s ||| 2 ^ d) = dm_pop s + 1 := by
  unfold dm_pop
  rw [← dm_cnt_add (f := fun i => s.testBit i) hd h]
  exact dm_cnt_congr (fun i _ => dm_tbo s d i)
theorem dm_pop_0 : dm_pop 0 = 0 := by decide
theorem dm_can_mat {G : Nat → Nat → Bool} : ∀ k, k ≤ 7 → ∀ s, dm_Can G k s → ∃ p, dm_Mat G p ∧ (∀ r, k ≤ r → 7 ≤ p r) ∧ (∀ c, c < 7 → (s.testBit c = true ↔ ∃ r, r < 7 ∧ p r = c)) ∧ dm_sz p = dm_pop s := by
  intro k
  induction k with
  | zero =>
    intro _ s hs
    have hs : s = 0 := hs
    subst hs
    refine ⟨fun _ => 7, ⟨fun r _ h => absurd h (Nat.lt_irrefl 7), fun r s _ _ h => absurd h (Nat.lt_irrefl 7)⟩, fun _ _ => Nat.le_refl _, ?_, ?_⟩
    · intro c hc
      rw [Nat.zero_testBit]
      constructor
      · intro w; cases w
      · rintro ⟨r, _, w⟩
        have w : 7 = c := w
        omega
    · rw [dm_pop_0]; decide
  | succ k ih =>
    intro hk s hs
    rcases hs with hs | ⟨s0, h128, hs0, d, hd, hg, hb, e⟩
    · obtain ⟨p, h1, h2, h3, h4⟩ := ih (by omega) s hs
      exact ⟨p, h1, fun r hr => h2 r (by omega), h3, h4⟩
    · obtain ⟨p, h1, h2, h3, h4⟩ := ih (by omega) s0 hs0
      have hno : ∀ r, r < 7 → p r ≠ d := fun r hr w => dm_tf ((h3 d hd).mpr ⟨r, hr, w⟩) hb
      have hpk : 7 ≤ p k := h2 k (Nat.le_refl _)
      refine ⟨dm_fu p k d, ⟨?_, ?_⟩, ?_, ?_, ?_⟩
      · intro r hr hp
        by_cases er : r = k
        · rw [er, dm_fus]; exact hg
        · rw [dm_fun er] at hp ⊢; exact h1.1 r hr hp
      · intro r x hr hx hp
        by_cases er : r = k
        · by_cases ex : x = k
          · intro _; omega
          · rw [er, dm_fus, dm_fun ex]
            intro w
            exact absurd w.symm (hno x hx)
        · rw [dm_fun er] at hp ⊢
          by_cases ex : x = k
          · rw [ex, dm_fus]
            intro w
            exact absurd w (hno r hr)
          · rw [dm_fun ex]
            exact h1.2 r x hr hx hp
      · intro r hr
        rw [dm_fun (by omega)]
        exact h2 r (by omega)
      · intro c hc
        rw [e, dm_tbo, Bool.or_eq_true, decide_eq_true_eq, h3 c hc]
        constructor
        · rintro (⟨r, hr, w⟩ | w)
          · refine ⟨r, hr, ?_⟩
            rw [dm_fun (fun z => by rw [z] at w; omega)]
            exact w
          · exact ⟨k, by omega, by rw [dm_fus]; exact w.symm⟩
        · rintro ⟨r, hr, w⟩
          by_cases er : r = k
          · rw [er, dm_fus] at w; exact Or.inr w.symm
          · rw [dm_fun er] at w; exact Or.inl ⟨r, hr, w⟩
      · rw [e, dm_pop_o hd hb, ← h4]
        unfold dm_sz
        rw [← dm_cnt_add (f := fun r => decide (p r < 7)) (k := k) (by omega) (by simp; omega)]
        apply dm_cnt_congr
        intro r _
        by_cases er : r = k
        · rw [er, dm_fus]; simp [hd]
        · rw [dm_fun er]; simp [er]
theorem dm_mat_can {G : Nat → Nat → Bool} {p : Nat → Nat} (hM : dm_Mat G p) : ∀ k, k ≤ 7 → ∃ s, s < 128 ∧ dm_Can G k s ∧ (∀ c, c < 7 → (s.testBit c = true ↔ ∃ r, r < k ∧ p r = c)) ∧ dm_pop s = dm_cnt (fun r => decide (p r < 7)) k := by
  intro k
  induction k with
  | zero =>
    intro _
    refine ⟨0, by omega, rfl, ?_, dm_pop_0⟩
    intro c hc
    rw [Nat.zero_testBit]
    constructor
    · intro w; cases w
    · rintro ⟨r, w, _⟩; omega
  | succ k ih =>
    intro hk
    obtain ⟨s, h1, h2, h3, h4⟩ := ih (by omega)
    by_cases hp : p k < 7
    · have hb : s.testBit (p k) = false := dm_nt (fun w => by
        obtain ⟨r, hr, e⟩ := (h3 (p k) hp).mp w
        have := hM.2 r k (by omega) (by omega) (by omega) e
        omega)
      refine ⟨s ||| 2 ^ p k, dm_olt h1 hp, Or.inr ⟨s, h1, h2, p k, hp, hM.1 k (by omega) hp, hb, rfl⟩, ?_, ?_⟩
      · intro c hc
        rw [dm_tbo, Bool.or_eq_true, decide_eq_true_eq, h3 c hc]
        constructor
        · rintro (⟨r, hr, w⟩ | w)
          · exact ⟨r, by omega, w⟩
          · exact ⟨k, by omega, w.symm⟩
        · rintro ⟨r, hr, w⟩
          by_cases er : r = k
          · rw [er] at w; exact Or.inr w.symm
          · exact Or.inl ⟨r, by omega, w⟩
      · rw [dm_pop_o hp hb, h4, dm_cnt_s, if_pos (by simp [hp])]
    · refine ⟨s, h1, Or.inl h2, ?_, ?_⟩
      · intro c hc
        rw [h3 c hc]
        constructor
        · rintro ⟨r, hr, w⟩; exact ⟨r, by omega, w⟩
        · rintro ⟨r, hr, w⟩
          by_cases er : r = k
          · rw [er] at w; omega
          · exact ⟨r, by omega, w⟩
      · rw [h4, dm_cnt_s, if_neg (by simp; omega)]
        rfl
theorem dm_can_nu {G : Nat → Nat → Bool} {m : Nat} (h1 : ∀ s, s < 128 → dm_Can G 7 s → dm_pop s ≤ m) (h2 : m = 0 ∨ ∃ s, s < 128 ∧ dm_Can G 7 s ∧ dm_pop s = m) : m = dm_nu G := by
  apply Nat.le_antisymm
  · rcases h2 with h2 | ⟨s, _, hc, e⟩
    · omega
    · obtain ⟨p, hM, _, _, hz⟩ := dm_can_mat 7 (Nat.le_refl _) s hc
      have := dm_nu_ge hM
      omega
  · obtain ⟨p, hM, hz⟩ := dm_nu_mat G
    obtain ⟨s, h3, h4, _, h5⟩ := dm_mat_can hM 7 (Nat.le_refl _)
    have := h1 s h3 h4
    unfold dm_sz at hz
    omega
/-! Y: sizes -/
def dm_Ar (a : Nat → Int32) (P : Nat → Prop) : Prop := ∀ s, s < 128 → (a s = 1 ∧ P s) ∨ (a s = 0 ∧ ¬ P s)
theorem dm_ar_c {a : Nat → Int32} {P P' : Nat → Prop} (h : dm_Ar a P) (e : ∀ s, s < 128 → (P s ↔ P' s)) : dm_Ar a P' := by
  intro s hs
  rcases h s hs with w | w
  · exact Or.inl ⟨w.1, (e s hs).mp w.2⟩
  · exact Or.inr ⟨w.1, fun z => w.2 ((e s hs).mpr z)⟩
theorem dm_ar_u {a : Nat → Int32} {P : Nat → Prop} {k : Nat} (h : dm_Ar a P) : dm_Ar (upd a k 1) (fun x => P x ∨ x = k) := by
  intro s hs
  by_cases e : s = k
  · rw [e, dm_us]; exact Or.inl ⟨rfl, Or.inr rfl⟩
  · rw [dm_un e]
    rcases h s hs with w | w
    · exact Or.inl ⟨w.1, Or.inl w.2⟩
    · exact Or.inr ⟨w.1, fun z => z.elim w.2 e⟩
theorem dm_ar_br {a : Nat → Int32} {P : Nat → Prop} {s : Nat} {x : Int32} {A B : Prop} (h : dm_Ar a P) (hs : s < 128) (hx : x = a s) (f : ¬ P s → A) (g : P s → B) : (x = 0 → A) ∧ (¬ x = 0 → B) := by
  rw [hx]
  rcases h s hs with w | w
  · rw [w.1]; exact br_f (by decide) (g w.2)
  · rw [w.1]; exact br_t rfl (f w.2)
theorem dm_ar_n {a : Nat → Int32} {P : Nat → Prop} {s : Nat} (h : dm_Ar a P) (hs : s < 128) : vp_nar .boolean (a s) = a s := by
  rcases h s hs with w | w
  · rw [w.1]; rfl
  · rw [w.1]; rfl
section
variable {ro ca th go : Nat → Int32} {E : Nat → Nat → Bool}
theorem dm_yib {A B : Prop} {x : Int32} {f : Nat → Bool} {i : Nat} {v : SY} (hx : x = dm_mk f) (hi : i < 7) (a : f i = false → A) (b : f i = true → B) : wpY_in (fun r => (r = 0 → A) ∧ (¬ r = 0 → B)) v x (nI i) := by
  obtain ⟨ro, ca, th, go⟩ := v
  rw [hx]
  unfold wpY_in
  dsimp only
  rw [dm_bit f hi]
  by_cases h : f i = true
  · rw [if_pos h]
    exact br_t rfl (br_f (by decide) (b h))
  · rw [if_neg h]
    exact br_f (by decide) (br_t rfl (a (dm_nt h)))
theorem dm_y_so {post : Int32 → Prop} {x : Int32} {f : Nat → Bool} (hx : x = dm_mk f) (h : post (nI (dm_cnt f 7))) : wpY_sizeOf post (ro, ca, th, go) x := by
  refine loop_0 (fun n i z => wY_sizeOf_4 post x ro ca th go n z (nI i)) (fun i z => z = nI (dm_cnt f i)) 7 0 rfl ?_ ?_
  · intro n z hz
    rw [hz]
    exact br_t dm_7 h
  · intro n i z hi hz K
    refine br_f (dm_n7 hi) (dm_yib hx hi (fun hb => nm_r (nI_1 i) (K z ?_)) (fun hb => nm_r (e' := nI (dm_cnt f (i + 1))) ?_ (nm_r (nI_1 i) (K _ rfl))))
    · rw [hz, dm_cnt_s, if_neg (by rw [hb]; exact Bool.false_ne_true)]
      rfl
    · rw [hz, nI_1, dm_cnt_s, if_pos hb]
theorem dm_y_96 {post : SY → Prop} {P : Nat → Prop} (hth : dm_Ar th P) (hp : ∀ ca' : Nat → Int32, dm_Ar ca' P → post (ro, ca', th, go)) : ∃ n, wY_takeRow_96 post n 0 ro ca th go := by
  refine loop_0 (fun n i s => wY_takeRow_96 post n (nI i) ro s th go) (fun i s => ∀ k, k < i → s k = th k) 128 ca (fun k hk => by omega) ?_ ?_
  · intro n s hs
    refine br_t dm_128 (hp s ?_)
    intro k hk
    rw [hs k hk]
    exact hth k hk
  · intro n i s hi hs K
    refine br_f (dm_n128 hi) ⟨dm_in128 hi, dm_in128 hi, nm_r (e' := upd s i (th i)) (by rw [dm_c128 hi, dm_ar_n hth hi]) (nm_r (nI_1 i) (K _ ?_))⟩
    intro k hk
    by_cases e : k = i
    · rw [e, dm_us]
    · rw [dm_un e]; exact hs k (by omega)
theorem dm_y_38 {post : SY → Prop} {J : Int32 → (Nat → Int32) → (Nat → Int32) → (Nat → Int32) → (Nat → Int32) → Prop} {g : Nat → Bool} {s : Nat} {P P0 : Nat → Prop} (hs : s < 128) (hca : dm_Ar ca P) (hth : dm_Ar th P0)
    (hJ : ∀ th' : Nat → Int32, dm_Ar th' (fun x => P0 x ∨ (P s ∧ ∃ d, d < 7 ∧ g d = true ∧ s.testBit d = false ∧ x = s ||| 2 ^ d)) → J (nI (s + 1)) ro ca th' go) :
    ∃ n, wY_takeRow_38 post J (dm_mk g) (nI s) n 0 ro ca th go := by
  refine loop_0 (fun n i z => wY_takeRow_38 post J (dm_mk g) (nI s) n (nI i) ro ca z go) (fun i z => dm_Ar z (fun x => P0 x ∨ (P s ∧ ∃ d, d < i ∧ g d = true ∧ s.testBit d = false ∧ x = s ||| 2 ^ d))) 7 th ?_ ?_ ?_
  · refine dm_ar_c hth (fun x _ => ⟨Or.inl, ?_⟩)
    rintro (w | ⟨_, d, hd, _⟩)
    · exact w
    · omega
  · intro n z hz
    exact br_t dm_7 (nm_r (nI_1 s) (hJ z hz))
  · intro n i z hi hz K
    have keep : ¬ (P s ∧ g i = true ∧ s.testBit i = false) → dm_Ar z (fun x => P0 x ∨ (P s ∧ ∃ d, d < i + 1 ∧ g d = true ∧ s.testBit d = false ∧ x = s ||| 2 ^ d)) := by
      intro hn
      refine dm_ar_c hz (fun x _ => ?_)
      constructor
      · rintro (w | ⟨hP, d, hd, w⟩)
        · exact Or.inl w
        · exact Or.inr ⟨hP, d, by omega, w⟩
      · rintro (w | ⟨hP, d, hd, w1, w2, w3⟩)
        · exact Or.inl w
        · by_cases e : d = i
          · rw [e] at w1 w2; exact absurd ⟨hP, w1, w2⟩ hn
          · exact Or.inr ⟨hP, d, by omega, w1, w2, w3⟩
    refine br_f (dm_n7 hi) ⟨dm_in128 hs, dm_ar_br hca hs (by rw [dm_c128 hs]) (fun hP => nm_r (nI_1 i) (K z (keep (fun w => hP w.1)))) (fun hP => dm_yib rfl hi (fun hg => nm_r (nI_1 i) (K z (keep (fun w => dm_tf w.2.1 hg)))) (fun hg => dm_yib (dm_nat hs) hi (fun hb => ⟨?_, nm_r (e' := upd z (s ||| 2 ^ i) 1) ?_ (nm_r (nI_1 i) (K _ ?_))⟩) (fun hb => nm_r (nI_1 i) (K z (keep (fun w => dm_tf hb w.2.2))))))⟩
    · rw [dm_oix hi]
      exact dm_in128 (dm_olt hs hi)
    · rw [dm_oix hi, dm_c128 (dm_olt hs hi)]
      rfl
    · refine dm_ar_c (dm_ar_u hz) (fun x _ => ?_)
      constructor
      · rintro ((w | ⟨hP, d, hd, w⟩) | w)
        · exact Or.inl w
        · exact Or.inr ⟨hP, d, by omega, w⟩
        · exact Or.inr ⟨hP, i, by omega, hg, hb, w⟩
      · rintro (w | ⟨hP, d, hd, w1, w2, w3⟩)
        · exact Or.inl (Or.inl w)
        · by_cases e : d = i
          · rw [e] at w3; exact Or.inr w3
          · exact Or.inl (Or.inr ⟨hP, d, by omega, w1, w2, w3⟩)
theorem dm_y_tr {post : SY → Prop} {g : Nat → Bool} {P : Nat → Prop} (hca : dm_Ar ca P)
    (hp : ∀ ca' th' : Nat → Int32, dm_Ar ca' (fun x => P x ∨ ∃ s, s < 128 ∧ P s ∧ ∃ d, d < 7 ∧ g d = true ∧ s.testBit d = false ∧ x = s ||| 2 ^ d) → post (ro, ca', th', go)) : wpY_takeRow post (ro, ca, th, go) (dm_mk g) := by
  have h29 : ∀ th : Nat → Int32, dm_Ar th P → ∃ n, wY_takeRow_29 post (dm_mk g) n 0 ro ca th go := by
    intro th hth
    refine loop_0 (fun n i z => wY_takeRow_29 post (dm_mk g) n (nI i) ro ca z go) (fun i z => dm_Ar z (fun x => P x ∨ ∃ s, s < i ∧ P s ∧ ∃ d, d < 7 ∧ g d = true ∧ s.testBit d = false ∧ x = s ||| 2 ^ d)) 128 th ?_ ?_ ?_
    · refine dm_ar_c hth (fun x _ => ⟨Or.inl, ?_⟩)
      rintro (w | ⟨s, hs, _⟩)
      · exact w
      · omega
    · intro n z hz
      exact br_t dm_128 (dm_y_96 hz (fun ca' hc => hp ca' z hc))
    · intro n i z hi hz K
      refine br_f (dm_n128 hi) (dm_y_38 hi hca hz (fun th' h' => K th' (dm_ar_c h' (fun x _ => ?_))))
      constructor
      · rintro ((w | ⟨s, hs, w⟩) | ⟨w1, w2⟩)
        · exact Or.inl w
        · exact Or.inr ⟨s, by omega, w⟩
        · exact Or.inr ⟨i, by omega, w1, w2⟩
      · rintro (w | ⟨s, hs, w1, w2⟩)
        · exact Or.inl (Or.inl w)
        · by_cases e : s = i
          · rw [e] at w1 w2; exact Or.inr ⟨w1, w2⟩
          · exact Or.inl (Or.inr ⟨s, by omega, w1, w2⟩)
  refine loop_0 (fun n i z => wY_takeRow_2 post (dm_mk g) n (nI i) ro ca z go) (fun i z => ∀ k, k < i → z k = ca k) 128 th (fun k hk => by omega) ?_ ?_
  · intro n z hz
    refine br_t dm_128 (h29 z ?_)
    intro k hk
    rw [hz k hk]
    exact hca k hk
  · intro n i z hi hz K
    refine br_f (dm_n128 hi) ⟨dm_in128 hi, dm_in128 hi, nm_r (e' := upd z i (ca i)) (by rw [dm_c128 hi, dm_ar_n hca hi]) (nm_r (nI_1 i) (K _ ?_))⟩
    intro k hk
    by_cases e : k = i
    · rw [e, dm_us]
    · rw [dm_un e]; exact hz k (by omega)
theorem dm_y_105 {post : Int32 → SY → Prop} {G : Nat → Nat → Bool} (hca : dm_Ar ca (dm_Can G 7)) (hp : post (nI (dm_nu G)) (ro, ca, th, go)) : ∃ n, wY_sizeWithout_105 post ro ca th go n 0 0 := by
  refine loop_0 (fun n i z => wY_sizeWithout_105 post ro ca th go n z (nI i)) (fun i z => ∃ m, m ≤ 7 ∧ z = nI m ∧ (∀ s, s < i → dm_Can G 7 s → dm_pop s ≤ m) ∧ (m = 0 ∨ ∃ s, s < 128 ∧ dm_Can G 7 s ∧ dm_pop s = m)) 128 0 ⟨0, by omega, rfl, fun s hs => by omega, Or.inl rfl⟩ ?_ ?_
  · rintro n z ⟨m, hm, hz, h1, h2⟩
    rw [hz, dm_can_nu h1 h2]
    exact br_t dm_128 hp
  · rintro n i z hi ⟨m, hm, hz, h1, h2⟩ K
    have tail : ∀ k, k ≤ 7 → (dm_Can G 7 i → dm_pop i ≤ k ∨ dm_pop i ≤ m) → (m < k → dm_Can G 7 i ∧ dm_pop i = k) → wY_sizeWithout_133 post (wY_sizeWithout_105 post ro ca th go n) (nI m) (nI i) (nI k) ro ca th go := by
      intro k hk hle hgt
      refine pk_le k m (fun h => nm_r (nI_1 i) (K (nI m) ⟨m, hm, rfl, ?_, h2⟩)) (fun h => nm_r (nI_1 i) (K (nI k) ⟨k, hk, rfl, ?_, Or.inr ⟨i, hi, hgt h⟩⟩))
      · intro s hs hc
        by_cases e : s = i
        · rw [e] at hc ⊢
          rcases hle hc with w | w <;> omega
        · exact h1 s (by omega) hc
      · intro s hs hc
        by_cases e : s = i
        · rw [e] at hc ⊢
          rcases hle hc with w | w <;> omega
        · have := h1 s (by omega) hc
          omega
    rw [hz]
    have hpop : dm_pop i ≤ 7 := dm_cnt_le _ 7
    refine br_f (dm_n128 hi) ⟨dm_in128 hi, dm_ar_br hca hi (by rw [dm_c128 hi]) (fun hP => tail 0 (by omega) (fun w => absurd w hP) (fun w => by omega)) (fun hP => dm_y_so (dm_nat hi) (tail (dm_pop i) hpop (fun _ => Or.inl (Nat.le_refl _)) (fun _ => ⟨hP, rfl⟩)))⟩
theorem dm_can_same {G : Nat → Nat → Bool} {k : Nat} (h : ∀ d, d < 7 → G k d = false) : ∀ x, x < 128 → (dm_Can G k x ↔ dm_Can G (k + 1) x) := by
  intro x _
  refine ⟨Or.inl, ?_⟩
  rintro (w | ⟨s, _, _, d, hd, hg, _⟩)
  · exact w
  · exact (dm_tf hg (h d hd)).elim
theorem dm_y_37 {post : Int32 → SY → Prop} {x y r0 c0 : Nat} (hx : x ≤ 7) (hy : y ≤ 7) (hr0 : r0 ≤ 7) (hc0 : c0 ≤ 7) (hE : ∀ r, r < 7 → ro r = dm_mk (E r)) (hca : dm_Ar ca (dm_Can (dm_wo E x y r0 c0) 0))
    (hp : ∀ ca' th' : Nat → Int32, post (nI (dm_nu (dm_wo E x y r0 c0))) (ro, ca', th', go)) : ∃ n, wY_sizeWithout_37 post (nI x) (nI y) (nI r0) (nI c0) n 0 ro ca th go := by
  refine loop_0 (fun n i (s : (Nat → Int32) × (Nat → Int32)) => wY_sizeWithout_37 post (nI x) (nI y) (nI r0) (nI c0) n (nI i) ro s.1 s.2 go) (fun i s => dm_Ar s.1 (dm_Can (dm_wo E x y r0 c0) i)) 7 (ca, th) hca ?_ ?_
  · rintro n ⟨s1, s2⟩ hs
    exact br_t dm_7 (dm_y_105 hs (hp s1 s2))
  · rintro n i ⟨s1, s2⟩ hi hs K
    dsimp only at hs K ⊢
    have ei : ro (nI i).toNatClampNeg = dm_mk (E i) := by rw [dm_c7 hi, hE i hi]
    have tail : ∀ g : Nat → Bool, (∀ c, c < 7 → i ≠ x → g c = dm_wo E x y r0 c0 i c) → wY_sizeWithout_76 post (wY_sizeWithout_37 post (nI x) (nI y) (nI r0) (nI c0) n) (nI x) (nI y) (nI r0) (nI c0) (nI i) (dm_mk g) ro s1 s2 go := by
      intro g hg
      refine pk_eq i x (fun e => nm_r (nI_1 i) (K (s1, s2) (dm_ar_c hs (dm_can_same (fun d _ => by simp [dm_wo, e]))))) (fun e => br_c (fun hz => nm_r (nI_1 i) (K (s1, s2) (dm_ar_c hs (dm_can_same (fun d hd => ?_))))) (fun hz => dm_y_tr hs (fun ca' th' h' => nm_r (nI_1 i) (K (ca', th') (dm_ar_c h' (fun z _ => ?_))))))
      · rw [dm_mk0] at hz
        rw [← hg d hd e]
        exact hz d hd
      · constructor
        · rintro (w | ⟨s, hs', w1, d, hd, w2, w3⟩)
          · exact Or.inl w
          · exact Or.inr ⟨s, hs', w1, d, hd, by rw [← hg d hd e]; exact w2, w3⟩
        · rintro (w | ⟨s, hs', w1, d, hd, w2, w3⟩)
          · exact Or.inl w
          · exact Or.inr ⟨s, hs', w1, d, hd, by rw [hg d hd e]; exact w2, w3⟩
    refine br_f (dm_n7 hi) ⟨dm_in7 hi, nm_r (e' := dm_mk (fun c => E i c && !decide (c = y))) (by rw [ei, dm_clr _ y (by omega)]) (pk_eq i r0 (fun e => nm_r (e' := dm_mk (fun c => (E i c && !decide (c = y)) && !decide (c = c0))) (by rw [dm_clr _ c0 (by omega)]) (tail _ ?_)) (fun e => tail _ ?_))⟩
    · intro c hc hne
      have hne' : ¬ r0 = x := fun w => hne (e.trans w)
      simp [dm_wo, hne', e]
    · intro c hc hne
      simp [dm_wo, hne, e]
theorem dm_y_sw {post : Int32 → SY → Prop} {x y r0 c0 : Nat} (hx : x ≤ 7) (hy : y ≤ 7) (hr0 : r0 ≤ 7) (hc0 : c0 ≤ 7) (hE : ∀ r, r < 7 → ro r = dm_mk (E r))
    (hp : ∀ ca' th' : Nat → Int32, post (nI (dm_nu (dm_wo E x y r0 c0))) (ro, ca', th', go)) : wpY_sizeWithout post (ro, ca, th, go) (nI x) (nI y) (nI r0) (nI c0) := by
  refine loop_0 (fun n i s => wY_sizeWithout_3 post (nI x) (nI y) (nI r0) (nI c0) n (nI i) ro s th go) (fun i s => ∀ k, k < i → (s k = 1 ∧ k = 0) ∨ (s k = 0 ∧ ¬ k = 0)) 128 ca (fun k hk => by omega) ?_ ?_
  · intro n s hs
    exact br_t dm_128 (dm_y_37 hx hy hr0 hc0 hE hs hp)
  · intro n i s hi hs K
    refine br_f (dm_n128 hi) (pk_eq i 0 (fun e => ⟨dm_in128 hi, nm_r (e' := upd s i 1) (by rw [dm_c128 hi]; rfl) (nm_r (nI_1 i) (K _ ?_))⟩) (fun e => ⟨dm_in128 hi, nm_r (e' := upd s i 0) (by rw [dm_c128 hi]; rfl) (nm_r (nI_1 i) (K _ ?_))⟩))
    · intro k hk
      by_cases ek : k = i
      · rw [ek, dm_us]; exact Or.inl ⟨rfl, e⟩
      · rw [dm_un ek]; exact hs k (by omega)
    · intro k hk
      by_cases ek : k = i
      · rw [ek, dm_us]; exact Or.inr ⟨rfl, e⟩
      · rw [dm_un ek]; exact hs k (by omega)
end
end
section
/-! Y: the answers -/
section
variable {ro ca th go : Nat → Int32} {E : Nat → Nat → Bool} {G : Nat → Nat → Bool}
theorem dm_wo7 (E : Nat → Nat → Bool) : dm_nu (dm_wo E 7 7 7 7) = dm_nu E := by
  apply dm_nu_congr
  intro r c hr hc
  have e1 : ¬ r = 7 := by omega
  have e2 : ¬ c = 7 := by omega
  simp [dm_wo, e1, e2]
theorem dm_y_la {post : Int32 → SY → Prop} (hE : ∀ r, r < 7 → ro r = dm_mk (E r)) (hp : ∀ ca' th' : Nat → Int32, post (nI (dm_nu E)) (ro, ca', th', go)) : wpY_largest post (ro, ca, th, go) := by
  refine dm_y_sw (x := 7) (y := 7) (r0 := 7) (c0 := 7) (Nat.le_refl _) (Nat.le_refl _) (Nat.le_refl _) (Nat.le_refl _) hE ?_
  intro ca' th'
  rw [dm_wo7]
  exact hp ca' th'
theorem dm_mk_add {f : Nat → Bool} {i : Nat} (hi : i < 7) (h : f i = true) : dm_mk (fun r => decide (r < i) && f r) ||| ((1 : Int32) <<< (nI i &&& 31)) = dm_mk (fun r => decide (r < i + 1) && f r) := by
  rw [dm_one i hi, dm_or]
  apply dm_mkx
  intro r _
  by_cases e : r = i
  · rw [e]; simp [h]
  · have : decide (r < i + 1) = decide (r < i) := decide_eq_decide.mpr (by omega)
    rw [this]; simp [e]
theorem dm_mk_keep {f : Nat → Bool} {i : Nat} (h : f i = false) : dm_mk (fun r => decide (r < i) && f r) = dm_mk (fun r => decide (r < i + 1) && f r) := by
  apply dm_mkx
  intro r _
  by_cases e : r = i
  · rw [e]; simp [h]
  · have : decide (r < i + 1) = decide (r < i) := decide_eq_decide.mpr (by omega)
    rw [this]
theorem dm_mk_z (f : Nat → Bool) : (0 : Int32) = dm_mk (fun r => decide (r < 0) && f r) := by
  rw [dm_0]
  apply dm_mkx
  intro i _
  simp
theorem dm_mk_e (f : Nat → Bool) : dm_mk (fun r => decide (r < 7) && f r) = dm_mk f := by
  apply dm_mkx
  intro i hi
  simp [hi]
theorem dm_y_lr {post : Int32 → SY → Prop} (hE : ∀ r, r < 7 → ro r = dm_mk (E r)) (hp : ∀ ca' th' : Nat → Int32, post (dm_mk (dm_LR E)) (ro, ca', th', go)) : wpY_looseRows post (ro, ca, th, go) := by
  unfold wpY_looseRows
  dsimp only
  refine dm_y_la hE ?_
  intro ca th
  refine loop_0 (fun n i (s : Int32 × (Nat → Int32) × (Nat → Int32)) => wY_looseRows_9 post (nI (dm_nu E)) n s.1 (nI i) ro s.2.1 s.2.2 go) (fun i s => s.1 = dm_mk (fun r => decide (r < i) && dm_LR E r)) 7 (0, ca, th) (dm_mk_z _) ?_ ?_
  · rintro n ⟨x, s1, s2⟩ hx
    dsimp only at hx ⊢
    rw [hx, dm_mk_e]
    exact br_t dm_7 (hp s1 s2)
  · rintro n i ⟨x, s1, s2⟩ hi hx K
    dsimp only at hx K ⊢
    have b1 := dm_nu_7 E
    have b2 := dm_nu_7 (dm_wo E i 7 7 7)
    refine br_f (dm_n7 hi) (dm_y_sw (x := i) (y := 7) (r0 := 7) (c0 := 7) (by omega) (Nat.le_refl _) (Nat.le_refl _) (Nat.le_refl _) hE (fun ca' th' => ?_))
    refine pk_eq (dm_nu (dm_wo E i 7 7 7)) (dm_nu E) (fun e => nm_r (e' := dm_mk (fun r => decide (r < i + 1) && dm_LR E r)) ?_ (nm_r (nI_1 i) (K (_, ca', th') rfl))) (fun e => nm_r (nI_1 i) (K (x, ca', th') ?_))
    · rw [hx]
      exact dm_mk_add hi (by simp [dm_LR, e])
    · dsimp only
      rw [hx]
      exact dm_mk_keep (by simp [dm_LR, e])
theorem dm_y_lc {post : Int32 → SY → Prop} (hE : ∀ r, r < 7 → ro r = dm_mk (E r)) (hp : ∀ ca' th' : Nat → Int32, post (dm_mk (dm_LC E)) (ro, ca', th', go)) : wpY_looseColumns post (ro, ca, th, go) := by
  unfold wpY_looseColumns
  dsimp only
  refine dm_y_la hE ?_
  intro ca th
  refine loop_0 (fun n i (s : Int32 × (Nat → Int32) × (Nat → Int32)) => wY_looseColumns_9 post (nI (dm_nu E)) n s.1 (nI i) ro s.2.1 s.2.2 go) (fun i s => s.1 = dm_mk (fun r => decide (r < i) && dm_LC E r)) 7 (0, ca, th) (dm_mk_z _) ?_ ?_
  · rintro n ⟨x, s1, s2⟩ hx
    dsimp only at hx ⊢
    rw [hx, dm_mk_e]
    exact br_t dm_7 (hp s1 s2)
  · rintro n i ⟨x, s1, s2⟩ hi hx K
    dsimp only at hx K ⊢
    have b1 := dm_nu_7 E
    have b2 := dm_nu_7 (dm_wo E 7 i 7 7)
    refine br_f (dm_n7 hi) (dm_y_sw (x := 7) (y := i) (r0 := 7) (c0 := 7) (Nat.le_refl _) (by omega) (Nat.le_refl _) (Nat.le_refl _) hE (fun ca' th' => ?_))
    refine pk_eq (dm_nu (dm_wo E 7 i 7 7)) (dm_nu E) (fun e => nm_r (e' := dm_mk (fun r => decide (r < i + 1) && dm_LC E r)) ?_ (nm_r (nI_1 i) (K (_, ca', th') rfl))) (fun e => nm_r (nI_1 i) (K (x, ca', th') ?_))
    · rw [hx]
      exact dm_mk_add hi (by simp [dm_LC, e])
    · dsimp only
      rw [hx]
      exact dm_mk_keep (by simp [dm_LC, e])
theorem dm_y_uo {post : Int32 → SY → Prop} {r : Nat} (hr : r < 7) (hE : ∀ r, r < 7 → ro r = dm_mk (E r)) (hp : ∀ ca' th' : Nat → Int32, post (dm_mk (dm_US E r)) (ro, ca', th', go)) : wpY_usableOf post (ro, ca, th, go) (nI r) (nI (dm_nu E)) := by
  refine loop_0 (fun n i (s : Int32 × (Nat → Int32) × (Nat → Int32)) => wY_usableOf_5 post (nI r) (nI (dm_nu E)) n s.1 (nI i) ro s.2.1 s.2.2 go) (fun i s => s.1 = dm_mk (fun c => decide (c < i) && dm_US E r c)) 7 (0, ca, th) (dm_mk_z _) ?_ ?_
  · rintro n ⟨x, s1, s2⟩ hx
    dsimp only at hx ⊢
    rw [hx, dm_mk_e]
    exact br_t dm_7 (hp s1 s2)
  · rintro n i ⟨x, s1, s2⟩ hi hx K
    dsimp only at hx K ⊢
    have b1 := dm_nu_7 E
    have b2 := dm_nu_7 (dm_wo E r i 7 7)
    have er : ro (nI r).toNatClampNeg = dm_mk (E r) := by rw [dm_c7 hr, hE r hr]
    refine br_f (dm_n7 hi) ⟨dm_in7 hr, dm_yib er hi (fun hb => nm_r (nI_1 i) (K (x, s1, s2) ?_)) (fun hb => dm_y_sw (x := r) (y := i) (r0 := 7) (c0 := 7) (by omega) (by omega) (Nat.le_refl _) (Nat.le_refl _) hE (fun ca' th' => ?_))⟩
    · dsimp only
      rw [hx]
      exact dm_mk_keep (by simp [dm_US, hb])
    · refine pk_eq (dm_nu (dm_wo E r i 7 7) + 1) (dm_nu E) (fun e => nm_r (e' := dm_mk (fun c => decide (c < i + 1) && dm_US E r c)) ?_ (nm_r (nI_1 i) (K (_, ca', th') rfl))) (fun e => nm_r (nI_1 i) (K (x, ca', th') ?_)) (nI_1 _)
      · rw [hx]
        exact dm_mk_add hi (by simp [dm_US, hb, e])
      · dsimp only
        rw [hx]
        exact dm_mk_keep (by simp [dm_US, e])
theorem dm_y_fo {post : Int32 → SY → Prop} {r : Nat} (hr : r < 7) (hE : ∀ r, r < 7 → ro r = dm_mk (E r)) (hp : ∀ ca' th' : Nat → Int32, post (dm_mk (dm_FO E r)) (ro, ca', th', go)) : ∃ n, wY_forced_20 post (nI r) (nI (dm_nu E)) n 0 0 ro ca th go := by
  refine loop_0 (fun n i (s : Int32 × (Nat → Int32) × (Nat → Int32)) => wY_forced_20 post (nI r) (nI (dm_nu E)) n s.1 (nI i) ro s.2.1 s.2.2 go) (fun i s => s.1 = dm_mk (fun c => decide (c < i) && dm_FO E r c)) 7 (0, ca, th) (dm_mk_z _) ?_ ?_
  · rintro n ⟨x, s1, s2⟩ hx
    dsimp only at hx ⊢
    rw [hx, dm_mk_e]
    exact br_t dm_7 (hp s1 s2)
  · rintro n i ⟨x, s1, s2⟩ hi hx K
    dsimp only at hx K ⊢
    have b1 := dm_nu_7 E
    have b2 := dm_nu_7 (dm_wo E 7 7 r i)
    have er : ro (nI r).toNatClampNeg = dm_mk (E r) := by rw [dm_c7 hr, hE r hr]
    refine br_f (dm_n7 hi) ⟨dm_in7 hr, dm_yib er hi (fun hb => nm_r (nI_1 i) (K (x, s1, s2) ?_)) (fun hb => dm_y_sw (x := 7) (y := 7) (r0 := r) (c0 := i) (Nat.le_refl _) (Nat.le_refl _) (by omega) (by omega) hE (fun ca' th' => ?_))⟩
    · dsimp only
      rw [hx]
      exact dm_mk_keep (by simp [dm_FO, hb])
    · refine pk_le (dm_nu E) (dm_nu (dm_wo E 7 7 r i)) (fun e => nm_r (nI_1 i) (K (x, ca', th') ?_)) (fun e => nm_r (e' := dm_mk (fun c => decide (c < i + 1) && dm_FO E r c)) ?_ (nm_r (nI_1 i) (K (_, ca', th') rfl)))
      · dsimp only
        rw [hx]
        refine dm_mk_keep ?_
        have : ¬ dm_nu (dm_wo E 7 7 r i) < dm_nu E := by omega
        simp only [dm_FO, this, decide_false, Bool.and_false]
      · rw [hx]
        refine dm_mk_add hi ?_
        simp only [dm_FO, hb, e, decide_true, Bool.and_self]
theorem dm_y_fg {post : SY → Prop} (hE : ∀ r, r < 7 → ro r = dm_mk (E r)) (hp : ∀ ca' th' go' : Nat → Int32, (∀ r, r < 7 → go' r = dm_mk (dm_US E r)) → post (ro, ca', th', go')) : wpY_findGood post (ro, ca, th, go) := by
  unfold wpY_findGood
  dsimp only
  refine dm_y_la hE ?_
  intro ca th
  refine loop_0 (fun n i (s : (Nat → Int32) × (Nat → Int32) × (Nat → Int32)) => wY_findGood_7 post (nI (dm_nu E)) n (nI i) ro s.1 s.2.1 s.2.2) (fun i s => ∀ r, r < i → s.2.2 r = dm_mk (dm_US E r)) 7 (ca, th, go) (fun r hr => by omega) ?_ ?_
  · rintro n ⟨s1, s2, s3⟩ hs
    exact br_t dm_7 (hp s1 s2 s3 hs)
  · rintro n i ⟨s1, s2, s3⟩ hi hs K
    dsimp only at hs K ⊢
    refine br_f (dm_n7 hi) (dm_y_uo hi hE (fun ca' th' => ⟨dm_in7 hi, nm_r (e' := upd s3 i (dm_mk (dm_US E i))) (by rw [dm_c7 hi]) (nm_r (nI_1 i) (K (ca', th', upd s3 i (dm_mk (dm_US E i))) ?_))⟩))
    intro r hr
    dsimp only
    by_cases e : r = i
    · rw [e, dm_us]
    · rw [dm_un e]; exact hs r (by omega)
theorem dm_y_15 {post : Int32 → Prop} {J : Int32 → Int32 → Prop} {r t : Nat} {S : Nat → Bool} (hgo : ∀ r, r < 7 → go r = dm_mk (G r)) (hB : dm_Bp G r t S) (hr : r < 7)
    (hJ : ∀ S' : Nat → Bool, dm_Bp G r (t + 1) S' → J (dm_mk S') (nI (t + 1))) : ∃ n, wY_blockOf_15 post J (nI t) ro ca th go n (dm_mk S) 0 := by
  refine loop_0 (fun n i x => wY_blockOf_15 post J (nI t) ro ca th go n x (nI i)) (fun i x => ∃ C : Nat → Bool, x = dm_mk C ∧ (∀ k, k < 7 → S k = true → C k = true) ∧ (∀ Z : Nat → Prop, Z r → dm_cl G Z → ∀ x, x < 7 → C x = true → Z x) ∧ (∀ a b, a < 7 → b < 7 → 7 * a + b < i → S a = true → dm_lk G a b = true → C b = true)) 49 (dm_mk S)
    ⟨S, rfl, fun _ _ h => h, hB.2.1, fun a b _ _ h => by omega⟩ ?_ ?_
  · rintro n x ⟨C, hx, h1, h2, h3⟩
    rw [hx]
    exact br_t dm_49 (nm_r (nI_1 t) (hJ C (dm_bp_s hB h1 (h1 r hr hB.1) (fun a b ha hb => h3 a b ha hb (by omega)) h2)))
  · rintro n i x hi ⟨C, hx, h1, h2, h3⟩ K
    have ha : i / 7 < 7 := by omega
    have hb : i % 7 < 7 := by omega
    have e1 : nI i / 7 = nI (i / 7) := pk_div (d := 7) (by omega) (by omega) (by omega)
    have e2 : nI i - nI i / 7 * 7 = nI (i % 7) := pk_rem (d := 7) (by omega) (by omega) (by omega)
    have h70 : ¬ (7 : Int32) = 0 := by decide
    have eg : go (nI (i / 7)).toNatClampNeg &&& go (nI (i % 7)).toNatClampNeg = dm_mk (fun c => G (i / 7) c && G (i % 7) c) := by rw [dm_c7 ha, dm_c7 hb, hgo _ ha, hgo _ hb, dm_and]
    have keep : (S (i / 7) = true → dm_lk G (i / 7) (i % 7) = true → C (i % 7) = true) → ∀ a b, a < 7 → b < 7 → 7 * a + b < i + 1 → S a = true → dm_lk G a b = true → C b = true := by
      intro hk a b ha' hb' hlt hs hl
      by_cases e : 7 * a + b = i
      · have ea : a = i / 7 := by omega
        have eb : b = i % 7 := by omega
        rw [ea] at hs hl
        rw [eb] at hl ⊢
        exact hk hs hl
      · exact h3 a b ha' hb' (by omega) hs hl
    refine br_f (dm_n49 hi) ⟨h70, ?_⟩
    rw [e2, e1]
    refine dm_yib hx ha (fun hz => nm_r (nI_1 i) (K x ⟨C, hx, h1, h2, keep (fun hs => (dm_tf (h1 _ ha hs) hz).elim)⟩)) (fun hz => ⟨h70, dm_in7 ha, h70, dm_in7 hb, ?_⟩)
    rw [eg]
    refine br_c (fun hl => nm_r (nI_1 i) (K x ⟨C, hx, h1, h2, keep (fun _ hlk => ?_)⟩)) (fun hl => ⟨h70, nm_r (e' := dm_mk (fun k => C k || decide (k = i % 7))) (by rw [hx, dm_one _ hb, dm_or]) (nm_r (nI_1 i) (K _ ⟨_, rfl, ?_, ?_, ?_⟩))⟩)
    · rw [dm_mk0] at hl
      obtain ⟨c, hc, w1, w2⟩ := dm_lk_iff.mp hlk
      have := hl c hc
      rw [w1, w2] at this
      cases this
    · intro k hk h
      simp [h1 k hk h]
    · intro Z hz' hcl y hy h
      simp only [Bool.or_eq_true, decide_eq_true_eq] at h
      rcases h with h | h
      · exact h2 Z hz' hcl y hy h
      · rw [h]
        refine hcl (i / 7) (i % 7) ha hb (h2 Z hz' hcl _ ha hz) ?_
        apply dm_nf
        intro w
        apply hl
        rw [dm_mk0]
        intro c hc
        apply dm_nt
        intro w2
        exact dm_tf (dm_ex_t (f := fun c => G (i / 7) c && G (i % 7) c) c hc w2) w
    · intro a b ha' hb' hlt hs hlk
      by_cases e : 7 * a + b = i
      · have eb : b = i % 7 := by omega
        simp [eb]
      · simp [h3 a b ha' hb' (by omega) hs hlk]
theorem dm_y_bo {post : Int32 → Prop} {r : Nat} (hr : r < 7) (hgo : ∀ r, r < 7 → go r = dm_mk (G r)) (h : post (dm_mk (dm_blk G r))) : wpY_blockOf post (ro, ca, th, go) (nI r) := by
  refine nm_r (dm_one r hr) ?_
  refine loop_0 (fun n i x => wY_blockOf_6 post ro ca th go n x (nI i)) (fun i x => ∃ S : Nat → Bool, x = dm_mk S ∧ dm_Bp G r i S) 7 _ ⟨_, rfl, dm_bp_0 hr⟩ ?_ ?_
  · rintro n x ⟨S, hx, hB⟩
    rw [hx, dm_mkx (dm_bp_7 hB)]
    exact br_t dm_7 h
  · rintro n i x hi ⟨S, hx, hB⟩ K
    rw [hx]
    exact br_f (dm_n7 hi) (dm_y_15 hgo hB hr (fun S' hB' => K _ ⟨S', rfl, hB'⟩))
theorem dm_low : ∀ i, i < 7 → ((1 : Int32) <<< (nI i &&& 31)) - 1 = dm_mk (fun k => decide (k < i)) := by decide +kernel
theorem dm_y_bl {post : Int32 → SY → Prop} (hgo : ∀ r, r < 7 → go r = dm_mk (G r)) (h : post (nI (dm_cnt (fun r => dm_nz G r && !dm_ex (dm_blk G r) r) 7)) (ro, ca, th, go)) : ∃ n, wY_blocks_8 post ro ca th go n 0 0 := by
  refine loop_0 (fun n i x => wY_blocks_8 post ro ca th go n x (nI i)) (fun i x => x = nI (dm_cnt (fun r => dm_nz G r && !dm_ex (dm_blk G r) r) i)) 7 0 rfl ?_ ?_
  · intro n x hx
    rw [hx]
    exact br_t dm_7 h
  · intro n i x hi hx K
    have ei : go (nI i).toNatClampNeg = dm_mk (G i) := by rw [dm_c7 hi, hgo i hi]
    refine br_f (dm_n7 hi) (dm_y_bo hi hgo ⟨dm_in7 hi, br_c (fun hz => nm_r (nI_1 i) (K x ?_)) (fun hz => ?_)⟩)
    · rw [ei, dm_mk0] at hz
      have hn : dm_nz G i = false := dm_nt (fun w => by
        obtain ⟨c, hc, hg⟩ := (dm_ex_iff _ _).mp w
        exact dm_tf hg (hz c hc))
      rw [hx, dm_cnt_s, if_neg (by simp [hn])]
      rfl
    · rw [ei, dm_mk0] at hz
      have hn : dm_nz G i = true := dm_nf (fun w => hz (fun c hc => dm_nt (fun hg => dm_tf (dm_ex_t (f := G i) c hc hg) w)))
      rw [dm_low i hi, dm_and]
      refine br_c (fun hl => nm_r (e' := nI (dm_cnt (fun r => dm_nz G r && !dm_ex (dm_blk G r) r) (i + 1))) ?_ (nm_r (nI_1 i) (K _ rfl))) (fun hl => nm_r (nI_1 i) (K x ?_))
      · rw [dm_mk0] at hl
        have : dm_ex (dm_blk G i) i = false := dm_nt (fun w => by
          obtain ⟨k, hk, hb⟩ := (dm_ex_iff _ _).mp w
          have := hl k (by omega)
          simp [hb, hk] at this)
        rw [hx, nI_1, dm_cnt_s, if_pos (by simp [hn, this])]
      · have : dm_ex (dm_blk G i) i = true := dm_nf (fun w => hl (dm_mk0.mpr (fun k hk => by
          by_cases e : k < i
          · have : dm_blk G i k = false := dm_nt (fun hb => dm_tf (dm_ex_t (f := dm_blk G i) k e hb) w)
            simp [this]
          · simp [e])))
        rw [hx, dm_cnt_s, if_neg (by simp [this])]
        rfl
def dm_val (E : Nat → Nat → Bool) (s : Nat) : Nat := dm_pop s + dm_cnt (dm_N E (fun r => !s.testBit r)) 7
theorem dm_val_ge (E : Nat → Nat → Bool) (s : Nat) : dm_nu E ≤ dm_val E s := by
  refine dm_nu_le (A := fun i => s.testBit i) ?_
  intro r c hr hc he
  by_cases h : s.testBit r = true
  · exact Or.inl h
  · exact Or.inr (dm_N_iff.mpr ⟨r, hr, by simp [dm_nt h], he⟩)
theorem dm_val_ex (E : Nat → Nat → Bool) : ∃ s, s < 128 ∧ dm_val E s ≤ dm_nu E := by
  obtain ⟨A, B, hC, hs⟩ := dm_nu_cov E
  have hb : ∀ i, i < 7 → (dm_mN A 7).testBit i = A i := by
    intro i hi
    rw [dm_mN_tb]
    simp [hi]
  refine ⟨dm_mN A 7, dm_mN_lt A 7, Nat.le_trans ?_ hs⟩
  refine Nat.add_le_add (Nat.le_of_eq (dm_cnt_congr hb)) (dm_cnt_mono (fun c hc h => ?_))
  obtain ⟨r, hr, h1, h2⟩ := dm_N_iff.mp h
  rw [hb r hr] at h1
  rcases hC r c hr hc h2 with w | w
  · rw [w] at h1; cases h1
  · exact w
theorem dm_y_17 {post : Int32 → Prop} {J : Int32 → Int32 → Prop} {m s : Nat} (hm : m ≤ 7) (hs : s < 128) (hE : ∀ r, r < 7 → ro r = dm_mk (E r))
    (h1 : m ≤ dm_val E s → J (nI m) (nI (s + 1))) (h2 : dm_val E s < m → J (nI (dm_val E s)) (nI (s + 1))) : ∃ n, wY_cover_17 post J (nI m) (nI s) ro ca th go n 0 0 := by
  refine loop_0 (fun n i x => wY_cover_17 post J (nI m) (nI s) ro ca th go n x (nI i)) (fun i x => x = dm_mk (fun c => dm_ex (fun r => !s.testBit r && E r c) i)) 7 0 dm_0 ?_ ?_
  · intro n x hx
    have b1 : dm_pop s ≤ 7 := dm_cnt_le _ 7
    have b2 : dm_cnt (dm_N E (fun r => !s.testBit r)) 7 ≤ 7 := dm_cnt_le _ 7
    have b3 : dm_val E s ≤ 14 := by unfold dm_val; omega
    refine br_t dm_7 (dm_y_so (dm_nat hs) (dm_y_so hx (nm_r (nI_add _ _) ?_)))
    exact pk_le m (dm_val E s) (fun e => nm_r (nI_1 s) (h1 e)) (fun e => nm_r (nI_1 s) (h2 e))
  · intro n i x hi hx K
    refine br_f (dm_n7 hi) (dm_yib (dm_nat hs) hi (fun hb => ⟨dm_in7 hi, nm_r (e' := dm_mk (fun c => dm_ex (fun r => !s.testBit r && E r c) (i + 1))) ?_ (nm_r (nI_1 i) (K _ rfl))⟩) (fun hb => nm_r (nI_1 i) (K x ?_)))
    · rw [dm_c7 hi, hE i hi, hx, dm_or]
      apply dm_mkx
      intro c _
      simp [dm_ex, hb]
    · rw [hx]
      apply dm_mkx
      intro c _
      simp [dm_ex, hb]
theorem dm_y_co {post : Int32 → Prop} (hE : ∀ r, r < 7 → ro r = dm_mk (E r)) (h : post (nI (dm_nu E))) : wpY_cover post (ro, ca, th, go) := by
  refine loop_0 (fun n i x => wY_cover_5 post ro ca th go n x (nI i)) (fun i x => ∃ m, m ≤ 7 ∧ x = nI m ∧ dm_nu E ≤ m ∧ ∀ s, s < i → m ≤ dm_val E s) 128 7 ⟨7, Nat.le_refl _, rfl, dm_nu_7 E, fun s hs => by omega⟩ ?_ ?_
  · rintro n x ⟨m, hm, hx, h1, h2⟩
    obtain ⟨s, hs, hv⟩ := dm_val_ex E
    have := h2 s hs
    have e : m = dm_nu E := by omega
    rw [hx, e]
    exact br_t dm_128 h
  · rintro n i x hi ⟨m, hm, hx, h1, h2⟩ K
    rw [hx]
    refine br_f (dm_n128 hi) (dm_y_17 hm hi hE (fun e => K _ ⟨m, hm, rfl, h1, ?_⟩) (fun e => K _ ⟨dm_val E i, by omega, rfl, dm_val_ge E i, ?_⟩))
    · intro s hs
      by_cases es : s = i
      · rw [es]; exact e
      · exact h2 s (by omega)
    · intro s hs
      by_cases es : s = i
      · rw [es]; exact Nat.le_refl _
      · have := h2 s (by omega)
        omega
end
end
section
/-! the relation and what is owed (statements: given) -/
/-- the same edges; a matching of rows and columns; where 'ready' is set, it is a largest one of these edges, and the sets are theirs -/
def i_Rel (k : Nat) (u : SX) (v : SY) : Prop := match u, v with
  | (fr, rr, cr, rc, cc, ae, ap, ac, aq, af, ar, au), (ro, ca, th, go) => ro = ae ∧ ∃ (E : Nat → Nat → Bool) (p q : Nat → Nat), dm_St E p q ae ap ac ∧ (¬ fr = 0 → dm_Rd E p q rr cr cc au)
theorem i_up {k : Nat} {u : SX} {v : SY} (h : i_Rel k u v) : i_Rel (k + 4) u v := h
theorem dm_el {P : SX → SY → Prop} {k : Nat} {u : SX} {v : SY}
    (h : ∀ (fr rr cr rc cc : Int32) (ae ap ac aq af ar au ca th go : Nat → Int32) (E : Nat → Nat → Bool) (p q : Nat → Nat), dm_St E p q ae ap ac → (¬ fr = 0 → dm_Rd E p q rr cr cc au) → P (fr, rr, cr, rc, cc, ae, ap, ac, aq, af, ar, au) (ae, ca, th, go)) (I : i_Rel k u v) : P u v := by
  obtain ⟨fr, rr, cr, rc, cc, ae, ap, ac, aq, af, ar, au⟩ := u
  obtain ⟨ro, ca, th, go⟩ := v
  obtain ⟨e, E, p, q, h1, h2⟩ := I
  have e : ro = ae := e
  subst e
  exact h _ _ _ _ _ _ _ _ _ _ _ _ _ _ _ E p q h1 h2
theorem dm_cls (x : Int32) : (∃ j, j < 7 ∧ x = nI j) ∨ (x < 0 ∨ 6 < x) := by
  by_cases h : x < 0
  · exact Or.inr (Or.inl h)
  · by_cases h2 : 6 < x
    · exact Or.inr (Or.inr h2)
    · obtain ⟨j, hj, e⟩ := nI_of2 (M := 6) (n := 6) (by decide) h (Int32.not_lt.mp h2)
      exact Or.inl ⟨j, by omega, e⟩
theorem dm_not6 {j : Nat} (h : j < 7) : ¬ (6 : Int32) < nI j := nI_nlt (a := 6) (b := j) (by omega) (by decide)
theorem dm_isn_t {A B : Prop} {u : SX} {j : Nat} (hj : j < 7) (b : B) : wpX_isNumber (fun r => (r = 0 → A) ∧ (¬ r = 0 → B)) u (nI j) := by
  obtain ⟨fr, rr, cr, rc, cc, ae, ap, ac, aq, af, ar, au⟩ := u
  exact br_f (nI_pos (by omega)) (br_f (dm_not6 hj) (br_f (by decide) b))
theorem dm_isn_f {A B : Prop} {u : SX} {x : Int32} (h : x < 0 ∨ 6 < x) (a : A) : wpX_isNumber (fun r => (r = 0 → A) ∧ (¬ r = 0 → B)) u x := by
  obtain ⟨fr, rr, cr, rc, cc, ae, ap, ac, aq, af, ar, au⟩ := u
  by_cases h0 : x < 0
  · exact br_t h0 (br_t rfl a)
  · exact br_f h0 (br_t (h.resolve_left h0) (br_t rfl a))
theorem dm_isp_t {A B : Prop} {u : SY} {j : Nat} (hj : j < 7) (b : B) : wpY_isPlace (fun r => (r = 0 → A) ∧ (¬ r = 0 → B)) u (nI j) := by
  obtain ⟨ro, ca, th, go⟩ := u
  exact br_f (nI_pos (by omega)) (br_f (dm_not6 hj) (br_f (by decide) b))
theorem dm_isp_f {A B : Prop} {u : SY} {x : Int32} (h : x < 0 ∨ 6 < x) (a : A) : wpY_isPlace (fun r => (r = 0 → A) ∧ (¬ r = 0 → B)) u x := by
  obtain ⟨ro, ca, th, go⟩ := u
  by_cases h0 : x < 0
  · exact br_t h0 (br_t rfl a)
  · exact br_f h0 (br_t (h.resolve_left h0) (br_t rfl a))
section
variable {fr rr cr rc cc : Int32} {ae ap ac aq af ar au ca th go : Nat → Int32} {E : Nat → Nat → Bool} {p q : Nat → Nat}
theorem dm_rel {k : Nat} (h1 : dm_St E p q ae ap ac) (h2 : ¬ fr = 0 → dm_Rd E p q rr cr cc au) : i_Rel k (fr, rr, cr, rc, cc, ae, ap, ac, aq, af, ar, au) (ae, ca, th, go) := ⟨rfl, E, p, q, h1, h2⟩
theorem dm_St_e {g : Nat → Bool} {x : Int32} {j : Nat} (h : dm_St E p q ae ap ac) (hx : x = dm_mk g) : dm_St (fun r => if r = j then g else E r) p q (upd ae j x) ap ac := by
  refine ⟨?_, h.2.1, h.2.2.1, h.2.2.2⟩
  intro r hr
  show upd ae j x r = dm_mk (if r = j then g else E r)
  by_cases e : r = j
  · rw [e, dm_us, if_pos rfl, hx]
  · rw [dm_un e, if_neg e]
    exact h.1 r hr
theorem dm_rel_e {k : Nat} {g : Nat → Bool} {x : Int32} {j : Nat} (h : dm_St E p q ae ap ac) (hx : x = dm_mk g) : i_Rel k (0, rr, cr, rc, cc, upd ae j x, ap, ac, aq, af, ar, au) (upd ae j x, ca, th, go) :=
  dm_rel (dm_St_e h hx) (fun z => absurd rfl z)
end
theorem i_vc0 : wpX_init (fun u => wpY_init (fun v => i_Rel 0 u v)) := by
  refine loop_0 (fun n i (s : (Nat → Int32) × (Nat → Int32)) => wX_init_62 (fun u => wpY_init (fun v => i_Rel 0 u v)) 0 0 0 0 0 n (nI i) (fun _ => 0) s.1 s.2 (fun _ => 0) (fun _ => 0) (fun _ => 0) (fun _ => 0))
    (fun i s => (∀ r, r < i → s.1 r = -1) ∧ (∀ r, r < i → s.2 r = -1)) 7 ((fun _ => 0), (fun _ => 0)) ⟨fun r hr => by omega, fun r hr => by omega⟩ ?_ ?_
  · rintro n ⟨s1, s2⟩ ⟨h1, h2⟩
    dsimp only at h1 h2 ⊢
    refine br_t dm_7 ?_
    show i_Rel 0 (0, 0, 0, 0, 0, (fun _ => 0), s1, s2, (fun _ => 0), (fun _ => 0), (fun _ => 0), (fun _ => 0)) ((fun _ => 0), (fun _ => 0), (fun _ => 0), (fun _ => 0))
    refine dm_rel (E := fun _ _ => false) (p := fun _ => 7) (q := fun _ => 7) ⟨fun r _ => dm_0, fun r hr => ?_, fun r hr => ?_, fun r c hr hc => ?_⟩ (fun z => absurd rfl z)
    · rw [h1 r hr, dm_pm_7]
    · rw [h2 r hr, dm_pm_7]
    · constructor
      · intro w
        have w : 7 = c := w
        omega
      · intro w
        have w : 7 = r := w
        omega
  · rintro n i ⟨s1, s2⟩ hi ⟨h1, h2⟩ K
    dsimp only at h1 h2 K ⊢
    refine br_f (dm_n7 hi) ⟨dm_in7 hi, nm_r (e' := upd s1 i (-1)) (by rw [dm_c7 hi, dm_nbm]) ⟨dm_in7 hi, nm_r (e' := upd s2 i (-1)) (by rw [dm_c7 hi, dm_nbm]) (nm_r (nI_1 i) (K (upd s1 i (-1), upd s2 i (-1)) ⟨?_, ?_⟩))⟩⟩
    · intro r hr
      dsimp only
      by_cases e : r = i
      · rw [e, dm_us]
      · rw [dm_un e]; exact h1 r (by omega)
    · intro r hr
      dsimp only
      by_cases e : r = i
      · rw [e, dm_us]
      · rw [dm_un e]; exact h2 r (by omega)
theorem i_vc_edge {k : Nat} {u : SX} {v : SY} (I : i_Rel k u v) (hk : k + 4 ≤ 2048) (v1 : Int32) (v2 : Int32) (v3 : Int32) : wpX_edge (fun r u' => wpY_edge (fun r' v' => r' = r ∧ i_Rel (k + 4) u' v') v v1 v2 (lw_bz v3)) u v1 v2 (lw_bz v3) := by
  refine dm_el (P := fun u v => wpX_edge (fun r u' => wpY_edge (fun r' v' => r' = r ∧ i_Rel (k + 4) u' v') v v1 v2 (lw_bz v3)) u v1 v2 (lw_bz v3)) ?_ I
  intro fr rr cr rc cc ae ap ac aq af ar au ca th go E p q hSt hRd
  unfold wpX_edge wpY_edge
  dsimp only
  rcases dm_cls v1 with ⟨i, hi, e1⟩ | h1
  · subst e1
    refine dm_isn_t hi ?_
    rcases dm_cls v2 with ⟨j, hj, e2⟩ | h2
    · subst e2
      have ei : ae (nI i).toNatClampNeg = dm_mk (E i) := by rw [dm_c7 hi, hSt.1 i hi]
      refine dm_isn_t hj (br_c (fun hz => ⟨dm_in7 hi, dm_in7 hi, nm_r (e' := upd ae i (dm_mk (fun c => E i c && !decide (c = j)))) ?_ (dm_isp_t hi (dm_isp_t hj (br_t hz ⟨dm_in7 hi, dm_in7 hi, nm_r (e' := upd ae i (dm_mk (fun c => E i c && !decide (c = j)))) ?_ ⟨rfl, dm_rel_e hSt rfl⟩⟩)))⟩) (fun hz => ⟨dm_in7 hi, dm_in7 hi, nm_r (e' := upd ae i (dm_mk (fun c => E i c || decide (c = j)))) ?_ (dm_isp_t hi (dm_isp_t hj (br_f hz ⟨dm_in7 hi, dm_in7 hi, nm_r (e' := upd ae i (dm_mk (fun c => E i c || decide (c = j)))) ?_ ⟨rfl, dm_rel_e hSt rfl⟩⟩)))⟩))
      · rw [ei, dm_c7 hi, dm_clr _ j (by omega)]
      · rw [ei, dm_c7 hi, dm_clr _ j (by omega)]
      · rw [ei, dm_c7 hi, dm_one j hj, dm_or]
      · rw [ei, dm_c7 hi, dm_one j hj, dm_or]
    · exact dm_isn_f h2 (dm_isp_t hi (dm_isp_f h2 ⟨rfl, dm_rel hSt hRd⟩))
  · exact dm_isn_f h1 (dm_isp_f h1 ⟨rfl, dm_rel hSt hRd⟩)
theorem i_vc_row {k : Nat} {u : SX} {v : SY} (I : i_Rel k u v) (hk : k + 4 ≤ 2048) (v1 : Int32) (v2 : Int32) : wpX_row (fun r u' => wpY_row (fun r' v' => r' = r ∧ i_Rel (k + 4) u' v') v v1 v2) u v1 v2 := by
  refine dm_el (P := fun u v => wpX_row (fun r u' => wpY_row (fun r' v' => r' = r ∧ i_Rel (k + 4) u' v') v v1 v2) u v1 v2) ?_ I
  intro fr rr cr rc cc ae ap ac aq af ar au ca th go E p q hSt hRd
  unfold wpX_row wpY_row
  dsimp only
  rcases dm_cls v1 with ⟨i, hi, e1⟩ | h1
  · subst e1
    refine dm_isn_t hi (br_c (fun h0 => dm_isp_t hi (br_t h0 ⟨rfl, dm_rel hSt hRd⟩)) (fun h0 => br_c (fun h7 => ?_) (fun h7 => dm_isp_t hi (br_f h0 (br_f h7 ⟨rfl, dm_rel hSt hRd⟩)))))
    obtain ⟨m, hm, e2⟩ := nI_of2 (M := 127) (n := 127) (by decide) h0 h7
    refine ⟨dm_in7 hi, nm_r (e' := upd ae i v2) (by rw [dm_c7 hi]) (dm_isp_t hi (br_f h0 (br_t h7 ⟨dm_in7 hi, nm_r (e' := upd ae i v2) (by rw [dm_c7 hi]) ⟨rfl, dm_rel_e (g := fun c => m.testBit c) hSt ?_⟩⟩)))⟩
    rw [e2]
    exact dm_nat (by omega)
  · exact dm_isn_f h1 (dm_isp_f h1 ⟨rfl, dm_rel hSt hRd⟩)
theorem i_vc_columnsOf {k : Nat} {u : SX} {v : SY} (I : i_Rel k u v) (hk : k + 4 ≤ 2048) (v1 : Int32) : wpX_columnsOf (fun r => wpY_columnsOf (fun r' => r' = r ∧ i_Rel (k + 4) u v) v v1) u v1 := by
  refine dm_el (P := fun u v => wpX_columnsOf (fun r => wpY_columnsOf (fun r' => r' = r ∧ i_Rel (k + 4) u v) v v1) u v1) ?_ I
  intro fr rr cr rc cc ae ap ac aq af ar au ca th go E p q hSt hRd
  unfold wpX_columnsOf wpY_columnsOf
  dsimp only
  rcases dm_cls v1 with ⟨i, hi, e1⟩ | h1
  · subst e1
    exact dm_isn_t hi ⟨dm_in7 hi, dm_isp_t hi ⟨dm_in7 hi, rfl, dm_rel hSt hRd⟩⟩
  · exact dm_isn_f h1 (dm_isp_f h1 ⟨rfl, dm_rel hSt hRd⟩)
theorem i_vc_largest {k : Nat} {u : SX} {v : SY} (I : i_Rel k u v) (hk : k + 4 ≤ 2048) : wpX_largest (fun r u' => wpY_largest (fun r' v' => r' = r ∧ i_Rel (k + 4) u' v') v) u := by
  refine dm_el (P := fun u v => wpX_largest (fun r u' => wpY_largest (fun r' v' => r' = r ∧ i_Rel (k + 4) u' v') v) u) ?_ I
  intro fr rr cr rc cc ae ap ac aq af ar au ca th go E p q hSt hRd
  unfold wpX_largest
  dsimp only
  refine dm_w_prep hSt hRd ?_
  intro fr rr cr rc cc ap ac aq af ar au p q hf hSt hRd
  refine dm_w_la hSt.2.1 (dm_y_la hSt.1 (fun ca' th' => ⟨?_, dm_rel hSt (fun _ => hRd)⟩))
  rw [hRd.2.1]
theorem i_vc_looseRows {k : Nat} {u : SX} {v : SY} (I : i_Rel k u v) (hk : k + 4 ≤ 2048) : wpX_looseRows (fun r u' => wpY_looseRows (fun r' v' => r' = r ∧ i_Rel (k + 4) u' v') v) u := by
  refine dm_el (P := fun u v => wpX_looseRows (fun r u' => wpY_looseRows (fun r' v' => r' = r ∧ i_Rel (k + 4) u' v') v) u) ?_ I
  intro fr rr cr rc cc ae ap ac aq af ar au ca th go E p q hSt hRd
  unfold wpX_looseRows
  dsimp only
  refine dm_w_prep hSt hRd ?_
  intro fr rr cr rc cc ap ac aq af ar au p q hf hSt hRd
  exact dm_y_lr hSt.1 (fun ca' th' => ⟨hRd.2.2.1.symm, dm_rel hSt (fun _ => hRd)⟩)
theorem i_vc_looseColumns {k : Nat} {u : SX} {v : SY} (I : i_Rel k u v) (hk : k + 4 ≤ 2048) : wpX_looseColumns (fun r u' => wpY_looseColumns (fun r' v' => r' = r ∧ i_Rel (k + 4) u' v') v) u := by
  refine dm_el (P := fun u v => wpX_looseColumns (fun r u' => wpY_looseColumns (fun r' v' => r' = r ∧ i_Rel (k + 4) u' v') v) u) ?_ I
  intro fr rr cr rc cc ae ap ac aq af ar au ca th go E p q hSt hRd
  unfold wpX_looseColumns
  dsimp only
  refine dm_w_prep hSt hRd ?_
  intro fr rr cr rc cc ap ac aq af ar au p q hf hSt hRd
  exact dm_y_lc hSt.1 (fun ca' th' => ⟨hRd.2.2.2.2.1.symm, dm_rel hSt (fun _ => hRd)⟩)
theorem i_vc_usable {k : Nat} {u : SX} {v : SY} (I : i_Rel k u v) (hk : k + 4 ≤ 2048) (v1 : Int32) : wpX_usable (fun r u' => wpY_usable (fun r' v' => r' = r ∧ i_Rel (k + 4) u' v') v v1) u v1 := by
  refine dm_el (P := fun u v => wpX_usable (fun r u' => wpY_usable (fun r' v' => r' = r ∧ i_Rel (k + 4) u' v') v v1) u v1) ?_ I
  intro fr rr cr rc cc ae ap ac aq af ar au ca th go E p q hSt hRd
  unfold wpX_usable wpY_usable
  dsimp only
  rcases dm_cls v1 with ⟨i, hi, e1⟩ | h1
  · subst e1
    refine dm_isn_t hi (dm_w_prep hSt hRd ?_)
    intro fr rr cr rc cc ap ac aq af ar au p q hf hSt hRd
    have ei : au (nI i).toNatClampNeg = dm_mk (dm_US E i) := by rw [dm_c7 hi, hRd.2.2.2.2.2.1 i hi]
    exact ⟨dm_in7 hi, dm_isp_t hi (dm_y_la hSt.1 (fun ca' th' => dm_y_uo hi hSt.1 (fun ca'' th'' => ⟨ei.symm, dm_rel hSt (fun _ => hRd)⟩)))⟩
  · exact dm_isn_f h1 (dm_isp_f h1 ⟨rfl, dm_rel hSt hRd⟩)
theorem i_vc_forced {k : Nat} {u : SX} {v : SY} (I : i_Rel k u v) (hk : k + 4 ≤ 2048) (v1 : Int32) : wpX_forced (fun r u' => wpY_forced (fun r' v' => r' = r ∧ i_Rel (k + 4) u' v') v v1) u v1 := by
  refine dm_el (P := fun u v => wpX_forced (fun r u' => wpY_forced (fun r' v' => r' = r ∧ i_Rel (k + 4) u' v') v v1) u v1) ?_ I
  intro fr rr cr rc cc ae ap ac aq af ar au ca th go E p q hSt hRd
  unfold wpX_forced wpY_forced
  dsimp only
  rcases dm_cls v1 with ⟨i, hi, e1⟩ | h1
  · subst e1
    refine dm_isn_t hi (dm_w_prep hSt hRd ?_)
    intro fr rr cr rc cc ap ac aq af ar au p q hf hSt hRd
    have hF := fun c (hc : c < 7) => dm_forced hRd.1 hRd.2.1 hi hc
    refine dm_w_if hi hSt.2.1 hRd.2.2.2.2.2.1 hRd.2.2.1 hRd.2.2.2.2.1 (fun h1 h2 h3 h4 => br_f (by decide) ⟨dm_in7 hi, ?_⟩) (fun hn => br_t rfl ?_)
    · have ei : ap (nI i).toNatClampNeg = nI (p i) := by rw [dm_c7 hi, hSt.2.1 i hi, dm_pm_lo h1]
      dsimp only
      rw [ei, dm_one _ h1]
      refine dm_isp_t hi (dm_y_la hSt.1 (fun ca' th' => dm_y_fo hi hSt.1 (fun ca'' th'' => ⟨dm_mkx (fun c hc => ?_), dm_rel hSt (fun _ => hRd)⟩)))
      rw [Bool.eq_iff_iff, hF c hc, decide_eq_true_eq]
      constructor
      · intro w; exact w.1.symm
      · intro w
        rw [w]
        refine ⟨rfl, h2, h3, fun d hd hne => ?_⟩
        rw [h4 d hd]
        simp [hne]
    · refine dm_isp_t hi (dm_y_la hSt.1 (fun ca' th' => dm_y_fo hi hSt.1 (fun ca'' th'' => ⟨dm_mk0.mpr (fun c hc => dm_nt (fun w => ?_)), dm_rel hSt (fun _ => hRd)⟩)))
      obtain ⟨w1, w2, w3, w4⟩ := (hF c hc).mp w
      refine hn ⟨by omega, w2, by rw [w1]; exact w3, fun d hd => ?_⟩
      by_cases e : d = p i
      · rw [e, dm_US_p hRd.1 hRd.2.1 hi (by omega)]
        simp
      · rw [w4 d hd (by omega)]
        simp [e]
  · exact dm_isn_f h1 (dm_isp_f h1 ⟨rfl, dm_rel hSt hRd⟩)
theorem i_vc_blocks {k : Nat} {u : SX} {v : SY} (I : i_Rel k u v) (hk : k + 4 ≤ 2048) : wpX_blocks (fun r u' => wpY_blocks (fun r' v' => r' = r ∧ i_Rel (k + 4) u' v') v) u := by
  refine dm_el (P := fun u v => wpX_blocks (fun r u' => wpY_blocks (fun r' v' => r' = r ∧ i_Rel (k + 4) u' v') v) u) ?_ I
  intro fr rr cr rc cc ae ap ac aq af ar au ca th go E p q hSt hRd
  unfold wpX_blocks wpY_blocks
  dsimp only
  refine dm_w_prep hSt hRd ?_
  intro fr rr cr rc cc ap ac aq af ar au p q hf hSt hRd
  exact dm_w_bl hRd.2.2.2.2.2.1 (dm_y_fg hSt.1 (fun ca' th' go' hgo => dm_y_bl hgo ⟨rfl, dm_rel hSt (fun _ => hRd)⟩))
theorem i_vc_blockRows {k : Nat} {u : SX} {v : SY} (I : i_Rel k u v) (hk : k + 4 ≤ 2048) (v1 : Int32) : wpX_blockRows (fun r u' => wpY_blockRows (fun r' v' => r' = r ∧ i_Rel (k + 4) u' v') v v1) u v1 := by
  refine dm_el (P := fun u v => wpX_blockRows (fun r u' => wpY_blockRows (fun r' v' => r' = r ∧ i_Rel (k + 4) u' v') v v1) u v1) ?_ I
  intro fr rr cr rc cc ae ap ac aq af ar au ca th go E p q hSt hRd
  unfold wpX_blockRows wpY_blockRows
  dsimp only
  rcases dm_cls v1 with ⟨i, hi, e1⟩ | h1
  · subst e1
    refine dm_isn_t hi (dm_w_prep hSt hRd ?_)
    intro fr rr cr rc cc ap ac aq af ar au p q hf hSt hRd
    have ei : au (nI i).toNatClampNeg = dm_mk (dm_US E i) := by rw [dm_c7 hi, hRd.2.2.2.2.2.1 i hi]
    refine ⟨dm_in7 hi, br_c (fun hz => dm_isp_t hi (dm_y_fg hSt.1 (fun ca' th' go' hgo => ⟨dm_in7 hi, br_t ?_ ⟨rfl, dm_rel hSt (fun _ => hRd)⟩⟩))) (fun hz => dm_w_rb hi hRd.2.2.2.2.2.1 (dm_isp_t hi (dm_y_fg hSt.1 (fun ca' th' go' hgo => ⟨dm_in7 hi, br_f ?_ (dm_y_bo hi hgo ⟨rfl, dm_rel hSt (fun _ => hRd)⟩)⟩))))⟩
    · show go' (nI i).toNatClampNeg = 0
      rw [dm_c7 hi, hgo i hi, ← ei]
      exact hz
    · show ¬ go' (nI i).toNatClampNeg = 0
      rw [dm_c7 hi, hgo i hi, ← ei]
      exact hz
  · exact dm_isn_f h1 (dm_isp_f h1 ⟨rfl, dm_rel hSt hRd⟩)
theorem i_vc_cover {k : Nat} {u : SX} {v : SY} (I : i_Rel k u v) (hk : k + 4 ≤ 2048) : wpX_cover (fun r u' => wpY_cover (fun r' => r' = r ∧ i_Rel (k + 4) u' v) v) u := by
  refine dm_el (P := fun u v => wpX_cover (fun r u' => wpY_cover (fun r' => r' = r ∧ i_Rel (k + 4) u' v) v) u) ?_ I
  intro fr rr cr rc cc ae ap ac aq af ar au ca th go E p q hSt hRd
  unfold wpX_cover
  dsimp only
  refine dm_w_prep hSt hRd ?_
  intro fr rr cr rc cc ap ac aq af ar au p q hf hSt hRd
  refine dm_w_co hSt.1 hRd.2.2.1 hRd.2.2.2.1 ?_ (dm_y_co hSt.1 ⟨?_, dm_rel hSt (fun _ => hRd)⟩)
  · intro r hr hl
    have hp : p r < 7 := by
      rcases Nat.lt_or_ge (p r) 7 with w | w
      · exact w
      · exact (dm_tf (dm_free_LR hRd.1 hRd.2.1 hr w) hl).elim
    exact ⟨p r, hp, hRd.1.2 r hr hp⟩
  · rw [hRd.2.2.2.2.2.2]
end
