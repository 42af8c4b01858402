section
theorem pk_us {f : Nat → Int32} {k : Nat} {x : Int32} : upd f k x k = x := if_pos rfl
theorem pk_un {f : Nat → Int32} {k j : Nat} {x : Int32} (h : j ≠ k) : upd f k x j = f j := if_neg h
theorem pk_sub {a b : Nat} (h : b ≤ a) : nI a - nI b = nI (a - b) := by
  obtain ⟨c, rfl⟩ : ∃ c, a = c + b := ⟨a - b, by omega⟩
  rw [← nI_add, Int32.add_sub_cancel, Nat.add_sub_cancel]
theorem pk_m1 (n : Nat) : nI (n + 1) + (-1) = nI n := by
  rw [← nI_1, Int32.add_assoc, show (1 : Int32) + (-1) = 0 from rfl, Int32.add_zero]
theorem pk_mul (a b : Nat) : nI a * nI b = nI (a * b) := (Int32.ofNat_mul a b).symm
theorem pk_div {a d : Nat} (ha : a < 2 ^ 31) (h0 : 0 < d) (hd : d < 2 ^ 31) : nI a / nI d = nI (a / d) := by
  apply Int32.toInt_inj.mp
  rw [lg_idiv_nonneg (by rw [nI_toInt ha]; omega) (by rw [nI_toInt hd]; omega), nI_toInt ha, nI_toInt hd, nI_toInt (Nat.lt_of_le_of_lt (Nat.div_le_self a d) ha)]
  first | rfl | exact (Int.natCast_ediv _ _).symm
theorem pk_rem {a d : Nat} (ha : a < 2 ^ 31) (h0 : 0 < d) (hd : d < 2 ^ 31) : nI a - nI a / nI d * nI d = nI (a % d) := by
  rw [pk_div ha h0 hd, pk_mul, pk_sub (Nat.div_mul_le_self a d)]
  exact congrArg nI (by have := Nat.div_add_mod' a d; omega)
theorem pk_ix (x : Int32) {n : Nat} (hn : n < 2 ^ 31) : x < 0 ∨ nI n ≤ x ∨ ∃ j : Nat, j < n ∧ x = nI j := by
  by_cases h : x < 0
  · exact Or.inl h
  · obtain ⟨j, hj, rfl⟩ := nI_of h
    by_cases h2 : j < n
    · exact Or.inr (Or.inr ⟨j, h2, rfl⟩)
    · exact Or.inr (Or.inl (nI_le (by omega) hj))
theorem pk_le {x y : Int32} {A B : Prop} (a b : Nat) (f : a ≤ b → A) (g : b < a → B) (hx : x = nI a := by rfl) (hy : y = nI b := by rfl) (ha : a < 2 ^ 31 := by omega) (hb : b < 2 ^ 31 := by omega) : (x ≤ y → A) ∧ (¬ x ≤ y → B) := by
  subst hx hy
  rw [nI_leI ha hb]
  exact ⟨f, fun z => g (by omega)⟩
theorem pk_lt {x y : Int32} {A B : Prop} (a b : Nat) (f : a < b → A) (g : b ≤ a → B) (hx : x = nI a := by rfl) (hy : y = nI b := by rfl) (ha : a < 2 ^ 31 := by omega) (hb : b < 2 ^ 31 := by omega) : (x < y → A) ∧ (¬ x < y → B) := by
  subst hx hy
  rw [nI_ltI ha hb]
  exact ⟨f, fun z => g (by omega)⟩
theorem pk_eq {x y : Int32} {A B : Prop} (a b : Nat) (f : a = b → A) (g : a ≠ b → B) (hx : x = nI a := by rfl) (hy : y = nI b := by rfl) (ha : a < 2 ^ 31 := by omega) (hb : b < 2 ^ 31 := by omega) : (x = y → A) ∧ (¬ x = y → B) := by
  subst hx hy
  rw [nI_eq ha hb]
  exact ⟨f, g⟩
theorem pk_in {x : Int32} (n N : Nat) (h : n < N) (hx : x = nI n := by rfl) (hN : N < 2 ^ 31 := by omega) : vp_in x N := by
  subst hx
  exact vp_in_nI h hN
theorem pk_cl {x : Int32} (n : Nat) (hx : x = nI n := by rfl) (h : n < 2 ^ 31 := by omega) : x.toNatClampNeg = n := by
  subst hx
  exact nI_clamp h
theorem pk_tn {n : Nat} (h : n < 2 ^ 32) : (nI n).toBitVec.toNat = n := Nat.mod_eq_of_lt h
theorem pk_and (x : Int32) {m : Int32} (k : Nat) (hm : m.toBitVec.toNat = 2 ^ k - 1) : x &&& m = nI (x.toBitVec.toNat % 2 ^ k) := by
  apply Int32.toBitVec_inj.mp
  apply BitVec.eq_of_toNat_eq
  rw [Int32.toBitVec_and, BitVec.toNat_and, hm, Nat.and_two_pow_sub_one_eq_mod]
  show _ = (BitVec.ofNat 32 _).toNat
  rw [BitVec.toNat_ofNat]
  exact (Nat.mod_eq_of_lt (Nat.lt_of_le_of_lt (Nat.mod_le _ _) x.toBitVec.isLt)).symm
theorem pk_andN {n : Nat} (h : n < 2 ^ 32) {m : Int32} (k : Nat) (hm : m.toBitVec.toNat = 2 ^ k - 1) : nI n &&& m = nI (n % 2 ^ k) := by
  rw [pk_and _ k hm, pk_tn h]
theorem pk_shl (a s : Int32) (k : Nat) (hs : (s.toBitVec.smod 32).toNat = k) : (a <<< s).toBitVec.toNat = a.toBitVec.toNat * 2 ^ k % 2 ^ 32 := by
  show (a.toBitVec <<< (s.toBitVec.smod 32).toNat).toNat = _
  rw [hs, BitVec.toNat_shiftLeft, Nat.shiftLeft_eq]
theorem pk_shlN {n : Nat} (s : Int32) (k : Nat) (hs : (s.toBitVec.smod 32).toNat = k) (h : n * 2 ^ k < 2 ^ 32) : nI n <<< s = nI (n * 2 ^ k) := by
  apply Int32.toBitVec_inj.mp
  apply BitVec.eq_of_toNat_eq
  have hn : n < 2 ^ 32 := Nat.lt_of_le_of_lt (Nat.le_mul_of_pos_right n (Nat.two_pow_pos k)) h
  rw [pk_shl _ _ k hs, pk_tn hn, pk_tn h, Nat.mod_eq_of_lt h]
theorem pk_shr (a s : Int32) (k : Nat) (hs : (s.toBitVec.smod 32).toNat = k) : (a >>> s).toInt = a.toInt >>> k := by
  show (a.toBitVec.sshiftRight (s.toBitVec.smod 32).toNat).toInt = _
  rw [hs, BitVec.toInt_sshiftRight]
  rfl
theorem pk_shrN {n : Nat} (h : n < 2 ^ 31) (s : Int32) (k : Nat) (hs : (s.toBitVec.smod 32).toNat = k) : nI n >>> s = nI (n / 2 ^ k) := by
  apply Int32.toInt_inj.mp
  have h2 : n / 2 ^ k ≤ n := Nat.div_le_self _ _
  rw [pk_shr _ _ k hs, nI_toInt h, nI_toInt (by omega), Int.shiftRight_eq_div_pow]
  rfl
theorem pk_vb (z : Int32) : vp_nar .byte z.toInt8.toInt32 = z.toInt8.toInt32 := by rw [vp_nar_byte]; simp
theorem pk_least (P : Nat → Prop) (h : ∃ k, P k) : ∃ k, P k ∧ ∀ j, j < k → ¬ P j := by
  obtain ⟨k, hk⟩ := h
  induction k using Nat.strongRecOn with
  | ind k ih =>
    by_cases e : ∃ j, j < k ∧ P j
    · obtain ⟨j, hj, pj⟩ := e
      exact ih j hj pj
    · exact ⟨k, hk, fun j hj pj => e ⟨j, hj, pj⟩⟩
theorem s_l : ∀ n, n < 32 → ((nI n &&& 31).toBitVec.smod 32).toNat = n := by decide +kernel
theorem nx_and (a b : Nat) : nI a &&& nI b = nI (a &&& b) := by
  apply Int32.toBitVec_inj.1
  show BitVec.ofNat 32 a &&& BitVec.ofNat 32 b = BitVec.ofNat 32 (a &&& b)
  apply BitVec.eq_of_getLsbD_eq
  intro i hi
  simp [hi]
theorem nx_xor (a b : Nat) : nI a ^^^ nI b = nI (a ^^^ b) := by
  apply Int32.toBitVec_inj.1
  show BitVec.ofNat 32 a ^^^ BitVec.ofNat 32 b = BitVec.ofNat 32 (a ^^^ b)
  apply BitVec.eq_of_getLsbD_eq
  intro i hi
  simp [hi]
theorem wb_of32 (x : Int32) : ∃ n, n < 2 ^ 32 ∧ x = nI n := ⟨x.toBitVec.toNat, x.toBitVec.isLt, Int32.toBitVec_inj.mp (by show _ = BitVec.ofNat 32 _; simp)⟩
end
section
/-! sums and counts -/
def fc_s (f : Nat → Nat) : Nat → Nat
  | 0 => 0
  | n + 1 => fc_s f n + f n
theorem fc_le {f g : Nat → Nat} {n : Nat} (h : ∀ i, i < n → f i ≤ g i) : fc_s f n ≤ fc_s g n := by
  induction n with
  | zero => exact Nat.le_refl 0
  | succ n ih =>
    have h1 := ih (fun i hi => h i (by omega))
    have h2 := h n (by omega)
    show fc_s f n + f n ≤ fc_s g n + g n
    omega
theorem fc_eq {f g : Nat → Nat} {n : Nat} (h : ∀ i, i < n → f i = g i) : fc_s f n = fc_s g n :=
  Nat.le_antisymm (fc_le fun i hi => Nat.le_of_eq (h i hi)) (fc_le fun i hi => Nat.le_of_eq (h i hi).symm)
theorem fc_add (f g : Nat → Nat) (n : Nat) : fc_s (fun i => f i + g i) n = fc_s f n + fc_s g n := by
  induction n with
  | zero => rfl
  | succ n ih =>
    show fc_s (fun i => f i + g i) n + (f n + g n) = fc_s f n + f n + (fc_s g n + g n)
    omega
theorem fc_mul (c : Nat) (f : Nat → Nat) (n : Nat) : fc_s (fun i => c * f i) n = c * fc_s f n := by
  induction n with
  | zero => rfl
  | succ n ih =>
    show fc_s (fun i => c * f i) n + c * f n = c * (fc_s f n + f n)
    rw [ih, Nat.mul_add]
theorem fc_zero {f : Nat → Nat} {n : Nat} (h : ∀ i, i < n → f i = 0) : fc_s f n = 0 := by
  induction n with
  | zero => rfl
  | succ n ih =>
    show fc_s f n + f n = 0
    rw [ih (fun i hi => h i (by omega)), h n (by omega)]
theorem fc_swap (f : Nat → Nat → Nat) (n m : Nat) : fc_s (fun i => fc_s (fun k => f i k) m) n = fc_s (fun k => fc_s (fun i => f i k) n) m := by
  induction n with
  | zero => exact (fc_zero (fun _ _ => rfl)).symm
  | succ n ih =>
    show fc_s (fun i => fc_s (fun k => f i k) m) n + fc_s (fun k => f n k) m = fc_s (fun k => fc_s (fun i => f i k) n + f n k) m
    rw [ih, fc_add]
theorem fc_one {f : Nat → Nat} {a n : Nat} (ha : a < n) (h : ∀ i, i < n → i ≠ a → f i = 0) : fc_s f n = f a := by
  induction n with
  | zero => omega
  | succ n ih =>
    show fc_s f n + f n = f a
    by_cases e : a = n
    · rw [fc_zero (fun i hi => h i (by omega) (by omega)), e, Nat.zero_add]
    · rw [ih (by omega) (fun i hi hne => h i (by omega) hne), h n (by omega) (fun z => e z.symm), Nat.add_zero]
theorem fc_dt (a : Nat) : decide (a = a) = true := decide_eq_true rfl
/-- how many of the first n are in p -/
def fc_n (p : Nat → Bool) (n : Nat) : Nat := fc_s (fun i => (p i).toNat) n
theorem fc_nS (p : Nat → Bool) (n : Nat) : fc_n p (n + 1) = fc_n p n + (p n).toNat := rfl
theorem fc_n0 (p : Nat → Bool) : fc_n p 0 = 0 := rfl
theorem fc_n_le (p : Nat → Bool) (n : Nat) : fc_n p n ≤ n := by
  induction n with
  | zero => exact Nat.le_refl 0
  | succ n ih =>
    rw [fc_nS]
    have := Bool.toNat_le (p n)
    omega
theorem fc_tn {p q : Bool} (h : p = true → q = true) : p.toNat ≤ q.toNat := by
  cases p
  · exact Nat.zero_le _
  · rw [h rfl]
    exact Nat.le_refl _
theorem fc_mono {p q : Nat → Bool} {n : Nat} (h : ∀ i, i < n → p i = true → q i = true) : fc_n p n ≤ fc_n q n :=
  fc_le fun i hi => fc_tn (h i hi)
theorem fc_cong {p q : Nat → Bool} {n : Nat} (h : ∀ i, i < n → p i = q i) : fc_n p n = fc_n q n :=
  fc_eq fun i hi => congrArg Bool.toNat (h i hi)
theorem fc_sing {a n : Nat} (ha : a < n) : fc_n (fun i => decide (i = a)) n = 1 := by
  refine (fc_one ha (fun i _ hne => by show (decide (i = a)).toNat = 0; rw [decide_eq_false hne]; rfl)).trans ?_
  show (decide (a = a)).toNat = 1
  rw [fc_dt]
  rfl
theorem fc_sing0 {a n : Nat} (ha : a < n) (c : Nat) (f : Nat → Nat) (hf : f a = c) (h : ∀ i, i < n → i ≠ a → f i = 0) : fc_s f n = c := by
  rw [fc_one ha h, hf]
/-- one more -/
theorem fc_more {p q : Nat → Bool} {a n : Nat} (ha : a < n) (hp : p a = false) (h : ∀ i, i < n → q i = (p i || decide (i = a))) : fc_n q n = fc_n p n + 1 := by
  rw [← fc_sing ha]
  unfold fc_n
  rw [← fc_add]
  refine fc_eq fun i hi => ?_
  show (q i).toNat = (p i).toNat + (decide (i = a)).toNat
  rw [h i hi]
  by_cases e : i = a
  · rw [e, hp, fc_dt]
    rfl
  · rw [decide_eq_false e, Bool.or_false]
    exact (Nat.add_zero _).symm
/-- one fewer -/
theorem fc_less {p : Nat → Bool} {a n : Nat} (ha : a < n) (hp : p a = true) : fc_n p n = fc_n (fun i => p i && !decide (i = a)) n + 1 := by
  refine fc_more ha ?_ fun i hi => ?_
  · show (p a && !decide (a = a)) = false
    rw [fc_dt]
    exact Bool.and_false _
  · show p i = (p i && !decide (i = a) || decide (i = a))
    by_cases e : i = a
    · rw [e, hp, fc_dt]
      rfl
    · rw [decide_eq_false e, Bool.or_false]
      exact (Bool.and_true _).symm
theorem fc_pos {p : Nat → Bool} {n : Nat} (h : 0 < fc_n p n) : ∃ a, a < n ∧ p a = true ∧ ∀ i, i < a → p i = false := by
  have h1 : ∃ a, a < n ∧ p a = true := by
    apply Classical.byContradiction
    intro hn
    have : fc_n p n = 0 := fc_zero fun i hi => by
      cases hb : p i
      · rfl
      · exact absurd ⟨i, hi, hb⟩ hn
    omega
  obtain ⟨a, ⟨ha, hp⟩, hl⟩ := pk_least (fun a => a < n ∧ p a = true) h1
  refine ⟨a, ha, hp, fun i hi => ?_⟩
  cases hb : p i
  · rfl
  · exact absurd ⟨by omega, hb⟩ (hl i hi)
theorem fc_ge1 {p : Nat → Bool} {n a : Nat} (ha : a < n) (hp : p a = true) : 1 ≤ fc_n p n := by
  rw [fc_less ha hp]
  omega
theorem fc_ge2 {p : Nat → Bool} {n a b : Nat} (ha : a < n) (hb : b < n) (hab : a ≠ b) (hpa : p a = true) (hpb : p b = true) : 2 ≤ fc_n p n := by
  rw [fc_less ha hpa]
  have := fc_ge1 (p := fun i => p i && !decide (i = a)) hb (by show (p b && !decide (b = a)) = true; rw [hpb, decide_eq_false (fun z => hab z.symm)]; rfl)
  omega
theorem fc_ge3 {p : Nat → Bool} {n a b c : Nat} (ha : a < n) (hb : b < n) (hc : c < n) (hab : a ≠ b) (hac : a ≠ c) (hbc : b ≠ c) (hpa : p a = true) (hpb : p b = true) (hpc : p c = true) : 3 ≤ fc_n p n := by
  rw [fc_less ha hpa]
  have := fc_ge2 (p := fun i => p i && !decide (i = a)) hb hc hbc (by show (p b && !decide (b = a)) = true; rw [hpb, decide_eq_false (fun z => hab z.symm)]; rfl) (by show (p c && !decide (c = a)) = true; rw [hpc, decide_eq_false (fun z => hac z.symm)]; rfl)
  omega
/-- the first three of three or more -/
theorem fc_get3 {p : Nat → Bool} {n : Nat} (h : 3 ≤ fc_n p n) : ∃ a b c, a < b ∧ b < c ∧ c < n ∧ p a = true ∧ p b = true ∧ p c = true ∧ (∀ i, i < b → p i = true → i = a) := by
  obtain ⟨a, ha, hpa, hla⟩ := fc_pos (p := p) (n := n) (by omega)
  rw [fc_less ha hpa] at h
  obtain ⟨b, hb, hpb, hlb⟩ := fc_pos (p := fun i => p i && !decide (i = a)) (n := n) (by omega)
  rw [fc_less (p := fun i => p i && !decide (i = a)) hb hpb] at h
  obtain ⟨c, hc, hpc, _⟩ := fc_pos (p := fun i => (p i && !decide (i = a)) && !decide (i = b)) (n := n) (by omega)
  simp only [Bool.and_eq_true, Bool.not_eq_true', decide_eq_false_iff_not] at hpb hpc
  obtain ⟨hpb1, hba⟩ := hpb
  obtain ⟨⟨hpc1, hca⟩, hcb⟩ := hpc
  have hab : a < b := by
    rcases Nat.lt_or_ge a b with z | z
    · exact z
    · have := hla b (by omega)
      rw [hpb1] at this
      cases this
  have hone : ∀ i, i < b → p i = true → i = a := by
    intro i hi hp
    have := hlb i hi
    simp only [hp, Bool.true_and, Bool.not_eq_false', decide_eq_true_eq] at this
    exact this
  have hbc : b < c := by
    rcases Nat.lt_or_ge b c with z | z
    · exact z
    · exact absurd (hone c (by omega) hpc1) hca
  exact ⟨a, b, c, hab, hbc, hc, hpa, hpb1, hpc1, hone⟩
end
section
/-! sets of bars by what they have inside sets of joints; pebbles; tight sets. A k, B k: the ends of bar k -/
def fs_in (A B : Nat → Nat) (S G : Nat → Bool) : Nat := fc_n (fun k => S k && (G (A k) && G (B k))) 13
def fs_L (A B : Nat → Nat) (j : Nat) (S : Nat → Bool) : Prop := ∀ G : Nat → Bool, 2 ≤ fc_n G j → fs_in A B S G + 3 ≤ 2 * fc_n G j
def fs_E (A B : Nat → Nat) (j : Nat) (T : Nat → Bool) : Prop := ∀ k, k < 13 → T k = true → A k < j ∧ B k < j ∧ A k ≠ B k
def fs_O (A B F O : Nat → Nat) (T : Nat → Bool) : Prop := ∀ k, k < 13 → T k = true → (F k = A k ∧ O k = B k) ∨ (F k = B k ∧ O k = A k)
def fs_D (F : Nat → Nat) (T : Nat → Bool) (v : Nat) : Nat := fc_n (fun k => T k && decide (F k = v)) 13
def fs_P (T : Nat → Bool) (F P : Nat → Nat) : Prop := ∀ v, v < 6 → P v + fs_D F T v = 2
/-- tight: as many bars as a loose set may have there -/
def fs_t (A B : Nat → Nat) (j : Nat) (T G : Nat → Bool) : Prop := 2 ≤ fc_n G j ∧ 2 * fc_n G j ≤ fs_in A B T G + 3
section
variable {A B F O P A' B' : Nat → Nat} {j : Nat} {S T S' G G' : Nat → Bool}
theorem fs_in_mono (h : ∀ k, k < 13 → S k = true → S' k = true) (hG : ∀ v, G v = true → G' v = true) : fs_in A B S G ≤ fs_in A B S' G' :=
  fc_mono fun k hk hb => by
    simp only [Bool.and_eq_true] at hb ⊢
    exact ⟨h k hk hb.1, hG _ hb.2.1, hG _ hb.2.2⟩
theorem fs_sub (h : ∀ k, k < 13 → S k = true → S' k = true) (hL : fs_L A B j S') : fs_L A B j S := fun G hG => by
  have h1 := fs_in_mono (A := A) (B := B) (G := G) (G' := G) h (fun _ z => z)
  have h2 := hL G hG
  omega
theorem fs_in_cong (h : ∀ k, k < 13 → S k = true → A k = A' k ∧ B k = B' k) (G : Nat → Bool) : fs_in A B S G = fs_in A' B' S G :=
  fc_cong fun k hk => by
    cases hs : S k
    · rfl
    · rw [(h k hk hs).1, (h k hk hs).2]
theorem fs_in_add {e : Nat} (he : e < 13) (hTe : T e = false) (hS : ∀ k, k < 13 → S k = (T k || decide (k = e))) (G : Nat → Bool) : fs_in A B S G = fs_in A B T G + (G (A e) && G (B e)).toNat := by
  have h1 : fc_s (fun k => (decide (k = e) && (G (A k) && G (B k))).toNat) 13 = (G (A e) && G (B e)).toNat :=
    fc_sing0 he _ _ (by show (decide (e = e) && (G (A e) && G (B e))).toNat = _; rw [fc_dt]; rfl) (fun i _ hne => by show (decide (i = e) && (G (A i) && G (B i))).toNat = 0; rw [decide_eq_false hne]; rfl)
  have h2 : fc_s (fun k => (S k && (G (A k) && G (B k))).toNat) 13 = fc_s (fun k => (T k && (G (A k) && G (B k))).toNat + (decide (k = e) && (G (A k) && G (B k))).toNat) 13 := fc_eq fun k hk => by
    show (S k && (G (A k) && G (B k))).toNat = (T k && (G (A k) && G (B k))).toNat + (decide (k = e) && (G (A k) && G (B k))).toNat
    rw [hS k hk]
    by_cases z : k = e
    · rw [z, hTe, fc_dt]
      exact (Nat.zero_add _).symm
    · rw [decide_eq_false z, Bool.or_false]
      rfl
  unfold fs_in fc_n
  rw [h2, fc_add, h1]
theorem fs_F (hE : fs_E A B j T) (hO : fs_O A B F O T) : ∀ k, k < 13 → T k = true → F k < j := fun k hk ht => by
  obtain ⟨h1, h2, _⟩ := hE k hk ht
  rcases hO k hk ht with ⟨z, _⟩ | ⟨z, _⟩ <;> omega
theorem fs_sum (hj : j ≤ 6) (hF : ∀ k, k < 13 → T k = true → F k < j) (hP : fs_P T F P) (G : Nat → Bool) : fc_s (fun v => (G v).toNat * P v) j + fc_n (fun k => T k && G (F k)) 13 = 2 * fc_n G j := by
  have h1 : fc_s (fun v => (G v).toNat * fs_D F T v) j = fc_n (fun k => T k && G (F k)) 13 := by
    have e1 : fc_s (fun v => (G v).toNat * fs_D F T v) j = fc_s (fun v => fc_s (fun k => (G v).toNat * (T k && decide (F k = v)).toNat) 13) j := fc_eq fun v _ => (fc_mul _ _ _).symm
    rw [e1, fc_swap]
    refine fc_eq fun k hk => ?_
    show fc_s (fun v => (G v).toNat * (T k && decide (F k = v)).toNat) j = (T k && G (F k)).toNat
    cases hT : T k
    · exact fc_zero fun v _ => Nat.mul_zero _
    · refine fc_sing0 (hF k hk hT) _ _ ?_ ?_
      · show (G (F k)).toNat * (true && decide (F k = F k)).toNat = (G (F k)).toNat
        rw [fc_dt]
        exact Nat.mul_one _
      · intro v _ hne
        show (G v).toNat * (true && decide (F k = v)).toNat = 0
        rw [decide_eq_false (fun z => hne z.symm)]
        exact Nat.mul_zero _
  have h2 : fc_s (fun v => (G v).toNat * P v) j + fc_s (fun v => (G v).toNat * fs_D F T v) j = 2 * fc_n G j := by
    rw [← fc_add]
    show _ = 2 * fc_s (fun v => (G v).toNat) j
    rw [← fc_mul]
    refine fc_eq fun v hv => ?_
    show (G v).toNat * P v + (G v).toNat * fs_D F T v = 2 * (G v).toNat
    rw [← Nat.mul_add, hP v (by omega), Nat.mul_comm]
  rw [← h1]
  exact h2
/-- two pebbles at each end: the bar may be taken -/
theorem fs_grow {e : Nat} (hj : j ≤ 6) (hE : fs_E A B j T) (hO : fs_O A B F O T) (hP : fs_P T F P) (hT : fs_L A B j T) (he : e < 13) (hTe : T e = false) (hS : ∀ k, k < 13 → S k = (T k || decide (k = e))) (ha : A e < j) (hb : B e < j) (hab : A e ≠ B e) (hPa : P (A e) = 2) (hPb : P (B e) = 2) : fs_L A B j S := by
  intro G hG
  rw [fs_in_add he hTe hS]
  cases h : (G (A e) && G (B e))
  · have := hT G hG
    show fs_in A B T G + 0 + 3 ≤ _
    omega
  · have h1 := fs_sum hj (fs_F hE hO) hP G
    have h2 : fs_in A B T G ≤ fc_n (fun k => T k && G (F k)) 13 := fc_mono fun k hk hb => by
      simp only [Bool.and_eq_true] at hb ⊢
      rcases hO k hk hb.1 with ⟨z, _⟩ | ⟨z, _⟩
      · exact ⟨hb.1, by rw [z]; exact hb.2.1⟩
      · exact ⟨hb.1, by rw [z]; exact hb.2.2⟩
    have h3 : 4 ≤ fc_s (fun v => (G v).toNat * P v) j := by
      have e1 : fc_s (fun v => 2 * (decide (v = A e)).toNat + 2 * (decide (v = B e)).toNat) j = 4 := by
        have a1 : fc_s (fun v => (decide (v = A e)).toNat) j = 1 := fc_sing ha
        have a2 : fc_s (fun v => (decide (v = B e)).toNat) j = 1 := fc_sing hb
        rw [fc_add, fc_mul, fc_mul, a1, a2]
      rw [← e1]
      refine fc_le fun v hv => ?_
      show 2 * (decide (v = A e)).toNat + 2 * (decide (v = B e)).toNat ≤ (G v).toNat * P v
      simp only [Bool.and_eq_true] at h
      by_cases z : v = A e
      · rw [z, h.1, hPa, fc_dt, decide_eq_false hab]
        decide
      · by_cases y : v = B e
        · rw [y, h.2, hPb, decide_eq_false (fun w => hab w.symm), fc_dt]
          decide
        · rw [decide_eq_false z, decide_eq_false y]
          exact Nat.zero_le _
    show fs_in A B T G + 1 + 3 ≤ _
    omega
/-- no pebble to be had: the bar is one too many -/
theorem fs_stuck {c d e : Nat} {R : Nat → Bool} (hj : j ≤ 6) (hE : fs_E A B j T) (hO : fs_O A B F O T) (hP : fs_P T F P) (hT : fs_L A B j T) (he : e < 13) (hTe : T e = false) (hS : ∀ k, k < 13 → S k = (T k || decide (k = e))) (hcd : c ≠ d) (hc : c < j) (hd : d < j) (hAB : (A e = c ∧ B e = d) ∨ (A e = d ∧ B e = c)) (hRc : R c = true) (hcl : ∀ k, k < 13 → T k = true → R (F k) = true → R (O k) = true) (h0 : ∀ v, v < j → R v = true → v ≠ c → v ≠ d → P v = 0) (hPc : P c < 2) : ¬ fs_L A B j S := by
  intro hS'
  have h1 := fs_sum hj (fs_F hE hO) hP R
  have h2 : fc_n (fun k => T k && R (F k)) 13 ≤ fs_in A B T R := fc_mono fun k hk hb => by
    simp only [Bool.and_eq_true] at hb ⊢
    have hz := hcl k hk hb.1 hb.2
    rcases hO k hk hb.1 with ⟨y, z⟩ | ⟨y, z⟩
    · rw [← y, ← z]
      exact ⟨hb.1, hb.2, hz⟩
    · rw [← y, ← z]
      exact ⟨hb.1, hz, hb.2⟩
  have h3 : fc_s (fun v => (R v).toNat * P v) j ≤ P c + (R d).toNat * P d := by
    have a1 : fc_s (fun v => (decide (v = c)).toNat * P c) j = P c := fc_sing0 hc _ _ (by show (decide (c = c)).toNat * P c = P c; rw [fc_dt]; exact Nat.one_mul _) (fun v _ hne => by show (decide (v = c)).toNat * P c = 0; rw [decide_eq_false hne]; exact Nat.zero_mul _)
    have a2 : fc_s (fun v => (decide (v = d)).toNat * ((R d).toNat * P d)) j = (R d).toNat * P d := fc_sing0 hd _ _ (by show (decide (d = d)).toNat * ((R d).toNat * P d) = _; rw [fc_dt]; exact Nat.one_mul _) (fun v _ hne => by show (decide (v = d)).toNat * ((R d).toNat * P d) = 0; rw [decide_eq_false hne]; exact Nat.zero_mul _)
    have e1 : fc_s (fun v => (decide (v = c)).toNat * P c + (decide (v = d)).toNat * ((R d).toNat * P d)) j = P c + (R d).toNat * P d := by rw [fc_add, a1, a2]
    rw [← e1]
    refine fc_le fun v hv => ?_
    show (R v).toNat * P v ≤ (decide (v = c)).toNat * P c + (decide (v = d)).toNat * ((R d).toNat * P d)
    by_cases z : v = c
    · rw [z, hRc, fc_dt]
      exact Nat.le_add_right _ _
    · by_cases y : v = d
      · rw [y, fc_dt]
        show _ ≤ _ + 1 * _
        rw [Nat.one_mul]
        exact Nat.le_add_left _ _
      · cases hb : R v
        · show 0 * P v ≤ _
          rw [Nat.zero_mul]
          exact Nat.zero_le _
        · rw [h0 v hv hb z y, Nat.mul_zero]
          exact Nat.zero_le _
  have hPd : P d ≤ 2 := by
    have := hP d (by omega)
    omega
  have hin := fs_in_add (A := A) (B := B) he hTe hS R
  cases hb : R d
  · rw [hb, show false.toNat = 0 from rfl, Nat.zero_mul, Nat.add_zero] at h3
    by_cases h2c : 2 ≤ fc_n R j
    · have := hT R h2c
      omega
    · have hz : fs_in A B T R = 0 := fc_zero fun k hk => by
        show (T k && (R (A k) && R (B k))).toNat = 0
        cases hk2 : (T k && (R (A k) && R (B k)))
        · rfl
        · simp only [Bool.and_eq_true] at hk2
          obtain ⟨e1, e2, e3⟩ := hE k hk hk2.1
          exact absurd (fc_ge2 e1 e2 e3 hk2.2.1 hk2.2.2) h2c
      have := fc_ge1 hc hRc
      omega
  · rw [hb, show true.toNat = 1 from rfl, Nat.one_mul] at h3
    have h2c := fc_ge2 hc hd hcd hRc hb
    have h4 := hS' R h2c
    have ht : (R (A e) && R (B e)) = true := by
      rcases hAB with ⟨x, y⟩ | ⟨x, y⟩ <;> simp [x, y, hRc, hb]
    rw [hin, ht, show true.toNat = 1 from rfl] at h4
    omega
theorem fs_tight_of {e : Nat} (hT : fs_L A B j T) (he : e < 13) (hTe : T e = false) (hS : ∀ k, k < 13 → S k = (T k || decide (k = e))) (h : ¬ fs_L A B j S) : ∃ G, fs_t A B j T G ∧ G (A e) = true ∧ G (B e) = true := by
  apply Classical.byContradiction
  intro hn
  refine h fun G hG => ?_
  rw [fs_in_add he hTe hS]
  have h1 := hT G hG
  cases hb : (G (A e) && G (B e))
  · show fs_in A B T G + 0 + 3 ≤ _
    omega
  · simp only [Bool.and_eq_true] at hb
    show fs_in A B T G + 1 + 3 ≤ _
    rcases Nat.lt_or_ge (fs_in A B T G + 3) (2 * fc_n G j) with z | z
    · omega
    · exact absurd ⟨G, ⟨hG, z⟩, hb⟩ hn
theorem fs_of_tight {e : Nat} (he : e < 13) (hTe : T e = false) (hS : ∀ k, k < 13 → S k = (T k || decide (k = e))) (h : fs_t A B j T G) (ha : G (A e) = true) (hb : G (B e) = true) : ¬ fs_L A B j S := by
  intro hL
  have h1 := hL G h.1
  rw [fs_in_add he hTe hS, ha, hb] at h1
  have h2 := h.2
  have h3 : fs_in A B T G + 1 + 3 ≤ 2 * fc_n G j := h1
  omega
theorem fs_union {G H : Nat → Bool} (hT : fs_L A B j T) (hG : fs_t A B j T G) (hH : fs_t A B j T H) {a b : Nat} (hab : a ≠ b) (ha : a < j) (hb : b < j) (ga : G a = true) (gb : G b = true) (ha' : H a = true) (hb' : H b = true) : fs_t A B j T (fun v => G v || H v) := by
  have c1 : fc_n G j + fc_n H j = fc_n (fun v => G v || H v) j + fc_n (fun v => G v && H v) j := by
    unfold fc_n
    rw [← fc_add, ← fc_add]
    refine fc_eq fun v _ => ?_
    show (G v).toNat + (H v).toNat = (G v || H v).toNat + (G v && H v).toNat
    cases G v <;> cases H v <;> rfl
  have c2 : fs_in A B T G + fs_in A B T H ≤ fs_in A B T (fun v => G v || H v) + fs_in A B T (fun v => G v && H v) := by
    unfold fs_in fc_n
    rw [← fc_add, ← fc_add]
    refine fc_le fun k _ => ?_
    show (T k && (G (A k) && G (B k))).toNat + (T k && (H (A k) && H (B k))).toNat ≤ (T k && ((G (A k) || H (A k)) && (G (B k) || H (B k)))).toNat + (T k && ((G (A k) && H (A k)) && (G (B k) && H (B k)))).toNat
    cases T k <;> cases G (A k) <;> cases G (B k) <;> cases H (A k) <;> cases H (B k) <;> decide
  have c3 : 2 ≤ fc_n (fun v => G v && H v) j := fc_ge2 ha hb hab (by simp [ga, ha']) (by simp [gb, hb'])
  have c4 := hT _ c3
  have c6 : 2 ≤ fc_n (fun v => G v || H v) j := fc_ge2 ha hb hab (by simp [ga]) (by simp [gb])
  have h1 := hG.2
  have h2 := hH.2
  exact ⟨c6, by omega⟩
theorem fs_tri {G H K : Nat → Bool} (hT : fs_L A B j T) (hE : fs_E A B j T) (hG : fs_t A B j T G) (hH : fs_t A B j T H) (hK : fs_t A B j T K) {a b c : Nat} (hab : a ≠ b) (hac : a ≠ c) (hbc : b ≠ c) (ha : a < j) (hb : b < j) (hc : c < j) (ga : G a = true) (gb : G b = true) (Ha : H a = true) (Hc : H c = true) (Kb : K b = true) (Kc : K c = true) : ∃ M, fs_t A B j T M ∧ M a = true ∧ M b = true ∧ M c = true := by
  by_cases h1 : ∃ x y, x ≠ y ∧ x < j ∧ y < j ∧ G x = true ∧ G y = true ∧ H x = true ∧ H y = true
  · obtain ⟨x, y, hxy, hx, hy, g1, g2, g3, g4⟩ := h1
    exact ⟨_, fs_union hT hG hH hxy hx hy g1 g2 g3 g4, by simp [ga], by simp [gb], by simp [Hc]⟩
  by_cases h2 : ∃ x y, x ≠ y ∧ x < j ∧ y < j ∧ G x = true ∧ G y = true ∧ K x = true ∧ K y = true
  · obtain ⟨x, y, hxy, hx, hy, g1, g2, g3, g4⟩ := h2
    exact ⟨_, fs_union hT hG hK hxy hx hy g1 g2 g3 g4, by simp [ga], by simp [gb], by simp [Kc]⟩
  by_cases h3 : ∃ x y, x ≠ y ∧ x < j ∧ y < j ∧ H x = true ∧ H y = true ∧ K x = true ∧ K y = true
  · obtain ⟨x, y, hxy, hx, hy, g1, g2, g3, g4⟩ := h3
    exact ⟨_, fs_union hT hH hK hxy hx hy g1 g2 g3 g4, by simp [Ha], by simp [Kb], by simp [Kc]⟩
  have u1 : ∀ x, x < j → G x = true → H x = true → x = a := fun x hx p q => Classical.byContradiction fun z => h1 ⟨x, a, z, hx, ha, p, ga, q, Ha⟩
  have u2 : ∀ x, x < j → G x = true → K x = true → x = b := fun x hx p q => Classical.byContradiction fun z => h2 ⟨x, b, z, hx, hb, p, gb, q, Kb⟩
  have u3 : ∀ x, x < j → H x = true → K x = true → x = c := fun x hx p q => Classical.byContradiction fun z => h3 ⟨x, c, z, hx, hc, p, Hc, q, Kc⟩
  have nf : ∀ {p : Bool}, ¬ p = true → p = false := fun {p} z => by
    cases p
    · rfl
    · exact absurd rfl z
  have cnt : fc_n (fun v => G v || H v || K v) j + 3 = fc_n G j + fc_n H j + fc_n K j := by
    have a1 : fc_s (fun v => (decide (v = a)).toNat) j = 1 := fc_sing ha
    have a2 : fc_s (fun v => (decide (v = b)).toNat) j = 1 := fc_sing hb
    have a3 : fc_s (fun v => (decide (v = c)).toNat) j = 1 := fc_sing hc
    have e1 : fc_s (fun v => (G v || H v || K v).toNat + (((decide (v = a)).toNat + (decide (v = b)).toNat) + (decide (v = c)).toNat)) j = fc_s (fun v => ((G v).toNat + (H v).toNat) + (K v).toNat) j := fc_eq fun v hv => by
      show (G v || H v || K v).toNat + (((decide (v = a)).toNat + (decide (v = b)).toNat) + (decide (v = c)).toNat) = ((G v).toNat + (H v).toNat) + (K v).toNat
      by_cases za : v = a
      · have k0 : K a = false := nf fun z => hab (u2 a ha ga z)
        rw [za, ga, Ha, k0, fc_dt, decide_eq_false hab, decide_eq_false hac]
        rfl
      · by_cases zb : v = b
        · have k0 : H b = false := nf fun z => hab (u1 b hb gb z).symm
          rw [zb, gb, Kb, k0, fc_dt, decide_eq_false (fun z => hab z.symm), decide_eq_false hbc]
          rfl
        · by_cases zc : v = c
          · have k0 : G c = false := nf fun z => hac (u1 c hc z Hc).symm
            rw [zc, Hc, Kc, k0, fc_dt, decide_eq_false (fun z => hac z.symm), decide_eq_false (fun z => hbc z.symm)]
            rfl
          · rw [decide_eq_false za, decide_eq_false zb, decide_eq_false zc]
            have n1 := fun p q => za (u1 v hv p q)
            have n2 := fun p q => zb (u2 v hv p q)
            have n3 := fun p q => zc (u3 v hv p q)
            revert n1 n2 n3
            cases G v <;> cases H v <;> cases K v <;> simp
    rw [fc_add, fc_add, fc_add, fc_add, fc_add, a1, a2, a3] at e1
    exact e1
  have inn : fs_in A B T G + fs_in A B T H + fs_in A B T K ≤ fs_in A B T (fun v => G v || H v || K v) := by
    unfold fs_in fc_n
    rw [← fc_add, ← fc_add]
    refine fc_le fun k hk => ?_
    show ((T k && (G (A k) && G (B k))).toNat + (T k && (H (A k) && H (B k))).toNat) + (T k && (K (A k) && K (B k))).toNat ≤ (T k && ((G (A k) || H (A k) || K (A k)) && (G (B k) || H (B k) || K (B k)))).toNat
    cases hT' : T k
    · exact Nat.zero_le _
    · obtain ⟨e1, e2, e3⟩ := hE k hk hT'
      have key : ∀ p q r s : Bool, (p = true → q = false) → (p = true → r = false) → (q = true → r = false) → (p = true → s = true) → (q = true → s = true) → (r = true → s = true) → (p.toNat + q.toNat) + r.toNat ≤ s.toNat := by decide
      refine key (G (A k) && G (B k)) (H (A k) && H (B k)) (K (A k) && K (B k)) _ ?_ ?_ ?_ ?_ ?_ ?_
      · intro p
        refine nf fun q => e3 ?_
        simp only [Bool.and_eq_true] at p q
        rw [u1 _ e1 p.1 q.1, u1 _ e2 p.2 q.2]
      · intro p
        refine nf fun q => e3 ?_
        simp only [Bool.and_eq_true] at p q
        rw [u2 _ e1 p.1 q.1, u2 _ e2 p.2 q.2]
      · intro p
        refine nf fun q => e3 ?_
        simp only [Bool.and_eq_true] at p q
        rw [u3 _ e1 p.1 q.1, u3 _ e2 p.2 q.2]
      · intro p
        simp only [Bool.and_eq_true] at p
        simp [p.1, p.2]
      · intro p
        simp only [Bool.and_eq_true] at p
        simp [p.1, p.2]
      · intro p
        simp only [Bool.and_eq_true] at p
        simp [p.1, p.2]
  have h4 := hG.2
  have h5 := hH.2
  have h6 := hK.2
  have h7 : 2 ≤ fc_n (fun v => G v || H v || K v) j := fc_ge2 ha hb hab (by simp [ga]) (by simp [gb])
  exact ⟨fun v => G v || H v || K v, ⟨h7, by omega⟩, by simp [ga], by simp [gb], by simp [Hc]⟩
end
/-- two joints that a loose set T holds to each other -/
def fs_h (A B : Nat → Nat) (j : Nat) (T : Nat → Bool) (a b : Nat) : Prop := a ≠ b ∧ a < j ∧ b < j ∧ ∃ G, fs_t A B j T G ∧ G a = true ∧ G b = true
theorem fs_hs {A B : Nat → Nat} {j : Nat} {T : Nat → Bool} {a b : Nat} (h : fs_h A B j T a b) : fs_h A B j T b a := by
  obtain ⟨h1, h2, h3, G, h4, h5, h6⟩ := h
  exact ⟨fun z => h1 z.symm, h3, h2, G, h4, h6, h5⟩
theorem fs_k4 {A B : Nat → Nat} {j : Nat} {T : Nat → Bool} (hT : fs_L A B j T) (hE : fs_E A B j T) {a b c d : Nat} (ab : fs_h A B j T a b) (ac : fs_h A B j T a c) (bc : fs_h A B j T b c) (ad : fs_h A B j T a d) (bd : fs_h A B j T b d) (hcd : c ≠ d) : fs_h A B j T c d := by
  obtain ⟨hab, ha, hb, G, hG, ga, gb⟩ := ab
  obtain ⟨hac, _, hc, H, hH, Ha, Hc⟩ := ac
  obtain ⟨hbc, _, _, K, hK, Kb, Kc⟩ := bc
  obtain ⟨had, _, hd, H', hH', Ha', Hd'⟩ := ad
  obtain ⟨hbd, _, _, K', hK', Kb', Kd'⟩ := bd
  obtain ⟨M, m1, m2, m3, m4⟩ := fs_tri hT hE hG hH hK hab hac hbc ha hb hc ga gb Ha Hc Kb Kc
  obtain ⟨N, n1, n2, n3, n4⟩ := fs_tri hT hE hG hH' hK' hab had hbd ha hb hd ga gb Ha' Hd' Kb' Kd'
  exact ⟨hcd, hc, hd, _, fs_union hT m1 n1 hab ha hb m2 m3 n2 n3, by simp [m4], by simp [n4]⟩
end
section
/-! sets as numbers: bit k for bar k, or joint k -/
theorem zm_or (x k i : Nat) : (x ||| 2 ^ k).testBit i = (x.testBit i || decide (i = k)) := by
  rw [Nat.testBit_or, Nat.testBit_two_pow]
  by_cases e : i = k
  · rw [e]
  · rw [decide_eq_false e, decide_eq_false (fun z => e z.symm)]
theorem zm_hi {x n i : Nat} (h : x < 2 ^ n) (hi : n ≤ i) : x.testBit i = false :=
  Nat.testBit_lt_two_pow (Nat.lt_of_lt_of_le h (Nat.pow_le_pow_right (by decide) hi))
theorem zm_nf {p : Bool} (z : ¬ p = true) : p = false := by
  cases p
  · rfl
  · exact absurd rfl z
theorem zm_nt {p : Bool} (z : ¬ p = false) : p = true := by
  cases p
  · exact absurd rfl z
  · rfl
theorem zm_orlt {x k n : Nat} (h : x < 2 ^ n) (hk : k < n) : x ||| 2 ^ k < 2 ^ n :=
  Nat.or_lt_two_pow h (Nat.pow_lt_pow_right (by decide) hk)
theorem zm_cut {p : Nat → Bool} {j n : Nat} (hjn : j ≤ n) (h : ∀ i, j ≤ i → i < n → p i = false) : fc_n p n = fc_n p j := by
  induction n with
  | zero =>
    have : j = 0 := by omega
    rw [this]
  | succ n ih =>
    by_cases e : j = n + 1
    · rw [e]
    · rw [fc_nS, ih (by omega) (fun i h1 h2 => h i h1 (by omega)), h n (by omega) (by omega)]
      rfl
/-- the number of a set of joints below n -/
def zm_m (p : Nat → Bool) : Nat → Nat
  | 0 => 0
  | n + 1 => if p n = true then zm_m p n ||| 2 ^ n else zm_m p n
theorem zm_m_bit (p : Nat → Bool) (n i : Nat) : (zm_m p n).testBit i = (decide (i < n) && p i) := by
  induction n with
  | zero =>
    show (0 : Nat).testBit i = _
    rw [Nat.zero_testBit, decide_eq_false (Nat.not_lt_zero i)]
    rfl
  | succ n ih =>
    show (if p n = true then zm_m p n ||| 2 ^ n else zm_m p n).testBit i = _
    by_cases hp : p n = true
    · rw [if_pos hp, zm_or, ih]
      by_cases e : i = n
      · rw [e, fc_dt, hp, decide_eq_true (show n < n + 1 by omega)]
        simp
      · rw [decide_eq_false e, Bool.or_false]
        by_cases h : i < n
        · rw [decide_eq_true h, decide_eq_true (show i < n + 1 by omega)]
        · rw [decide_eq_false h, decide_eq_false (show ¬ i < n + 1 by omega)]
    · rw [if_neg hp, ih]
      by_cases e : i = n
      · rw [e, zm_nf hp]
        simp
      · by_cases h : i < n
        · rw [decide_eq_true h, decide_eq_true (show i < n + 1 by omega)]
        · rw [decide_eq_false h, decide_eq_false (show ¬ i < n + 1 by omega)]
theorem zm_m_lt (p : Nat → Bool) (n : Nat) : zm_m p n < 2 ^ n :=
  Nat.lt_pow_two_of_testBit _ fun i hi => by
    rw [zm_m_bit, decide_eq_false (by omega)]
    rfl
/-- the reference's test of a set of bars -/
def zm_ok (A B : Nat → Nat) (x g : Nat) : Prop := fc_n g.testBit 13 < 2 ∨ fs_in A B x.testBit g.testBit + 3 ≤ 2 * fc_n g.testBit 13
theorem zm_okD (A B : Nat → Nat) (j x : Nat) : (∀ g, g < 2 ^ j → zm_ok A B x g) ∨ ¬ (∀ g, g < 2 ^ j → zm_ok A B x g) := Classical.em _
noncomputable def zm_lz (A B : Nat → Nat) (j x : Nat) : Bool := @decide (∀ g, g < 2 ^ j → zm_ok A B x g) (Classical.propDecidable _)
theorem zm_lzT {A B : Nat → Nat} {j x : Nat} : zm_lz A B j x = true ↔ ∀ g, g < 2 ^ j → zm_ok A B x g := by
  unfold zm_lz
  exact @decide_eq_true_iff _ (Classical.propDecidable _)
theorem zm_lz_sub {A B : Nat → Nat} {j x y : Nat} (h : ∀ k, k < 13 → x.testBit k = true → y.testBit k = true) (hy : zm_lz A B j y = true) : zm_lz A B j x = true := by
  rw [zm_lzT] at hy ⊢
  intro g hg
  rcases hy g hg with z | z
  · exact Or.inl z
  · have := fs_in_mono (A := A) (B := B) (G := g.testBit) (G' := g.testBit) h (fun _ z => z)
    exact Or.inr (by omega)
theorem zm_lz_cong {A B A' B' : Nat → Nat} {j x : Nat} (h : ∀ k, k < 13 → x.testBit k = true → A k = A' k ∧ B k = B' k) : zm_lz A B j x = zm_lz A' B' j x := by
  have e : (∀ g, g < 2 ^ j → zm_ok A B x g) ↔ (∀ g, g < 2 ^ j → zm_ok A' B' x g) := by
    unfold zm_ok
    simp only [fs_in_cong h]
  rw [Bool.eq_iff_iff, zm_lzT, zm_lzT]
  exact e
theorem zm_lz_L {A B : Nat → Nat} {j x : Nat} (hj : j ≤ 13) (hx : ∀ k, k < 13 → x.testBit k = true → A k < j ∧ B k < j) : zm_lz A B j x = true ↔ fs_L A B j x.testBit := by
  rw [zm_lzT]
  constructor
  · intro h G hG
    have hb := zm_m_bit G j
    have h1 : fc_n (zm_m G j).testBit 13 = fc_n G j := by
      rw [zm_cut hj (fun i h1 _ => by rw [hb, decide_eq_false (by omega)]; rfl)]
      exact fc_cong fun i hi => by rw [hb, decide_eq_true hi]; rfl
    have h2 : fs_in A B x.testBit (zm_m G j).testBit = fs_in A B x.testBit G := fc_cong fun k hk => by
      show (x.testBit k && ((zm_m G j).testBit (A k) && (zm_m G j).testBit (B k))) = (x.testBit k && (G (A k) && G (B k)))
      cases hs : x.testBit k
      · rfl
      · obtain ⟨a1, a2⟩ := hx k hk hs
        rw [hb, hb, decide_eq_true a1, decide_eq_true a2]
        rfl
    have h3 := h _ (zm_m_lt G j)
    unfold zm_ok at h3
    rw [h1, h2] at h3
    omega
  · intro h g hg
    have h1 : fc_n g.testBit 13 = fc_n g.testBit j := zm_cut hj fun i h1 _ => zm_hi hg h1
    unfold zm_ok
    rw [h1]
    rcases Nat.lt_or_ge (fc_n g.testBit j) 2 with z | z
    · exact Or.inl z
    · exact Or.inr (h _ z)
theorem zm_lz0 (A B : Nat → Nat) (j : Nat) : zm_lz A B j 0 = true := by
  rw [zm_lzT]
  intro g _
  unfold zm_ok
  rcases Nat.lt_or_ge (fc_n g.testBit 13) 2 with z | z
  · exact Or.inl z
  · have : fs_in A B (0 : Nat).testBit g.testBit = 0 := fc_zero fun k _ => by
      show ((0 : Nat).testBit k && _).toNat = 0
      rw [Nat.zero_testBit]
      rfl
    exact Or.inr (by omega)
/-- bars of s taken one after the other -/
noncomputable def zm_g (A B : Nat → Nat) (j s : Nat) : Nat → Nat
  | 0 => 0
  | n + 1 => if (s.testBit n && zm_lz A B j (zm_g A B j s n ||| 2 ^ n)) = true then zm_g A B j s n ||| 2 ^ n else zm_g A B j s n
section
variable {A B A' B' : Nat → Nat} {j s s' : Nat}
theorem zm_gS (n : Nat) : zm_g A B j s (n + 1) = if (s.testBit n && zm_lz A B j (zm_g A B j s n ||| 2 ^ n)) = true then zm_g A B j s n ||| 2 ^ n else zm_g A B j s n := rfl
theorem zm_g_t {n : Nat} (h1 : s.testBit n = true) (h2 : zm_lz A B j (zm_g A B j s n ||| 2 ^ n) = true) : zm_g A B j s (n + 1) = zm_g A B j s n ||| 2 ^ n := by
  rw [zm_gS, if_pos (by rw [h1, h2]; rfl)]
theorem zm_g_f1 {n : Nat} (h1 : s.testBit n = false) : zm_g A B j s (n + 1) = zm_g A B j s n := by
  rw [zm_gS, if_neg (by rw [h1]; simp)]
theorem zm_g_f2 {n : Nat} (h2 : zm_lz A B j (zm_g A B j s n ||| 2 ^ n) = false) : zm_g A B j s (n + 1) = zm_g A B j s n := by
  rw [zm_gS, if_neg (by rw [h2]; simp)]
theorem zm_g_bit (n i : Nat) (h : (zm_g A B j s n).testBit i = true) : i < n ∧ s.testBit i = true := by
  induction n with
  | zero =>
    have h' : (0 : Nat).testBit i = true := h
    rw [Nat.zero_testBit] at h'
    cases h'
  | succ n ih =>
    by_cases c : (s.testBit n && zm_lz A B j (zm_g A B j s n ||| 2 ^ n)) = true
    · rw [zm_gS, if_pos c, zm_or, Bool.or_eq_true, decide_eq_true_eq] at h
      rcases h with z | z
      · obtain ⟨a1, a2⟩ := ih z
        exact ⟨by omega, a2⟩
      · rw [Bool.and_eq_true] at c
        rw [z]
        exact ⟨by omega, c.1⟩
    · rw [zm_gS, if_neg c] at h
      obtain ⟨a1, a2⟩ := ih h
      exact ⟨by omega, a2⟩
theorem zm_g_lt (n : Nat) : zm_g A B j s n < 2 ^ n :=
  Nat.lt_pow_two_of_testBit _ fun i hi => zm_nf fun z => by
    have := (zm_g_bit n i z).1
    omega
theorem zm_g_lz (n : Nat) : zm_lz A B j (zm_g A B j s n) = true := by
  induction n with
  | zero => exact zm_lz0 A B j
  | succ n ih =>
    by_cases c : (s.testBit n && zm_lz A B j (zm_g A B j s n ||| 2 ^ n)) = true
    · rw [zm_gS, if_pos c]
      rw [Bool.and_eq_true] at c
      exact c.2
    · rw [zm_gS, if_neg c]
      exact ih
theorem zm_g_all (h : zm_lz A B j s = true) (n i : Nat) : (zm_g A B j s n).testBit i = (decide (i < n) && s.testBit i) := by
  induction n generalizing i with
  | zero =>
    show (0 : Nat).testBit i = _
    rw [Nat.zero_testBit, decide_eq_false (Nat.not_lt_zero i)]
    rfl
  | succ n ih =>
    have key : (zm_g A B j s (n + 1)).testBit i = ((zm_g A B j s n).testBit i || (decide (i = n) && s.testBit n)) := by
      cases hs : s.testBit n
      · rw [zm_g_f1 hs, Bool.and_false, Bool.or_false]
      · have hl : zm_lz A B j (zm_g A B j s n ||| 2 ^ n) = true := by
          refine zm_lz_sub (fun k _ hk => ?_) h
          rw [zm_or, Bool.or_eq_true, decide_eq_true_eq] at hk
          rcases hk with z | z
          · exact (zm_g_bit n k z).2
          · rw [z]
            exact hs
        rw [zm_g_t hs hl, zm_or, Bool.and_true]
    rw [key, ih]
    by_cases e : i = n
    · rw [e, fc_dt, decide_eq_true (show n < n + 1 by omega), decide_eq_false (show ¬ n < n by omega)]
      rfl
    · rw [decide_eq_false e, Bool.false_and, Bool.or_false]
      by_cases h : i < n
      · rw [decide_eq_true h, decide_eq_true (show i < n + 1 by omega)]
      · rw [decide_eq_false h, decide_eq_false (show ¬ i < n + 1 by omega)]
theorem zm_g_id (h : zm_lz A B j s = true) {n : Nat} (hs : s < 2 ^ n) : zm_g A B j s n = s := by
  apply Nat.eq_of_testBit_eq
  intro i
  rw [zm_g_all h]
  by_cases e : i < n
  · rw [decide_eq_true e]
    rfl
  · rw [zm_hi hs (by omega), Bool.and_false]
/-- a set is free when it is taken whole -/
theorem zm_free {n : Nat} (hs : s < 2 ^ n) : zm_g A B j s n = s ↔ zm_lz A B j s = true := by
  constructor
  · intro h
    rw [← h]
    exact zm_g_lz n
  · intro h
    exact zm_g_id h hs
theorem zm_g_cong {n : Nat} (hn : n ≤ 13) (h : ∀ k, k < n → s.testBit k = true → A k = A' k ∧ B k = B' k) (hs : ∀ k, k < n → s.testBit k = s'.testBit k) : zm_g A B j s n = zm_g A' B' j s' n := by
  induction n with
  | zero => rfl
  | succ n ih =>
    have e := ih (by omega) (fun k hk => h k (by omega)) (fun k hk => hs k (by omega))
    cases hb : s.testBit n
    · rw [zm_g_f1 hb, zm_g_f1 (by rw [← hs n (by omega)]; exact hb), e]
    · have e2 : zm_lz A B j (zm_g A B j s n ||| 2 ^ n) = zm_lz A' B' j (zm_g A' B' j s' n ||| 2 ^ n) := by
        rw [← e]
        refine zm_lz_cong fun k _ hk => ?_
        rw [zm_or, Bool.or_eq_true, decide_eq_true_eq] at hk
        rcases hk with z | z
        · obtain ⟨a1, a2⟩ := zm_g_bit n k z
          exact h k (by omega) a2
        · rw [z]
          exact h n (by omega) hb
      rw [zm_gS, zm_gS, e2, hb, ← hs n (by omega), hb, e]
end
end
section
/-! bodies: pairs that lead one, and groups that are one and can't grow. h a b: a and b are held to each other -/
def zb_hm (h : Nat → Nat → Bool) (a : Nat) : Nat → Nat
  | 0 => 2 ^ a
  | n + 1 => if h a n = true then zb_hm h a n ||| 2 ^ n else zb_hm h a n
theorem zb_hm_bit (h : Nat → Nat → Bool) (a n i : Nat) : (zb_hm h a n).testBit i = (decide (i = a) || (decide (i < n) && h a i)) := by
  induction n with
  | zero =>
    show (2 ^ a).testBit i = _
    rw [Nat.testBit_two_pow, decide_eq_false (Nat.not_lt_zero i), Bool.false_and, Bool.or_false]
    by_cases e : i = a
    · rw [e]
    · rw [decide_eq_false e, decide_eq_false (fun z => e z.symm)]
  | succ n ih =>
    show (if h a n = true then zb_hm h a n ||| 2 ^ n else zb_hm h a n).testBit i = _
    by_cases hp : h a n = true
    · rw [if_pos hp, zm_or, ih]
      by_cases e : i = n
      · rw [e, fc_dt, hp, decide_eq_true (show n < n + 1 by omega)]
        simp
      · rw [decide_eq_false e, Bool.or_false]
        by_cases z : i < n
        · rw [decide_eq_true z, decide_eq_true (show i < n + 1 by omega)]
        · rw [decide_eq_false z, decide_eq_false (show ¬ i < n + 1 by omega)]
    · rw [if_neg hp, ih]
      by_cases e : i = n
      · rw [e, zm_nf hp, Bool.and_false, Bool.and_false]
      · by_cases z : i < n
        · rw [decide_eq_true z, decide_eq_true (show i < n + 1 by omega)]
        · rw [decide_eq_false z, decide_eq_false (show ¬ i < n + 1 by omega)]
theorem zb_hm_lt {h : Nat → Nat → Bool} {a n N : Nat} (ha : a < N) (hn : n ≤ N) : zb_hm h a n < 2 ^ N :=
  Nat.lt_pow_two_of_testBit _ fun i hi => by
    rw [zb_hm_bit, decide_eq_false (show ¬ i = a by omega), decide_eq_false (show ¬ i < n by omega)]
    rfl
def zb_body (h : Nat → Nat → Bool) (j g : Nat) : Prop := g < 2 ^ j ∧ ∀ a b, a < b → g.testBit a = true → g.testBit b = true → h a b = true
noncomputable def zb_bd (h : Nat → Nat → Bool) (j g : Nat) : Bool := @decide (zb_body h j g) (Classical.propDecidable _)
theorem zb_bdT {h : Nat → Nat → Bool} {j g : Nat} : zb_bd h j g = true ↔ zb_body h j g := by
  unfold zb_bd
  exact @decide_eq_true_iff _ (Classical.propDecidable _)
/-- a and b are the first two of c, and there is a third -/
def zb_ld (c a b : Nat) : Bool := decide (c &&& (2 ^ b - 1) = 2 ^ a) && !decide (c &&& ((c &&& (2 ^ b - 1)) ^^^ 4294967295) &&& (2 ^ b ^^^ 4294967295) = 0)
def zb_chk (c b a : Nat) : Bool := zb_ld c a b == ((List.range b).all (fun x => c.testBit x == decide (x = a)) && (List.range 6).any (fun x => decide (b < x) && c.testBit x))
theorem zb_ld0 : (List.range 64).all (fun c => (List.range 6).all fun b => (List.range b).all fun a => zb_chk c b a) = true := by decide +kernel
theorem zb_ldT (c : Nat) (hc : c < 64) (b : Nat) (hb : b < 6) (a : Nat) (ha : a < b) : zb_ld c a b = true ↔ (∀ x, x < b → (c.testBit x = true ↔ x = a)) ∧ ∃ x, x < 6 ∧ b < x ∧ c.testBit x = true := by
  have h0 := zb_ld0
  rw [List.all_eq_true] at h0
  have h1 := h0 c (List.mem_range.mpr hc)
  rw [List.all_eq_true] at h1
  have h2 := h1 b (List.mem_range.mpr hb)
  rw [List.all_eq_true] at h2
  have h3 := h2 a (List.mem_range.mpr ha)
  unfold zb_chk at h3
  rw [beq_iff_eq] at h3
  rw [h3, Bool.and_eq_true, List.all_eq_true, List.any_eq_true]
  constructor
  · rintro ⟨p, x, hx, q⟩
    refine ⟨fun y hy => ?_, x, List.mem_range.mp hx, ?_⟩
    · have := p y (List.mem_range.mpr hy)
      rw [beq_iff_eq] at this
      rw [this, decide_eq_true_eq]
    · rw [Bool.and_eq_true, decide_eq_true_eq] at q
      exact q
  · rintro ⟨p, x, hx, q1, q2⟩
    refine ⟨fun y hy => ?_, x, List.mem_range.mpr hx, ?_⟩
    · rw [beq_iff_eq, Bool.eq_iff_iff, decide_eq_true_eq]
      exact p y (List.mem_range.mp hy)
    · rw [Bool.and_eq_true, decide_eq_true_eq]
      exact ⟨q1, q2⟩
def zb_q (h : Nat → Nat → Bool) (j a b : Nat) : Bool := decide (a < b) && (h a b && zb_ld (zb_hm h a j &&& zb_hm h b j) a b)
def zb_x (h : Nat → Nat → Bool) (j : Nat) : Nat := fc_s (fun a => fc_s (fun b => (zb_q h j a b).toNat) j) j
def zb_tp (h : Nat → Nat → Bool) (j g : Nat) : Prop := 3 ≤ fc_n g.testBit 13 ∧ zb_body h j g ∧ ∀ z, z < j → g.testBit z = false → ¬ zb_body h j (g ||| 2 ^ z)
noncomputable def zb_top (h : Nat → Nat → Bool) (j g : Nat) : Bool := @decide (zb_tp h j g) (Classical.propDecidable _)
theorem zb_topT {h : Nat → Nat → Bool} {j g : Nat} : zb_top h j g = true ↔ zb_tp h j g := by
  unfold zb_top
  exact @decide_eq_true_iff _ (Classical.propDecidable _)
noncomputable def zb_y (h : Nat → Nat → Bool) (j : Nat) : Nat := fc_n (zb_top h j) (2 ^ j)
section
variable {h : Nat → Nat → Bool} {j : Nat}
theorem zb_M (h1 : ∀ a b, h a b = true → a ≠ b ∧ a < j ∧ b < j) (a b x : Nat) : (zb_hm h a j &&& zb_hm h b j).testBit x = true ↔ (x = a ∨ h a x = true) ∧ (x = b ∨ h b x = true) := by
  rw [Nat.testBit_and, zb_hm_bit, zb_hm_bit]
  simp only [Bool.and_eq_true, Bool.or_eq_true, decide_eq_true_eq]
  constructor
  · rintro ⟨p | p, q | q⟩
    · exact ⟨Or.inl p, Or.inl q⟩
    · exact ⟨Or.inl p, Or.inr q.2⟩
    · exact ⟨Or.inr p.2, Or.inl q⟩
    · exact ⟨Or.inr p.2, Or.inr q.2⟩
  · rintro ⟨p | p, q | q⟩
    · exact ⟨Or.inl p, Or.inl q⟩
    · exact ⟨Or.inl p, Or.inr ⟨(h1 _ _ q).2.2, q⟩⟩
    · exact ⟨Or.inr ⟨(h1 _ _ p).2.2, p⟩, Or.inl q⟩
    · exact ⟨Or.inr ⟨(h1 _ _ p).2.2, p⟩, Or.inr ⟨(h1 _ _ q).2.2, q⟩⟩
/-- all joints that are held to a and to b are held to each other -/
theorem zb_clq (h2 : ∀ a b, h a b = true → h b a = true) (h4 : ∀ a b c d, h a b = true → h a c = true → h b c = true → h a d = true → h b d = true → c ≠ d → h c d = true) {a b x y : Nat} (hab : h a b = true) (hx : (x = a ∨ h a x = true) ∧ (x = b ∨ h b x = true)) (hy : (y = a ∨ h a y = true) ∧ (y = b ∨ h b y = true)) (hxy : x ≠ y) : h x y = true := by
  obtain ⟨xa, xb⟩ := hx
  obtain ⟨ya, yb⟩ := hy
  by_cases e1 : x = a
  · rcases ya with z | z
    · exact absurd (e1.trans z.symm) hxy
    · rw [e1]
      exact z
  by_cases e2 : x = b
  · rcases yb with z | z
    · exact absurd (e2.trans z.symm) hxy
    · rw [e2]
      exact z
  have xa' : h a x = true := xa.resolve_left e1
  have xb' : h b x = true := xb.resolve_left e2
  by_cases e3 : y = a
  · rw [e3]
    exact h2 _ _ xa'
  by_cases e4 : y = b
  · rw [e4]
    exact h2 _ _ xb'
  exact h4 a b x y hab xa' xb' (ya.resolve_left e3) (yb.resolve_left e4) hxy
theorem zb_Mlt (h1 : ∀ a b, h a b = true → a ≠ b ∧ a < j ∧ b < j) {a b : Nat} (ha : a < j) : zb_hm h a j &&& zb_hm h b j < 2 ^ j :=
  Nat.lt_pow_two_of_testBit _ fun i hi => zm_nf fun z => by
    rcases ((zb_M h1 a b i).mp z).1 with p | p
    · omega
    · have := (h1 _ _ p).2.2
      omega
theorem zb_qT {a b : Nat} : zb_q h j a b = true ↔ a < b ∧ h a b = true ∧ zb_ld (zb_hm h a j &&& zb_hm h b j) a b = true := by
  unfold zb_q
  rw [Bool.and_eq_true, Bool.and_eq_true, decide_eq_true_eq]
theorem zb_lt64 (hj : j ≤ 6) {c : Nat} (hc : c < 2 ^ j) : c < 64 := Nat.lt_of_lt_of_le hc (Nat.pow_le_pow_right (n := 2) (by decide) hj)
theorem zb_1 (hj : j ≤ 6) (h1 : ∀ a b, h a b = true → a ≠ b ∧ a < j ∧ b < j) (h2 : ∀ a b, h a b = true → h b a = true) (h4 : ∀ a b c d, h a b = true → h a c = true → h b c = true → h a d = true → h b d = true → c ≠ d → h c d = true) {a b : Nat} (q : zb_q h j a b = true) : zb_tp h j (zb_hm h a j &&& zb_hm h b j) := by
  obtain ⟨hab, hh, hl⟩ := zb_qT.mp q
  obtain ⟨_, ha, hb⟩ := h1 a b hh
  have hM := zb_M h1 a b
  have hlt := zb_Mlt h1 (b := b) ha
  rw [zb_ldT _ (zb_lt64 hj hlt) b (by omega) a hab] at hl
  obtain ⟨l1, x, hx6, hbx, hx⟩ := hl
  have Ma := (hM a).mpr ⟨Or.inl rfl, Or.inr (h2 _ _ hh)⟩
  have Mb := (hM b).mpr ⟨Or.inr hh, Or.inl rfl⟩
  refine ⟨fc_ge3 (a := a) (b := b) (c := x) (by omega) (by omega) (by omega) (by omega) (by omega) (by omega) Ma Mb hx, ⟨hlt, fun p q hpq hp hq => zb_clq h2 h4 hh ((hM p).mp hp) ((hM q).mp hq) (by omega)⟩, fun z hz hf hbd => ?_⟩
  have key : ∀ p, (zb_hm h a j &&& zb_hm h b j).testBit p = true → h p z = true := by
    intro p hp
    have e1 : (zb_hm h a j &&& zb_hm h b j ||| 2 ^ z).testBit p = true := by
      rw [zm_or, hp]
      rfl
    have e2 : (zb_hm h a j &&& zb_hm h b j ||| 2 ^ z).testBit z = true := by
      rw [zm_or, fc_dt, Bool.or_true]
    have hne : p ≠ z := by
      intro e
      rw [e, hf] at hp
      cases hp
    rcases Nat.lt_or_ge p z with w | w
    · exact hbd.2 p z w e1 e2
    · exact h2 _ _ (hbd.2 z p (by omega) e2 e1)
  have := (hM z).mpr ⟨Or.inr (key a Ma), Or.inr (key b Mb)⟩
  rw [hf] at this
  cases this
theorem zb_2 (hj : j ≤ 6) (h1 : ∀ a b, h a b = true → a ≠ b ∧ a < j ∧ b < j) (h2 : ∀ a b, h a b = true → h b a = true) (h4 : ∀ a b c d, h a b = true → h a c = true → h b c = true → h a d = true → h b d = true → c ≠ d → h c d = true) {g : Nat} (t : zb_tp h j g) : ∃ a b, a < j ∧ b < j ∧ zb_q h j a b = true ∧ zb_hm h a j &&& zb_hm h b j = g := by
  obtain ⟨t1, ⟨t2, t3⟩, t4⟩ := t
  obtain ⟨a, b, c, hab, hbc, hc, ga, gb, gc, gl⟩ := fc_get3 t1
  have hh := t3 a b hab ga gb
  obtain ⟨_, ha, hb⟩ := h1 a b hh
  have hM := zb_M h1 a b
  have sub : ∀ x, g.testBit x = true → (x = a ∨ h a x = true) ∧ (x = b ∨ h b x = true) := by
    intro x hx
    constructor
    · rcases Nat.lt_trichotomy x a with z | z | z
      · exact Or.inr (h2 _ _ (t3 x a z hx ga))
      · exact Or.inl z
      · exact Or.inr (t3 a x z ga hx)
    · rcases Nat.lt_trichotomy x b with z | z | z
      · exact Or.inr (h2 _ _ (t3 x b z hx gb))
      · exact Or.inl z
      · exact Or.inr (t3 b x z gb hx)
  have eM : zb_hm h a j &&& zb_hm h b j = g := by
    apply Nat.eq_of_testBit_eq
    intro x
    cases hg : g.testBit x
    · refine zm_nf fun hx => ?_
      have hx' := (hM x).mp hx
      have hxj : x < j := by
        rcases hx'.1 with z | z
        · omega
        · exact (h1 _ _ z).2.2
      refine t4 x hxj hg ⟨zm_orlt t2 hxj, fun p q hpq hp hq => ?_⟩
      have all : ∀ y, (g ||| 2 ^ x).testBit y = true → (y = a ∨ h a y = true) ∧ (y = b ∨ h b y = true) := by
        intro y hy
        rw [zm_or, Bool.or_eq_true, decide_eq_true_eq] at hy
        rcases hy with z | z
        · exact sub y z
        · rw [z]
          exact hx'
      exact zb_clq h2 h4 hh (all p hp) (all q hq) (by omega)
    · exact (hM x).mpr (sub x hg)
  refine ⟨a, b, ha, hb, zb_qT.mpr ⟨hab, hh, ?_⟩, eM⟩
  rw [eM, zb_ldT g (zb_lt64 hj t2) b (by omega) a hab]
  refine ⟨fun x hx => ⟨gl x hx, fun e => by rw [e]; exact ga⟩, c, ?_, hbc, gc⟩
  rcases Nat.lt_or_ge c j with z | z
  · omega
  · rw [zm_hi t2 z] at gc
    cases gc
theorem zb_3 (hj : j ≤ 6) (h1 : ∀ a b, h a b = true → a ≠ b ∧ a < j ∧ b < j) (h2 : ∀ a b, h a b = true → h b a = true) {a b a' b' : Nat} (q : zb_q h j a b = true) (q' : zb_q h j a' b' = true) (e : zb_hm h a j &&& zb_hm h b j = zb_hm h a' j &&& zb_hm h b' j) : a = a' ∧ b = b' := by
  obtain ⟨hab, hh, hl⟩ := zb_qT.mp q
  obtain ⟨hab', hh', hl'⟩ := zb_qT.mp q'
  obtain ⟨_, ha, hb⟩ := h1 a b hh
  obtain ⟨_, ha', hb'⟩ := h1 a' b' hh'
  have Ma := (zb_M h1 a b a).mpr ⟨Or.inl rfl, Or.inr (h2 _ _ hh)⟩
  have Mb := (zb_M h1 a b b).mpr ⟨Or.inr hh, Or.inl rfl⟩
  have Ma' := (zb_M h1 a' b' a').mpr ⟨Or.inl rfl, Or.inr (h2 _ _ hh')⟩
  have Mb' := (zb_M h1 a' b' b').mpr ⟨Or.inr hh', Or.inl rfl⟩
  have hlt := zb_Mlt h1 (b := b) ha
  have hlt' := zb_Mlt h1 (b := b') ha'
  rw [zb_ldT _ (zb_lt64 hj hlt) b (by omega) a hab] at hl
  rw [zb_ldT _ (zb_lt64 hj hlt') b' (by omega) a' hab'] at hl'
  rw [← e] at hl' Ma' Mb'
  rcases Nat.lt_trichotomy b b' with z | z | z
  · have p1 := (hl'.1 b z).mp Mb
    have p2 := (hl'.1 a (by omega)).mp Ma
    omega
  · have p2 := (hl'.1 a (by omega)).mp Ma
    exact ⟨p2, z⟩
  · have p1 := (hl.1 b' z).mp Mb'
    have p2 := (hl.1 a' (by omega)).mp Ma'
    omega
theorem zb_xy (hj : j ≤ 6) (h1 : ∀ a b, h a b = true → a ≠ b ∧ a < j ∧ b < j) (h2 : ∀ a b, h a b = true → h b a = true) (h4 : ∀ a b c d, h a b = true → h a c = true → h b c = true → h a d = true → h b d = true → c ≠ d → h c d = true) : zb_x h j = zb_y h j := by
  have e1 : zb_y h j = fc_s (fun g => fc_s (fun a => fc_s (fun b => (zb_q h j a b && decide (zb_hm h a j &&& zb_hm h b j = g)).toNat) j) j) (2 ^ j) := by
    refine fc_eq fun g _ => ?_
    show (zb_top h j g).toNat = fc_s (fun a => fc_s (fun b => (zb_q h j a b && decide (zb_hm h a j &&& zb_hm h b j = g)).toNat) j) j
    cases ht : zb_top h j g
    · refine (fc_zero fun a _ => fc_zero fun b _ => ?_).symm
      show (zb_q h j a b && decide (zb_hm h a j &&& zb_hm h b j = g)).toNat = 0
      cases hq : (zb_q h j a b && decide (zb_hm h a j &&& zb_hm h b j = g))
      · rfl
      · rw [Bool.and_eq_true, decide_eq_true_eq] at hq
        have t := zb_1 hj h1 h2 h4 hq.1
        rw [hq.2] at t
        rw [zb_topT.mpr t] at ht
        cases ht
    · obtain ⟨a, b, ha, hb, hq, hM⟩ := zb_2 hj h1 h2 h4 (zb_topT.mp ht)
      symm
      refine fc_sing0 ha _ _ (fc_sing0 hb _ _ ?_ ?_) ?_
      · show (zb_q h j a b && decide (zb_hm h a j &&& zb_hm h b j = g)).toNat = _
        rw [hq, hM, fc_dt]
        rfl
      · intro b' _ hne
        show (zb_q h j a b' && decide (zb_hm h a j &&& zb_hm h b' j = g)).toNat = 0
        cases hq' : (zb_q h j a b' && decide (zb_hm h a j &&& zb_hm h b' j = g))
        · rfl
        · rw [Bool.and_eq_true, decide_eq_true_eq] at hq'
          exact absurd (zb_3 hj h1 h2 hq'.1 hq (hq'.2.trans hM.symm)).2 hne
      · intro a' _ hne
        refine fc_zero fun b' _ => ?_
        show (zb_q h j a' b' && decide (zb_hm h a' j &&& zb_hm h b' j = g)).toNat = 0
        cases hq' : (zb_q h j a' b' && decide (zb_hm h a' j &&& zb_hm h b' j = g))
        · rfl
        · rw [Bool.and_eq_true, decide_eq_true_eq] at hq'
          exact absurd (zb_3 hj h1 h2 hq'.1 hq (hq'.2.trans hM.symm)).1 hne
  rw [e1, fc_swap]
  refine fc_eq fun a ha => ?_
  show fc_s (fun b => (zb_q h j a b).toNat) j = fc_s (fun g => fc_s (fun b => (zb_q h j a b && decide (zb_hm h a j &&& zb_hm h b j = g)).toNat) j) (2 ^ j)
  rw [fc_swap]
  refine fc_eq fun b _ => ?_
  show (zb_q h j a b).toNat = fc_s (fun g => (zb_q h j a b && decide (zb_hm h a j &&& zb_hm h b j = g)).toNat) (2 ^ j)
  symm
  refine fc_sing0 (zb_Mlt h1 (b := b) ha) _ _ ?_ ?_
  · show (zb_q h j a b && decide (zb_hm h a j &&& zb_hm h b j = zb_hm h a j &&& zb_hm h b j)).toNat = _
    rw [fc_dt, Bool.and_true]
  · intro g _ hne
    show (zb_q h j a b && decide (zb_hm h a j &&& zb_hm h b j = g)).toNat = 0
    rw [decide_eq_false (fun z => hne z.symm), Bool.and_false]
    rfl
end
end
section
/-! numbers and bits of the machine -/
theorem zi_bit {x i : Nat} (hx : x < 2 ^ 31) (hi : i < 32) : ((nI x >>> (nI i &&& 31)) &&& 1) = nI (x.testBit i).toNat := by
  rw [pk_shrN hx _ i (s_l i hi)]
  show nI (x / 2 ^ i) &&& nI 1 = _
  rw [nx_and, Nat.and_one_is_mod, Nat.toNat_testBit]
theorem zi_z {x i : Nat} {P Q : Prop} (hx : x < 2 ^ 31) (hi : i < 32) (f : x.testBit i = false → P) (g : x.testBit i = true → Q) : (((nI x >>> (nI i &&& 31)) &&& 1) = 0 → P) ∧ (¬ ((nI x >>> (nI i &&& 31)) &&& 1) = 0 → Q) := by
  rw [zi_bit hx hi]
  cases h : x.testBit i
  · exact ⟨fun _ => f h, fun z => absurd nI_0 z⟩
  · exact ⟨fun z => absurd z (by decide), fun _ => g h⟩
theorem zi_o {x i : Nat} {P Q : Prop} (hx : x < 2 ^ 31) (hi : i < 32) (f : x.testBit i = true → P) (g : x.testBit i = false → Q) : (((nI x >>> (nI i &&& 31)) &&& 1) = 1 → P) ∧ (¬ ((nI x >>> (nI i &&& 31)) &&& 1) = 1 → Q) := by
  rw [zi_bit hx hi]
  cases h : x.testBit i
  · exact ⟨fun z => absurd z (by decide), fun _ => g h⟩
  · exact ⟨fun _ => f h, fun z => absurd (show nI true.toNat = 1 by decide) z⟩
/-- a 0 or 1 tested against 0 -/
theorem zi_t {p : Bool} {P Q : Prop} (f : p = false → P) (g : p = true → Q) : (nI p.toNat = 0 → P) ∧ (¬ nI p.toNat = 0 → Q) := by
  cases p
  · exact ⟨fun _ => f rfl, fun z => absurd nI_0 z⟩
  · exact ⟨fun z => absurd z (by decide), fun _ => g rfl⟩
theorem zi_nb (p : Bool) : narrow .boolean (.int (nI p.toNat)) = .int (nI p.toNat) := by
  cases p
  · exact narrow_b0
  · exact narrow_b1
theorem zi_sh {i : Nat} (hi : i < 31) : (1 : Int32) <<< (nI i &&& 31) = nI (2 ^ i) := by
  have h0 : 2 ^ i < 2 ^ 31 := Nat.pow_lt_pow_right (by decide) hi
  have h := pk_shlN (n := 1) (nI i &&& 31) i (s_l i (by omega)) (by omega)
  rw [Nat.one_mul] at h
  exact h
theorem zi_or (a b : Nat) : nI a ||| nI b = nI (a ||| b) := by
  apply Int32.toBitVec_inj.1
  show BitVec.ofNat 32 a ||| BitVec.ofNat 32 b = BitVec.ofNat 32 (a ||| b)
  apply BitVec.eq_of_getLsbD_eq
  intro i hi
  simp [hi]
theorem zi_osh {x i : Nat} (hi : i < 31) : nI x ||| ((1 : Int32) <<< (nI i &&& 31)) = nI (x ||| 2 ^ i) := by
  rw [zi_sh hi, zi_or]
/-- x without k -/
def zi_c (x k : Nat) : Nat := x &&& (2 ^ k ^^^ 4294967295)
theorem zi_m1 : (-1 : Int32) = nI 4294967295 := by decide
theorem zi_clr {x k : Nat} (hk : k < 31) : nI x &&& (((1 : Int32) <<< (nI k &&& 31)) ^^^ (-1)) = nI (zi_c x k) := by
  rw [zi_sh hk, zi_m1, nx_xor, nx_and]
  rfl
theorem zi_c_bit {x k : Nat} (hk : k < 32) (hx : x < 2 ^ 32) (i : Nat) : (zi_c x k).testBit i = (x.testBit i && !decide (i = k)) := by
  unfold zi_c
  rw [Nat.testBit_and, Nat.testBit_xor, Nat.testBit_two_pow, show (4294967295 : Nat) = 2 ^ 32 - 1 from rfl, Nat.testBit_two_pow_sub_one]
  by_cases e : i < 32
  · rw [decide_eq_true e]
    by_cases z : i = k
    · rw [z]
      simp
    · rw [decide_eq_false z, decide_eq_false (fun w => z w.symm)]
      rfl
  · rw [zm_hi hx (show 32 ≤ i by omega)]
    rfl
theorem zi_c_le (x k : Nat) : zi_c x k ≤ x := Nat.and_le_left
theorem zi_i8 : ∀ v, v < 128 → (nI v).toInt8.toInt32 = nI v := by decide +kernel
theorem zi_nar {v : Nat} (h : v < 128) : vp_nar .byte (nI v) = nI v := by rw [vp_nar_byte, zi_i8 v h]
theorem zi_nar8 {v : Nat} (h : v < 128) : vp_nar .byte (nI v).toInt8.toInt32 = nI v := by rw [zi_i8 v h, zi_nar h]
theorem zi_upd {f : Nat → Int32} {i : Nat} (hi : i < 2 ^ 31) (x : Int32) (k : Nat) : upd f (nI i).toNatClampNeg x k = if k = i then x else f k := by
  rw [nI_clamp hi]
  rfl
theorem zi_at {f : Nat → Int32} {i : Nat} (hi : i < 2 ^ 31) : f (nI i).toNatClampNeg = f i := by rw [nI_clamp hi]
theorem zi_pow {j : Nat} (hj : j ≤ 6) : 2 ^ j ≤ 64 := Nat.pow_le_pow_right (n := 2) (by decide) hj
theorem zi_mod {m i : Nat} : m % 2 ^ (i + 1) = if m.testBit i = true then m % 2 ^ i ||| 2 ^ i else m % 2 ^ i := by
  apply Nat.eq_of_testBit_eq
  intro k
  cases hb : m.testBit i
  · rw [if_neg (by decide), Nat.testBit_mod_two_pow, Nat.testBit_mod_two_pow]
    by_cases e : k = i
    · rw [e, hb, Bool.and_false, Bool.and_false]
    · by_cases z : k < i
      · rw [decide_eq_true z, decide_eq_true (show k < i + 1 by omega)]
      · rw [decide_eq_false z, decide_eq_false (show ¬ k < i + 1 by omega)]
  · rw [if_pos rfl, zm_or, Nat.testBit_mod_two_pow, Nat.testBit_mod_two_pow]
    by_cases e : k = i
    · rw [e, hb, fc_dt, decide_eq_true (show i < i + 1 by omega), Bool.or_true]
      rfl
    · rw [decide_eq_false e, Bool.or_false]
      by_cases z : k < i
      · rw [decide_eq_true z, decide_eq_true (show k < i + 1 by omega)]
      · rw [decide_eq_false z, decide_eq_false (show ¬ k < i + 1 by omega)]
/-- a function with another value at q -/
def zi_u (f : Nat → Nat) (q x : Nat) : Nat → Nat := fun k => if k = q then x else f k
theorem zi_us {f : Nat → Nat} {q x : Nat} : zi_u f q x q = x := if_pos rfl
theorem zi_un {f : Nat → Nat} {q x k : Nat} (h : k ≠ q) : zi_u f q x k = f k := if_neg h
end
section
/-! the reference, method by method -/
section
variable {fj : Int32} {th as bs : Nat → Int32} {A B : Nat → Nat} {j m : Nat} {post : Int32 → Prop}
theorem zy_count {x : Nat} (hx : x < 2 ^ 31) (h : post (nI (fc_n x.testBit 13))) : wpY_count post (fj, th, as, bs) (nI x) := by
  have L : ∀ d i, i + d = 13 → wY_count_4 post (nI x) fj th as bs (d + 1) (nI (fc_n x.testBit i)) (nI i) := by
    intro d
    induction d with
    | zero =>
      intro i hi
      obtain rfl : i = 13 := by omega
      exact br_t (nI_le (a := 13) (b := 13) (by decide) (by decide)) h
    | succ d ih =>
      intro i hi
      refine br_f (nI_ge (b := 13) (by omega) (by decide)) (nm_r ?_ (nm_r (nI_1 i) (ih (i + 1) (by omega))))
      rw [zi_bit hx (by omega), nI_add]
      rfl
  exact ⟨14, L 13 0 rfl⟩
theorem zy_inside {x g : Nat} (hx : x < 2 ^ 31) (hg : g < 2 ^ 31) (hA : ∀ k, k < 13 → x.testBit k = true → as k = nI (A k) ∧ bs k = nI (B k) ∧ A k < 6 ∧ B k < 6) (h : post (nI (fs_in A B x.testBit g.testBit))) : wpY_inside post (fj, th, as, bs) (nI x) (nI g) := by
  have L : ∀ d i, i + d = 13 → wY_inside_5 post (nI x) (nI g) fj th as bs (d + 1) (nI (fc_n (fun k => x.testBit k && (g.testBit (A k) && g.testBit (B k))) i)) (nI i) := by
    intro d
    induction d with
    | zero =>
      intro i hi
      obtain rfl : i = 13 := by omega
      exact br_t (nI_le (a := 13) (b := 13) (by decide) (by decide)) h
    | succ d ih =>
      intro i hi
      have h1 := ih (i + 1) (by omega)
      rw [fc_nS] at h1
      generalize fc_n (fun k => x.testBit k && (g.testBit (A k) && g.testBit (B k))) i = c at h1 ⊢
      refine br_f (nI_ge (b := 13) (by omega) (by decide)) ?_
      refine zi_o hx (by omega) (fun hb => ?_) (fun hb => ?_)
      · obtain ⟨a1, a2, a3, a4⟩ := hA i (by omega) hb
        have e1 : as (nI i).toNatClampNeg = nI (A i) := by rw [nI_clamp (by omega), a1]
        have e2 : bs (nI i).toNatClampNeg = nI (B i) := by rw [nI_clamp (by omega), a2]
        refine ⟨vp_in_nI (by omega) (by decide), ?_⟩
        rw [e1]
        refine zi_o hg (by omega) (fun hc => ⟨vp_in_nI (by omega) (by decide), ?_⟩) (fun hc => ?_)
        · rw [e2]
          refine zi_o hg (by omega) (fun hd => ?_) (fun hd => ?_)
          · rw [hb, hc, hd] at h1
            exact br_f (by decide) (nm_r (nI_1 c) (nm_r (nI_1 i) h1))
          · rw [hb, hc, hd] at h1
            exact br_t rfl (nm_r (nI_1 i) h1)
        · rw [hb, hc] at h1
          exact br_t rfl (nm_r (nI_1 i) h1)
      · rw [hb] at h1
        exact br_t rfl (nm_r (nI_1 i) h1)
  exact ⟨14, L 13 0 rfl⟩
theorem zy_loose {x : Nat} (hj : j ≤ 6) (hx : x < 2 ^ 31) (hA : ∀ k, k < 13 → x.testBit k = true → as k = nI (A k) ∧ bs k = nI (B k) ∧ A k < 6 ∧ B k < 6) (h : post (nI (zm_lz A B j x).toNat)) : wpY_loose post (nI j, th, as, bs) (nI x) := by
  have hp := zi_pow hj
  have F : zm_lz A B j x = false → ∀ n g, wY_loose_4 post (nI x) (nI j) th as bs (n + 1) 0 (nI g) := by
    intro e n g
    rw [e] at h
    exact br_c (fun _ => ⟨narrow_b0, h⟩) (fun _ => br_t rfl ⟨narrow_b0, h⟩)
  have L : ∀ d g, g + d = 2 ^ j → (∀ g', g' < g → zm_ok A B x g') → wY_loose_4 post (nI x) (nI j) th as bs (d + 1) 1 (nI g) := by
    intro d
    induction d with
    | zero =>
      intro g hg hk
      have e : g = 2 ^ j := by omega
      rw [e] at hk
      rw [zm_lzT.mpr hk] at h
      exact br_t (by rw [zi_sh (by omega), e]; exact nI_le (Nat.le_refl _) (by omega)) ⟨narrow_b1, h⟩
    | succ d ih =>
      intro g hg hk
      refine br_f (by rw [zi_sh (by omega)]; exact nI_ge (by omega) (by omega)) (br_f (by decide) (zy_count (x := g) (by omega) ?_))
      refine pk_lt (fc_n g.testBit 13) 2 (fun hlt => ?_) (fun hge => ?_) rfl rfl (by have := fc_n_le g.testBit 13; omega) (by decide)
      · exact nm_r (nI_1 g) (ih (g + 1) (by omega) (lt_s hk (Or.inl hlt)))
      · refine zy_inside (A := A) (B := B) hx (by omega) hA ?_
        have b1 := fc_n_le g.testBit 13
        have b2 : fs_in A B x.testBit g.testBit ≤ 13 := fc_n_le _ 13
        refine pk_lt (2 * fc_n g.testBit 13 - 3) (fs_in A B x.testBit g.testBit) (fun hlt => ?_) (fun hle => ?_) ?_ rfl (by omega) (by omega)
        · refine nm_r (nI_1 g) (F (zm_nf fun z => ?_) d (g + 1))
          rcases zm_lzT.mp z g (by omega) with y | y <;> omega
        · exact nm_r (nI_1 g) (ih (g + 1) (by omega) (lt_s hk (Or.inr (by omega))))
        · show nI 2 * nI (fc_n g.testBit 13) - nI 3 = _
          rw [pk_mul, pk_sub (by omega)]
  exact ⟨_, L (2 ^ j) 0 (Nat.zero_add _) lt_0⟩
theorem zy_taken {s : Nat} (hj : j ≤ 6) (hs : s < 2 ^ 13) (hA : ∀ k, k < 13 → s.testBit k = true → as k = nI (A k) ∧ bs k = nI (B k) ∧ A k < 6 ∧ B k < 6) (h : post (nI (zm_g A B j s 13))) : wpY_taken post (nI j, th, as, bs) (nI s) := by
  have L : ∀ d i, i + d = 13 → wY_taken_4 post (nI s) (nI j) th as bs (d + 1) (nI (zm_g A B j s i)) (nI i) := by
    intro d
    induction d with
    | zero =>
      intro i hi
      obtain rfl : i = 13 := by omega
      exact br_t (nI_le (a := 13) (b := 13) (by decide) (by decide)) h
    | succ d ih =>
      intro i hi
      have h1 := ih (i + 1) (by omega)
      refine br_f (nI_ge (b := 13) (by omega) (by decide)) ?_
      refine zi_o (by omega) (by omega) (fun hb => ?_) (fun hb => ?_)
      · rw [zi_osh (by omega)]
        have hlt : zm_g A B j s i ||| 2 ^ i < 2 ^ 13 := zm_orlt (Nat.lt_of_lt_of_le (zm_g_lt i) (Nat.pow_le_pow_right (by decide) (by omega))) (by omega)
        refine zy_loose (A := A) (B := B) hj (by omega) (fun k hk hkb => hA k hk ?_) ?_
        · rw [zm_or, Bool.or_eq_true, decide_eq_true_eq] at hkb
          rcases hkb with z | z
          · exact (zm_g_bit i k z).2
          · rw [z]
            exact hb
        · refine zi_t (fun hz => ?_) (fun hz => ?_)
          · rw [zm_g_f2 hz] at h1
            exact br_t rfl (nm_r (nI_1 i) h1)
          · rw [zm_g_t hb hz] at h1
            exact br_f (by decide) (nm_r (zi_osh (by omega)) (nm_r (nI_1 i) h1))
      · rw [zm_g_f1 hb] at h1
        exact br_t rfl (nm_r (nI_1 i) h1)
  exact ⟨14, L 13 0 rfl⟩
theorem zy_rankOf {s : Nat} (hj : j ≤ 6) (hs : s < 2 ^ 13) (hA : ∀ k, k < 13 → s.testBit k = true → as k = nI (A k) ∧ bs k = nI (B k) ∧ A k < 6 ∧ B k < 6) (h : post (nI (fc_n (zm_g A B j s 13).testBit 13))) : wpY_rankOf post (nI j, th, as, bs) (nI s) := by
  unfold wpY_rankOf
  dsimp only
  refine zy_taken (A := A) (B := B) hj hs hA ?_
  have : zm_g A B j s 13 < 2 ^ 13 := zm_g_lt 13
  exact zy_count (by omega) h
theorem zy_bars (hm : m < 4096) (hth : ∀ k, k < 12 → th k = nI (m.testBit k).toNat) (h : post (nI m)) : wpY_bars post (fj, th, as, bs) := by
  have L : ∀ d i, i + d = 12 → wY_bars_4 post fj th as bs (d + 1) (nI (m % 2 ^ i)) (nI i) := by
    intro d
    induction d with
    | zero =>
      intro i hi
      obtain rfl : i = 12 := by omega
      rw [show m % 2 ^ 12 = m from Nat.mod_eq_of_lt hm]
      exact br_t (nI_le (a := 12) (b := 12) (by decide) (by decide)) h
    | succ d ih =>
      intro i hi
      have h1 := ih (i + 1) (by omega)
      rw [zi_mod] at h1
      refine br_f (nI_ge (b := 12) (by omega) (by decide)) ⟨vp_in_nI (by omega) (by decide), ?_⟩
      rw [nI_clamp (n := i) (by omega), hth i (by omega)]
      refine zi_t (fun hb => ?_) (fun hb => ?_)
      · rw [hb, if_neg (by decide)] at h1
        exact nm_r (nI_1 i) h1
      · rw [hb, if_pos rfl] at h1
        exact nm_r (zi_osh (by omega)) (nm_r (nI_1 i) h1)
  refine ⟨13, ?_⟩
  have := L 12 0 rfl
  rw [show m % 2 ^ 0 = 0 from Nat.mod_one m] at this
  exact this
theorem zy_joint {a : Nat} (ha : a < 2 ^ 31) (hj : j ≤ 6) (h : post (nI (decide (a < j)).toNat)) : wpY_joint post (nI j, th, as, bs) (nI a) := by
  refine br_f (nI_pos ha) (pk_le j a (fun z => ?_) (fun z => ?_) rfl rfl (by omega) ha)
  · rw [decide_eq_false (by omega)] at h
    exact h
  · rw [decide_eq_true z] at h
    exact h
end
end
section
/-! what holds of a frame: ends, rank, held -/
def zh_W (A B : Nat → Nat) (j m : Nat) : Prop := 2 ≤ j ∧ j ≤ 6 ∧ m < 4096 ∧ ∀ k, k < 12 → A k < j ∧ B k < j ∧ (m.testBit k = true → A k ≠ B k)
noncomputable def zh_h (A B : Nat → Nat) (j m a b : Nat) : Bool := (decide (a ≠ b) && (decide (a < j) && decide (b < j))) && !zm_lz (zi_u A 12 a) (zi_u B 12 b) j (zm_g A B j m 12 ||| 2 ^ 12)
noncomputable def zh_rk (A B : Nat → Nat) (j s : Nat) : Nat := fc_n (zm_g A B j s 12).testBit 12
section
variable {A B : Nat → Nat} {j m s : Nat}
theorem zh_E (W : zh_W A B j m) (hs : ∀ k, s.testBit k = true → m.testBit k = true) : fs_E A B j s.testBit := fun k _ hb => by
  obtain ⟨_, _, hm, h⟩ := W
  have hk : k < 12 := by
    rcases Nat.lt_or_ge k 12 with z | z
    · exact z
    · have := hs k hb
      rw [zm_hi (n := 12) hm z] at this
      cases this
  exact ⟨(h k hk).1, (h k hk).2.1, (h k hk).2.2 (hs k hb)⟩
theorem zh_lt {n k : Nat} (hs : s < 2 ^ n) (h : s.testBit k = true) : k < n := by
  rcases Nat.lt_or_ge k n with z | z
  · exact z
  · rw [zm_hi hs z] at h
    cases h
theorem zh_lz (W : zh_W A B j m) (hs : s < 4096) : zm_lz A B j s = true ↔ fs_L A B j s.testBit :=
  zm_lz_L (by have := W.2.1; omega) fun k _ hb => by
    have := W.2.2.2 k (zh_lt (n := 12) hs hb)
    exact ⟨this.1, this.2.1⟩
theorem zh_gL (W : zh_W A B j m) {n : Nat} (hn : n ≤ 12) : fs_L A B j (zm_g A B j s n).testBit :=
  (zh_lz W (Nat.lt_of_lt_of_le (zm_g_lt n) (Nat.pow_le_pow_right (n := 2) (by decide) hn))).mp (zm_g_lz n)
theorem zh_hT (W : zh_W A B j m) (a b : Nat) : zh_h A B j m a b = true ↔ fs_h A B j (zm_g A B j m 12).testBit a b := by
  have hg : zm_g A B j m 12 < 2 ^ 12 := zm_g_lt 12
  have hL := zh_gL (s := m) W (Nat.le_refl 12)
  have hTe : (zm_g A B j m 12).testBit 12 = false := zm_hi hg (Nat.le_refl 12)
  have hS : ∀ k, k < 13 → (zm_g A B j m 12 ||| 2 ^ 12).testBit k = ((zm_g A B j m 12).testBit k || decide (k = 12)) := fun k _ => zm_or _ _ _
  have hc : ∀ k, k < 13 → (zm_g A B j m 12).testBit k = true → zi_u A 12 a k = A k ∧ zi_u B 12 b k = B k := fun k _ hb => by
    have := zh_lt hg hb
    exact ⟨zi_un (by omega), zi_un (by omega)⟩
  have hL' : fs_L (zi_u A 12 a) (zi_u B 12 b) j (zm_g A B j m 12).testBit := fun G hG => by
    rw [fs_in_cong hc G]
    exact hL G hG
  have ht : ∀ G, fs_t (zi_u A 12 a) (zi_u B 12 b) j (zm_g A B j m 12).testBit G ↔ fs_t A B j (zm_g A B j m 12).testBit G := fun G => by
    unfold fs_t
    rw [fs_in_cong hc G]
  have key : a < j → b < j → (zm_lz (zi_u A 12 a) (zi_u B 12 b) j (zm_g A B j m 12 ||| 2 ^ 12) = true ↔ fs_L (zi_u A 12 a) (zi_u B 12 b) j (zm_g A B j m 12 ||| 2 ^ 12).testBit) := fun ha hb =>
    zm_lz_L (by have := W.2.1; omega) fun k hk hkb => by
      by_cases e : k = 12
      · rw [e, zi_us, zi_us]
        exact ⟨ha, hb⟩
      · rw [zi_un e, zi_un e]
        have := W.2.2.2 k (by omega)
        exact ⟨this.1, this.2.1⟩
  unfold zh_h fs_h
  simp only [Bool.and_eq_true, decide_eq_true_eq, Bool.not_eq_true']
  constructor
  · rintro ⟨⟨h1, h2, h3⟩, h4⟩
    refine ⟨h1, h2, h3, ?_⟩
    have hn : ¬ fs_L (zi_u A 12 a) (zi_u B 12 b) j (zm_g A B j m 12 ||| 2 ^ 12).testBit := fun z => by
      rw [(key h2 h3).mpr z] at h4
      cases h4
    obtain ⟨G, g1, g2, g3⟩ := fs_tight_of hL' (by decide) hTe hS hn
    rw [zi_us] at g2 g3
    exact ⟨G, (ht G).mp g1, g2, g3⟩
  · rintro ⟨h1, h2, h3, G, g1, g2, g3⟩
    refine ⟨⟨h1, h2, h3⟩, zm_nf fun z => ?_⟩
    refine fs_of_tight (by decide) hTe hS ((ht G).mpr g1) ?_ ?_ ((key h2 h3).mp z)
    · rw [zi_us]
      exact g2
    · rw [zi_us]
      exact g3
theorem zh_1 (a b : Nat) (h : zh_h A B j m a b = true) : a ≠ b ∧ a < j ∧ b < j := by
  unfold zh_h at h
  simp only [Bool.and_eq_true, decide_eq_true_eq] at h
  exact ⟨h.1.1, h.1.2.1, h.1.2.2⟩
theorem zh_2 (W : zh_W A B j m) (a b : Nat) (h : zh_h A B j m a b = true) : zh_h A B j m b a = true := by
  rw [zh_hT W] at h ⊢
  exact fs_hs h
theorem zh_4 (W : zh_W A B j m) (a b c d : Nat) (h1 : zh_h A B j m a b = true) (h2 : zh_h A B j m a c = true) (h3 : zh_h A B j m b c = true) (h4 : zh_h A B j m a d = true) (h5 : zh_h A B j m b d = true) (hcd : c ≠ d) : zh_h A B j m c d = true := by
  rw [zh_hT W] at h1 h2 h3 h4 h5 ⊢
  exact fs_k4 (zh_gL W (Nat.le_refl 12)) (zh_E W fun k hk => (zm_g_bit 12 k hk).2) h1 h2 h3 h4 h5 hcd
theorem zh_xy (W : zh_W A B j m) : zb_x (zh_h A B j m) j = zb_y (zh_h A B j m) j :=
  zb_xy W.2.1 zh_1 (zh_2 W) (zh_4 W)
theorem zh_g13 (hs : s < 4096) : zm_g A B j s 13 = zm_g A B j s 12 := zm_g_f1 (zm_hi (n := 12) hs (Nat.le_refl 12))
theorem zh_rk13 (hs : s < 4096) : fc_n (zm_g A B j s 13).testBit 13 = zh_rk A B j s := by
  rw [zh_g13 hs]
  exact zm_cut (by decide) fun i h1 _ => zm_hi (zm_g_lt 12) h1
/-- the rank with the bar that is only thought of, against the rank -/
theorem zh_hr (W : zh_W A B j m) (a b : Nat) : fc_n (zm_g (zi_u A 12 a) (zi_u B 12 b) j (m ||| 2 ^ 12) 13).testBit 13 = fc_n (zm_g (zi_u A 12 a) (zi_u B 12 b) j m 13).testBit 13 ↔ zm_lz (zi_u A 12 a) (zi_u B 12 b) j (zm_g A B j m 12 ||| 2 ^ 12) = false := by
  have hm := W.2.2.1
  have e1 : zm_g (zi_u A 12 a) (zi_u B 12 b) j m 12 = zm_g A B j m 12 := zm_g_cong (by decide) (fun k hk _ => ⟨zi_un (by omega), zi_un (by omega)⟩) (fun _ _ => rfl)
  have e2 : zm_g (zi_u A 12 a) (zi_u B 12 b) j (m ||| 2 ^ 12) 12 = zm_g A B j m 12 := zm_g_cong (by decide) (fun k hk _ => ⟨zi_un (by omega), zi_un (by omega)⟩) (fun k hk => by rw [zm_or, decide_eq_false (by omega), Bool.or_false])
  rw [zh_g13 hm, e1]
  have hTe : (zm_g A B j m 12).testBit 12 = false := zm_hi (zm_g_lt 12) (Nat.le_refl 12)
  cases hz : zm_lz (zi_u A 12 a) (zi_u B 12 b) j (zm_g A B j m 12 ||| 2 ^ 12)
  · rw [zm_g_f2 (by rw [e2]; exact hz), e2]
    exact ⟨fun _ => rfl, fun _ => rfl⟩
  · rw [zm_g_t (by rw [zm_or, fc_dt, Bool.or_true]) (by rw [e2]; exact hz), e2, fc_more (p := (zm_g A B j m 12).testBit) (a := 12) (by decide) hTe (fun i _ => zm_or _ _ _)]
    exact ⟨fun z => absurd z (by omega), fun z => by cases z⟩
end
/-- redundant -/
noncomputable def zh_rd (A B : Nat → Nat) (j m k : Nat) : Bool := m.testBit k && decide (zh_rk A B j (zi_c m k) = zh_rk A B j m)
/-- ring -/
noncomputable def zh_rg (A B : Nat → Nat) (j fr k : Nat) : Nat → Nat
  | 0 => 2 ^ k
  | f + 1 => if (fr.testBit f && zm_lz A B j (zi_c fr f ||| 2 ^ k)) = true then zh_rg A B j fr k f ||| 2 ^ f else zh_rg A B j fr k f
theorem zh_rg_t {A B : Nat → Nat} {j fr k f : Nat} (h1 : fr.testBit f = true) (h2 : zm_lz A B j (zi_c fr f ||| 2 ^ k) = true) : zh_rg A B j fr k (f + 1) = zh_rg A B j fr k f ||| 2 ^ f := by
  show (if _ then _ else _) = _
  rw [if_pos (by rw [h1, h2]; rfl)]
theorem zh_rg_f1 {A B : Nat → Nat} {j fr k f : Nat} (h1 : fr.testBit f = false) : zh_rg A B j fr k (f + 1) = zh_rg A B j fr k f := by
  show (if _ then _ else _) = _
  rw [if_neg (by rw [h1]; simp)]
theorem zh_rg_f2 {A B : Nat → Nat} {j fr k f : Nat} (h2 : zm_lz A B j (zi_c fr f ||| 2 ^ k) = false) : zh_rg A B j fr k (f + 1) = zh_rg A B j fr k f := by
  show (if _ then _ else _) = _
  rw [if_neg (by rw [h2]; simp)]
end
section
/-! the reference's further methods, over a frame of j joints with the bars m -/
def zy_T (m : Nat) (th : Nat → Int32) : Prop := ∀ k, k < 12 → th k = nI (m.testBit k).toNat
def zy_A (A B : Nat → Nat) (as bs : Nat → Int32) : Prop := ∀ k, k < 12 → as k = nI (A k) ∧ bs k = nI (B k)
section
variable {th as bs : Nat → Int32} {A B : Nat → Nat} {j m : Nat}
theorem zy_hA (W : zh_W A B j m) (hA : zy_A A B as bs) {s : Nat} (hs : s < 4096) : ∀ k, k < 13 → s.testBit k = true → as k = nI (A k) ∧ bs k = nI (B k) ∧ A k < 6 ∧ B k < 6 := fun k _ hb => by
  have hk := zh_lt (n := 12) hs hb
  obtain ⟨a1, a2⟩ := hA k hk
  obtain ⟨b1, b2, _⟩ := W.2.2.2 k hk
  have := W.2.1
  exact ⟨a1, a2, by omega, by omega⟩
theorem zy_rank {post : Int32 → Prop} (W : zh_W A B j m) (hA : zy_A A B as bs) {s : Nat} (hs : s < 4096) (h : post (nI (zh_rk A B j s))) : wpY_rankOf post (nI j, th, as, bs) (nI s) := by
  refine zy_rankOf (A := A) (B := B) W.2.1 (by omega) (zy_hA W hA hs) ?_
  rw [zh_rk13 hs]
  exact h
theorem zy_frame {post : Int32 → Prop} (W : zh_W A B j m) (hT : zy_T m th) (hA : zy_A A B as bs) (h : post (nI (zm_g A B j m 12))) : wpY_frame post (nI j, th, as, bs) := by
  have hm := W.2.2.1
  refine zy_bars hm hT (zy_taken (A := A) (B := B) W.2.1 (by omega) (zy_hA W hA hm) ?_)
  rw [zh_g13 hm]
  exact h
theorem zy_held {post : Int32 → SY → Prop} (W : zh_W A B j m) (hT : zy_T m th) (hA : zy_A A B as bs) {a b : Nat} (ha : a < 2 ^ 31) (hb : b < 2 ^ 31) (h : ∀ as' bs', zy_A A B as' bs' → post (nI (zh_h A B j m a b).toNat) (nI j, th, as', bs')) : wpY_held post (nI j, th, as, bs) (nI a) (nI b) := by
  have hm := W.2.2.1
  have hj := W.2.1
  have no : zh_h A B j m a b = false → post 0 (nI j, th, as, bs) := fun e => by
    have := h as bs hA
    rw [e] at this
    exact this
  refine pk_eq a b (fun e => no ?_) (fun hne => zy_joint ha hj (zi_t (fun z => no ?_) (fun z => zy_joint hb hj (zi_t (fun y => no ?_) (fun y => nm_e (nm_e (zy_bars hm hT ?_))))))) rfl rfl ha hb
  · unfold zh_h
    rw [e]
    simp
  · unfold zh_h
    rw [z]
    simp
  · unfold zh_h
    rw [y]
    simp
  · rw [decide_eq_true_eq] at y z
    have hA' : zy_A A B (upd as 12 (nI a)) (upd bs 12 (nI b)) := fun k hk => by
      rw [pk_un (by omega), pk_un (by omega)]
      exact hA k hk
    have hB : ∀ s, s < 2 ^ 13 → ∀ k, k < 13 → s.testBit k = true → upd as 12 (nI a) k = nI (zi_u A 12 a k) ∧ upd bs 12 (nI b) k = nI (zi_u B 12 b k) ∧ zi_u A 12 a k < 6 ∧ zi_u B 12 b k < 6 := by
      intro s _ k hk _
      by_cases e : k = 12
      · rw [e, pk_us, pk_us, zi_us, zi_us]
        exact ⟨rfl, rfl, by omega, by omega⟩
      · rw [zi_un e, zi_un e, (hA' k (by omega)).1, (hA' k (by omega)).2]
        obtain ⟨b1, b2, _⟩ := W.2.2.2 k (by omega)
        exact ⟨rfl, rfl, by omega, by omega⟩
    rw [show nI m ||| 4096 = nI (m ||| 2 ^ 12) from zi_or m 4096]
    have hm2 : m ||| 2 ^ 12 < 2 ^ 13 := zm_orlt (by omega) (by decide)
    refine zy_rankOf (A := zi_u A 12 a) (B := zi_u B 12 b) hj hm2 (hB _ hm2) (zy_rankOf (A := zi_u A 12 a) (B := zi_u B 12 b) hj (by omega) (hB _ (by omega)) ?_)
    have hr := zh_hr W a b
    have hv := h _ _ hA'
    have b1 := fc_n_le (zm_g (zi_u A 12 a) (zi_u B 12 b) j (m ||| 2 ^ 12) 13).testBit 13
    have b2 := fc_n_le (zm_g (zi_u A 12 a) (zi_u B 12 b) j m 13).testBit 13
    refine pk_eq (fc_n (zm_g (zi_u A 12 a) (zi_u B 12 b) j (m ||| 2 ^ 12) 13).testBit 13) (fc_n (zm_g (zi_u A 12 a) (zi_u B 12 b) j m 13).testBit 13) (fun e => ?_) (fun e => ?_) rfl rfl (by omega) (by omega)
    · have e2 : zh_h A B j m a b = true := by
        unfold zh_h
        rw [hr.mp e]
        simp [hne, y, z]
      rw [e2] at hv
      exact hv
    · have e2 : zh_h A B j m a b = false := by
        unfold zh_h
        rw [zm_nt fun w => e (hr.mpr w)]
        simp
      rw [e2] at hv
      exact hv
theorem zy_heldTo {post : Int32 → SY → Prop} (W : zh_W A B j m) (hT : zy_T m th) (hA : zy_A A B as bs) {a : Nat} (ha : a < j) (h : ∀ as' bs', zy_A A B as' bs' → post (nI (zb_hm (zh_h A B j m) a j)) (nI j, th, as', bs')) : wpY_heldTo post (nI j, th, as, bs) (nI a) := by
  have hj := W.2.1
  have L : ∀ d i, i + d = j → ∀ as bs, zy_A A B as bs → wY_heldTo_18 post (nI a) (d + 1) (nI (zb_hm (zh_h A B j m) a i)) (nI i) (nI j) th as bs := by
    intro d
    induction d with
    | zero =>
      intro i hi as bs hA
      obtain rfl : i = j := by omega
      exact br_t (nI_le (Nat.le_refl _) (by omega)) (h as bs hA)
    | succ d ih =>
      intro i hi as bs hA
      refine br_f (nI_ge (by omega) (by omega)) (zy_joint (by omega) hj ?_)
      rw [decide_eq_true ha]
      refine br_f (by decide) (zy_held W hT hA (by omega) (by omega) fun as' bs' hA' => ?_)
      have h1 := ih (i + 1) (by omega) as' bs' hA'
      refine zi_t (fun z => ?_) (fun z => ?_)
      · rw [show zb_hm (zh_h A B j m) a (i + 1) = zb_hm (zh_h A B j m) a i from if_neg (by rw [z]; decide)] at h1
        exact nm_r (nI_1 i) h1
      · rw [show zb_hm (zh_h A B j m) a (i + 1) = zb_hm (zh_h A B j m) a i ||| 2 ^ i from if_pos z] at h1
        exact nm_r (zi_osh (by omega)) (nm_r (nI_1 i) h1)
  unfold wpY_heldTo
  dsimp only
  refine zy_joint (a := a) (by omega) hj ?_
  rw [decide_eq_true ha]
  exact br_f (by decide) (nm_r (zi_sh (by omega)) ⟨j + 1, L j 0 (Nat.zero_add j) as bs hA⟩)
theorem zy_body {post : Int32 → SY → Prop} (W : zh_W A B j m) (hT : zy_T m th) (hA : zy_A A B as bs) {g : Nat} (hg : g < 64) (h : ∀ as' bs', zy_A A B as' bs' → post (nI (zb_bd (zh_h A B j m) j g).toNat) (nI j, th, as', bs')) : wpY_body post (nI j, th, as, bs) (nI g) := by
  have hj := W.2.1
  have hp := zi_pow hj
  have F : zb_bd (zh_h A B j m) j g = false → ∀ n c as bs, zy_A A B as bs → wY_body_18 post (nI g) (n + 1) 0 (nI c) (nI j) th as bs := by
    intro e n c as bs hA
    have h1 := h as bs hA
    rw [e] at h1
    exact br_c (fun _ => ⟨narrow_b0, h1⟩) (fun _ => br_t rfl ⟨narrow_b0, h1⟩)
  have L : g < 2 ^ j → ∀ d c, c + d = 36 → ∀ as bs, zy_A A B as bs → (∀ c', c' < c → c' / 6 < c' % 6 → g.testBit (c' / 6) = true → g.testBit (c' % 6) = true → zh_h A B j m (c' / 6) (c' % 6) = true) → wY_body_18 post (nI g) (d + 1) 1 (nI c) (nI j) th as bs := by
    intro hgj d
    induction d with
    | zero =>
      intro c hc as bs hA hk
      obtain rfl : c = 36 := by omega
      have h1 := h as bs hA
      have hbd : zb_body (zh_h A B j m) j g := ⟨hgj, fun a b hab ga gb => by
        have b6 := zh_lt (n := 6) hg gb
        have e1 : (6 * a + b) / 6 = a := by omega
        have e2 : (6 * a + b) % 6 = b := by omega
        have := hk (6 * a + b) (by omega)
        rw [e1, e2] at this
        exact this hab ga gb⟩
      rw [zb_bdT.mpr hbd] at h1
      exact br_t (nI_le (a := 36) (b := 36) (by decide) (by decide)) ⟨narrow_b1, h1⟩
    | succ d ih =>
      intro c hc as bs hA hk
      have hd : nI c / 6 = nI (c / 6) := pk_div (d := 6) (by omega) (by decide) (by decide)
      have hr : nI c - nI c / 6 * 6 = nI (c % 6) := pk_rem (d := 6) (by omega) (by decide) (by decide)
      refine br_f (nI_ge (b := 36) (by omega) (by decide)) (br_f (by decide) ⟨by decide, nm_r hd ⟨by decide, nm_r hr ?_⟩⟩)
      have go : (c / 6 < c % 6 → g.testBit (c / 6) = true → g.testBit (c % 6) = true → zh_h A B j m (c / 6) (c % 6) = true) → ∀ as bs, zy_A A B as bs → wY_body_18 post (nI g) (d + 1) 1 (nI (c + 1)) (nI j) th as bs := fun hc' as bs hA => ih (c + 1) (by omega) as bs hA (lt_s hk hc')
      refine pk_le (c % 6) (c / 6) (fun z => ?_) (fun z => ?_) rfl rfl (by omega) (by omega)
      · exact br_t rfl (nm_r (nI_1 c) (go (fun y => absurd y (by omega)) as bs hA))
      · refine zi_o (by omega) (by omega) (fun ga => ?_) (fun ga => ?_)
        · refine zi_o (by omega) (by omega) (fun gb => ?_) (fun gb => ?_)
          · refine br_f (by decide) (zy_held W hT hA (by omega) (by omega) fun as' bs' hA' => zi_t (fun y => ?_) (fun y => ?_))
            · refine nm_r (nI_1 c) (F (zm_nf fun w => ?_) d (c + 1) as' bs' hA')
              rw [(zb_bdT.mp w).2 _ _ z ga gb] at y
              cases y
            · exact nm_r (nI_1 c) (go (fun _ _ _ => y) as' bs' hA')
          · exact br_t rfl (nm_r (nI_1 c) (go (fun _ _ w => by rw [gb] at w; cases w) as bs hA))
        · exact br_t rfl (nm_r (nI_1 c) (go (fun _ w _ => by rw [ga] at w; cases w) as bs hA))
  by_cases e : g < 2 ^ j
  · exact br_f (by rw [zi_sh (by omega)]; exact nI_ge e (by omega)) ⟨37, L e 36 0 rfl as bs hA lt_0⟩
  · exact br_t (by rw [zi_sh (by omega)]; exact nI_le (by omega) (by omega)) ⟨1, F (zm_nf fun w => e (zb_bdT.mp w).1) 0 0 as bs hA⟩
theorem zy_b40 {post : Int32 → SY → Prop} {J : Int32 → Int32 → Int32 → (Nat → Int32) → (Nat → Int32) → (Nat → Int32) → Prop} (W : zh_W A B j m) (hT : zy_T m th) {g c : Nat} (hg : g < 2 ^ j) (K : ∀ as bs, zy_A A B as bs → J (nI (c + (zb_top (zh_h A B j m) j g).toNat)) (nI (g + 1)) (nI j) th as bs) : (zb_top (zh_h A B j m) j g = false → ∀ n z as bs, zy_A A B as bs → wY_bodies_40 post J (nI c) (nI g) (n + 1) 0 (nI z) (nI j) th as bs) ∧ (3 ≤ fc_n g.testBit 13 → zb_body (zh_h A B j m) j g → ∀ d z, z + d = j → ∀ as bs, zy_A A B as bs → (∀ z', z' < z → g.testBit z' = false → ¬ zb_body (zh_h A B j m) j (g ||| 2 ^ z')) → wY_bodies_40 post J (nI c) (nI g) (d + 1) 1 (nI z) (nI j) th as bs) := by
  have hj := W.2.1
  have hp := zi_pow hj
  have F : zb_top (zh_h A B j m) j g = false → ∀ n z as bs, zy_A A B as bs → wY_bodies_40 post J (nI c) (nI g) (n + 1) 0 (nI z) (nI j) th as bs := by
    intro e n z as bs hA
    have h1 := K as bs hA
    rw [e] at h1
    exact br_c (fun _ => br_t rfl (nm_r (nI_1 g) h1)) (fun _ => br_t rfl (br_t rfl (nm_r (nI_1 g) h1)))
  refine ⟨F, fun h3 hbd d => ?_⟩
  induction d with
  | zero =>
    intro z hz as bs hA hk
    obtain rfl : z = j := by omega
    have h1 := K as bs hA
    rw [zb_topT.mpr ⟨h3, hbd, hk⟩] at h1
    exact br_t (nI_le (Nat.le_refl _) (by omega)) (br_f (by decide) (nm_r (nI_1 c) (nm_r (nI_1 g) h1)))
  | succ d ih =>
    intro z hz as bs hA hk
    refine br_f (nI_ge (by omega) (by omega)) (br_f (by decide) (zi_o (by omega) (by omega) (fun gz => ?_) (fun gz => ?_)))
    · exact nm_r (nI_1 z) (ih (z + 1) (by omega) as bs hA (lt_s hk fun w => by rw [gz] at w; cases w))
    · rw [zi_osh (by omega)]
      have hlt : g ||| 2 ^ z < 2 ^ j := zm_orlt hg (by omega)
      refine zy_body W hT hA (by omega) fun as' bs' hA' => zi_t (fun y => ?_) (fun y => ?_)
      · exact nm_r (nI_1 z) (ih (z + 1) (by omega) as' bs' hA' (lt_s hk fun _ w => by rw [zb_bdT.mpr w] at y; cases y))
      · refine nm_r (nI_1 z) (F (zm_nf fun w => ?_) d (z + 1) as' bs' hA')
        exact (zb_topT.mp w).2.2 z (by omega) gz (zb_bdT.mp y)
theorem zy_bodies {post : Int32 → SY → Prop} (W : zh_W A B j m) (hT : zy_T m th) (hA : zy_A A B as bs) (h : ∀ as' bs', zy_A A B as' bs' → post (nI (zb_y (zh_h A B j m) j)) (nI j, th, as', bs')) : wpY_bodies post (nI j, th, as, bs) := by
  have hj := W.2.1
  have hp := zi_pow hj
  have L : ∀ n g, g ≤ 2 ^ j → 2 ^ j < n + g → ∀ as bs, zy_A A B as bs → wY_bodies_4 post n (nI (fc_n (zb_top (zh_h A B j m) j) g)) (nI g) (nI j) th as bs := by
    intro n
    induction n with
    | zero =>
      intro g h1 h2
      omega
    | succ n ih =>
      intro g h1 h2 as bs hA
      by_cases e : g = 2 ^ j
      · have h3 := h as bs hA
        rw [e]
        exact br_t (by rw [zi_sh (by omega)]; exact nI_le (Nat.le_refl _) (by omega)) h3
      · have hlt : g < 2 ^ j := by omega
        obtain ⟨b0, b1⟩ := zy_b40 (post := post) (J := wY_bodies_4 post n) (c := fc_n (zb_top (zh_h A B j m) j) g) W hT hlt (fun as bs hA => ih (g + 1) (by omega) (by omega) as bs hA)
        refine br_f (by rw [zi_sh (by omega)]; exact nI_ge hlt (by omega)) (zy_count (x := g) (by omega) ?_)
        have b2 := fc_n_le g.testBit 13
        refine pk_lt (fc_n g.testBit 13) 3 (fun z => ?_) (fun z => ?_) rfl rfl (by omega) (by decide)
        · exact ⟨1, b0 (zm_nf fun w => by have := (zb_topT.mp w).1; omega) 0 0 as bs hA⟩
        · refine zy_body W hT hA (by omega) fun as' bs' hA' => zi_t (fun y => ?_) (fun y => ?_)
          · exact ⟨1, b0 (zm_nf fun w => by rw [zb_bdT.mpr (zb_topT.mp w).2.1] at y; cases y) 0 0 as' bs' hA'⟩
          · exact ⟨j + 1, b1 z (zb_bdT.mp y) j 0 (Nat.zero_add j) as' bs' hA' lt_0⟩
  exact ⟨2 ^ j + 1, L (2 ^ j + 1) 0 (Nat.zero_le _) (by omega) as bs hA⟩
end
end
section
/-! the reference: rank, freedom, redundant, ring, doublyHeld -/
/-- freedom as both reckon it -/
noncomputable def zh_fd (A B : Nat → Nat) (j m : Nat) : Int32 := ((2 * nI j) - 3) - nI (zh_rk A B j m)
noncomputable def zh_rigid (A B : Nat → Nat) (j m : Nat) : Bool := decide (zh_fd A B j m = 0)
def zh_dh (A B : Nat → Nat) (j m : Nat) : Prop := zh_rigid A B j m = true ∧ ∀ k, k < 12 → m.testBit k = true → zh_rd A B j m k = true
noncomputable def zh_dhb (A B : Nat → Nat) (j m : Nat) : Bool := @decide (zh_dh A B j m) (Classical.propDecidable _)
theorem zh_dhT {A B : Nat → Nat} {j m : Nat} : zh_dhb A B j m = true ↔ zh_dh A B j m := by
  unfold zh_dhb
  exact @decide_eq_true_iff _ (Classical.propDecidable _)
theorem zi_d {x y : Int32} {P : Int32 → Prop} (h : P (nI (decide (x = y)).toNat)) : (x = y → P 1) ∧ (¬ x = y → P 0) := by
  constructor
  · intro e
    rw [decide_eq_true e] at h
    exact h
  · intro e
    rw [decide_eq_false e] at h
    exact h
section
variable {th as bs : Nat → Int32} {A B : Nat → Nat} {j m : Nat} {post : Int32 → Prop}
theorem zy_freedom (W : zh_W A B j m) (hT : zy_T m th) (hA : zy_A A B as bs) (h : post (zh_fd A B j m)) : wpY_freedom post (nI j, th, as, bs) :=
  zy_bars W.2.2.1 hT (zy_rank W hA W.2.2.1 h)
theorem zy_rigid (W : zh_W A B j m) (hT : zy_T m th) (hA : zy_A A B as bs) (h : post (nI (zh_rigid A B j m).toNat)) : wpY_rigid post (nI j, th, as, bs) := by
  unfold wpY_rigid
  dsimp only
  exact zy_freedom W hT hA (zi_d (P := post) h)
theorem zy_redundant (W : zh_W A B j m) (hT : zy_T m th) (hA : zy_A A B as bs) {k : Nat} (hk : k < 12) (h : post (nI (zh_rd A B j m k).toNat)) : wpY_redundant post (nI j, th, as, bs) (nI k) := by
  have hm := W.2.2.1
  refine zy_bars hm hT (br_f (nI_pos (by omega)) (br_f (nI_ge (b := 12) hk (by decide)) ⟨vp_in_nI (by omega) (by decide), ?_⟩))
  rw [nI_clamp (n := k) (by omega), hT k hk, zi_clr (by omega)]
  have hc : zi_c m k < 4096 := Nat.lt_of_le_of_lt (zi_c_le m k) hm
  refine zi_t (fun z => ?_) (fun z => zy_rank W hA hc (zy_rank W hA hm ?_))
  · have e : zh_rd A B j m k = false := by
      unfold zh_rd
      rw [z]
      rfl
    rw [e] at h
    exact h
  · have b1 : zh_rk A B j (zi_c m k) ≤ 12 := fc_n_le _ 12
    have b2 : zh_rk A B j m ≤ 12 := fc_n_le _ 12
    unfold zh_rd at h
    rw [z, Bool.true_and] at h
    refine pk_eq (zh_rk A B j (zi_c m k)) (zh_rk A B j m) (fun e => ?_) (fun e => ?_) rfl rfl (by omega) (by omega)
    · rw [decide_eq_true e] at h
      exact h
    · rw [decide_eq_false e] at h
      exact h
theorem zy_ring (W : zh_W A B j m) (hT : zy_T m th) (hA : zy_A A B as bs) {k : Nat} (hk : k < 12) (h : post (if (m.testBit k && !(zm_g A B j m 12).testBit k) = true then nI (zh_rg A B j (zm_g A B j m 12) k 12) else 0)) : wpY_ring post (nI j, th, as, bs) (nI k) := by
  have hm := W.2.2.1
  have hg : zm_g A B j m 12 < 2 ^ 12 := zm_g_lt 12
  refine zy_frame W hT hA (br_f (nI_pos (by omega)) (br_f (nI_nlt (a := 11) (b := k) (by omega) (by decide)) ⟨vp_in_nI (by omega) (by decide), ?_⟩))
  rw [nI_clamp (n := k) (by omega), hT k hk]
  refine zi_t (fun z => ?_) (fun z => zi_o (by omega) (by omega) (fun y => ?_) (fun y => nm_r (zi_sh (by omega)) ?_))
  · rw [z, if_neg (by simp)] at h
    exact h
  · rw [y, if_neg (by simp)] at h
    exact h
  · rw [y, z, if_pos (by decide)] at h
    have L : ∀ d i, i + d = 12 → wY_ring_42 post (nI k) (nI (zm_g A B j m 12)) (nI j) th as bs (d + 1) (nI (zh_rg A B j (zm_g A B j m 12) k i)) (nI i) := by
      intro d
      induction d with
      | zero =>
        intro i hi
        obtain rfl : i = 12 := by omega
        exact br_t (nI_le (a := 12) (b := 12) (by decide) (by decide)) h
      | succ d ih =>
        intro i hi
        have h1 := ih (i + 1) (by omega)
        refine br_f (nI_ge (b := 12) (by omega) (by decide)) (zi_o (by omega) (by omega) (fun hb => ?_) (fun hb => ?_))
        · rw [zi_clr (by omega), zi_osh (by omega)]
          have hs : zi_c (zm_g A B j m 12) i ||| 2 ^ k < 2 ^ 12 := zm_orlt (Nat.lt_of_le_of_lt (zi_c_le _ _) hg) hk
          refine zy_loose (A := A) (B := B) W.2.1 (by omega) (zy_hA W hA hs) (zi_t (fun w => ?_) (fun w => ?_))
          · rw [zh_rg_f2 w] at h1
            exact br_t rfl (nm_r (nI_1 i) h1)
          · rw [zh_rg_t hb w] at h1
            exact br_f (by decide) (nm_r (zi_osh (by omega)) (nm_r (nI_1 i) h1))
        · rw [zh_rg_f1 hb] at h1
          exact br_t rfl (nm_r (nI_1 i) h1)
    exact ⟨13, L 12 0 rfl⟩
theorem zy_doublyHeld (W : zh_W A B j m) (hT : zy_T m th) (hA : zy_A A B as bs) (h : post (nI (zh_dhb A B j m).toNat)) : wpY_doublyHeld post (nI j, th, as, bs) := by
  have F : zh_dhb A B j m = false → ∀ d i, i + d = 12 → wY_doublyHeld_7 post (nI j) th as bs (d + 1) 0 (nI i) := by
    intro e d
    rw [e] at h
    induction d with
    | zero =>
      intro i hi
      obtain rfl : i = 12 := by omega
      exact br_t (nI_le (a := 12) (b := 12) (by decide) (by decide)) ⟨narrow_b0, h⟩
    | succ d ih =>
      intro i hi
      exact br_f (nI_ge (b := 12) (by omega) (by decide)) (br_t rfl (nm_r (nI_1 i) (ih (i + 1) (by omega))))
  have L : zh_rigid A B j m = true → ∀ d i, i + d = 12 → (∀ k, k < i → m.testBit k = true → zh_rd A B j m k = true) → wY_doublyHeld_7 post (nI j) th as bs (d + 1) 1 (nI i) := by
    intro hr d
    induction d with
    | zero =>
      intro i hi hk
      obtain rfl : i = 12 := by omega
      rw [zh_dhT.mpr ⟨hr, hk⟩] at h
      exact br_t (nI_le (a := 12) (b := 12) (by decide) (by decide)) ⟨narrow_b1, h⟩
    | succ d ih =>
      intro i hi hk
      refine br_f (nI_ge (b := 12) (by omega) (by decide)) (br_f (by decide) ⟨vp_in_nI (by omega) (by decide), ?_⟩)
      rw [nI_clamp (n := i) (by omega), hT i (by omega)]
      refine zi_t (fun z => ?_) (fun z => zy_redundant W hT hA (by omega) (zi_t (fun y => ?_) (fun y => ?_)))
      · exact nm_r (nI_1 i) (ih (i + 1) (by omega) (lt_s hk fun w => by rw [z] at w; cases w))
      · refine nm_r (nI_1 i) (F (zm_nf fun w => ?_) d (i + 1) (by omega))
        rw [(zh_dhT.mp w).2 i (by omega) z] at y
        cases y
      · exact nm_r (nI_1 i) (ih (i + 1) (by omega) (lt_s hk fun _ => y))
  unfold wpY_doublyHeld
  dsimp only
  refine zy_rigid W hT hA ?_
  cases hr : zh_rigid A B j m
  · exact ⟨13, F (zm_nf fun w => by rw [(zh_dhT.mp w).1] at hr; cases hr) 12 0 rfl⟩
  · exact ⟨13, L hr 12 0 rfl lt_0⟩
end
end
section
/-! the pebble game, without the machine -/
theorem zx_dc (a b : Nat) : decide (a = b) = decide (b = a) := by
  by_cases e : a = b
  · rw [e]
  · rw [decide_eq_false e, decide_eq_false (fun z => e z.symm)]
section
variable {A B F O P : Nat → Nat} {T : Nat → Bool}
/-- turning bar q around -/
theorem zx_flipO (hO : fs_O A B F O T) {q : Nat} (hq : q < 13) (hT : T q = true) : fs_O A B (zi_u F q (O q)) (zi_u O q (F q)) T := fun k hk hb => by
  by_cases e : k = q
  · rw [e, zi_us, zi_us]
    rcases hO q hq hT with ⟨x, y⟩ | ⟨x, y⟩
    · exact Or.inr ⟨y, x⟩
    · exact Or.inl ⟨y, x⟩
  · rw [zi_un e, zi_un e]
    exact hO k hk hb
theorem zx_selD {q : Nat} (hq : q < 13) (c : Nat) : fc_s (fun k => (decide (k = q)).toNat * c) 13 = c :=
  fc_sing0 hq _ _ (by show (decide (q = q)).toNat * c = c; rw [fc_dt]; exact Nat.one_mul _) (fun i _ hne => by show (decide (i = q)).toNat * c = 0; rw [decide_eq_false hne]; exact Nat.zero_mul _)
theorem zx_flipD {q : Nat} (hq : q < 13) (hT : T q = true) (v : Nat) : fs_D (zi_u F q (O q)) T v + (decide (v = F q)).toNat = fs_D F T v + (decide (v = O q)).toNat := by
  have e : fc_s (fun k => (T k && decide (zi_u F q (O q) k = v)).toNat + (decide (k = q)).toNat * (decide (v = F q)).toNat) 13 = fc_s (fun k => (T k && decide (F k = v)).toNat + (decide (k = q)).toNat * (decide (v = O q)).toNat) 13 := fc_eq fun k hk => by
    show (T k && decide (zi_u F q (O q) k = v)).toNat + (decide (k = q)).toNat * (decide (v = F q)).toNat = (T k && decide (F k = v)).toNat + (decide (k = q)).toNat * (decide (v = O q)).toNat
    by_cases z : k = q
    · rw [z, zi_us, hT, fc_dt, Bool.true_and, Bool.true_and, show true.toNat = 1 from rfl, Nat.one_mul, Nat.one_mul, zx_dc (O q) v, zx_dc (F q) v]
      exact Nat.add_comm _ _
    · rw [zi_un z, decide_eq_false z, show false.toNat = 0 from rfl, Nat.zero_mul, Nat.zero_mul]
  rw [fc_add, fc_add, zx_selD hq, zx_selD hq] at e
  exact e
/-- a new bar q from x -/
theorem zx_newD {T' : Nat → Bool} {q x : Nat} (hq : q < 13) (hT : T q = false) (hT' : ∀ k, k < 13 → T' k = (T k || decide (k = q))) (v : Nat) : fs_D (zi_u F q x) T' v = fs_D F T v + (decide (v = x)).toNat := by
  have e : fc_s (fun k => (T' k && decide (zi_u F q x k = v)).toNat) 13 = fc_s (fun k => (T k && decide (F k = v)).toNat + (decide (k = q)).toNat * (decide (v = x)).toNat) 13 := fc_eq fun k hk => by
    show (T' k && decide (zi_u F q x k = v)).toNat = (T k && decide (F k = v)).toNat + (decide (k = q)).toNat * (decide (v = x)).toNat
    rw [hT' k hk]
    by_cases z : k = q
    · rw [z, zi_us, hT, fc_dt, Bool.false_or, Bool.true_and, Bool.false_and, show true.toNat = 1 from rfl, show false.toNat = 0 from rfl, Nat.one_mul, Nat.zero_add, zx_dc x v]
    · rw [zi_un z, decide_eq_false z, show false.toNat = 0 from rfl, Nat.zero_mul, Bool.or_false, Nat.add_zero]
  rw [fc_add, zx_selD hq] at e
  exact e
end
/-- the search from joint a: e joints are in line, re is the set of them; each but a was reached by a bar from an earlier one -/
def zx_B (T : Nat → Bool) (F O : Nat → Nat) (a e re : Nat) (bY ln : Nat → Int32) : Prop :=
  fc_n re.testBit 6 = e ∧ re < 64 ∧ re.testBit a = true ∧ (∀ i, i < e → ∃ v, v < 6 ∧ ln i = nI v ∧ re.testBit v = true) ∧ (∀ v, v < 6 → re.testBit v = true → ∃ i, i < e ∧ ln i = nI v) ∧ (∃ d : Nat → Nat, ∀ v, v < 6 → re.testBit v = true → d v < e ∧ (v ≠ a → ∃ q, q < 12 ∧ bY v = nI q ∧ T q = true ∧ O q = v ∧ re.testBit (F q) = true ∧ d (F q) < d v))
/-- the first k in line are done with -/
def zx_D (T : Nat → Bool) (F O P : Nat → Nat) (a b k re : Nat) (ln : Nat → Int32) : Prop := ∀ i, i < k → ∀ v, v < 6 → ln i = nI v → (v = a ∨ v = b ∨ P v = 0) ∧ ∀ q, q < 12 → T q = true → F q = v → re.testBit (O q) = true
section
variable {F O P : Nat → Nat} {T : Nat → Bool} {a b e re k : Nat} {bY ln : Nat → Int32}
theorem zx_B0 (ha : a < 6) (hl : ln 0 = nI a) : zx_B T F O a 1 (2 ^ a) bY ln := by
  have hb : ∀ i, (2 ^ a).testBit i = decide (i = a) := fun i => by rw [Nat.testBit_two_pow, zx_dc]
  refine ⟨?_, (show 2 ^ a < 2 ^ 6 from Nat.pow_lt_pow_right (by decide) ha), by rw [hb, fc_dt], ?_, ?_, fun _ => 0, ?_⟩
  · exact (fc_cong fun i _ => hb i).trans (fc_sing ha)
  · intro i hi
    obtain rfl : i = 0 := by omega
    exact ⟨a, ha, hl, by rw [hb, fc_dt]⟩
  · intro v _ hv
    rw [hb, decide_eq_true_eq] at hv
    exact ⟨0, by decide, by rw [hv]; exact hl⟩
  · intro v _ hv
    rw [hb, decide_eq_true_eq] at hv
    exact ⟨Nat.zero_lt_one, fun z => absurd hv z⟩
theorem zx_e6 (hB : zx_B T F O a e re bY ln) : e ≤ 6 := by
  have := fc_n_le re.testBit 6
  rw [hB.1] at this
  exact this
theorem zx_ins (hB : zx_B T F O a e re bY ln) {q v w : Nat} (hq : q < 12) (hT : T q = true) (hF : F q = v) (hO : O q = w) (hv6 : v < 6) (hv : re.testBit v = true) (hw : w < 6) (hn : re.testBit w = false) : zx_B T F O a (e + 1) (re ||| 2 ^ w) (upd bY w (nI q)) (upd ln e (nI w)) := by
  obtain ⟨b1, b2, b3, b4, b5, d, b6⟩ := hB
  have hvw : v ≠ w := fun z => by
    rw [z, hn] at hv
    cases hv
  refine ⟨by rw [fc_more hw hn (fun i _ => zm_or _ _ _), b1], zm_orlt (n := 6) b2 hw, by rw [zm_or, b3]; rfl, ?_, ?_, zi_u d w e, ?_⟩
  · intro i hi
    by_cases z : i = e
    · exact ⟨w, hw, by rw [z, pk_us], by rw [zm_or, fc_dt, Bool.or_true]⟩
    · obtain ⟨x, x1, x2, x3⟩ := b4 i (by omega)
      exact ⟨x, x1, by rw [pk_un z]; exact x2, by rw [zm_or, x3]; rfl⟩
  · intro x hx hr
    by_cases z : x = w
    · exact ⟨e, by omega, by rw [pk_us, z]⟩
    · rw [zm_or, decide_eq_false z, Bool.or_false] at hr
      obtain ⟨i, i1, i2⟩ := b5 x hx hr
      exact ⟨i, by omega, by rw [pk_un (by omega)]; exact i2⟩
  · intro x hx hr
    by_cases z : x = w
    · rw [z, zi_us]
      refine ⟨by omega, fun _ => ⟨q, hq, pk_us, hT, hO, by rw [hF, zm_or, hv]; rfl, ?_⟩⟩
      rw [hF, zi_un hvw]
      exact (b6 v hv6 hv).1
    · rw [zm_or, decide_eq_false z, Bool.or_false] at hr
      obtain ⟨y1, y2⟩ := b6 x hx hr
      rw [zi_un z]
      refine ⟨by omega, fun hne => ?_⟩
      obtain ⟨p, p1, p2, p3, p4, p5, p6⟩ := y2 hne
      refine ⟨p, p1, by rw [pk_un z]; exact p2, p3, p4, by rw [zm_or, p5]; rfl, ?_⟩
      rw [zi_un (fun y => by rw [y, hn] at p5; cases p5)]
      exact p6
theorem zx_Dins {x : Int32} {w : Nat} (hD : zx_D T F O P a b k re ln) (hk : k ≤ e) : zx_D T F O P a b k (re ||| 2 ^ w) (upd ln e x) := fun i hi v hv hl => by
  rw [pk_un (by omega)] at hl
  obtain ⟨h1, h2⟩ := hD i hi v hv hl
  exact ⟨h1, fun q hq ht hf => by rw [zm_or, h2 q hq ht hf]; rfl⟩
/-- the end of a search in vain -/
theorem zx_vain (hB : zx_B T F O a e re bY ln) (hD : zx_D T F O P a b k re ln) (hk : e ≤ k) : ∀ v, v < 6 → re.testBit v = true → (v = a ∨ v = b ∨ P v = 0) ∧ ∀ q, q < 12 → T q = true → F q = v → re.testBit (O q) = true := fun v hv hr => by
  obtain ⟨_, _, _, _, b5, _⟩ := hB
  obtain ⟨i, i1, i2⟩ := b5 v hv hr
  exact hD i (by omega) v hv i2
end
end
section
/-! the component: turnBack and bring -/
def zx_pic (T : Nat → Bool) (fm tt : Nat → Int32) (F O : Nat → Nat) : Prop := ∀ k, k < 12 → T k = true → fm k = nI (F k) ∧ tt k = nI (O k)
/-- the pebbles' picture -/
def zx_P (A B : Nat → Nat) (T : Nat → Bool) (fm tt pb : Nat → Int32) (F O P : Nat → Nat) : Prop := fs_O A B F O T ∧ fs_P T F P ∧ zx_pic T fm tt F O ∧ ∀ v, v < 6 → pb v = nI (P v)
theorem zx_P2 {A B : Nat → Nat} {T : Nat → Bool} {fm tt pb : Nat → Int32} {F O P : Nat → Nat} (h : zx_P A B T fm tt pb F O P) {v : Nat} (hv : v < 6) : P v ≤ 2 := by
  have := h.2.1 v hv
  omega
section
variable {fj fp ft fr : Int32} {eA eB fm tt pb bY ln : Nat → Int32} {A B : Nat → Nat} {j a b t : Nat} {T : Nat → Bool}
theorem zx_tb {post : SX → Prop} {P d : Nat → Nat} {R : Nat → Bool} (hE : fs_E A B j T) (hj : j ≤ 6) (ha : a < 6) (K : ∀ F O fm tt, fs_O A B F O T → (∀ v, v < 6 → P v + fs_D F T v + (decide (v = a)).toNat = 2) → zx_pic T fm tt F O → wX_turnBack_78 post (nI a) fj fp ft fr eA eB fm tt pb bY ln) : ∀ n k w F O fm tt, k + d w ≤ 5 → 6 < n + k → w < 6 → R w = true → fs_O A B F O T → (∀ v, v < 6 → P v + fs_D F T v + (decide (v = w)).toNat = 2) → zx_pic T fm tt F O → (∀ x, x < 6 → R x = true → d x ≤ d w → x ≠ a → ∃ q, q < 12 ∧ bY x = nI q ∧ T q = true ∧ O q = x ∧ R (F q) = true ∧ d (F q) < d x) → wX_turnBack_16 post (nI a) fj fp ft fr n (nI w) (nI k) eA eB fm tt pb bY ln := by
  intro n
  induction n with
  | zero =>
    intro k w F O fm tt h1 h2
    omega
  | succ n ih =>
    intro k w F O fm tt h1 h2 hw hR hO hP hp hx
    refine br_f (nI_ge (b := 6) (by omega) (by decide)) (pk_eq w a (fun e => ?_) (fun hne => ?_) rfl rfl (by omega) (by omega))
    · rw [e] at hP
      exact K F O fm tt hO hP hp
    · obtain ⟨q, hq, q1, q2, q3, q4, q5⟩ := hx w hw hR (Nat.le_refl _) hne
      have hF6 : F q < 6 := by
        have := fs_F hE hO q (by omega) q2
        omega
      obtain ⟨p1, p2⟩ := hp q hq q2
      have iq : vp_in (nI q) 12 := vp_in_nI hq (by decide)
      refine ⟨vp_in_nI hw (by decide), nm_r (e' := nI q) (by rw [nI_clamp (by omega), q1]) ⟨iq, nm_r (e' := nI (F q)) (by rw [nI_clamp (by omega), p1]) ⟨iq, iq, nm_e ⟨iq, nm_e (nm_r (nI_1 k) ?_)⟩⟩⟩⟩
      refine ih (k + 1) (F q) (zi_u F q (O q)) (zi_u O q (F q)) _ _ (by omega) (by omega) hF6 q4 (zx_flipO hO (by omega) q2) ?_ ?_ ?_
      · intro v hv
        have := zx_flipD (F := F) (O := O) (T := T) (q := q) (by omega) q2 v
        have h3 := hP v hv
        rw [q3] at this
        rw [q3]
        omega
      · intro k' hk' ht
        rw [zi_upd (by omega), zi_upd (by omega)]
        by_cases z : k' = q
        · rw [if_pos z, if_pos z, z, zi_us, zi_us, nI_clamp (by omega), p2, q3]
          exact ⟨zi_nar (by omega), zi_nar8 (by omega)⟩
        · rw [if_neg z, if_neg z, zi_un z, zi_un z]
          exact hp k' hk' ht
      · intro x hx6 hRx hdx hxa
        obtain ⟨r, r1, r2, r3, r4, r5, r6⟩ := hx x hx6 hRx (by omega) hxa
        have hrq : r ≠ q := fun z => by
          rw [z, q3] at r4
          rw [← r4] at hdx
          omega
        refine ⟨r, r1, r2, r3, ?_, ?_, ?_⟩
        · rw [zi_un hrq]
          exact r4
        · rw [zi_un hrq]
          exact r5
        · rw [zi_un hrq]
          exact r6
theorem zx_turn {post : SX → Prop} {F O P d : Nat → Nat} {R : Nat → Bool} {v : Nat} (hE : fs_E A B j T) (hj : j ≤ 6) (ha : a < 6) (hv : v < 6) (hva : v ≠ a) (hP : zx_P A B T fm tt pb F O P) (hPv : 0 < P v) (hR : R v = true) (hd : d v ≤ 5) (hx : ∀ x, x < 6 → R x = true → x ≠ a → ∃ q, q < 12 ∧ bY x = nI q ∧ T q = true ∧ O q = x ∧ R (F q) = true ∧ d (F q) < d x) (K : ∀ F O fm tt pb P', zx_P A B T fm tt pb F O P' → (P' a = P a + 1) → (∀ b, b < 6 → b ≠ a → b ≠ v → P' b = P b) → post (fj, fp, ft, fr, eA, eB, fm, tt, pb, bY, ln)) : wpX_turnBack post (fj, fp, ft, fr, eA, eB, fm, tt, pb, bY, ln) (nI a) (nI v) := by
  obtain ⟨hO, hPP, hp, hb⟩ := hP
  have iv : vp_in (nI v) 6 := vp_in_nI hv (by decide)
  have ia : vp_in (nI a) 6 := vp_in_nI ha (by decide)
  have hP2 : ∀ x, x < 6 → P x ≤ 2 := fun x hx => by
    have := hPP x hx
    omega
  have hb1 : ∀ x, x < 6 → upd pb (nI v).toNatClampNeg (vp_nar .byte (((pb (nI v).toNatClampNeg) - 1).toInt8.toInt32)) x = nI (zi_u P v (P v - 1) x) := by
    intro x hx6
    rw [zi_upd (by omega), nI_clamp (by omega), hb v hv]
    by_cases z : x = v
    · rw [if_pos z, z, zi_us]
      have := hP2 v hv
      rw [show nI (P v) - 1 = nI (P v - 1) from pk_sub (a := P v) (b := 1) hPv]
      exact zi_nar8 (by omega)
    · rw [if_neg z, zi_un z]
      exact hb x hx6
  refine ⟨iv, iv, nm_e ⟨7, ?_⟩⟩
  refine zx_tb (P := zi_u P v (P v - 1)) (d := d) (R := R) (T := T) (A := A) (B := B) hE hj ha ?_ 7 0 v F O fm tt (by omega) (by omega) hv hR hO ?_ hp (fun x h1 h2 _ h3 => hx x h1 h2 h3)
  · intro F' O' fm' tt' hO' hP' hp'
    refine ⟨ia, ia, nm_e ?_⟩
    refine K F' O' fm' tt' _ (zi_u (zi_u P v (P v - 1)) a (P a + 1)) ⟨hO', ?_, hp', ?_⟩ zi_us ?_
    · intro x hx6
      have h1 := hP' x hx6
      by_cases z : x = a
      · rw [z, zi_us]
        rw [z, fc_dt, zi_un (fun y => hva y.symm), show true.toNat = 1 from rfl] at h1
        omega
      · rw [zi_un z]
        rw [decide_eq_false z, show false.toNat = 0 from rfl] at h1
        omega
    · intro x hx6
      rw [zi_upd (by omega), nI_clamp (n := a) (by omega), hb1 a ha, zi_un (fun y => hva y.symm)]
      by_cases z : x = a
      · rw [if_pos z, z, zi_us]
        have := hP2 a ha
        rw [nI_1]
        exact zi_nar8 (by omega)
      · rw [if_neg z, zi_un z]
        exact hb1 x hx6
    · intro x hx6 hxa hxv
      rw [zi_un hxa, zi_un hxv]
  · intro x hx6
    have h1 := hPP x hx6
    by_cases z : x = v
    · rw [z, zi_us, fc_dt, show true.toNat = 1 from rfl]
      rw [z] at h1
      omega
    · rw [zi_un z, decide_eq_false z, show false.toNat = 0 from rfl]
      omega
/-- the inner loop: all bars from joint v, which stands at k in line -/
theorem zx_76 {post : Int32 → SX → Prop} {J : Int32 → Int32 → Int32 → (Nat → Int32) → (Nat → Int32) → (Nat → Int32) → (Nat → Int32) → (Nat → Int32) → (Nat → Int32) → (Nat → Int32) → Prop} {F O P : Nat → Nat} {k v : Nat} {x1 x2 : Int32} (ht : t < 4096) (hE : fs_E A B j t.testBit) (hj : j ≤ 6) (hO : fs_O A B F O t.testBit) (hp : zx_pic t.testBit fm tt F O) (hv : v < 6) (K : ∀ e re bY ln, zx_B t.testBit F O a e re bY ln → zx_D t.testBit F O P a b k re ln → ln k = nI v → (∀ q, q < 12 → t.testBit q = true → F q = v → re.testBit (O q) = true) → J (nI e) (nI (k + 1)) (nI re) eA eB fm tt pb bY ln) : ∀ n i e re bY ln, 12 < n + i → i ≤ 12 → k < e → zx_B t.testBit F O a e re bY ln → zx_D t.testBit F O P a b k re ln → ln k = nI v → re.testBit v = true → (∀ q, q < i → t.testBit q = true → F q = v → re.testBit (O q) = true) → wX_bring_76 post J x1 x2 (nI k) (nI v) fj fp (nI t) n (nI e) (nI i) (nI re) eA eB fm tt pb bY ln := by
  intro n
  induction n with
  | zero =>
    intro i e re bY ln h1 h2
    omega
  | succ n ih =>
    intro i e re bY ln h1 h2 hk hB hD hl hr hd
    by_cases hi : i = 12
    · rw [hi] at hd
      rw [hi]
      exact br_t (nI_le (a := 12) (b := 12) (by decide) (by decide)) (nm_r (nI_1 k) (K e re bY ln hB hD hl hd))
    · have hi' : i < 12 := by omega
      have ii : vp_in (nI i) 12 := vp_in_nI hi' (by decide)
      refine br_f (nI_ge (b := 12) hi' (by decide)) (zi_z (by omega) (by omega) (fun hb => ?_) (fun hb => ⟨ii, ?_⟩))
      · exact nm_r (nI_1 i) (ih (i + 1) e re bY ln (by omega) (by omega) hk hB hD hl hr (lt_s hd fun z => by rw [hb] at z; cases z))
      · obtain ⟨p1, p2⟩ := hp i hi' hb
        have hFj := fs_F hE hO i (by omega) hb
        have hO6 : O i < 6 := by
          obtain ⟨e1, e2, _⟩ := hE i (by omega) hb
          rcases hO i (by omega) hb with ⟨_, z⟩ | ⟨_, z⟩ <;> omega
        have he6 := zx_e6 hB
        rw [nI_clamp (n := i) (by omega), p1, p2]
        refine pk_eq (F i) v (fun hf => ⟨ii, ?_⟩) (fun hf => ?_) rfl rfl (by omega) (by omega)
        · refine zi_z (by have := hB.2.1; omega) (by omega) (fun hn => ?_) (fun hn => ?_)
          · have hB' := zx_ins hB hi' hb hf rfl hv hr hO6 hn
            have he6' := zx_e6 hB'
            refine ⟨ii, nm_r (zi_osh (by omega)) ⟨ii, vp_in_nI hO6 (by decide), nm_r (e' := upd bY (O i) (nI i)) ?_ ⟨ii, vp_in_nI (n := e) (by omega) (by decide), nm_r (e' := upd ln e (nI (O i))) ?_ (nm_r (nI_1 e) (nm_r (nI_1 i) ?_))⟩⟩⟩
            · rw [nI_clamp (by omega), zi_nar8 (by omega)]
            · rw [nI_clamp (by omega), zi_nar (by omega)]
            · refine ih (i + 1) (e + 1) _ _ _ (by omega) (by omega) (by omega) hB' (zx_Dins hD (by omega)) ?_ ?_ (lt_s (fun q h1 h2 h3 => ?_) fun _ _ => ?_)
              · rw [pk_un (by omega)]
                exact hl
              · rw [zm_or, hr]
                rfl
              · rw [zm_or, hd q h1 h2 h3]
                rfl
              · rw [zm_or, fc_dt, Bool.or_true]
          · exact nm_r (nI_1 i) (ih (i + 1) e re bY ln (by omega) (by omega) hk hB hD hl hr (lt_s hd fun _ _ => hn))
        · exact nm_r (nI_1 i) (ih (i + 1) e re bY ln (by omega) (by omega) hk hB hD hl hr (lt_s hd fun _ z => absurd z hf))
theorem zx_20 {post : Int32 → SX → Prop} {F O P : Nat → Nat} (ht : t < 4096) (hE : fs_E A B j t.testBit) (hj : j ≤ 6) (hP : zx_P A B t.testBit fm tt pb F O P) (ha : a < 6) (hb : b < 6) (hab : a ≠ b) (K0 : ∀ (fr : Int32) (bY ln : Nat → Int32) (re : Nat), re.testBit a = true → (∀ v, v < 6 → re.testBit v = true → (v = a ∨ v = b ∨ P v = 0) ∧ ∀ q, q < 12 → t.testBit q = true → F q = v → re.testBit (O q) = true) → post 0 (fj, fp, nI t, fr, eA, eB, fm, tt, pb, bY, ln)) (K1 : ∀ fr fm tt pb bY ln F O P', zx_P A B t.testBit fm tt pb F O P' → P' a = P a + 1 → P' b = P b → post 1 (fj, fp, nI t, fr, eA, eB, fm, tt, pb, bY, ln)) : ∀ n k e re bY ln, 6 < n + k → k ≤ 6 → zx_B t.testBit F O a e re bY ln → zx_D t.testBit F O P a b k re ln → wX_bring_20 post (nI a) (nI b) fj fp (nI t) n (nI e) (nI k) (nI re) eA eB fm tt pb bY ln := by
  intro n
  induction n with
  | zero =>
    intro k e re bY ln h1 h2
    omega
  | succ n ih =>
    intro k e re bY ln h1 h2 hB hD
    have he6 := zx_e6 hB
    refine pk_le e k (fun h => ?_) (fun h => ?_) rfl rfl (by omega) (by omega)
    · exact K0 _ bY ln re hB.2.2.1 (zx_vain hB hD h)
    · refine br_f (nI_ge (b := 6) (by omega) (by decide)) ?_
      obtain ⟨v, hv, hl, hr⟩ := hB.2.2.2.1 k h
      refine ⟨vp_in_nI (n := k) (by omega) (by decide), nm_r (e' := nI v) (by rw [nI_clamp (by omega), hl]) ?_⟩
      have go : (v = a ∨ v = b ∨ P v = 0) → ∃ n76 : Nat, wX_bring_76 post (wX_bring_20 post (nI a) (nI b) fj fp (nI t) n) (nI a) (nI b) (nI k) (nI v) fj fp (nI t) n76 (nI e) 0 (nI re) eA eB fm tt pb bY ln := fun hvv => by
        refine ⟨13, zx_76 (A := A) (B := B) (j := j) (a := a) (b := b) (F := F) (O := O) (P := P) ht hE hj hP.1 hP.2.2.1 hv ?_ 13 0 e re bY ln (by omega) (by omega) h hB hD hl hr lt_0⟩
        intro e' re' bY' ln' hB' hD' hl' hd'
        refine ih (k + 1) e' re' bY' ln' (by omega) (by omega) hB' (lt_s hD' fun w hw6 hlw => ?_)
        have : w = v := by
          rw [hl'] at hlw
          exact ((nI_eq (by omega) (by omega)).mp hlw).symm
        rw [this]
        exact ⟨hvv, hd'⟩
      refine pk_eq v a (fun e1 => go (Or.inl e1)) (fun e1 => pk_eq v b (fun e2 => go (Or.inr (Or.inl e2))) (fun e2 => ⟨vp_in_nI hv (by decide), ?_⟩) rfl rfl (by omega) (by omega)) rfl rfl (by omega) (by omega)
      rw [nI_clamp (n := v) (by omega), hP.2.2.2 v hv]
      have hP2 := zx_P2 hP hv
      refine pk_le (P v) 0 (fun z => go (Or.inr (Or.inr (by omega)))) (fun z => ?_) rfl rfl (by omega) (by decide)
      obtain ⟨_, _, _, _, _, d, hd⟩ := hB
      refine zx_turn (A := A) (B := B) (T := t.testBit) (j := j) (F := F) (O := O) (P := P) (d := d) (R := re.testBit) hE hj ha hv e1 hP z hr (by have := (hd v hv hr).1; omega) (fun x h1 h2 h3 => (hd x h1 h2).2 h3) ?_
      intro F' O' fm' tt' pb' P' hP' h1 h2
      exact K1 _ fm' tt' pb' bY ln F' O' P' hP' h1 (h2 b hb (fun y => hab y.symm) (fun y => e2 y.symm))
theorem zx_bring {post : Int32 → SX → Prop} {F O P : Nat → Nat} (ht : t < 4096) (hE : fs_E A B j t.testBit) (hj : j ≤ 6) (hP : zx_P A B t.testBit fm tt pb F O P) (ha : a < 6) (hb : b < 6) (hab : a ≠ b) (K0 : ∀ (fr : Int32) (bY ln : Nat → Int32) (re : Nat), re.testBit a = true → (∀ v, v < 6 → re.testBit v = true → (v = a ∨ v = b ∨ P v = 0) ∧ ∀ q, q < 12 → t.testBit q = true → F q = v → re.testBit (O q) = true) → post 0 (fj, fp, nI t, fr, eA, eB, fm, tt, pb, bY, ln)) (K1 : ∀ fr fm tt pb bY ln F O P', zx_P A B t.testBit fm tt pb F O P' → P' a = P a + 1 → P' b = P b → post 1 (fj, fp, nI t, fr, eA, eB, fm, tt, pb, bY, ln)) : wpX_bring post (fj, fp, nI t, fr, eA, eB, fm, tt, pb, bY, ln) (nI a) (nI b) := by
  refine nm_r (zi_sh (by omega)) (nm_e ⟨7, zx_20 (A := A) (B := B) (j := j) (a := a) (b := b) (F := F) (O := O) (P := P) ht hE hj hP ha hb hab K0 K1 7 0 1 (2 ^ a) bY _ (by omega) (by omega) (zx_B0 ha ?_) (fun i hi => absurd hi (by omega))⟩)
  rw [pk_us]
  exact zi_nar8 (by omega)
end
end
section
/-! the component: gather, offer, play -/
def zx_E (A B : Nat → Nat) (eA eB : Nat → Int32) : Prop := ∀ k, k < 12 → eA k = nI (A k) ∧ eB k = nI (B k)
section
variable {fj fp ft fr : Int32} {eA eB fm tt pb bY ln : Nat → Int32} {A B : Nat → Nat} {j a b t : Nat}
theorem zx_g2 {post : Int32 → SX → Prop} {e : Nat} (ht : t < 4096) (hE : fs_E A B j t.testBit) (hj : j ≤ 6) (hL : fs_L A B j t.testBit) (he : e < 13) (hte : t.testBit e = false) (hAe : A e = a) (hBe : B e = b) (ha : a < j) (hb : b < j) (hab : a ≠ b) (K : ∀ (r : Bool) fr fm tt pb bY ln F O P, zx_P A B t.testBit fm tt pb F O P → (r = true ↔ fs_L A B j (t ||| 2 ^ e).testBit) → (r = true → P a = 2 ∧ P b = 2) → post (nI r.toNat) (fj, fp, nI t, fr, eA, eB, fm, tt, pb, bY, ln)) : ∀ n rd fr fm tt pb bY ln F O P, 4 < n + rd → rd ≤ 4 → zx_P A B t.testBit fm tt pb F O P → rd ≤ P a + P b → wX_gather_2 post (nI a) (nI b) n (nI rd) fj fp (nI t) fr eA eB fm tt pb bY ln := by
  have hS : ∀ k, k < 13 → (t ||| 2 ^ e).testBit k = (t.testBit k || decide (k = e)) := fun k _ => zm_or _ _ _
  intro n
  induction n with
  | zero =>
    intro rd fr fm tt pb bY ln F O P h1 h2
    omega
  | succ n ih =>
    intro rd fr fm tt pb bY ln F O P h1 h2 hP hs
    have ia : vp_in (nI a) 6 := vp_in_nI (by omega) (by decide)
    have ib : vp_in (nI b) 6 := vp_in_nI (by omega) (by decide)
    have pa : pb (nI a).toNatClampNeg = nI (P a) := by rw [nI_clamp (by omega), hP.2.2.2 a (by omega)]
    have pb' : pb (nI b).toNatClampNeg = nI (P b) := by rw [nI_clamp (by omega), hP.2.2.2 b (by omega)]
    have qa := zx_P2 hP (show a < 6 by omega)
    have qb := zx_P2 hP (show b < 6 by omega)
    have yes : P a = 2 → P b = 2 → post 1 (fj, fp, nI t, fr, eA, eB, fm, tt, pb, bY, ln) := fun h1 h2 =>
      K true fr fm tt pb bY ln F O P hP ⟨fun _ => fs_grow hj hE hP.1 hP.2.1 hL he hte hS (by rw [hAe]; exact ha) (by rw [hBe]; exact hb) (by rw [hAe, hBe]; exact hab) (by rw [hAe]; exact h1) (by rw [hBe]; exact h2), fun _ => rfl⟩ fun _ => ⟨h1, h2⟩
    have no : ∀ c d fr bY ln re, c ≠ d → c < j → d < j → (A e = c ∧ B e = d ∨ A e = d ∧ B e = c) → P c < 2 → Nat.testBit re c = true → (∀ v, v < 6 → Nat.testBit re v = true → (v = c ∨ v = d ∨ P v = 0) ∧ ∀ q, q < 12 → t.testBit q = true → F q = v → Nat.testBit re (O q) = true) → post 0 (fj, fp, nI t, fr, eA, eB, fm, tt, pb, bY, ln) := fun c d fr bY ln re hcd hc hd hcd' hPc hre hcl => by
      have hn : ¬ fs_L A B j (t ||| 2 ^ e).testBit := by
        refine fs_stuck (R := Nat.testBit re) hj hE hP.1 hP.2.1 hL he hte hS hcd hc hd hcd' hre (fun k hk hT hR => ?_) (fun v hv hR h1 h2 => ?_) hPc
        · have hF := fs_F hE hP.1 k hk hT
          exact (hcl (F k) (by omega) hR).2 k (zh_lt (n := 12) ht hT) hT rfl
        · rcases (hcl v (by omega) hR).1 with z | z | z
          · exact absurd z h1
          · exact absurd z h2
          · exact z
      exact K false fr fm tt pb bY ln F O P hP ⟨(fun z => nomatch z), fun z => absurd z hn⟩ (fun z => nomatch z)
    have on : ¬ (P a = 2 ∧ P b = 2) → rd < 4 → wX_gather_29 post (wX_gather_2 post (nI a) (nI b) n) (nI a) (nI b) (nI rd) fj fp (nI t) fr eA eB fm tt pb bY ln := fun hn h4 => by
      refine ⟨ia, ?_⟩
      rw [pa]
      refine pk_le 2 (P a) (fun z => ?_) (fun z => ?_) rfl rfl (by decide) (by omega)
      · refine zx_bring (A := A) (B := B) (j := j) (F := F) (O := O) (P := P) ht hE hj hP (by omega) (by omega) (fun y => hab y.symm) (fun fr bY ln re h1 h2 => ?_) (fun fr fm tt pb bY ln F' O' P' h1 h2 h3 => ?_)
        · exact br_t rfl (no b a fr bY ln re (fun y => hab y.symm) hb ha (Or.inr ⟨hAe, hBe⟩) (by omega) h1 h2)
        · exact br_f (by decide) (nm_r (nI_1 rd) (ih (rd + 1) fr fm tt pb bY ln F' O' P' (by omega) (by omega) h1 (by omega)))
      · refine zx_bring (A := A) (B := B) (j := j) (F := F) (O := O) (P := P) ht hE hj hP (by omega) (by omega) hab (fun fr bY ln re h1 h2 => ?_) (fun fr fm tt pb bY ln F' O' P' h1 h2 h3 => ?_)
        · exact br_t rfl (no a b fr bY ln re hab ha hb (Or.inl ⟨hAe, hBe⟩) (by omega) h1 h2)
        · exact br_f (by decide) (nm_r (nI_1 rd) (ih (rd + 1) fr fm tt pb bY ln F' O' P' (by omega) (by omega) h1 (by omega)))
    refine pk_le 4 rd (fun h4 => ⟨ia, ?_⟩) (fun h4 => ⟨ia, ?_⟩) rfl rfl (by decide) (by omega)
    · rw [pa, pb']
      exact br_t (congrArg nI (show P a = 2 by omega)) ⟨ib, br_t (congrArg nI (show P b = 2 by omega)) (yes (by omega) (by omega))⟩
    · rw [pa, pb']
      refine pk_eq (P a) 2 (fun z => ⟨ib, pk_eq (P b) 2 (fun y => yes z y) (fun y => on (fun w => y w.2) h4) rfl rfl (by omega) (by decide)⟩) (fun z => on (fun w => z w.1) h4) rfl rfl (by omega) (by decide)
theorem zx_gather {post : Int32 → SX → Prop} {e : Nat} {F O P : Nat → Nat} (ht : t < 4096) (hE : fs_E A B j t.testBit) (hj : j ≤ 6) (hL : fs_L A B j t.testBit) (he : e < 13) (hte : t.testBit e = false) (hAe : A e = a) (hBe : B e = b) (ha : a < j) (hb : b < j) (hab : a ≠ b) (hP : zx_P A B t.testBit fm tt pb F O P) (K : ∀ (r : Bool) fr fm tt pb bY ln F O P, zx_P A B t.testBit fm tt pb F O P → (r = true ↔ fs_L A B j (t ||| 2 ^ e).testBit) → (r = true → P a = 2 ∧ P b = 2) → post (nI r.toNat) (fj, fp, nI t, fr, eA, eB, fm, tt, pb, bY, ln)) : wpX_gather post (fj, fp, nI t, fr, eA, eB, fm, tt, pb, bY, ln) (nI a) (nI b) :=
  ⟨5, zx_g2 ht hE hj hL he hte hAe hBe ha hb hab K 5 0 fr fm tt pb bY ln F O P (by omega) (by omega) hP (by omega)⟩
theorem zx_offer {post : SX → Prop} {k m : Nat} {F O P : Nat → Nat} (W : zh_W A B j m) (ht : t < 4096) (hE : fs_E A B j t.testBit) (hL : fs_L A B j t.testBit) (hk : k < 12) (hkm : m.testBit k = true) (htk : t.testBit k = false) (hX : zx_E A B eA eB) (hP : zx_P A B t.testBit fm tt pb F O P) (K0 : zm_lz A B j (t ||| 2 ^ k) = false → ∀ fr fm tt pb bY ln F O P, zx_P A B t.testBit fm tt pb F O P → post (fj, fp, nI t, fr, eA, eB, fm, tt, pb, bY, ln)) (K1 : zm_lz A B j (t ||| 2 ^ k) = true → ∀ fr fm tt pb bY ln F O P, zx_P A B (t ||| 2 ^ k).testBit fm tt pb F O P → post (fj, fp, nI (t ||| 2 ^ k), fr, eA, eB, fm, tt, pb, bY, ln)) : wpX_offer post (fj, fp, nI t, fr, eA, eB, fm, tt, pb, bY, ln) (nI k) := by
  have hj := W.2.1
  obtain ⟨w1, w2, w3⟩ := W.2.2.2 k hk
  obtain ⟨x1, x2⟩ := hX k hk
  have ik : vp_in (nI k) 12 := vp_in_nI hk (by decide)
  have ia : vp_in (nI (A k)) 6 := vp_in_nI (by omega) (by decide)
  have hlt : t ||| 2 ^ k < 4096 := zm_orlt (n := 12) ht hk
  have hS : ∀ i, i < 13 → (t ||| 2 ^ k).testBit i = (t.testBit i || decide (i = k)) := fun i _ => zm_or _ _ _
  refine ⟨ik, ik, ?_⟩
  rw [nI_clamp (n := k) (by omega), x1, x2]
  refine zx_gather (A := A) (B := B) (e := k) ht hE hj hL (by omega) htk rfl rfl w1 w2 (w3 hkm) hP fun r fr' fm' tt' pb' bY' ln' F' O' P' hP' hr h2 => ?_
  have hr' : r = zm_lz A B j (t ||| 2 ^ k) := by
    rw [Bool.eq_iff_iff, hr, zh_lz W hlt]
  refine zi_t (fun z => ?_) (fun z => ?_)
  · exact K0 (hr'.symm.trans z) fr' fm' tt' pb' bY' ln' F' O' P' hP'
  · obtain ⟨p1, p2⟩ := h2 z
    refine nm_r (zi_osh (by omega)) ⟨ik, ik, nm_e ⟨ik, ik, nm_e ⟨ik, ?_⟩⟩⟩
    rw [x1, x2]
    refine ⟨ia, ia, nm_e ?_⟩
    refine K1 (hr'.symm.trans z) fr' _ _ _ bY' ln' (zi_u F' k (A k)) (zi_u O' k (B k)) (zi_u P' (A k) 1) ⟨?_, ?_, ?_, ?_⟩
    · intro i hi hb
      by_cases y : i = k
      · rw [y, zi_us, zi_us]
        exact Or.inl ⟨rfl, rfl⟩
      · rw [hS i hi, decide_eq_false y, Bool.or_false] at hb
        rw [zi_un y, zi_un y]
        exact hP'.1 i hi hb
    · intro v hv
      rw [zx_newD (by omega) htk hS]
      have h3 := hP'.2.1 v hv
      by_cases y : v = A k
      · rw [y, zi_us, fc_dt, show true.toNat = 1 from rfl]
        rw [y, p1] at h3
        omega
      · rw [zi_un y, decide_eq_false y]
        exact h3
    · intro i hi hb
      by_cases y : i = k
      · rw [y, pk_us, pk_us, zi_us, zi_us]
        exact ⟨zi_nar (by omega), zi_nar (by omega)⟩
      · rw [hS i (by omega), decide_eq_false y, Bool.or_false] at hb
        rw [pk_un y, pk_un y, zi_un y, zi_un y]
        exact hP'.2.2.1 i hi hb
    · intro v hv
      rw [zi_upd (by omega), nI_clamp (n := A k) (by omega), hP'.2.2.2 (A k) (by omega), p1]
      by_cases y : v = A k
      · rw [if_pos y, y, zi_us]
        exact zi_nar8 (v := 1) (by decide)
      · rw [if_neg y, zi_un y]
        exact hP'.2.2.2 v hv
theorem zx_begin {post : SX → Prop} (K : ∀ pb, (∀ v, v < 6 → pb v = nI 2) → post (fj, fp, 0, fr, eA, eB, fm, tt, pb, bY, ln)) : wpX_begin post (fj, fp, ft, fr, eA, eB, fm, tt, pb, bY, ln) := by
  have L : ∀ d i, i + d = 6 → ∀ pb, (∀ v, v < i → pb v = nI 2) → wX_begin_7 post fj fp 0 fr (d + 1) (nI i) eA eB fm tt pb bY ln := by
    intro d
    induction d with
    | zero =>
      intro i hi pb h
      obtain rfl : i = 6 := by omega
      exact br_t (nI_le (a := 6) (b := 6) (by decide) (by decide)) (K pb h)
    | succ d ih =>
      intro i hi pb h
      refine br_f (nI_ge (b := 6) (by omega) (by decide)) ⟨vp_in_nI (by omega) (by decide), nm_e (nm_r (nI_1 i) (ih (i + 1) (by omega) _ (lt_s (fun v hv => ?_) ?_)))⟩
      · rw [zi_upd (by omega), if_neg (by omega)]
        exact h v hv
      · rw [zi_upd (by omega), if_pos rfl]
        exact zi_nar (v := 2) (by decide)
  exact ⟨7, L 6 0 rfl pb lt_0⟩
theorem zx_play {post : Int32 → SX → Prop} {m s : Nat} (W : zh_W A B j m) (hX : zx_E A B eA eB) (hs : ∀ k, s.testBit k = true → m.testBit k = true) (hs4 : s < 4096) (K : ∀ fr fm tt pb bY ln F O P, zx_P A B (zm_g A B j s 12).testBit fm tt pb F O P → post (nI (zm_g A B j s 12)) (fj, fp, nI (zm_g A B j s 12), fr, eA, eB, fm, tt, pb, bY, ln)) : wpX_play post (fj, fp, ft, fr, eA, eB, fm, tt, pb, bY, ln) (nI s) := by
  have L : ∀ d i, i + d = 12 → ∀ fr fm tt pb bY ln F O P, zx_P A B (zm_g A B j s i).testBit fm tt pb F O P → wX_play_6 post (nI s) (d + 1) (nI i) fj fp (nI (zm_g A B j s i)) fr eA eB fm tt pb bY ln := by
    intro d
    induction d with
    | zero =>
      intro i hi fr fm tt pb bY ln F O P hP
      obtain rfl : i = 12 := by omega
      exact br_t (nI_le (a := 12) (b := 12) (by decide) (by decide)) (K fr fm tt pb bY ln F O P hP)
    | succ d ih =>
      intro i hi fr fm tt pb bY ln F O P hP
      have h1 := ih (i + 1) (by omega)
      refine br_f (nI_ge (b := 12) (by omega) (by decide)) (zi_z (by omega) (by omega) (fun hb => ?_) (fun hb => ?_))
      · rw [zm_g_f1 hb] at h1
        exact nm_r (nI_1 i) (h1 fr fm tt pb bY ln F O P hP)
      · have hlt : zm_g A B j s i < 2 ^ i := zm_g_lt i
        have hlt' : zm_g A B j s i < 2 ^ 12 := Nat.lt_of_lt_of_le hlt (Nat.pow_le_pow_right (by decide) (by omega))
        refine zx_offer W hlt' (zh_E W fun k hk => hs k (zm_g_bit i k hk).2) (zh_gL W (by omega)) (by omega) (hs i hb) (zm_hi hlt (Nat.le_refl i)) hX hP (fun hz => ?_) (fun hz => ?_)
        · intro fr fm tt pb bY ln F O P hP
          rw [zm_g_f2 hz] at h1
          exact nm_r (nI_1 i) (h1 fr fm tt pb bY ln F O P hP)
        · intro fr fm tt pb bY ln F O P hP
          rw [zm_g_t hb hz] at h1
          exact nm_r (nI_1 i) (h1 fr fm tt pb bY ln F O P hP)
  unfold wpX_play
  dsimp only
  refine zx_begin fun pb' hp => ⟨13, L 12 0 rfl fr fm tt pb' bY ln (fun _ => 0) (fun _ => 0) (fun _ => 2) ⟨?_, ?_, ?_, hp⟩⟩
  · intro k _ hb
    have hb' : (0 : Nat).testBit k = true := hb
    rw [Nat.zero_testBit] at hb'
    cases hb'
  · intro v _
    have : fs_D (fun _ => 0) (zm_g A B j s 0).testBit v = 0 := fc_zero fun k _ => by
      show ((0 : Nat).testBit k && _).toNat = 0
      rw [Nat.zero_testBit]
      rfl
    rw [this]
  · intro k _ hb
    have hb' : (0 : Nat).testBit k = true := hb
    rw [Nat.zero_testBit] at hb'
    cases hb'
end
end
section
/-! the component's further methods -/
section
variable {ft fr : Int32} {eA eB fm tt pb bY ln : Nat → Int32} {A B : Nat → Nat} {j m : Nat}
theorem zx_ones {post : Int32 → Prop} {x : Nat} (hx : x < 2 ^ 31) (h : post (nI (fc_n x.testBit 12))) : wpX_ones post (nI x) := by
  have L : ∀ d i, i + d = 12 → wX_ones_4 post (nI x) (d + 1) (nI (fc_n x.testBit i)) (nI i) := by
    intro d
    induction d with
    | zero =>
      intro i hi
      obtain rfl : i = 12 := by omega
      exact br_t (nI_le (a := 12) (b := 12) (by decide) (by decide)) h
    | succ d ih =>
      intro i hi
      refine br_f (nI_ge (b := 12) (by omega) (by decide)) (nm_r ?_ (nm_r (nI_1 i) (ih (i + 1) (by omega))))
      rw [zi_bit hx (by omega), nI_add]
      rfl
  exact ⟨13, L 12 0 rfl⟩
theorem zx_joint {post : Int32 → Prop} {fp : Int32} {a : Nat} (ha : a < 2 ^ 31) (hj : j ≤ 6) (h : post (nI (decide (a < j)).toNat)) : wpX_isJoint post (nI j, fp, ft, fr, eA, eB, fm, tt, pb, bY, ln) (nI a) := by
  refine br_f (nI_pos ha) (pk_le j a (fun z => ?_) (fun z => ?_) rfl rfl (by omega) ha)
  · rw [decide_eq_false (by omega)] at h
    exact h
  · rw [decide_eq_true z] at h
    exact h
theorem zx_has {post : Int32 → Prop} {fj : Int32} {k : Nat} (hm : m < 4096) (hk : k < 12) (h : post (nI (m.testBit k).toNat)) : wpX_has post (fj, nI m, ft, fr, eA, eB, fm, tt, pb, bY, ln) (nI k) := by
  refine br_f (nI_pos (by omega)) (br_f (nI_ge (b := 12) hk (by decide)) (zi_z (by omega) (by omega) (fun z => ?_) (fun z => ?_)))
  · rw [z] at h
    exact h
  · rw [z] at h
    exact h
theorem zx_isFree {post : Int32 → SX → Prop} {s : Nat} (W : zh_W A B j m) (hX : zx_E A B eA eB) (hs : ∀ k, s.testBit k = true → m.testBit k = true) (hs4 : s < 4096) (K : ∀ ft fr fm tt pb bY ln, post (nI (zm_lz A B j s).toNat) (nI j, nI m, ft, fr, eA, eB, fm, tt, pb, bY, ln)) : wpX_isFree post (nI j, nI m, ft, fr, eA, eB, fm, tt, pb, bY, ln) (nI s) := by
  unfold wpX_isFree
  dsimp only
  refine zx_play W hX hs hs4 fun fr fm tt pb bY ln F O P hP => ?_
  have hg : zm_g A B j s 12 < 2 ^ 12 := zm_g_lt 12
  have k := K (nI (zm_g A B j s 12)) fr fm tt pb bY ln
  have hf := zm_free (A := A) (B := B) (j := j) (n := 12) hs4
  refine pk_eq (zm_g A B j s 12) s (fun z => ?_) (fun z => ?_) rfl rfl (by omega) (by omega)
  · rw [hf.mp z] at k
    exact k
  · rw [zm_nf fun y => z (hf.mpr y)] at k
    exact k
theorem zx_rank {post : Int32 → SX → Prop} {s : Nat} (W : zh_W A B j m) (hX : zx_E A B eA eB) (hs : ∀ k, s.testBit k = true → m.testBit k = true) (hs4 : s < 4096) (K : ∀ ft fr fm tt pb bY ln, post (nI (zh_rk A B j s)) (nI j, nI m, ft, fr, eA, eB, fm, tt, pb, bY, ln)) : wpX_rankOf post (nI j, nI m, ft, fr, eA, eB, fm, tt, pb, bY, ln) (nI s) := by
  unfold wpX_rankOf
  dsimp only
  refine zx_play W hX hs hs4 fun fr fm tt pb bY ln F O P hP => ?_
  have hg : zm_g A B j s 12 < 2 ^ 12 := zm_g_lt 12
  exact zx_ones (by omega) (K (nI (zm_g A B j s 12)) fr fm tt pb bY ln)
theorem zx_frame {post : Int32 → SX → Prop} (W : zh_W A B j m) (hX : zx_E A B eA eB) (K : ∀ ft fr fm tt pb bY ln, post (nI (zm_g A B j m 12)) (nI j, nI m, ft, fr, eA, eB, fm, tt, pb, bY, ln)) : wpX_frame post (nI j, nI m, ft, fr, eA, eB, fm, tt, pb, bY, ln) := by
  unfold wpX_frame
  dsimp only
  exact zx_play W hX (fun _ h => h) W.2.2.1 fun fr fm tt pb bY ln F O P hP => K _ fr fm tt pb bY ln
theorem zx_freedom {post : Int32 → SX → Prop} (W : zh_W A B j m) (hX : zx_E A B eA eB) (K : ∀ ft fr fm tt pb bY ln, post (zh_fd A B j m) (nI j, nI m, ft, fr, eA, eB, fm, tt, pb, bY, ln)) : wpX_freedom post (nI j, nI m, ft, fr, eA, eB, fm, tt, pb, bY, ln) := by
  unfold wpX_freedom
  dsimp only
  exact zx_rank W hX (fun _ h => h) W.2.2.1 fun ft fr fm tt pb bY ln => K ft fr fm tt pb bY ln
theorem zx_rigid {post : Int32 → SX → Prop} (W : zh_W A B j m) (hX : zx_E A B eA eB) (K : ∀ ft fr fm tt pb bY ln, post (nI (zh_rigid A B j m).toNat) (nI j, nI m, ft, fr, eA, eB, fm, tt, pb, bY, ln)) : wpX_rigid post (nI j, nI m, ft, fr, eA, eB, fm, tt, pb, bY, ln) := by
  unfold wpX_rigid
  dsimp only
  exact zx_freedom W hX fun ft fr fm tt pb bY ln => zi_d (P := fun r => post r (nI j, nI m, ft, fr, eA, eB, fm, tt, pb, bY, ln)) (K ft fr fm tt pb bY ln)
theorem zh_key (W : zh_W A B j m) {a b : Nat} (ha : a < j) (hb : b < j) : zm_lz (zi_u A 12 a) (zi_u B 12 b) j (zm_g A B j m 12 ||| 2 ^ 12) = true ↔ fs_L (zi_u A 12 a) (zi_u B 12 b) j (zm_g A B j m 12 ||| 2 ^ 12).testBit :=
  zm_lz_L (by have := W.2.1; omega) fun k hk hkb => by
    by_cases e : k = 12
    · rw [e, zi_us, zi_us]
      exact ⟨ha, hb⟩
    · rw [zi_un e, zi_un e]
      have := W.2.2.2 k (by omega)
      exact ⟨this.1, this.2.1⟩
theorem zx_held {post : Int32 → SX → Prop} {a b : Nat} (W : zh_W A B j m) (hX : zx_E A B eA eB) (ha : a < 2 ^ 31) (hb : b < 2 ^ 31) (K : ∀ ft fr fm tt pb bY ln, post (nI (zh_h A B j m a b).toNat) (nI j, nI m, ft, fr, eA, eB, fm, tt, pb, bY, ln)) : wpX_held post (nI j, nI m, ft, fr, eA, eB, fm, tt, pb, bY, ln) (nI a) (nI b) := by
  have hm := W.2.2.1
  have hj := W.2.1
  have no : zh_h A B j m a b = false → post 0 (nI j, nI m, ft, fr, eA, eB, fm, tt, pb, bY, ln) := fun e => by
    have := K ft fr fm tt pb bY ln
    rw [e] at this
    exact this
  refine pk_eq a b (fun e => no ?_) (fun hne => zx_joint ha hj (zi_t (fun z => no ?_) (fun z => zx_joint hb hj (zi_t (fun y => no ?_) (fun y => zx_play W hX (fun _ h => h) hm ?_))))) rfl rfl ha hb
  · unfold zh_h
    rw [e]
    simp
  · unfold zh_h
    rw [z]
    simp
  · unfold zh_h
    rw [y]
    simp
  · intro fr fm tt pb bY ln F O P hP
    rw [decide_eq_true_eq] at y z
    have hg : zm_g A B j m 12 < 2 ^ 12 := zm_g_lt 12
    have hc : ∀ k, k < 13 → (zm_g A B j m 12).testBit k = true → zi_u A 12 a k = A k ∧ zi_u B 12 b k = B k := fun k _ hb => by
      have := zh_lt hg hb
      exact ⟨zi_un (by omega), zi_un (by omega)⟩
    have hL' : fs_L (zi_u A 12 a) (zi_u B 12 b) j (zm_g A B j m 12).testBit := fun G hG => by
      rw [fs_in_cong hc G]
      exact zh_gL (s := m) W (Nat.le_refl 12) G hG
    have hE' : fs_E (zi_u A 12 a) (zi_u B 12 b) j (zm_g A B j m 12).testBit := fun k hk hT => by
      rw [(hc k hk hT).1, (hc k hk hT).2]
      exact zh_E W (fun k hk => (zm_g_bit 12 k hk).2) k hk hT
    have hP' : zx_P (zi_u A 12 a) (zi_u B 12 b) (zm_g A B j m 12).testBit fm tt pb F O P := ⟨fun k hk hT => by
      rw [(hc k hk hT).1, (hc k hk hT).2]
      exact hP.1 k hk hT, hP.2⟩
    refine zx_gather (A := zi_u A 12 a) (B := zi_u B 12 b) (e := 12) hg hE' hj hL' (by decide) (zm_hi hg (Nat.le_refl 12)) zi_us zi_us z y hne hP' fun r fr fm tt pb bY ln F O P hP hr h2 => ?_
    have hh : zh_h A B j m a b = !r := by
      have : zm_lz (zi_u A 12 a) (zi_u B 12 b) j (zm_g A B j m 12 ||| 2 ^ 12) = r := by
        rw [Bool.eq_iff_iff, hr]
        exact zh_key W z y
      unfold zh_h
      rw [this]
      simp [hne, y, z]
    have k := K (nI (zm_g A B j m 12)) fr fm tt pb bY ln
    rw [hh] at k
    refine zi_t (fun w => ?_) (fun w => ?_)
    · rw [w] at k
      exact k
    · rw [w] at k
      exact k
theorem zx_heldTo {post : Int32 → SX → Prop} {a : Nat} (W : zh_W A B j m) (hX : zx_E A B eA eB) (ha : a < j) (K : ∀ ft fr fm tt pb bY ln, post (nI (zb_hm (zh_h A B j m) a j)) (nI j, nI m, ft, fr, eA, eB, fm, tt, pb, bY, ln)) : wpX_heldTo post (nI j, nI m, ft, fr, eA, eB, fm, tt, pb, bY, ln) (nI a) := by
  have hj := W.2.1
  have L : ∀ d i, i + d = j → ∀ ft fr fm tt pb bY ln, wX_heldTo_16 post (nI a) (d + 1) (nI (zb_hm (zh_h A B j m) a i)) (nI i) (nI j) (nI m) ft fr eA eB fm tt pb bY ln := by
    intro d
    induction d with
    | zero =>
      intro i hi ft fr fm tt pb bY ln
      obtain rfl : i = j := by omega
      exact br_t (nI_le (Nat.le_refl _) (by omega)) (K ft fr fm tt pb bY ln)
    | succ d ih =>
      intro i hi ft fr fm tt pb bY ln
      refine br_f (nI_ge (by omega) (by omega)) (zx_held W hX (by omega) (by omega) fun ft fr fm tt pb bY ln => ?_)
      have h1 := ih (i + 1) (by omega) ft fr fm tt pb bY ln
      refine zi_t (fun z => ?_) (fun z => ?_)
      · rw [show zb_hm (zh_h A B j m) a (i + 1) = zb_hm (zh_h A B j m) a i from if_neg (by rw [z]; decide)] at h1
        exact nm_r (Int32.or_zero) (nm_r (nI_1 i) h1)
      · rw [show zb_hm (zh_h A B j m) a (i + 1) = zb_hm (zh_h A B j m) a i ||| 2 ^ i from if_pos z] at h1
        exact nm_r (zi_osh (by omega)) (nm_r (nI_1 i) h1)
  unfold wpX_heldTo
  dsimp only
  refine zx_joint (a := a) (by omega) hj ?_
  rw [decide_eq_true ha]
  exact br_f (by decide) (nm_r (zi_sh (by omega)) ⟨j + 1, L j 0 (Nat.zero_add j) ft fr fm tt pb bY ln⟩)
theorem zx_leads {post : Int32 → Prop} {c a b : Nat} (hc : c < 64) (ha : a < 6) (hb : b < 6) (h : post (nI (zb_ld c a b).toNat)) : wpX_leads post (nI c) (nI a) (nI b) := by
  have h1 : 0 < 2 ^ b := Nat.two_pow_pos b
  have h2 : 2 ^ a < 2 ^ 6 := Nat.pow_lt_pow_right (by decide) ha
  have e1 : nI c &&& (((1 : Int32) <<< (nI b &&& 31)) - 1) = nI (c &&& (2 ^ b - 1)) := by
    rw [zi_sh (by omega), show nI (2 ^ b) - 1 = nI (2 ^ b - 1) from pk_sub (a := 2 ^ b) (b := 1) h1, nx_and]
  have l1 : c &&& (2 ^ b - 1) ≤ c := Nat.and_le_left
  refine nm_r e1 ?_
  rw [zi_sh (by omega), zi_sh (by omega), zi_m1, nx_xor, nx_xor, nx_and, nx_and]
  have l2 : c &&& ((c &&& (2 ^ b - 1)) ^^^ 4294967295) &&& (2 ^ b ^^^ 4294967295) ≤ c := Nat.le_trans Nat.and_le_left Nat.and_le_left
  unfold zb_ld at h
  refine pk_eq (c &&& (2 ^ b - 1)) (2 ^ a) (fun z => pk_eq (c &&& ((c &&& (2 ^ b - 1)) ^^^ 4294967295) &&& (2 ^ b ^^^ 4294967295)) 0 (fun y => ?_) (fun y => ?_) rfl rfl (by omega) (by decide)) (fun z => ?_) rfl rfl (by omega) (by omega)
  · rw [decide_eq_true y, Bool.not_true, Bool.and_false] at h
    exact h
  · rw [decide_eq_false y, decide_eq_true z] at h
    exact h
  · rw [decide_eq_false z, Bool.false_and] at h
    exact h
theorem zx_redundant {post : Int32 → SX → Prop} {k : Nat} (W : zh_W A B j m) (hX : zx_E A B eA eB) (hk : k < 12) (K : ∀ ft fr fm tt pb bY ln, post (nI (zh_rd A B j m k).toNat) (nI j, nI m, ft, fr, eA, eB, fm, tt, pb, bY, ln)) : wpX_redundant post (nI j, nI m, ft, fr, eA, eB, fm, tt, pb, bY, ln) (nI k) := by
  have hm := W.2.2.1
  unfold wpX_redundant
  dsimp only
  refine zx_has hm hk (zi_t (fun z => ?_) (fun z => zx_rank W hX (fun _ h => h) hm fun ft fr fm tt pb bY ln => ?_))
  · have e : zh_rd A B j m k = false := by
      unfold zh_rd
      rw [z]
      rfl
    have := K ft fr fm tt pb bY ln
    rw [e] at this
    exact this
  · dsimp only
    rw [zi_clr (by omega)]
    have hc : zi_c m k < 4096 := Nat.lt_of_le_of_lt (zi_c_le m k) hm
    refine zx_rank W hX (fun i hi => ?_) hc fun ft fr fm tt pb bY ln => ?_
    · rw [zi_c_bit (by omega) (by omega), Bool.and_eq_true] at hi
      exact hi.1
    · have b1 : zh_rk A B j (zi_c m k) ≤ 12 := fc_n_le _ 12
      have b2 : zh_rk A B j m ≤ 12 := fc_n_le _ 12
      have h := K ft fr fm tt pb bY ln
      unfold zh_rd at h
      rw [z, Bool.true_and] at h
      refine pk_eq (zh_rk A B j (zi_c m k)) (zh_rk A B j m) (fun e => ?_) (fun e => ?_) rfl rfl (by omega) (by omega)
      · rw [decide_eq_true e] at h
        exact h
      · rw [decide_eq_false e] at h
        exact h
theorem zx_ring {post : Int32 → SX → Prop} {k : Nat} (W : zh_W A B j m) (hX : zx_E A B eA eB) (hk : k < 12) (K : ∀ ft fr fm tt pb bY ln, post (if (m.testBit k && !(zm_g A B j m 12).testBit k) = true then nI (zh_rg A B j (zm_g A B j m 12) k 12) else 0) (nI j, nI m, ft, fr, eA, eB, fm, tt, pb, bY, ln)) : wpX_ring post (nI j, nI m, ft, fr, eA, eB, fm, tt, pb, bY, ln) (nI k) := by
  have hm := W.2.2.1
  have hg : zm_g A B j m 12 < 2 ^ 12 := zm_g_lt 12
  unfold wpX_ring
  dsimp only
  refine zx_frame W hX fun ft fr fm tt pb bY ln => zx_has hm hk (zi_t (fun z => ?_) (fun z => zi_z (by omega) (by omega) (fun y => nm_r (zi_sh (by omega)) ?_) (fun y => ?_)))
  · have h := K ft fr fm tt pb bY ln
    rw [z, if_neg (by simp)] at h
    exact h
  · rw [y, z] at K
    simp only [Bool.not_false, Bool.and_true, if_true] at K
    have L : ∀ d i, i + d = 12 → ∀ ft fr fm tt pb bY ln, wX_ring_30 post (nI k) (nI (zm_g A B j m 12)) (d + 1) (nI (zh_rg A B j (zm_g A B j m 12) k i)) (nI i) (nI j) (nI m) ft fr eA eB fm tt pb bY ln := by
      intro d
      induction d with
      | zero =>
        intro i hi ft fr fm tt pb bY ln
        obtain rfl : i = 12 := by omega
        exact br_t (nI_le (a := 12) (b := 12) (by decide) (by decide)) (K ft fr fm tt pb bY ln)
      | succ d ih =>
        intro i hi ft fr fm tt pb bY ln
        have h1 := ih (i + 1) (by omega)
        refine br_f (nI_ge (b := 12) (by omega) (by decide)) (zi_z (by omega) (by omega) (fun hb => ?_) (fun hb => ?_))
        · rw [zh_rg_f1 hb] at h1
          exact nm_r (nI_1 i) (h1 ft fr fm tt pb bY ln)
        · rw [zi_clr (by omega), zi_osh (x := zi_c (zm_g A B j m 12) i) (by omega)]
          have hs : zi_c (zm_g A B j m 12) i ||| 2 ^ k < 2 ^ 12 := zm_orlt (Nat.lt_of_le_of_lt (zi_c_le _ _) hg) hk
          refine zx_isFree W hX ?_ hs ?_
          · intro x hx
            rw [zm_or, zi_c_bit (by omega) (by omega), Bool.or_eq_true, Bool.and_eq_true, decide_eq_true_eq] at hx
            rcases hx with w | w
            · exact (zm_g_bit 12 x w.1).2
            · rw [w]
              exact z
          · intro ft fr fm tt pb bY ln
            refine zi_t (fun w => ?_) (fun w => ?_)
            · rw [zh_rg_f2 w] at h1
              exact nm_r (nI_1 i) (h1 ft fr fm tt pb bY ln)
            · rw [zh_rg_t hb w] at h1
              exact nm_r (zi_osh (by omega)) (nm_r (nI_1 i) (h1 ft fr fm tt pb bY ln))
    exact ⟨13, L 12 0 rfl ft fr fm tt pb bY ln⟩
  · have h := K ft fr fm tt pb bY ln
    rw [y, if_neg (by simp)] at h
    exact h
theorem zx_doublyHeld {post : Int32 → SX → Prop} (W : zh_W A B j m) (hX : zx_E A B eA eB) (K : ∀ ft fr fm tt pb bY ln, post (nI (zh_dhb A B j m).toNat) (nI j, nI m, ft, fr, eA, eB, fm, tt, pb, bY, ln)) : wpX_doublyHeld post (nI j, nI m, ft, fr, eA, eB, fm, tt, pb, bY, ln) := by
  have hm := W.2.2.1
  have no : zh_dhb A B j m = false → ∀ ft fr fm tt pb bY ln, post 0 (nI j, nI m, ft, fr, eA, eB, fm, tt, pb, bY, ln) := fun e ft fr fm tt pb bY ln => by
    have := K ft fr fm tt pb bY ln
    rw [e] at this
    exact this
  have L : zh_rigid A B j m = true → ∀ d i, i + d = 12 → (∀ k, k < i → m.testBit k = true → zh_rd A B j m k = true) → ∀ ft fr fm tt pb bY ln, wX_doublyHeld_11 post (d + 1) (nI i) (nI j) (nI m) ft fr eA eB fm tt pb bY ln := by
    intro hr d
    induction d with
    | zero =>
      intro i hi hk ft fr fm tt pb bY ln
      obtain rfl : i = 12 := by omega
      have h := K ft fr fm tt pb bY ln
      rw [zh_dhT.mpr ⟨hr, hk⟩] at h
      exact br_t (nI_le (a := 12) (b := 12) (by decide) (by decide)) h
    | succ d ih =>
      intro i hi hk ft fr fm tt pb bY ln
      refine br_f (nI_ge (b := 12) (by omega) (by decide)) (zx_has hm (by omega) (zi_t (fun z => ?_) (fun z => zx_redundant W hX (by omega) fun ft fr fm tt pb bY ln => zi_t (fun y => ?_) (fun y => ?_))))
      · exact nm_r (nI_1 i) (ih (i + 1) (by omega) (lt_s hk fun w => by rw [z] at w; cases w) ft fr fm tt pb bY ln)
      · refine no (zm_nf fun w => ?_) ft fr fm tt pb bY ln
        rw [(zh_dhT.mp w).2 i (by omega) z] at y
        cases y
      · exact nm_r (nI_1 i) (ih (i + 1) (by omega) (lt_s hk fun _ => y) ft fr fm tt pb bY ln)
  unfold wpX_doublyHeld
  dsimp only
  refine zx_rigid W hX fun ft fr fm tt pb bY ln => zi_t (fun z => ?_) (fun z => ?_)
  · exact no (zm_nf fun w => by rw [(zh_dhT.mp w).1] at z; cases z) ft fr fm tt pb bY ln
  · exact ⟨13, L z 12 0 rfl lt_0 ft fr fm tt pb bY ln⟩
end
end
section
/-! the component: bodies, and the calls that change the bars, both sides -/
section
variable {ft fr : Int32} {eA eB fm tt pb bY ln : Nat → Int32} {A B : Nat → Nat} {j m : Nat}
theorem zx_53 {post : Int32 → SX → Prop} {J4 J23 : Int32 → Int32 → Int32 → Int32 → Int32 → Int32 → (Nat → Int32) → (Nat → Int32) → (Nat → Int32) → (Nat → Int32) → (Nat → Int32) → (Nat → Int32) → (Nat → Int32) → Prop} {fj fp x3 : Int32} {a b c n : Nat} (hc : c < 64) (ha : a < 6) (hb : b < 6) (K : J23 (nI (n + (zb_ld c a b).toNat)) (nI (b + 1)) fj fp ft fr eA eB fm tt pb bY ln) : wX_bodies_53 post J4 J23 (nI n) (nI a) x3 (nI b) (nI c) fj fp ft fr eA eB fm tt pb bY ln := by
  unfold wX_bodies_53
  refine zx_leads hc ha hb (zi_t (fun z => ?_) (fun z => ?_))
  · rw [z] at K
    exact nm_r (Int32.add_zero _) (nm_r (nI_1 b) K)
  · rw [z] at K
    exact nm_r (nI_1 n) (nm_r (nI_1 b) K)
theorem zx_23 {post : Int32 → SX → Prop} {J4 : Int32 → Int32 → Int32 → Int32 → Int32 → Int32 → (Nat → Int32) → (Nat → Int32) → (Nat → Int32) → (Nat → Int32) → (Nat → Int32) → (Nat → Int32) → (Nat → Int32) → Prop} {a n0 : Nat} (W : zh_W A B j m) (hX : zx_E A B eA eB) (ha : a < j) (K : ∀ ft fr fm tt pb bY ln, J4 (nI (n0 + fc_s (fun b => (zb_q (zh_h A B j m) j a b).toNat) j)) (nI (a + 1)) (nI j) (nI m) ft fr eA eB fm tt pb bY ln) : ∀ d b, b + d = j → a < b → ∀ ft fr fm tt pb bY ln, wX_bodies_23 post J4 (nI a) (nI (zb_hm (zh_h A B j m) a j)) (d + 1) (nI (n0 + fc_s (fun b => (zb_q (zh_h A B j m) j a b).toNat) b)) (nI b) (nI j) (nI m) ft fr eA eB fm tt pb bY ln := by
  have hj := W.2.1
  intro d
  induction d with
  | zero =>
    intro b hb hab ft fr fm tt pb bY ln
    obtain rfl : b = j := by omega
    exact br_t (nI_le (Nat.le_refl _) (by omega)) (nm_r (nI_1 a) (K ft fr fm tt pb bY ln))
  | succ d ih =>
    intro b hb hab ft fr fm tt pb bY ln
    have hA : zb_hm (zh_h A B j m) a j < 2 ^ 6 := zb_hm_lt (by omega) hj
    have hB : zb_hm (zh_h A B j m) b j < 2 ^ 6 := zb_hm_lt (by omega) hj
    have hbit : (zb_hm (zh_h A B j m) a j).testBit b = zh_h A B j m a b := by
      rw [zb_hm_bit, decide_eq_false (show ¬ b = a by omega), decide_eq_true (show b < j by omega)]
      rfl
    have h1 := ih (b + 1) (by omega) (by omega)
    rw [show fc_s (fun b => (zb_q (zh_h A B j m) j a b).toNat) (b + 1) = fc_s (fun b => (zb_q (zh_h A B j m) j a b).toNat) b + (zb_q (zh_h A B j m) j a b).toNat from rfl, ← Nat.add_assoc] at h1
    generalize n0 + fc_s (fun b => (zb_q (zh_h A B j m) j a b).toNat) b = n1 at h1 ⊢
    refine br_f (nI_ge (by omega) (by omega)) (zi_z (by omega) (by omega) (fun z => ?_) (fun z => ?_))
    · rw [hbit] at z
      have e1 : zb_q (zh_h A B j m) j a b = false := by
        unfold zb_q
        rw [z, Bool.false_and, Bool.and_false]
      have e2 : zb_ld 0 a b = false := by
        unfold zb_ld
        rw [Nat.zero_and, decide_eq_false (fun y => absurd y.symm (Nat.ne_of_gt (Nat.two_pow_pos a))), Bool.false_and]
      rw [e1] at h1
      exact zx_53 (c := 0) (by decide) (by omega) (by omega) (by rw [e2]; exact h1 ft fr fm tt pb bY ln)
    · rw [hbit] at z
      refine zx_heldTo W hX (by omega) fun ft fr fm tt pb bY ln => ?_
      have e1 : zb_q (zh_h A B j m) j a b = zb_ld (zb_hm (zh_h A B j m) a j &&& zb_hm (zh_h A B j m) b j) a b := by
        unfold zb_q
        rw [z, decide_eq_true hab, Bool.true_and, Bool.true_and]
      rw [e1] at h1
      dsimp only
      rw [nx_and]
      exact zx_53 (c := zb_hm (zh_h A B j m) a j &&& zb_hm (zh_h A B j m) b j) (Nat.lt_of_le_of_lt Nat.and_le_left hA) (by omega) (by omega) (h1 ft fr fm tt pb bY ln)
theorem zx_bodies {post : Int32 → SX → Prop} (W : zh_W A B j m) (hX : zx_E A B eA eB) (K : ∀ ft fr fm tt pb bY ln, post (nI (zb_x (zh_h A B j m) j)) (nI j, nI m, ft, fr, eA, eB, fm, tt, pb, bY, ln)) : wpX_bodies post (nI j, nI m, ft, fr, eA, eB, fm, tt, pb, bY, ln) := by
  have hj := W.2.1
  have L : ∀ n a, a ≤ j → j < n + a → ∀ ft fr fm tt pb bY ln, wX_bodies_4 post n (nI (fc_s (fun a => fc_s (fun b => (zb_q (zh_h A B j m) j a b).toNat) j) a)) (nI a) (nI j) (nI m) ft fr eA eB fm tt pb bY ln := by
    intro n
    induction n with
    | zero =>
      intro a h1 h2
      omega
    | succ n ih =>
      intro a h1 h2 ft fr fm tt pb bY ln
      by_cases e : a = j
      · rw [e]
        exact br_t (nI_le (Nat.le_refl _) (by omega)) (K ft fr fm tt pb bY ln)
      · have ha : a < j := by omega
        refine br_f (nI_ge ha (by omega)) (zx_heldTo W hX ha fun ft fr fm tt pb bY ln => nm_r (nI_1 a) ⟨(j - (a + 1)) + 1, ?_⟩)
        have h3 := zx_23 (post := post) (J4 := wX_bodies_4 post n) (n0 := fc_s (fun a => fc_s (fun b => (zb_q (zh_h A B j m) j a b).toNat) j) a) W hX ha (ih (a + 1) (by omega) (by omega)) (j - (a + 1)) (a + 1) (by omega) (by omega) ft fr fm tt pb bY ln
        rw [show fc_s (fun b => (zb_q (zh_h A B j m) j a b).toNat) (a + 1) = 0 from fc_zero fun i hi => by
          show (zb_q (zh_h A B j m) j a i).toNat = 0
          unfold zb_q
          rw [decide_eq_false (show ¬ a < i by omega), Bool.false_and]
          rfl, Nat.add_zero] at h3
        exact h3
  exact ⟨j + 1, L (j + 1) 0 (Nat.zero_le _) (by omega) ft fr fm tt pb bY ln⟩
/-- the first free place k -/
theorem zx_add {post : Int32 → SX → Prop} {k a b : Nat} (W : zh_W A B j m) (hX : zx_E A B eA eB) (hk : k < 12) (hkm : m.testBit k = false) (hall : ∀ i, i < k → m.testBit i = true) (ha : a < j) (hb : b < j) (K : ∀ eA eB, zx_E (zi_u A k a) (zi_u B k b) eA eB → post (nI k) (nI j, nI (m ||| 2 ^ k), ft, fr, eA, eB, fm, tt, pb, bY, ln)) : ∀ d i, i + d = k → wX_add_25 post (nI a) (nI b) (nI j) (nI m) ft fr eA eB fm tt pb bY ln (d + 1) (nI i) := by
  have hm := W.2.2.1
  have hj := W.2.1
  intro d
  induction d with
  | zero =>
    intro i hi
    obtain rfl : i = k := by omega
    refine br_f (nI_ge (b := 12) hk (by decide)) (zx_has hm hk ?_)
    rw [hkm]
    have ik : vp_in (nI i) 12 := vp_in_nI hk (by decide)
    refine br_t rfl (nm_r (zi_osh (by omega)) ⟨ik, nm_e ⟨ik, nm_e (K _ _ fun x hx => ?_)⟩⟩)
    rw [zi_upd (by omega), zi_upd (by omega)]
    by_cases z : x = i
    · rw [if_pos z, if_pos z, z, zi_us, zi_us]
      exact ⟨zi_nar8 (by omega), zi_nar8 (by omega)⟩
    · rw [if_neg z, if_neg z, zi_un z, zi_un z]
      exact hX x hx
  | succ d ih =>
    intro i hi
    refine br_f (nI_ge (b := 12) (by omega) (by decide)) (zx_has hm (by omega) ?_)
    rw [hall i (by omega)]
    exact br_f (by decide) (nm_r (nI_1 i) (ih (i + 1) (by omega)))
theorem zx_full {post : Int32 → SX → Prop} {a b : Nat} (hm : m < 4096) (hall : ∀ i, i < 12 → m.testBit i = true) (K : post (-2) (nI j, nI m, ft, fr, eA, eB, fm, tt, pb, bY, ln)) : ∀ d i, i + d = 12 → wX_add_25 post (nI a) (nI b) (nI j) (nI m) ft fr eA eB fm tt pb bY ln (d + 1) (nI i) := by
  intro d
  induction d with
  | zero =>
    intro i hi
    obtain rfl : i = 12 := by omega
    exact br_t (nI_le (a := 12) (b := 12) (by decide) (by decide)) K
  | succ d ih =>
    intro i hi
    refine br_f (nI_ge (b := 12) (by omega) (by decide)) (zx_has hm (by omega) ?_)
    rw [hall i (by omega)]
    exact br_f (by decide) (nm_r (nI_1 i) (ih (i + 1) (by omega)))
end
section
variable {th as bs : Nat → Int32} {A B : Nat → Nat} {j m : Nat}
theorem zy_add {post : Int32 → SY → Prop} {k a b : Nat} (hT : zy_T m th) (hA : zy_A A B as bs) (hk : k < 12) (hkm : m.testBit k = false) (hall : ∀ i, i < k → m.testBit i = true) (K : ∀ th as bs, zy_T (m ||| 2 ^ k) th → zy_A (zi_u A k a) (zi_u B k b) as bs → post (nI k) (nI j, th, as, bs)) : ∀ d i, i + d = k → wY_add_25 post (nI a) (nI b) (nI j) th as bs (d + 1) (nI i) := by
  intro d
  induction d with
  | zero =>
    intro i hi
    obtain rfl : i = k := by omega
    have ik : vp_in (nI i) 13 := vp_in_nI (by omega) (by decide)
    refine br_f (nI_ge (b := 12) hk (by decide)) ⟨ik, ?_⟩
    rw [show th (nI i).toNatClampNeg = 0 by rw [nI_clamp (by omega), hT i hk, hkm]; rfl]
    refine br_t rfl ⟨ik, nm_e ⟨ik, nm_e ⟨ik, nm_e (K _ _ _ (fun x hx => ?_) (fun x hx => ?_))⟩⟩⟩
    · rw [zi_upd (by omega), zm_or]
      by_cases z : x = i
      · rw [if_pos z, z, fc_dt, Bool.or_true]
        rfl
      · rw [if_neg z, decide_eq_false z, Bool.or_false]
        exact hT x hx
    · rw [zi_upd (by omega), zi_upd (by omega)]
      by_cases z : x = i
      · rw [if_pos z, if_pos z, z, zi_us, zi_us]
        exact ⟨rfl, rfl⟩
      · rw [if_neg z, if_neg z, zi_un z, zi_un z]
        exact hA x hx
  | succ d ih =>
    intro i hi
    refine br_f (nI_ge (b := 12) (by omega) (by decide)) ⟨vp_in_nI (by omega) (by decide), ?_⟩
    rw [show th (nI i).toNatClampNeg = 1 by rw [nI_clamp (by omega), hT i (by omega), hall i (by omega)]; rfl]
    exact br_f (by decide) (nm_r (nI_1 i) (ih (i + 1) (by omega)))
theorem zy_full {post : Int32 → SY → Prop} {a b : Nat} (hT : zy_T m th) (hall : ∀ i, i < 12 → m.testBit i = true) (K : post (-2) (nI j, th, as, bs)) : ∀ d i, i + d = 12 → wY_add_25 post (nI a) (nI b) (nI j) th as bs (d + 1) (nI i) := by
  intro d
  induction d with
  | zero =>
    intro i hi
    obtain rfl : i = 12 := by omega
    exact br_t (nI_le (a := 12) (b := 12) (by decide) (by decide)) K
  | succ d ih =>
    intro i hi
    refine br_f (nI_ge (b := 12) (by omega) (by decide)) ⟨vp_in_nI (by omega) (by decide), ?_⟩
    rw [show th (nI i).toNatClampNeg = 1 by rw [nI_clamp (by omega), hT i (by omega), hall i (by omega)]; rfl]
    exact br_f (by decide) (nm_r (nI_1 i) (ih (i + 1) (by omega)))
end
end
section
/-! the relation, and the owed statements -/
section
variable {ft fr : Int32} {eA eB fm tt pb bY ln th as bs : Nat → Int32} {A B : Nat → Nat} {j m : Nat}
theorem zr_ix (x : Int32) (n : Nat) (hn : n < 2 ^ 31) : (x < 0 ∨ nI n ≤ x) ∨ ∃ a, a < n ∧ x = nI a := by
  rcases pk_ix x hn with h | h | h
  · exact Or.inl (Or.inl h)
  · exact Or.inl (Or.inr h)
  · exact Or.inr h
theorem zr_xjN {post : Int32 → Prop} {fp p0 : Int32} (h : p0 < 0 ∨ nI j ≤ p0) (hp : post 0) : wpX_isJoint post (nI j, fp, ft, fr, eA, eB, fm, tt, pb, bY, ln) p0 := br_c (fun _ => hp) (fun h0 => br_t (h.resolve_left h0) hp)
theorem zr_xj {post : Int32 → Prop} {fp : Int32} {a : Nat} (hj : j ≤ 6) (ha : a < j) (hp : post 1) : wpX_isJoint post (nI j, fp, ft, fr, eA, eB, fm, tt, pb, bY, ln) (nI a) := zx_joint (by omega) hj (by rw [decide_eq_true ha]; exact hp)
theorem zr_xhN {post : Int32 → Prop} {fj fp p0 : Int32} (h : p0 < 0 ∨ nI 12 ≤ p0) (hp : post 0) : wpX_has post (fj, fp, ft, fr, eA, eB, fm, tt, pb, bY, ln) p0 := br_c (fun _ => hp) (fun h0 => br_t (h.resolve_left h0) hp)
theorem zr_yjN {post : Int32 → Prop} {p0 : Int32} (h : p0 < 0 ∨ nI j ≤ p0) (hp : post 0) : wpY_joint post (nI j, th, as, bs) p0 := br_c (fun _ => hp) (fun h0 => br_t (h.resolve_left h0) hp)
theorem zr_yj {post : Int32 → Prop} {a : Nat} (hj : j ≤ 6) (ha : a < j) (hp : post 1) : wpY_joint post (nI j, th, as, bs) (nI a) := zy_joint (by omega) hj (by rw [decide_eq_true ha]; exact hp)
theorem zr_11 {p0 : Int32} (h : nI 12 ≤ p0) : 11 < p0 := Int32.lt_of_lt_of_le (show (11 : Int32) < nI 12 by decide) h
theorem zr_W {k a b : Nat} (W : zh_W A B j m) (hk : k < 12) (ha : a < j) (hb : b < j) (hab : a ≠ b) : zh_W (zi_u A k a) (zi_u B k b) j (m ||| 2 ^ k) := by
  obtain ⟨w1, w2, w3, w4⟩ := W
  refine ⟨w1, w2, zm_orlt (n := 12) w3 hk, fun i hi => ?_⟩
  by_cases z : i = k
  · rw [z, zi_us, zi_us]
    exact ⟨ha, hb, fun _ => hab⟩
  · rw [zi_un z, zi_un z, zm_or, decide_eq_false z, Bool.or_false]
    exact w4 i hi
theorem zr_Wc {k : Nat} (W : zh_W A B j m) (hk : k < 12) : zh_W A B j (zi_c m k) := by
  obtain ⟨w1, w2, w3, w4⟩ := W
  refine ⟨w1, w2, Nat.lt_of_le_of_lt (zi_c_le m k) w3, fun i hi => ⟨(w4 i hi).1, (w4 i hi).2.1, fun hb => (w4 i hi).2.2 ?_⟩⟩
  rw [zi_c_bit (by omega) (by omega), Bool.and_eq_true] at hb
  exact hb.1
theorem zr_xadd {post : Int32 → SX → Prop} {a b : Nat} (hj : j ≤ 6) (ha : a < j) (hb : b < j) (hab : ¬ nI a = nI b) (h : ∃ n, wX_add_25 post (nI a) (nI b) (nI j) (nI m) ft fr eA eB fm tt pb bY ln n 0) : wpX_add post (nI j, nI m, ft, fr, eA, eB, fm, tt, pb, bY, ln) (nI a) (nI b) := br_f hab (zr_xj hj ha (br_f (by decide) (zr_xj hj hb (br_f (by decide) h))))
theorem zr_yadd {post : Int32 → SY → Prop} {a b : Nat} (hj : j ≤ 6) (ha : a < j) (hb : b < j) (hab : ¬ nI a = nI b) (h : ∃ n, wY_add_25 post (nI a) (nI b) (nI j) th as bs n 0) : wpY_add post (nI j, th, as, bs) (nI a) (nI b) := br_f hab (zr_yj hj ha (br_f (by decide) (zr_yj hj hb (br_f (by decide) h))))
theorem zr_free (m : Nat) : (∀ i, i < 12 → m.testBit i = true) ∨ ∃ k, k < 12 ∧ m.testBit k = false ∧ ∀ i, i < k → m.testBit i = true := by
  by_cases h : ∀ i, i < 12 → m.testBit i = true
  · exact Or.inl h
  · have h1 : ∃ i, i < 12 ∧ m.testBit i = false := Classical.byContradiction fun z => h fun i hi => zm_nt fun y => z ⟨i, hi, y⟩
    obtain ⟨k, ⟨k1, k2⟩, k3⟩ := pk_least (fun i => i < 12 ∧ m.testBit i = false) h1
    exact Or.inr ⟨k, k1, k2, fun i hi => zm_nt fun y => k3 i hi ⟨by omega, y⟩⟩
end
def i_Rel (k : Nat) (u : SX) (v : SY) : Prop := ∃ (j m : Nat) (A B : Nat → Nat) (ft fr : Int32) (eA eB fm tt pb bY ln th as bs : Nat → Int32), u = (nI j, nI m, ft, fr, eA, eB, fm, tt, pb, bY, ln) ∧ v = (nI j, th, as, bs) ∧ zh_W A B j m ∧ zx_E A B eA eB ∧ zy_T m th ∧ zy_A A B as bs
theorem zr_in {k : Nat} {ft fr : Int32} {eA eB fm tt pb bY ln th as bs : Nat → Int32} {A B : Nat → Nat} {j m : Nat} (W : zh_W A B j m) (hX : zx_E A B eA eB) (hT : zy_T m th) (hA : zy_A A B as bs) : i_Rel k (nI j, nI m, ft, fr, eA, eB, fm, tt, pb, bY, ln) (nI j, th, as, bs) := ⟨j, m, A, B, ft, fr, eA, eB, fm, tt, pb, bY, ln, th, as, bs, rfl, rfl, W, hX, hT, hA⟩
theorem zr_el {P : SX → SY → Prop} {k : Nat} {u : SX} {v : SY} (h : ∀ (j m : Nat) (A B : Nat → Nat) (ft fr : Int32) (eA eB fm tt pb bY ln th as bs : Nat → Int32), zh_W A B j m → zx_E A B eA eB → zy_T m th → zy_A A B as bs → P (nI j, nI m, ft, fr, eA, eB, fm, tt, pb, bY, ln) (nI j, th, as, bs)) (I : i_Rel k u v) : P u v := by
  obtain ⟨j, m, A, B, ft, fr, eA, eB, fm, tt, pb, bY, ln, th, as, bs, e1, e2, W, hX, hT, hA⟩ := I
  rw [e1, e2]
  exact h j m A B ft fr eA eB fm tt pb bY ln th as bs W hX hT hA
theorem zr_0 {j : Nat} (h2 : 2 ≤ j) (h6 : j ≤ 6) : i_Rel 1 (nI j, 0, 0, 0, (fun _ => 0), (fun _ => 0), (fun _ => 0), (fun _ => 0), (fun _ => 0), (fun _ => 0), (fun _ => 0)) (nI j, (fun _ => 0), (fun _ => 0), (fun _ => 0)) := by
  refine zr_in (A := fun _ => 0) (B := fun _ => 0) (m := 0) ⟨h2, h6, by decide, fun k _ => ⟨(show 0 < j by omega), (show 0 < j by omega), fun z => ?_⟩⟩ (fun k _ => ⟨rfl, rfl⟩) (fun k _ => ?_) (fun k _ => ⟨rfl, rfl⟩)
  · rw [Nat.zero_testBit] at z
    cases z
  · rw [Nat.zero_testBit]
    rfl
theorem i_up {k : Nat} {u : SX} {v : SY} (h : i_Rel k u v) : i_Rel (k + 3) u v := h
theorem i_vc0 (k0 : Int32) : wpX_init (fun u => wpY_init (fun v => i_Rel 1 u v) k0) k0 := by
  by_cases a : 2 ≤ k0
  · by_cases b : k0 ≤ 6
    · obtain ⟨j, hj, rfl⟩ := nI_of2 (x := k0) (M := 6) (n := 6) (by decide) (Int32.not_lt.mpr (Int32.le_trans (by decide) a)) b
      have h2 : 2 ≤ j := (nI_leI (a := 2) (by decide) (by omega)).mp a
      exact br_t a (br_t b (br_t a (br_t b (zr_0 h2 hj))))
    · exact br_t a (br_f b (br_t a (br_f b (zr_0 (j := 6) (by decide) (by decide)))))
  · exact br_f a (br_f a (zr_0 (j := 2) (by decide) (by decide)))
theorem i_vc_add {k : Nat} {u : SX} {v : SY} (I : i_Rel k u v) (hk : k + 3 ≤ 1537) (v1 : Int32) (v2 : Int32) : wpX_add (fun r u' => wpY_add (fun r' v' => r' = r ∧ i_Rel (k + 3) u' v') v v1 v2) u v1 v2 := by
  refine zr_el (P := fun u v => wpX_add (fun r u' => wpY_add (fun r' v' => r' = r ∧ i_Rel (k + 3) u' v') v v1 v2) u v1 v2) ?_ I
  intro j m A B ft fr eA eB fm tt pb bY ln th as bs W hX hT hA
  have hj := W.2.1
  have hm := W.2.2.1
  have R := zr_in (k := k + 3) (ft := ft) (fr := fr) (fm := fm) (tt := tt) (pb := pb) (bY := bY) (ln := ln) W hX hT hA
  by_cases e : v1 = v2
  · exact br_t e (br_t e ⟨rfl, R⟩)
  rcases zr_ix v1 j (by omega) with h1 | ⟨a, ha, rfl⟩
  · exact br_f e (zr_xjN h1 (br_t rfl (br_f e (zr_yjN h1 (br_t rfl ⟨rfl, R⟩)))))
  rcases zr_ix v2 j (by omega) with h2 | ⟨b, hb, rfl⟩
  · exact br_f e (zr_xj hj ha (br_f (by decide) (zr_xjN h2 (br_t rfl (br_f e (zr_yj hj ha (br_f (by decide) (zr_yjN h2 (br_t rfl ⟨rfl, R⟩)))))))))
  rcases zr_free m with h | ⟨q, hq, q1, q2⟩
  · exact zr_xadd hj ha hb e ⟨13, zx_full hm h (zr_yadd hj ha hb e ⟨13, zy_full hT h ⟨rfl, R⟩ 12 0 rfl⟩) 12 0 rfl⟩
  · refine zr_xadd hj ha hb e ⟨q + 1, zx_add W hX hq q1 q2 ha hb (fun eA' eB' hX' => zr_yadd hj ha hb e ⟨q + 1, zy_add hT hA hq q1 q2 (fun th' as' bs' hT' hA' => ⟨rfl, zr_in (zr_W W hq ha hb (fun z => e (congrArg nI z))) hX' hT' hA'⟩) q 0 (Nat.zero_add q)⟩) q 0 (Nat.zero_add q)⟩
theorem i_vc_remove {k : Nat} {u : SX} {v : SY} (I : i_Rel k u v) (hk : k + 3 ≤ 1537) (v1 : Int32) : wpX_remove (fun r u' => wpY_remove (fun r' v' => r' = r ∧ i_Rel (k + 3) u' v') v v1) u v1 := by
  refine zr_el (P := fun u v => wpX_remove (fun r u' => wpY_remove (fun r' v' => r' = r ∧ i_Rel (k + 3) u' v') v v1) u v1) ?_ I
  intro j m A B ft fr eA eB fm tt pb bY ln th as bs W hX hT hA
  have hj := W.2.1
  have hm := W.2.2.1
  have R := zr_in (k := k + 3) (ft := ft) (fr := fr) (fm := fm) (tt := tt) (pb := pb) (bY := bY) (ln := ln) W hX hT hA
  unfold wpX_remove
  dsimp only
  rcases zr_ix v1 12 (by decide) with h | ⟨q, hq, rfl⟩
  · exact zr_xhN h (br_t rfl (br_c (fun _ => ⟨rfl, R⟩) (fun h0 => br_t (zr_11 (h.resolve_left h0)) ⟨rfl, R⟩)))
  have iq : vp_in (nI q) 13 := vp_in_nI (by omega) (by decide)
  refine zx_has hm hq (zi_t (fun z => ?_) (fun z => nm_r (zi_clr (by omega)) ?_))
  · refine br_f (nI_pos (by omega)) (br_f (nI_nlt (a := 11) (b := q) (by omega) (by decide)) ⟨iq, ?_⟩)
    rw [show th (nI q).toNatClampNeg = 0 by rw [nI_clamp (by omega), hT q hq, z]; rfl]
    exact br_t rfl ⟨rfl, R⟩
  · refine br_f (nI_pos (by omega)) (br_f (nI_nlt (a := 11) (b := q) (by omega) (by decide)) ⟨iq, ?_⟩)
    rw [show th (nI q).toNatClampNeg = 1 by rw [nI_clamp (by omega), hT q hq, z]; rfl]
    refine br_f (by decide) ⟨iq, nm_e ⟨rfl, zr_in (zr_Wc W hq) hX (fun x hx => ?_) hA⟩⟩
    rw [zi_upd (by omega), zi_c_bit (by omega) (by omega)]
    by_cases y : x = q
    · rw [if_pos y, y, fc_dt, Bool.not_true, Bool.and_false]
      rfl
    · rw [if_neg y, decide_eq_false y, Bool.not_false, Bool.and_true]
      exact hT x hx
theorem i_vc_bars {k : Nat} {u : SX} {v : SY} (I : i_Rel k u v) (hk : k + 3 ≤ 1537) : wpX_bars (fun r => wpY_bars (fun r' => r' = r ∧ i_Rel (k + 3) u v) v) u := by
  refine zr_el (P := fun u v => wpX_bars (fun r => wpY_bars (fun r' => r' = r ∧ i_Rel (k + 3) u v) v) u) ?_ I
  intro j m A B ft fr eA eB fm tt pb bY ln th as bs W hX hT hA
  have hj := W.2.1
  have hm := W.2.2.1
  have R := zr_in (k := k + 3) (ft := ft) (fr := fr) (fm := fm) (tt := tt) (pb := pb) (bY := bY) (ln := ln) W hX hT hA
  exact zy_bars hm hT ⟨rfl, R⟩
theorem i_vc_free {k : Nat} {u : SX} {v : SY} (I : i_Rel k u v) (hk : k + 3 ≤ 1537) (v1 : Int32) : wpX_free (fun r u' => wpY_free (fun r' => r' = r ∧ i_Rel (k + 3) u' v) v v1) u v1 := by
  refine zr_el (P := fun u v => wpX_free (fun r u' => wpY_free (fun r' => r' = r ∧ i_Rel (k + 3) u' v) v v1) u v1) ?_ I
  intro j m A B ft fr eA eB fm tt pb bY ln th as bs W hX hT hA
  have hj := W.2.1
  have hm := W.2.2.1
  have R := zr_in (k := k + 3) (ft := ft) (fr := fr) (fm := fm) (tt := tt) (pb := pb) (bY := bY) (ln := ln) W hX hT hA
  obtain ⟨w, hw, rfl⟩ := wb_of32 v1
  have hs : w &&& m < 4096 := Nat.lt_of_le_of_lt Nat.and_le_right hm
  unfold wpX_free
  dsimp only
  rw [nx_and]
  refine zx_isFree W hX ?_ hs ?_
  · intro i hi
    rw [Nat.testBit_and, Bool.and_eq_true] at hi
    exact hi.2
  · intro ft fr fm tt pb bY ln
    refine ⟨zi_nb _, zy_bars hm hT ?_⟩
    rw [nx_and]
    exact zy_loose (A := A) (B := B) hj (by omega) (zy_hA W hA hs) ⟨zi_nb _, rfl, zr_in W hX hT hA⟩
theorem i_vc_rank {k : Nat} {u : SX} {v : SY} (I : i_Rel k u v) (hk : k + 3 ≤ 1537) (v1 : Int32) : wpX_rank (fun r u' => wpY_rank (fun r' => r' = r ∧ i_Rel (k + 3) u' v) v v1) u v1 := by
  refine zr_el (P := fun u v => wpX_rank (fun r u' => wpY_rank (fun r' => r' = r ∧ i_Rel (k + 3) u' v) v v1) u v1) ?_ I
  intro j m A B ft fr eA eB fm tt pb bY ln th as bs W hX hT hA
  have hj := W.2.1
  have hm := W.2.2.1
  have R := zr_in (k := k + 3) (ft := ft) (fr := fr) (fm := fm) (tt := tt) (pb := pb) (bY := bY) (ln := ln) W hX hT hA
  obtain ⟨w, hw, rfl⟩ := wb_of32 v1
  have hs : w &&& m < 4096 := Nat.lt_of_le_of_lt Nat.and_le_right hm
  unfold wpX_rank
  dsimp only
  rw [nx_and]
  refine zx_rank W hX ?_ hs ?_
  · intro i hi
    rw [Nat.testBit_and, Bool.and_eq_true] at hi
    exact hi.2
  · intro ft fr fm tt pb bY ln
    refine zy_bars hm hT ?_
    rw [nx_and]
    exact zy_rank W hA hs ⟨rfl, zr_in W hX hT hA⟩
theorem i_vc_frame {k : Nat} {u : SX} {v : SY} (I : i_Rel k u v) (hk : k + 3 ≤ 1537) : wpX_frame (fun r u' => wpY_frame (fun r' => r' = r ∧ i_Rel (k + 3) u' v) v) u := by
  refine zr_el (P := fun u v => wpX_frame (fun r u' => wpY_frame (fun r' => r' = r ∧ i_Rel (k + 3) u' v) v) u) ?_ I
  intro j m A B ft fr eA eB fm tt pb bY ln th as bs W hX hT hA
  have hj := W.2.1
  have hm := W.2.2.1
  have R := zr_in (k := k + 3) (ft := ft) (fr := fr) (fm := fm) (tt := tt) (pb := pb) (bY := bY) (ln := ln) W hX hT hA
  exact zx_frame W hX fun ft fr fm tt pb bY ln => zy_frame W hT hA ⟨rfl, zr_in W hX hT hA⟩
theorem i_vc_rigid {k : Nat} {u : SX} {v : SY} (I : i_Rel k u v) (hk : k + 3 ≤ 1537) : wpX_rigid (fun r u' => wpY_rigid (fun r' => r' = r ∧ i_Rel (k + 3) u' v) v) u := by
  refine zr_el (P := fun u v => wpX_rigid (fun r u' => wpY_rigid (fun r' => r' = r ∧ i_Rel (k + 3) u' v) v) u) ?_ I
  intro j m A B ft fr eA eB fm tt pb bY ln th as bs W hX hT hA
  have hj := W.2.1
  have hm := W.2.2.1
  have R := zr_in (k := k + 3) (ft := ft) (fr := fr) (fm := fm) (tt := tt) (pb := pb) (bY := bY) (ln := ln) W hX hT hA
  exact zx_rigid W hX fun ft fr fm tt pb bY ln => zy_rigid W hT hA ⟨rfl, zr_in W hX hT hA⟩
theorem i_vc_freedom {k : Nat} {u : SX} {v : SY} (I : i_Rel k u v) (hk : k + 3 ≤ 1537) : wpX_freedom (fun r u' => wpY_freedom (fun r' => r' = r ∧ i_Rel (k + 3) u' v) v) u := by
  refine zr_el (P := fun u v => wpX_freedom (fun r u' => wpY_freedom (fun r' => r' = r ∧ i_Rel (k + 3) u' v) v) u) ?_ I
  intro j m A B ft fr eA eB fm tt pb bY ln th as bs W hX hT hA
  have hj := W.2.1
  have hm := W.2.2.1
  have R := zr_in (k := k + 3) (ft := ft) (fr := fr) (fm := fm) (tt := tt) (pb := pb) (bY := bY) (ln := ln) W hX hT hA
  exact zx_freedom W hX fun ft fr fm tt pb bY ln => zy_freedom W hT hA ⟨rfl, zr_in W hX hT hA⟩
theorem i_vc_held {k : Nat} {u : SX} {v : SY} (I : i_Rel k u v) (hk : k + 3 ≤ 1537) (v1 : Int32) (v2 : Int32) : wpX_held (fun r u' => wpY_held (fun r' v' => r' = r ∧ i_Rel (k + 3) u' v') v v1 v2) u v1 v2 := by
  refine zr_el (P := fun u v => wpX_held (fun r u' => wpY_held (fun r' v' => r' = r ∧ i_Rel (k + 3) u' v') v v1 v2) u v1 v2) ?_ I
  intro j m A B ft fr eA eB fm tt pb bY ln th as bs W hX hT hA
  have hj := W.2.1
  have hm := W.2.2.1
  have R := zr_in (k := k + 3) (ft := ft) (fr := fr) (fm := fm) (tt := tt) (pb := pb) (bY := bY) (ln := ln) W hX hT hA
  by_cases e : v1 = v2
  · exact br_t e (br_t e ⟨rfl, R⟩)
  rcases zr_ix v1 j (by omega) with h1 | ⟨a, ha, rfl⟩
  · exact br_f e (zr_xjN h1 (br_t rfl (br_f e (zr_yjN h1 (br_t rfl ⟨rfl, R⟩)))))
  rcases zr_ix v2 j (by omega) with h2 | ⟨b, hb, rfl⟩
  · exact br_f e (zr_xj hj ha (br_f (by decide) (zr_xjN h2 (br_t rfl (br_f e (zr_yj hj ha (br_f (by decide) (zr_yjN h2 (br_t rfl ⟨rfl, R⟩)))))))))
  exact zx_held W hX (by omega) (by omega) fun ft fr fm tt pb bY ln => zy_held W hT hA (by omega) (by omega) fun as' bs' hA' => ⟨rfl, zr_in W hX hT hA'⟩
theorem i_vc_redundant {k : Nat} {u : SX} {v : SY} (I : i_Rel k u v) (hk : k + 3 ≤ 1537) (v1 : Int32) : wpX_redundant (fun r u' => wpY_redundant (fun r' => r' = r ∧ i_Rel (k + 3) u' v) v v1) u v1 := by
  refine zr_el (P := fun u v => wpX_redundant (fun r u' => wpY_redundant (fun r' => r' = r ∧ i_Rel (k + 3) u' v) v v1) u v1) ?_ I
  intro j m A B ft fr eA eB fm tt pb bY ln th as bs W hX hT hA
  have hj := W.2.1
  have hm := W.2.2.1
  have R := zr_in (k := k + 3) (ft := ft) (fr := fr) (fm := fm) (tt := tt) (pb := pb) (bY := bY) (ln := ln) W hX hT hA
  rcases zr_ix v1 12 (by decide) with h | ⟨q, hq, rfl⟩
  · unfold wpX_redundant
    dsimp only
    exact zr_xhN h (br_t rfl (zy_bars hm hT (br_c (fun _ => ⟨rfl, R⟩) (fun h0 => br_t (h.resolve_left h0) ⟨rfl, R⟩))))
  exact zx_redundant W hX hq fun ft fr fm tt pb bY ln => zy_redundant W hT hA hq ⟨rfl, zr_in W hX hT hA⟩
theorem i_vc_ring {k : Nat} {u : SX} {v : SY} (I : i_Rel k u v) (hk : k + 3 ≤ 1537) (v1 : Int32) : wpX_ring (fun r u' => wpY_ring (fun r' => r' = r ∧ i_Rel (k + 3) u' v) v v1) u v1 := by
  refine zr_el (P := fun u v => wpX_ring (fun r u' => wpY_ring (fun r' => r' = r ∧ i_Rel (k + 3) u' v) v v1) u v1) ?_ I
  intro j m A B ft fr eA eB fm tt pb bY ln th as bs W hX hT hA
  have hj := W.2.1
  have hm := W.2.2.1
  have R := zr_in (k := k + 3) (ft := ft) (fr := fr) (fm := fm) (tt := tt) (pb := pb) (bY := bY) (ln := ln) W hX hT hA
  rcases zr_ix v1 12 (by decide) with h | ⟨q, hq, rfl⟩
  · unfold wpX_ring
    dsimp only
    refine zx_frame W hX fun ft fr fm tt pb bY ln => zr_xhN h (br_t rfl (zy_frame W hT hA (br_c (fun _ => ⟨rfl, zr_in W hX hT hA⟩) (fun h0 => br_t (zr_11 (h.resolve_left h0)) ⟨rfl, zr_in W hX hT hA⟩))))
  exact zx_ring W hX hq fun ft fr fm tt pb bY ln => zy_ring W hT hA hq ⟨rfl, zr_in W hX hT hA⟩
theorem i_vc_heldTo {k : Nat} {u : SX} {v : SY} (I : i_Rel k u v) (hk : k + 3 ≤ 1537) (v1 : Int32) : wpX_heldTo (fun r u' => wpY_heldTo (fun r' v' => r' = r ∧ i_Rel (k + 3) u' v') v v1) u v1 := by
  refine zr_el (P := fun u v => wpX_heldTo (fun r u' => wpY_heldTo (fun r' v' => r' = r ∧ i_Rel (k + 3) u' v') v v1) u v1) ?_ I
  intro j m A B ft fr eA eB fm tt pb bY ln th as bs W hX hT hA
  have hj := W.2.1
  have hm := W.2.2.1
  have R := zr_in (k := k + 3) (ft := ft) (fr := fr) (fm := fm) (tt := tt) (pb := pb) (bY := bY) (ln := ln) W hX hT hA
  rcases zr_ix v1 j (by omega) with h | ⟨a, ha, rfl⟩
  · unfold wpX_heldTo
    dsimp only
    refine zr_xjN h (br_t rfl ?_)
    unfold wpY_heldTo
    dsimp only
    exact zr_yjN h (br_t rfl ⟨1, br_f (nI_ge (a := 0) (b := j) (by have := W.1; omega) (by omega)) (zr_yjN h (br_t rfl ⟨rfl, R⟩))⟩)
  exact zx_heldTo W hX ha fun ft fr fm tt pb bY ln => zy_heldTo W hT hA ha fun as' bs' hA' => ⟨rfl, zr_in W hX hT hA'⟩
theorem i_vc_bodies {k : Nat} {u : SX} {v : SY} (I : i_Rel k u v) (hk : k + 3 ≤ 1537) : wpX_bodies (fun r u' => wpY_bodies (fun r' v' => r' = r ∧ i_Rel (k + 3) u' v') v) u := by
  refine zr_el (P := fun u v => wpX_bodies (fun r u' => wpY_bodies (fun r' v' => r' = r ∧ i_Rel (k + 3) u' v') v) u) ?_ I
  intro j m A B ft fr eA eB fm tt pb bY ln th as bs W hX hT hA
  have hj := W.2.1
  have hm := W.2.2.1
  have R := zr_in (k := k + 3) (ft := ft) (fr := fr) (fm := fm) (tt := tt) (pb := pb) (bY := bY) (ln := ln) W hX hT hA
  exact zx_bodies W hX fun ft fr fm tt pb bY ln => zy_bodies W hT hA fun as' bs' hA' => ⟨congrArg nI (zh_xy W).symm, zr_in W hX hT hA'⟩
theorem i_vc_doublyHeld {k : Nat} {u : SX} {v : SY} (I : i_Rel k u v) (hk : k + 3 ≤ 1537) : wpX_doublyHeld (fun r u' => wpY_doublyHeld (fun r' => r' = r ∧ i_Rel (k + 3) u' v) v) u := by
  refine zr_el (P := fun u v => wpX_doublyHeld (fun r u' => wpY_doublyHeld (fun r' => r' = r ∧ i_Rel (k + 3) u' v) v) u) ?_ I
  intro j m A B ft fr eA eB fm tt pb bY ln th as bs W hX hT hA
  have hj := W.2.1
  have hm := W.2.2.1
  have R := zr_in (k := k + 3) (ft := ft) (fr := fr) (fm := fm) (tt := tt) (pb := pb) (bY := bY) (ln := ln) W hX hT hA
  exact zx_doublyHeld W hX fun ft fr fm tt pb bY ln => zy_doublyHeld W hT hA ⟨rfl, zr_in W hX hT hA⟩
end
