section
theorem pk_us {f : Nat → Int32} {k : Nat} {x : Int32} : upd f k x k = x := if_pos rfl
theorem pk_un {f : Nat → Int32} {k j : Nat} {x : Int32} (h : j ≠ k) : upd f k x j = f j := if_neg h
theorem pk_sub {a b : Nat} (h : b ≤ a) : nI a - nI b = nI (a - b) := by
  obtain ⟨c, rfl⟩ : ∃ c, a = c + b := ⟨a - b, by omega⟩
  rw [← nI_add, Int32.add_sub_cancel, Nat.add_sub_cancel]
theorem pk_m1 (n : Nat) : nI (n + 1) + (-1) = nI n := by
  rw [← nI_1, Int32.add_assoc, show (1 : Int32) + (-1) = 0 from rfl, Int32.add_zero]
theorem pk_mul (a b : Nat) : nI a * nI b = nI (a * b) := (Int32.ofNat_mul a b).symm
theorem pk_div {a d : Nat} (ha : a < 2 ^ 31) (h0 : 0 < d) (hd : d < 2 ^ 31) : nI a / nI d = nI (a / d) := by
  apply Int32.toInt_inj.mp
  rw [lg_idiv_nonneg (by rw [nI_toInt ha]; omega) (by rw [nI_toInt hd]; omega), nI_toInt ha, nI_toInt hd, nI_toInt (Nat.lt_of_le_of_lt (Nat.div_le_self a d) ha)]
  first | rfl | exact (Int.natCast_ediv _ _).symm
theorem pk_rem {a d : Nat} (ha : a < 2 ^ 31) (h0 : 0 < d) (hd : d < 2 ^ 31) : nI a - nI a / nI d * nI d = nI (a % d) := by
  rw [pk_div ha h0 hd, pk_mul, pk_sub (Nat.div_mul_le_self a d)]
  exact congrArg nI (by have := Nat.div_add_mod' a d; omega)
theorem pk_sub_toInt {a b : Nat} (ha : a < 2 ^ 30) (hb : b < 2 ^ 30) : (nI a - nI b).toInt = (a : Int) - b := by
  rw [Int32.toInt_sub, nI_toInt (by omega), nI_toInt (by omega)]
  exact Int.bmod_eq_of_le (by omega) (by omega)
theorem pk_sneg {a b : Nat} (hb : b < 2 ^ 30) (h : a < b) : nI a - nI b < 0 := by
  rw [Int32.lt_iff_toInt_lt, pk_sub_toInt (by omega) hb, show (0 : Int32).toInt = 0 from by decide]
  omega
theorem pk_ix (x : Int32) {n : Nat} (hn : n < 2 ^ 31) : x < 0 ∨ nI n ≤ x ∨ ∃ j : Nat, j < n ∧ x = nI j := by
  by_cases h : x < 0
  · exact Or.inl h
  · obtain ⟨j, hj, rfl⟩ := nI_of h
    by_cases h2 : j < n
    · exact Or.inr (Or.inr ⟨j, h2, rfl⟩)
    · exact Or.inr (Or.inl (nI_le (by omega) hj))
theorem pk_le {x y : Int32} {A B : Prop} (a b : Nat) (f : a ≤ b → A) (g : b < a → B) (hx : x = nI a := by rfl) (hy : y = nI b := by rfl) (ha : a < 2 ^ 31 := by omega) (hb : b < 2 ^ 31 := by omega) : (x ≤ y → A) ∧ (¬ x ≤ y → B) := by
  subst hx hy
  rw [nI_leI ha hb]
  exact ⟨f, fun z => g (by omega)⟩
theorem pk_lt {x y : Int32} {A B : Prop} (a b : Nat) (f : a < b → A) (g : b ≤ a → B) (hx : x = nI a := by rfl) (hy : y = nI b := by rfl) (ha : a < 2 ^ 31 := by omega) (hb : b < 2 ^ 31 := by omega) : (x < y → A) ∧ (¬ x < y → B) := by
  subst hx hy
  rw [nI_ltI ha hb]
  exact ⟨f, fun z => g (by omega)⟩
theorem pk_eq {x y : Int32} {A B : Prop} (a b : Nat) (f : a = b → A) (g : a ≠ b → B) (hx : x = nI a := by rfl) (hy : y = nI b := by rfl) (ha : a < 2 ^ 31 := by omega) (hb : b < 2 ^ 31 := by omega) : (x = y → A) ∧ (¬ x = y → B) := by
  subst hx hy
  rw [nI_eq ha hb]
  exact ⟨f, g⟩
theorem pk_in {x : Int32} (n N : Nat) (h : n < N) (hx : x = nI n := by rfl) (hN : N < 2 ^ 31 := by omega) : vp_in x N := by
  subst hx
  exact vp_in_nI h hN
theorem pk_cl {x : Int32} (n : Nat) (hx : x = nI n := by rfl) (h : n < 2 ^ 31 := by omega) : x.toNatClampNeg = n := by
  subst hx
  exact nI_clamp h
theorem pk_tn {n : Nat} (h : n < 2 ^ 32) : (nI n).toBitVec.toNat = n := Nat.mod_eq_of_lt h
theorem pk_and (x : Int32) {m : Int32} (k : Nat) (hm : m.toBitVec.toNat = 2 ^ k - 1) : x &&& m = nI (x.toBitVec.toNat % 2 ^ k) := by
  apply Int32.toBitVec_inj.mp
  apply BitVec.eq_of_toNat_eq
  rw [Int32.toBitVec_and, BitVec.toNat_and, hm, Nat.and_two_pow_sub_one_eq_mod]
  show _ = (BitVec.ofNat 32 _).toNat
  rw [BitVec.toNat_ofNat]
  exact (Nat.mod_eq_of_lt (Nat.lt_of_le_of_lt (Nat.mod_le _ _) x.toBitVec.isLt)).symm
theorem pk_andN {n : Nat} (h : n < 2 ^ 32) {m : Int32} (k : Nat) (hm : m.toBitVec.toNat = 2 ^ k - 1) : nI n &&& m = nI (n % 2 ^ k) := by
  rw [pk_and _ k hm, pk_tn h]
theorem pk_andE (x : Int32) {m : Int32} (k : Nat) (hm : m.toBitVec.toNat = 2 ^ k - 1) : ∃ j : Nat, j < 2 ^ k ∧ x &&& m = nI j := ⟨_, Nat.mod_lt _ (Nat.two_pow_pos k), pk_and x k hm⟩
theorem pk_andIn (x : Int32) {m : Int32} (k : Nat) (hm : m.toBitVec.toNat = 2 ^ k - 1) (hk : k ≤ 30) : vp_in (x &&& m) (2 ^ k) := by
  obtain ⟨j, hj, e⟩ := pk_andE x k hm
  rw [e]
  exact vp_in_nI hj (Nat.lt_of_le_of_lt (Nat.pow_le_pow_right (by decide) hk) (by decide))
theorem pk_shl (a s : Int32) (k : Nat) (hs : (s.toBitVec.smod 32).toNat = k) : (a <<< s).toBitVec.toNat = a.toBitVec.toNat * 2 ^ k % 2 ^ 32 := by
  show (a.toBitVec <<< (s.toBitVec.smod 32).toNat).toNat = _
  rw [hs, BitVec.toNat_shiftLeft, Nat.shiftLeft_eq]
theorem pk_shlN {n : Nat} (s : Int32) (k : Nat) (hs : (s.toBitVec.smod 32).toNat = k) (h : n * 2 ^ k < 2 ^ 32) : nI n <<< s = nI (n * 2 ^ k) := by
  apply Int32.toBitVec_inj.mp
  apply BitVec.eq_of_toNat_eq
  have hn : n < 2 ^ 32 := Nat.lt_of_le_of_lt (Nat.le_mul_of_pos_right n (Nat.two_pow_pos k)) h
  rw [pk_shl _ _ k hs, pk_tn hn, pk_tn h, Nat.mod_eq_of_lt h]
theorem pk_shr (a s : Int32) (k : Nat) (hs : (s.toBitVec.smod 32).toNat = k) : (a >>> s).toInt = a.toInt >>> k := by
  show (a.toBitVec.sshiftRight (s.toBitVec.smod 32).toNat).toInt = _
  rw [hs, BitVec.toInt_sshiftRight]
  rfl
theorem pk_shrN {n : Nat} (h : n < 2 ^ 31) (s : Int32) (k : Nat) (hs : (s.toBitVec.smod 32).toNat = k) : nI n >>> s = nI (n / 2 ^ k) := by
  apply Int32.toInt_inj.mp
  have h2 : n / 2 ^ k ≤ n := Nat.div_le_self _ _
  rw [pk_shr _ _ k hs, nI_toInt h, nI_toInt (by omega), Int.shiftRight_eq_div_pow]
  rfl
theorem pk_least (P : Nat → Prop) (h : ∃ k, P k) : ∃ k, P k ∧ ∀ j, j < k → ¬ P j := by
  obtain ⟨k, hk⟩ := h
  induction k using Nat.strongRecOn with
  | ind k ih =>
    by_cases e : ∃ j, j < k ∧ P j
    · obtain ⟨j, hj, pj⟩ := e
      exact ih j hj pj
    · exact ⟨k, hk, fun j hj pj => e ⟨j, hj, pj⟩⟩
theorem ek_if {c d A B : Prop} (e : c ↔ d) (f : d → A) (g : ¬ d → B) : (c → A) ∧ (¬ c → B) :=
  ⟨fun z => f (e.mp z), fun z => g (fun y => z (e.mpr y))⟩
theorem ek_v {α : Sort _} {P : α → Prop} {a b : α} (e : a = b) (h : P b) : P a := e ▸ h
def bt (x : Int32) (i : Nat) : Bool := x.toBitVec.getLsbD i
theorem b_ext {x y : Int32} (h : ∀ i, i < 32 → bt x i = bt y i) : x = y := Int32.toBitVec_inj.mp (BitVec.eq_of_getLsbD_eq (fun i hi => h i hi))
theorem b_or (x y : Int32) (i : Nat) : bt (x ||| y) i = (bt x i || bt y i) := by unfold bt; rw [Int32.toBitVec_or, BitVec.getLsbD_or]
theorem b_and (x y : Int32) (i : Nat) : bt (x &&& y) i = (bt x i && bt y i) := by unfold bt; rw [Int32.toBitVec_and, BitVec.getLsbD_and]
theorem b_xor (x y : Int32) (i : Nat) : bt (x ^^^ y) i = (bt x i ^^ bt y i) := by unfold bt; rw [Int32.toBitVec_xor, BitVec.getLsbD_xor]
theorem b_big {x : Int32} {i : Nat} (h : 32 ≤ i) : bt x i = false := BitVec.getLsbD_of_ge _ _ h
theorem b_255 (i : Nat) : bt 255 i = decide (i < 8) := by
  rcases Nat.lt_or_ge i 32 with h | h
  · exact (by decide +kernel : ∀ i, i < 32 → bt 255 i = decide (i < 8)) i h
  · rw [b_big h, decide_eq_false (by omega)]
theorem b_65535 (i : Nat) : bt 65535 i = decide (i < 16) := by
  rcases Nat.lt_or_ge i 32 with h | h
  · exact (by decide +kernel : ∀ i, i < 32 → bt 65535 i = decide (i < 16)) i h
  · rw [b_big h, decide_eq_false (by omega)]
theorem b_m1 : ∀ i, i < 32 → bt (-1) i = true := by decide +kernel
theorem b_0 (i : Nat) : bt 0 i = false := BitVec.getLsbD_zero
theorem s_l : ∀ n, n < 32 → ((nI n &&& 31).toBitVec.smod 32).toNat = n := by decide +kernel
theorem s_u : ∀ n, n < 32 → (((nI n).toUInt32 &&& Int32.toUInt32 31).toBitVec % 32).toNat = n := by decide +kernel
theorem b_shl (n : Nat) (hn : n < 32) (x : Int32) {i : Nat} (hi : i < 32) : bt (x <<< (nI n &&& 31)) i = (decide (n ≤ i) && bt x (i - n)) := by
  unfold bt
  rw [Int32.toBitVec_shiftLeft]
  show (x.toBitVec <<< ((nI n &&& 31).toBitVec.smod 32).toNat).getLsbD i = _
  rw [s_l n hn, BitVec.getLsbD_shiftLeft]
  rcases Nat.lt_or_ge i n with h | h
  · simp [h, Nat.not_le.mpr h]
  · simp [hi, h, Nat.not_lt.mpr h]
theorem b_ushr (n : Nat) (hn : n < 32) (x : Int32) (i : Nat) : bt ((x.toUInt32 >>> ((nI n).toUInt32 &&& Int32.toUInt32 31)).toInt32) i = bt x (n + i) := by
  show (x.toUInt32 >>> ((nI n).toUInt32 &&& Int32.toUInt32 31)).toBitVec.getLsbD i = x.toUInt32.toBitVec.getLsbD (n + i)
  rw [UInt32.toBitVec_shiftRight]
  show (x.toUInt32.toBitVec >>> (((nI n).toUInt32 &&& Int32.toUInt32 31).toBitVec % 32).toNat).getLsbD i = _
  rw [s_u n hn, BitVec.getLsbD_ushiftRight]
theorem b_sshr (n : Nat) (hn : n < 32) (x : Int32) {i : Nat} (hi : i < 32) : bt (x >>> (nI n &&& 31)) i = if n + i < 32 then bt x (n + i) else bt x 31 := by
  unfold bt
  rw [Int32.toBitVec_shiftRight]
  show (x.toBitVec.sshiftRight ((nI n &&& 31).toBitVec.smod 32).toNat).getLsbD i = _
  rw [s_l n hn, BitVec.getLsbD_sshiftRight, BitVec.msb_eq_getLsbD_last]
  simp [hi]
end
section
/-! permutations of the places below n, as functions that are the identity beyond; the group generated -/
theorem gp_pig : ∀ (n : Nat) (h : Nat → Nat), (∀ i, i ≤ n → h i < n) → ∃ i j, i < j ∧ j ≤ n ∧ h i = h j
  | 0, h, H => absurd (H 0 (Nat.le_refl 0)) (Nat.not_lt_zero _)
  | n + 1, h, H => by
    rcases Classical.em (∃ i, i ≤ n ∧ h i = h (n + 1)) with z | z
    · obtain ⟨i, hi, e⟩ := z
      exact ⟨i, n + 1, by omega, Nat.le_refl _, e⟩
    · have ne : ∀ i, i ≤ n → h i ≠ h (n + 1) := fun i hi e => z ⟨i, hi, e⟩
      have hk : ∀ i, i ≤ n → (if h i = n then h (n + 1) else h i) < n := by
        intro i hi
        have a := H i (by omega)
        have b := H (n + 1) (Nat.le_refl _)
        have c := ne i hi
        by_cases d : h i = n
        · rw [if_pos d]; omega
        · rw [if_neg d]; omega
      obtain ⟨i, j, h1, h2, e⟩ := gp_pig n (fun i => if h i = n then h (n + 1) else h i) hk
      refine ⟨i, j, h1, by omega, ?_⟩
      have c := ne i (by omega)
      have d := ne j (by omega)
      by_cases p : h i = n
      · by_cases q : h j = n
        · rw [p, q]
        · rw [if_pos p, if_neg q] at e; exact absurd e.symm d
      · by_cases q : h j = n
        · rw [if_neg p, if_pos q] at e; exact absurd e c
        · rw [if_neg p, if_neg q] at e; exact e
def gp_P (n : Nat) (f : Nat → Nat) : Prop := (∀ i, i < n → f i < n) ∧ (∀ i, n ≤ i → f i = i) ∧ (∀ i j, i < n → j < n → f i = f j → i = j)
def gp_it (f : Nat → Nat) : Nat → Nat → Nat
  | 0, x => x
  | k + 1, x => f (gp_it f k x)
def gp_c (f g : Nat → Nat) : Nat → Nat := fun i => f (g i)
def gp_1 : Nat → Nat := fun i => i
theorem gp_it_add (f : Nat → Nat) (b x : Nat) : ∀ a, gp_it f (a + b) x = gp_it f a (gp_it f b x)
  | 0 => by rw [Nat.zero_add]; rfl
  | a + 1 => by
    rw [show a + 1 + b = (a + b) + 1 from by omega]
    show f (gp_it f (a + b) x) = f (gp_it f a (gp_it f b x))
    rw [gp_it_add f b x a]
theorem gp_inj {n : Nat} {f : Nat → Nat} (h : gp_P n f) {i j : Nat} (e : f i = f j) : i = j := by
  obtain ⟨h1, h2, h3⟩ := h
  rcases Nat.lt_or_ge i n with a | a <;> rcases Nat.lt_or_ge j n with b | b
  · exact h3 i j a b e
  · have := h1 i a; have := h2 j b; omega
  · have := h2 i a; have := h1 j b; omega
  · have := h2 i a; have := h2 j b; omega
theorem gp_lt {n : Nat} {f : Nat → Nat} (h : gp_P n f) {i : Nat} (hi : i < n) : f i < n := h.1 i hi
theorem gp_itlt {n : Nat} {f : Nat → Nat} (h : gp_P n f) {x : Nat} (hx : x < n) : ∀ k, gp_it f k x < n
  | 0 => hx
  | k + 1 => gp_lt h (gp_itlt h hx k)
theorem gp_itinj {n : Nat} {f : Nat → Nat} (h : gp_P n f) {x y : Nat} : ∀ k, gp_it f k x = gp_it f k y → x = y
  | 0, e => e
  | k + 1, e => gp_itinj h k (gp_inj h e)
theorem gp_pt {n : Nat} {f : Nat → Nat} (h : gp_P n f) (x : Nat) : ∃ k, gp_it f (k + 1) x = x := by
  rcases Nat.lt_or_ge x n with a | a
  · obtain ⟨i, j, h1, h2, e⟩ := gp_pig n (fun i => gp_it f i x) (fun i _ => gp_itlt h a i)
    refine ⟨j - i - 1, ?_⟩
    have e2 : gp_it f i x = gp_it f i (gp_it f (j - i) x) := by
      rw [← gp_it_add, show i + (j - i) = j from by omega]; exact e
    rw [show j - i - 1 + 1 = j - i from by omega]
    exact (gp_itinj h i e2).symm
  · exact ⟨0, h.2.1 x a⟩
theorem gp_itmul {f : Nat → Nat} {a x : Nat} (e : gp_it f a x = x) : ∀ b, gp_it f (a * b) x = x
  | 0 => rfl
  | b + 1 => by rw [Nat.mul_succ, gp_it_add, e]; exact gp_itmul e b
theorem gp_all {n : Nat} {f : Nat → Nat} (h : gp_P n f) : ∀ m, ∃ k, ∀ x, x < m → gp_it f (k + 1) x = x
  | 0 => ⟨0, fun x hx => absurd hx (Nat.not_lt_zero _)⟩
  | m + 1 => by
    obtain ⟨k, hk⟩ := gp_all h m
    obtain ⟨c, hc⟩ := gp_pt h m
    have pos : 0 < (k + 1) * (c + 1) := Nat.mul_pos (by omega) (by omega)
    refine ⟨(k + 1) * (c + 1) - 1, fun x hx => ?_⟩
    rw [Nat.sub_add_cancel pos]
    rcases Nat.lt_or_ge x m with z | z
    · exact gp_itmul (hk x z) _
    · have e : x = m := by omega
      rw [e, Nat.mul_comm]
      exact gp_itmul hc _
theorem gp_itfix {f : Nat → Nat} {x : Nat} (e : f x = x) : ∀ k, gp_it f k x = x
  | 0 => rfl
  | k + 1 => by show f (gp_it f k x) = x; rw [gp_itfix e k, e]
theorem gp_inv {n : Nat} {f : Nat → Nat} (h : gp_P n f) : ∃ k, (∀ x, f (gp_it f k x) = x) ∧ (∀ x, gp_it f k (f x) = x) := by
  obtain ⟨k, hk⟩ := gp_all h n
  have key : ∀ x, gp_it f (k + 1) x = x := by
    intro x
    rcases Nat.lt_or_ge x n with z | z
    · exact hk x z
    · exact gp_itfix (h.2.1 x z) _
  refine ⟨k, key, fun x => ?_⟩
  have e := gp_it_add f 1 x k
  rw [key x] at e
  exact e.symm
theorem gp_P1 {n : Nat} : gp_P n gp_1 := ⟨fun _ h => h, fun _ _ => rfl, fun _ _ _ _ h => h⟩
theorem gp_Pc {n : Nat} {f g : Nat → Nat} (hf : gp_P n f) (hg : gp_P n g) : gp_P n (gp_c f g) := by
  refine ⟨fun i hi => gp_lt hf (gp_lt hg hi), fun i hi => ?_, fun i j _ _ e => gp_inj hg (gp_inj hf e)⟩
  show f (g i) = i
  rw [hg.2.1 i hi, hf.2.1 i hi]
theorem gp_Pit {n : Nat} {f : Nat → Nat} (hf : gp_P n f) : ∀ k, gp_P n (gp_it f k)
  | 0 => gp_P1
  | k + 1 => gp_Pc hf (gp_Pit hf k)
theorem gp_surj {n : Nat} {f : Nat → Nat} (h : gp_P n f) {y : Nat} (hy : y < n) : ∃ x, x < n ∧ f x = y := by
  obtain ⟨k, h1, _⟩ := gp_inv h
  exact ⟨gp_it f k y, gp_itlt h hy k, h1 y⟩
theorem gp_ext {n : Nat} {f g : Nat → Nat} (hf : gp_P n f) (hg : gp_P n g) (h : ∀ i, i < n → f i = g i) : f = g := by
  funext i
  rcases Nat.lt_or_ge i n with z | z
  · exact h i z
  · rw [hf.2.1 i z, hg.2.1 i z]
def gp_G (A : (Nat → Nat) → Prop) (g : Nat → Nat) : Prop := ∀ S : (Nat → Nat) → Prop, S gp_1 → (∀ x t, S x → A t → S (gp_c x t)) → S g
theorem gp_G1 {A : (Nat → Nat) → Prop} : gp_G A gp_1 := fun _ h _ => h
theorem gp_Ga {A : (Nat → Nat) → Prop} {x t : Nat → Nat} (hx : gp_G A x) (ht : A t) : gp_G A (gp_c x t) := fun S h1 h2 => h2 _ _ (hx S h1 h2) ht
theorem gp_Gi {A : (Nat → Nat) → Prop} {t : Nat → Nat} (ht : A t) : gp_G A t := gp_Ga (x := gp_1) gp_G1 ht
theorem gp_Gc {A : (Nat → Nat) → Prop} {x y : Nat → Nat} (hx : gp_G A x) (hy : gp_G A y) : gp_G A (gp_c x y) :=
  hy (fun y => gp_G A (gp_c x y)) hx (fun y t h1 h2 => gp_Ga (x := gp_c x y) h1 h2)
theorem gp_GP {n : Nat} {A : (Nat → Nat) → Prop} (hA : ∀ t, A t → gp_P n t) {x : Nat → Nat} (hx : gp_G A x) : gp_P n x :=
  hx (gp_P n) gp_P1 (fun _ _ h1 h2 => gp_Pc h1 (hA _ h2))
theorem gp_Gk {A : (Nat → Nat) → Prop} {x : Nat → Nat} (hx : gp_G A x) : ∀ k, gp_G A (gp_it x k)
  | 0 => gp_G1
  | k + 1 => gp_Gc (x := x) (y := gp_it x k) hx (gp_Gk hx k)
/-- a set of permutations that is a group -/
def gp_Gr (n : Nat) (G : (Nat → Nat) → Prop) : Prop :=
  (∀ x, G x → gp_P n x) ∧ G gp_1 ∧ (∀ x y, G x → G y → G (gp_c x y)) ∧ (∀ x, G x → ∃ y, G y ∧ (∀ i, x (y i) = i) ∧ (∀ i, y (x i) = i))
theorem gp_Gr_of {n : Nat} {A : (Nat → Nat) → Prop} (hA : ∀ t, A t → gp_P n t) : gp_Gr n (gp_G A) := by
  refine ⟨fun x hx => gp_GP hA hx, gp_G1, fun x y hx hy => gp_Gc hx hy, fun x hx => ?_⟩
  obtain ⟨k, h1, h2⟩ := gp_inv (gp_GP hA hx)
  exact ⟨gp_it x k, gp_Gk hx k, h1, h2⟩
theorem gp_G_eq {A B : (Nat → Nat) → Prop} (h : ∀ t, A t ↔ B t) : gp_G A = gp_G B := by
  have : A = B := funext fun t => propext (h t)
  rw [this]
end
section
/-! counting: cc P N is the number of k below N with P k; cs F N is a sum (b01 and cc's first rows: after the worked proof large-2) -/
noncomputable def cc_b (P : Prop) : Nat := @ite Nat P (Classical.propDecidable P) 1 0
theorem cc_bt {P : Prop} (h : P) : cc_b P = 1 := by unfold cc_b; rw [if_pos h]
theorem cc_bf {P : Prop} (h : ¬ P) : cc_b P = 0 := by unfold cc_b; rw [if_neg h]
theorem cc_ble (P : Prop) : cc_b P ≤ 1 := by
  rcases Classical.em P with h | h
  · rw [cc_bt h]; omega
  · rw [cc_bf h]; omega
theorem cc_beq {P Q : Prop} (h : P ↔ Q) : cc_b P = cc_b Q := by
  rw [propext h]
noncomputable def cc (P : Nat → Prop) : Nat → Nat
  | 0 => 0
  | k + 1 => cc P k + cc_b (P k)
def cs (F : Nat → Nat) : Nat → Nat
  | 0 => 0
  | k + 1 => cs F k + F k
theorem cc_S (P : Nat → Prop) (k : Nat) : cc P (k + 1) = cc P k + cc_b (P k) := rfl
theorem cs_S (F : Nat → Nat) (k : Nat) : cs F (k + 1) = cs F k + F k := rfl
theorem cc_eq {P Q : Nat → Prop} : ∀ {N : Nat}, (∀ k, k < N → (P k ↔ Q k)) → cc P N = cc Q N
  | 0, _ => rfl
  | N + 1, h => by rw [cc_S, cc_S, cc_eq (N := N) (fun k hk => h k (by omega)), cc_beq (h N (by omega))]
theorem cc_le (P : Nat → Prop) : ∀ N, cc P N ≤ N
  | 0 => Nat.le_refl _
  | N + 1 => by have := cc_le P N; have := cc_ble (P N); rw [cc_S]; omega
theorem cc_zero {P : Nat → Prop} : ∀ {N : Nat}, (∀ k, k < N → ¬ P k) → cc P N = 0
  | 0, _ => rfl
  | N + 1, h => by rw [cc_S, cc_zero (N := N) (fun k hk => h k (by omega)), cc_bf (h N (by omega))]
theorem cc_tail {P : Nat → Prop} {m : Nat} : ∀ {N : Nat}, m ≤ N → (∀ k, m ≤ k → k < N → ¬ P k) → cc P N = cc P m
  | 0, h, _ => by rw [show m = 0 from by omega]
  | N + 1, h, H => by
    rcases Nat.lt_or_ge m (N + 1) with z | z
    · rw [cc_S, cc_bf (H N (by omega) (by omega)), cc_tail (N := N) (by omega) (fun k a b => H k a (by omega))]; omega
    · rw [show m = N + 1 from by omega]
theorem cc_one {P : Nat → Prop} {x : Nat} : ∀ {N : Nat}, x < N → P x → (∀ k, k < N → P k → k = x) → cc P N = 1
  | 0, h, _, _ => by omega
  | N + 1, h, hp, H => by
    rw [cc_S]
    rcases Nat.lt_or_ge x N with z | z
    · rw [cc_one (N := N) z hp (fun k hk => H k (by omega)), cc_bf (fun q => by have := H N (by omega) q; omega)]
    · have e : x = N := by omega
      subst e
      rw [cc_zero (fun k hk q => by have := H k (by omega) q; omega), cc_bt hp]
theorem cc_add {P : Nat → Prop} {a : Nat} (hp : ¬ P a) : ∀ {N : Nat}, a < N → cc (fun k => P k ∨ k = a) N = cc P N + 1
  | 0, h => by omega
  | N + 1, h => by
    rw [cc_S, cc_S]
    rcases Nat.lt_or_ge a N with z | z
    · rw [cc_add hp z, cc_beq (P := P N ∨ N = a) (Q := P N) ⟨fun q => q.elim id (fun e => by omega), Or.inl⟩]; omega
    · have e : a = N := by omega
      subst e
      rw [cc_beq (P := P a ∨ a = a) (Q := True) ⟨fun _ => trivial, fun _ => Or.inr rfl⟩, cc_bt trivial, cc_bf hp]
      rw [cc_eq (P := fun k => P k ∨ k = a) (Q := P) (fun k hk => ⟨fun q => q.elim id (fun e => by omega), Or.inl⟩)]
theorem cc_pos {P : Nat → Prop} {a : Nat} (hp : P a) : ∀ {N : Nat}, a < N → 0 < cc P N
  | 0, h => by omega
  | N + 1, h => by
    rw [cc_S]
    rcases Nat.lt_or_ge a N with z | z
    · have := cc_pos hp z; omega
    · have e : a = N := by omega
      subst e
      rw [cc_bt hp]; omega
theorem cc_full {P : Nat → Prop} : ∀ {N : Nat}, cc P N = N → ∀ k, k < N → P k
  | 0, _, k, hk => by omega
  | N + 1, h, k, hk => by
    rw [cc_S] at h
    have a := cc_le P N
    have b := cc_ble (P N)
    rcases Nat.lt_or_ge k N with z | z
    · exact cc_full (N := N) (by omega) k z
    · have e : k = N := by omega
      subst e
      rcases Classical.em (P k) with q | q
      · exact q
      · rw [cc_bf q] at h; omega
theorem cc_disj {P Q : Nat → Prop} : ∀ {N : Nat}, (∀ k, k < N → P k → ¬ Q k) → cc P N + cc Q N ≤ N
  | 0, _ => Nat.le_refl _
  | N + 1, h => by
    rw [cc_S, cc_S]
    have a := cc_disj (N := N) (fun k hk => h k (by omega))
    have b := cc_ble (P N)
    have c := cc_ble (Q N)
    rcases Classical.em (P N) with q | q
    · rw [cc_bf (h N (by omega) q)]; omega
    · rw [cc_bf q]; omega
theorem cc_le2 {P : Nat → Prop} {a b : Nat} (h : a ≤ b) : cc P a ≤ cc P b := by
  induction b with
  | zero => rw [show a = 0 from by omega]; exact Nat.le_refl _
  | succ b ih =>
    rcases Nat.lt_or_ge a (b + 1) with z | z
    · rw [cc_S]; have := ih (by omega); omega
    · rw [show a = b + 1 from by omega]; exact Nat.le_refl _
theorem cs_eq {F H : Nat → Nat} : ∀ {N : Nat}, (∀ k, k < N → F k = H k) → cs F N = cs H N
  | 0, _ => rfl
  | N + 1, h => by rw [cs_S, cs_S, cs_eq (N := N) (fun k hk => h k (by omega)), h N (by omega)]
theorem cs_le {F H : Nat → Nat} : ∀ {N : Nat}, (∀ k, k < N → F k ≤ H k) → cs F N ≤ cs H N
  | 0, _ => Nat.le_refl _
  | N + 1, h => by
    have a := cs_le (F := F) (H := H) (N := N) (fun k hk => h k (by omega))
    have b := h N (by omega)
    rw [cs_S, cs_S]; omega
theorem cs_add (F H : Nat → Nat) : ∀ N, cs (fun k => F k + H k) N = cs F N + cs H N
  | 0 => rfl
  | N + 1 => by rw [cs_S, cs_S, cs_S, cs_add F H N]; omega
theorem cs_zero {F : Nat → Nat} : ∀ {N : Nat}, (∀ k, k < N → F k = 0) → cs F N = 0
  | 0, _ => rfl
  | N + 1, h => by rw [cs_S, cs_zero (N := N) (fun k hk => h k (by omega)), h N (by omega)]
theorem cs_cc (P : Nat → Prop) : ∀ N, cs (fun k => cc_b (P k)) N = cc P N
  | 0 => rfl
  | N + 1 => by rw [cs_S, cc_S, cs_cc P N]
theorem cs_mul (P : Nat → Prop) (c : Nat) : ∀ N, cs (fun k => cc_b (P k) * c) N = cc P N * c
  | 0 => by rw [show cc P 0 = 0 from rfl, Nat.zero_mul]; rfl
  | N + 1 => by rw [cs_S, cc_S, cs_mul P c N, Nat.add_mul]
theorem cs_tail {F : Nat → Nat} {m : Nat} : ∀ {N : Nat}, m ≤ N → (∀ k, m ≤ k → k < N → F k = 0) → cs F N = cs F m
  | 0, h, _ => by rw [show m = 0 from by omega]
  | N + 1, h, H => by
    rcases Nat.lt_or_ge m (N + 1) with z | z
    · rw [cs_S, H N (by omega) (by omega), cs_tail (N := N) (by omega) (fun k a b => H k a (by omega))]; omega
    · rw [show m = N + 1 from by omega]
theorem cs_bump {F H : Nat → Nat} {a : Nat} (ha : H a = F a + 1) (ho : ∀ k, k ≠ a → H k = F k) : ∀ {N : Nat}, a < N → cs H N = cs F N + 1
  | 0, h => by omega
  | N + 1, h => by
    rw [cs_S, cs_S]
    rcases Nat.lt_or_ge a N with z | z
    · rw [cs_bump ha ho z, ho N (by omega)]; omega
    · have e : a = N := by omega
      subst e
      rw [ha, cs_eq (F := H) (H := F) (fun k hk => ho k (by omega))]; omega
theorem cc_fib {P : Nat → Prop} {v : Nat → Nat} {n : Nat} : ∀ {N : Nat}, (∀ k, k < N → P k → v k < n) → cc P N = cs (fun f => cc (fun k => P k ∧ v k = f) N) n
  | 0, _ => (cs_zero (fun _ _ => rfl)).symm
  | N + 1, h => by
    have a := cc_fib (P := P) (v := v) (n := n) (N := N) (fun k hk => h k (by omega))
    have e : cs (fun f => cc (fun k => P k ∧ v k = f) (N + 1)) n = cs (fun f => cc (fun k => P k ∧ v k = f) N + cc_b (P N ∧ v N = f)) n := rfl
    rw [cc_S, e, cs_add, ← a]
    congr 1
    rw [cs_cc]
    rcases Classical.em (P N) with q | q
    · rw [cc_bt q, cc_one (x := v N) (h N (by omega) q) ⟨q, rfl⟩ (fun k _ z => z.2.symm)]
    · rw [cc_bf q, cc_zero (fun k _ z => q z.1)]
theorem cc_perm {n : Nat} {h : Nat → Nat} (hh : gp_P n h) (P : Nat → Prop) : cc (fun x => P (h x)) n = cc P n := by
  rw [cc_fib (P := fun x => P (h x)) (v := h) (n := n) (fun k hk _ => gp_lt hh hk), ← cs_cc]
  apply cs_eq
  intro f hf
  obtain ⟨x, hx, e⟩ := gp_surj hh hf
  rcases Classical.em (P f) with q | q
  · rw [cc_bt q]
    exact cc_one hx ⟨by rw [e]; exact q, e⟩ (fun k hk z => gp_inj hh (z.2.trans e.symm))
  · rw [cc_bf q]
    exact cc_zero (fun k hk z => q (z.2 ▸ z.1))
end
section
/-! the reference's list: li_g n m is the permutation at position m, ascending in the lexicographic order -/
def li_f : Nat → Nat
  | 0 => 1
  | k + 1 => (k + 1) * li_f k
theorem li_f_S (k : Nat) : li_f (k + 1) = (k + 1) * li_f k := rfl
theorem li_f_pos : ∀ k, 0 < li_f k
  | 0 => Nat.one_pos
  | k + 1 => Nat.mul_pos (by omega) (li_f_pos k)
def li_b (f d : Nat) : Nat := if f ≤ d then d + 1 else d
theorem li_b_ne (f d : Nat) : li_b f d ≠ f := by
  unfold li_b
  by_cases h : f ≤ d
  · rw [if_pos h]; omega
  · rw [if_neg h]; omega
theorem li_b_lt {f d e : Nat} (h : d < e) : li_b f d < li_b f e := by
  unfold li_b
  by_cases a : f ≤ d <;> by_cases b : f ≤ e
  · rw [if_pos a, if_pos b]; omega
  · omega
  · rw [if_neg a, if_pos b]; omega
  · rw [if_neg a, if_neg b]; omega
theorem li_b_inj {f d e : Nat} (h : li_b f d = li_b f e) : d = e := by
  rcases Nat.lt_trichotomy d e with z | z | z
  · have := li_b_lt (f := f) z; omega
  · exact z
  · have := li_b_lt (f := f) z; omega
theorem li_b_bd {f d k : Nat} (h : d < k) : li_b f d < k + 1 := by
  unfold li_b
  by_cases a : f ≤ d
  · rw [if_pos a]; omega
  · rw [if_neg a]; omega
def li_D : Nat → Nat → Nat → Nat
  | 0, _, _ => 0
  | k + 1, m, 0 => m / li_f k % (k + 1)
  | k + 1, m, p + 1 => li_b (m / li_f k % (k + 1)) (li_D k m p)
theorem li_D_0 (k m : Nat) : li_D (k + 1) m 0 = m / li_f k % (k + 1) := rfl
theorem li_D_S (k m p : Nat) : li_D (k + 1) m (p + 1) = li_b (m / li_f k % (k + 1)) (li_D k m p) := rfl
theorem li_D_lt : ∀ {k : Nat} (m : Nat) {p : Nat}, p < k → li_D k m p < k
  | 0, _, _, h => by omega
  | k + 1, m, 0, _ => by rw [li_D_0]; exact Nat.mod_lt _ (by omega)
  | k + 1, m, p + 1, h => by rw [li_D_S]; exact li_b_bd (li_D_lt m (by omega))
theorem li_D_inj : ∀ {k : Nat} (m : Nat) {i j : Nat}, i < k → j < k → li_D k m i = li_D k m j → i = j
  | 0, _, _, _, h, _, _ => by omega
  | k + 1, m, 0, 0, _, _, _ => rfl
  | k + 1, m, 0, j + 1, _, _, e => by rw [li_D_0, li_D_S] at e; exact absurd e.symm (li_b_ne _ _)
  | k + 1, m, i + 1, 0, _, _, e => by rw [li_D_0, li_D_S] at e; exact absurd e (li_b_ne _ _)
  | k + 1, m, i + 1, j + 1, hi, hj, e => by
    rw [li_D_S, li_D_S] at e
    rw [li_D_inj m (by omega) (by omega) (li_b_inj e)]
theorem li_D_mod : ∀ (k m a p : Nat), li_D k (m + a * li_f k) p = li_D k m p
  | 0, _, _, _ => rfl
  | k + 1, m, a, p => by
    have e1 : m + a * li_f (k + 1) = m + (a * (k + 1)) * li_f k := by rw [li_f_S, Nat.mul_assoc]
    have e2 : (m + (a * (k + 1)) * li_f k) / li_f k % (k + 1) = m / li_f k % (k + 1) := by
      rw [Nat.add_mul_div_right _ _ (li_f_pos k), Nat.add_mul_mod_self_right]
    cases p with
    | zero => rw [li_D_0, li_D_0, e1, e2]
    | succ p => rw [li_D_S, li_D_S, e1, e2, li_D_mod k m (a * (k + 1)) p]
theorem li_D_mod' (k m p : Nat) : li_D k (m % li_f k) p = li_D k m p := by
  have e : m = m % li_f k + m / li_f k * li_f k := by rw [Nat.mul_comm]; exact (Nat.mod_add_div m (li_f k)).symm
  have := li_D_mod k (m % li_f k) (m / li_f k) p
  rw [← e] at this
  exact this.symm
theorem li_D_lex : ∀ {k m w : Nat}, m < w → w < li_f k → ∃ q, q < k ∧ (∀ i, i < q → li_D k m i = li_D k w i) ∧ li_D k m q < li_D k w q
  | 0, m, w, h1, h2 => by
    have : li_f 0 = 1 := rfl
    omega
  | k + 1, m, w, h1, h2 => by
    have fp := li_f_pos k
    rw [li_f_S] at h2
    have hw : w / li_f k < k + 1 := Nat.div_lt_of_lt_mul (by rw [Nat.mul_comm]; exact h2)
    have hle : m / li_f k ≤ w / li_f k := Nat.div_le_div_right (by omega)
    have hm : m / li_f k < k + 1 := by omega
    rcases Nat.lt_or_ge (m / li_f k) (w / li_f k) with z | z
    · refine ⟨0, by omega, fun i hi => by omega, ?_⟩
      rw [li_D_0, li_D_0, Nat.mod_eq_of_lt hm, Nat.mod_eq_of_lt hw]
      exact z
    · have e : m / li_f k = w / li_f k := by omega
      have hr : m % li_f k < w % li_f k := by
        have a := Nat.div_add_mod m (li_f k)
        have b := Nat.div_add_mod w (li_f k)
        rw [e] at a
        omega
      obtain ⟨q, hq, ha, hl⟩ := li_D_lex (k := k) hr (Nat.mod_lt _ fp)
      refine ⟨q + 1, by omega, fun i hi => ?_, ?_⟩
      · cases i with
        | zero => rw [li_D_0, li_D_0, e]
        | succ i =>
          have := ha i (by omega)
          rw [li_D_mod', li_D_mod'] at this
          rw [li_D_S, li_D_S, e, this]
      · rw [li_D_mod', li_D_mod'] at hl
        rw [li_D_S, li_D_S, e]
        exact li_b_lt hl
def li_u (f d : Nat) : Nat := if f < d then d - 1 else d
theorem li_bu {f d : Nat} (h : d ≠ f) : li_b f (li_u f d) = d := by
  unfold li_u
  by_cases a : f < d
  · rw [if_pos a]; unfold li_b; rw [if_pos (by omega)]; omega
  · rw [if_neg a]; unfold li_b; rw [if_neg (by omega)]
theorem li_u_lt {f d k : Nat} (h : d ≠ f) (hd : d < k + 1) (hf : f < k + 1) : li_u f d < k := by
  unfold li_u
  by_cases a : f < d
  · rw [if_pos a]; omega
  · rw [if_neg a]; omega
theorem li_D_surj : ∀ (k : Nat) (g : Nat → Nat), (∀ i, i < k → g i < k) → (∀ i j, i < k → j < k → g i = g j → i = j) → ∃ m, m < li_f k ∧ ∀ p, p < k → li_D k m p = g p
  | 0, g, _, _ => ⟨0, Nat.one_pos, fun p hp => by omega⟩
  | k + 1, g, h1, h2 => by
    have ne : ∀ p, p < k → g (p + 1) ≠ g 0 := fun p hp e => by
      have := h2 (p + 1) 0 (by omega) (by omega) e
      omega
    obtain ⟨m, hm, hp⟩ := li_D_surj k (fun p => li_u (g 0) (g (p + 1)))
      (fun i hi => li_u_lt (ne i hi) (h1 (i + 1) (by omega)) (h1 0 (by omega)))
      (fun i j hi hj e => by
        have e2 : li_b (g 0) (li_u (g 0) (g (i + 1))) = li_b (g 0) (li_u (g 0) (g (j + 1))) := congrArg (li_b (g 0)) e
        rw [li_bu (ne i hi), li_bu (ne j hj)] at e2
        have := h2 (i + 1) (j + 1) (by omega) (by omega) e2
        omega)
    have fp := li_f_pos k
    have hg := h1 0 (by omega)
    have ed : (m + g 0 * li_f k) / li_f k % (k + 1) = g 0 := by
      rw [Nat.add_mul_div_right _ _ fp, Nat.div_eq_of_lt hm, Nat.zero_add, Nat.mod_eq_of_lt hg]
    refine ⟨m + g 0 * li_f k, ?_, fun p hp2 => ?_⟩
    · rw [li_f_S]
      have : (g 0 + 1) * li_f k ≤ (k + 1) * li_f k := Nat.mul_le_mul_right _ (by omega)
      rw [Nat.add_mul] at this
      omega
    · cases p with
      | zero => rw [li_D_0, ed]
      | succ p =>
        rw [li_D_S, ed, li_D_mod, hp p (by omega)]
        exact li_bu (ne p (by omega))
theorem li_D_00 : ∀ {k p : Nat}, p < k → li_D k 0 p = p
  | 0, _, h => by omega
  | k + 1, 0, _ => by rw [li_D_0, Nat.zero_div, Nat.zero_mod]
  | k + 1, p + 1, h => by
    rw [li_D_S, Nat.zero_div, Nat.zero_mod, li_D_00 (k := k) (p := p) (by omega)]
    unfold li_b
    rw [if_pos (by omega)]
def li_g (n m : Nat) : Nat → Nat := fun p => if p < n then li_D n m p else p
theorem li_g_lt {n m p : Nat} (h : p < n) : li_g n m p = li_D n m p := if_pos h
theorem li_gP (n m : Nat) : gp_P n (li_g n m) := by
  refine ⟨fun i hi => ?_, fun i hi => if_neg (by omega), fun i j hi hj e => ?_⟩
  · rw [li_g_lt hi]; exact li_D_lt m hi
  · rw [li_g_lt hi, li_g_lt hj] at e; exact li_D_inj m hi hj e
theorem li_pos {n : Nat} {g : Nat → Nat} (hg : gp_P n g) : ∃ m, m < li_f n ∧ li_g n m = g := by
  obtain ⟨m, hm, h⟩ := li_D_surj n g hg.1 hg.2.2
  exact ⟨m, hm, gp_ext (li_gP n m) hg (fun i hi => by rw [li_g_lt hi]; exact h i hi)⟩
theorem li_g0 (n : Nat) : li_g n 0 = gp_1 := gp_ext (li_gP n 0) gp_P1 (fun i hi => by rw [li_g_lt hi]; exact li_D_00 hi)
/-! codes -/
def li_c (g : Nat → Nat) : Nat → Nat
  | 0 => 0
  | k + 1 => li_c g k * 10 + g k
theorem li_c_S (g : Nat → Nat) (k : Nat) : li_c g (k + 1) = li_c g k * 10 + g k := rfl
theorem li_c_eq {f g : Nat → Nat} : ∀ {k : Nat}, (∀ i, i < k → f i = g i) → li_c f k = li_c g k
  | 0, _ => rfl
  | k + 1, h => by rw [li_c_S, li_c_S, li_c_eq (k := k) (fun i hi => h i (by omega)), h k (by omega)]
theorem li_c_lex {f g : Nat → Nat} {q : Nat} (ha : ∀ i, i < q → f i = g i) (hl : f q < g q) : ∀ {k : Nat}, q < k → (∀ i, i < k → f i < 10) → li_c f k < li_c g k
  | 0, h, _ => by omega
  | k + 1, h, hf => by
    rw [li_c_S, li_c_S]
    rcases Nat.lt_or_ge q k with z | z
    · have a := li_c_lex ha hl (k := k) z (fun i hi => hf i (by omega))
      have b := hf k (by omega)
      omega
    · have e : q = k := by omega
      subst e
      rw [li_c_eq ha]; omega
theorem li_c_lt {g : Nat → Nat} : ∀ {k : Nat}, (∀ i, i < k → g i < 10) → li_c g k < 10 ^ k
  | 0, _ => Nat.one_pos
  | k + 1, h => by
    have a := li_c_lt (g := g) (k := k) (fun i hi => h i (by omega))
    have b := h k (by omega)
    rw [li_c_S, Nat.pow_succ]; omega
theorem li_lt {n m w : Nat} (hn : n ≤ 10) (h1 : m < w) (h2 : w < li_f n) : li_c (li_g n m) n < li_c (li_g n w) n := by
  obtain ⟨q, hq, ha, hl⟩ := li_D_lex h1 h2
  refine li_c_lex (q := q) (fun i hi => ?_) ?_ hq (fun i hi => ?_)
  · rw [li_g_lt (by omega), li_g_lt (by omega)]; exact ha i hi
  · rw [li_g_lt hq, li_g_lt hq]; exact hl
  · have := gp_lt (li_gP n m) hi; omega
theorem li_lex {n k m q : Nat} (hn : n ≤ 10) (hk : k < li_f n) (hq : q < n) (ha : ∀ i, i < q → li_g n k i = li_g n m i) (hl : li_g n k q < li_g n m q) : k < m := by
  have a := li_c_lex ha hl hq (fun i hi => by have := gp_lt (li_gP n k) hi; omega)
  rcases Nat.lt_trichotomy k m with z | z | z
  · exact z
  · subst z; omega
  · have := li_lt hn z hk; omega
theorem li_inj {n m w : Nat} (hn : n ≤ 10) (hm : m < li_f n) (hw : w < li_f n) (e : li_g n m = li_g n w) : m = w := by
  rcases Nat.lt_trichotomy m w with z | z | z
  · have := li_lt hn z hw; rw [e] at this; omega
  · exact z
  · have := li_lt hn z hm; rw [e] at this; omega
theorem li_ltI {n m w : Nat} (hn : n ≤ 10) (hm : m < li_f n) (hw : w < li_f n) : li_c (li_g n m) n < li_c (li_g n w) n ↔ m < w := by
  refine ⟨fun h => ?_, fun h => li_lt hn h hw⟩
  rcases Nat.lt_trichotomy m w with z | z | z
  · exact z
  · subst z; omega
  · have := li_lt hn z hm; omega
theorem li_c_dig {g : Nat → Nat} {p : Nat} (hp : g p < 10) : ∀ d, (∀ i, i < p + 1 + d → g i < 10) → li_c g (p + 1 + d) / 10 ^ d % 10 = g p
  | 0, _ => by rw [Nat.add_zero, li_c_S, Nat.pow_zero, Nat.div_one]; omega
  | d + 1, h => by
    have a := h (p + 1 + d) (by omega)
    have b := li_c_dig hp d (fun i hi => h i (by omega))
    have e : (li_c g (p + 1 + d) * 10 + g (p + 1 + d)) / 10 = li_c g (p + 1 + d) := by omega
    rw [show p + 1 + (d + 1) = (p + 1 + d) + 1 from by omega, li_c_S, Nat.pow_succ, Nat.mul_comm (10 ^ d) 10, ← Nat.div_div_eq_div_mul, e]
    exact b
/-- the digits of a number, written with n places -/
def li_d (n c : Nat) : Nat → Nat := fun p => c / 10 ^ (n - 1 - p) % 10
theorem li_d_c {n : Nat} {g : Nat → Nat} (hg : ∀ i, i < n → g i < 10) {p : Nat} (hp : p < n) : li_d n (li_c g n) p = g p := by
  have := li_c_dig (g := g) (hg p hp) (n - 1 - p) (fun i hi => hg i (by omega))
  rw [show p + 1 + (n - 1 - p) = n from by omega] at this
  exact this
theorem li_c_d {n c : Nat} (h : c < 10 ^ n) : ∀ {k : Nat}, k ≤ n → li_c (li_d n c) k = c / 10 ^ (n - k)
  | 0, _ => by rw [Nat.sub_zero, Nat.div_eq_of_lt h]; rfl
  | k + 1, hk => by
    rw [li_c_S, li_c_d h (k := k) (by omega)]
    have e : 10 ^ (n - k) = 10 ^ (n - (k + 1)) * 10 := by rw [← Nat.pow_succ, show (n - (k + 1)).succ = n - k from by omega]
    rw [e, ← Nat.div_div_eq_div_mul]
    unfold li_d
    rw [show n - 1 - k = n - (k + 1) from by omega]
    omega
end
section
/-! chains of stabilisers: what a complete table answers -/
def ch_B (n : Nat) (b : Nat → Nat) : Prop := (∀ l, l < n → b l < n) ∧ (∀ i j, i < n → j < n → b i = b j → i = j)
theorem ch_Bs {n : Nat} {b : Nat → Nat} (hb : ch_B n b) {y : Nat} (hy : y < n) : ∃ l, l < n ∧ b l = y := by
  have hp : gp_P n (fun l => if l < n then b l else l) := by
    refine ⟨fun i hi => ?_, fun i hi => if_neg (by omega), fun i j hi hj e => ?_⟩
    · dsimp only; rw [if_pos hi]; exact hb.1 i hi
    · dsimp only at e; rw [if_pos hi, if_pos hj] at e; exact hb.2 i j hi hj e
  obtain ⟨l, hl, e⟩ := gp_surj hp hy
  rw [if_pos hl] at e
  exact ⟨l, hl, e⟩
/-- g and h agree on the base places of the levels below l -/
def ch_A (b : Nat → Nat) (l : Nat) (h g : Nat → Nat) : Prop := ∀ j, j < l → g (b j) = h (b j)
theorem ch_A_S {b : Nat → Nat} {l : Nat} {h g : Nat → Nat} : ch_A b (l + 1) h g ↔ ch_A b l h g ∧ g (b l) = h (b l) := by
  refine ⟨fun H => ⟨fun j hj => H j (by omega), H l (by omega)⟩, fun H j hj => ?_⟩
  rcases Nat.lt_or_ge j l with z | z
  · exact H.1 j z
  · rw [show j = l from by omega]; exact H.2
def ch_V (n : Nat) (b : Nat → Nat) (T : Nat → Nat → Option (Nat → Nat)) (G : (Nat → Nat) → Prop) : Prop :=
  (∀ l x t, l < n → x < n → T l x = some t → G t ∧ (∀ j, j < l → t (b j) = b j) ∧ t (b l) = x) ∧ (∀ l, l < n → T l (b l) = some gp_1)
def ch_OK (n : Nat) (b : Nat → Nat) (T : Nat → Nat → Option (Nat → Nat)) (G : (Nat → Nat) → Prop) : Prop :=
  ch_V n b T G ∧ (∀ l g, l < n → G g → (∀ j, j < l → g (b j) = b j) → T l (g (b l)) ≠ none)
def ch_E (G : (Nat → Nat) → Prop) (b : Nat → Nat) (l : Nat) (h : Nat → Nat) (f : Nat) : Prop := ∃ g, G g ∧ ch_A b l h g ∧ g (b l) = f
theorem ch_some {n : Nat} {b : Nat → Nat} {T : Nat → Nat → Option (Nat → Nat)} {G : (Nat → Nat) → Prop} (gr : gp_Gr n G) (ok : ch_V n b T G)
    {l x : Nat} {h t : Nat → Nat} (hl : l < n) (hx : x < n) (hh : G h) (e : T l x = some t) : G (gp_c h t) ∧ ch_A b l h (gp_c h t) ∧ gp_c h t (b l) = h x := by
  obtain ⟨h1, h2, h3⟩ := ok.1 l x t hl hx e
  refine ⟨gr.2.2.1 _ _ hh h1, fun j hj => ?_, ?_⟩
  · show h (t (b j)) = h (b j)
    rw [h2 j hj]
  · show h (t (b l)) = h x
    rw [h3]
theorem ch_none {n : Nat} {b : Nat → Nat} {T : Nat → Nat → Option (Nat → Nat)} {G : (Nat → Nat) → Prop} (gr : gp_Gr n G) (ok : ch_OK n b T G)
    {l x : Nat} {h : Nat → Nat} (hl : l < n) (hh : G h) (e : T l x = none) : ¬ ch_E G b l h (h x) := by
  rintro ⟨g, g1, g2, g3⟩
  obtain ⟨y, y1, y2, y3⟩ := gr.2.2.2 h hh
  have a := ok.2 l (gp_c y g) hl (gr.2.2.1 _ _ y1 g1) (fun j hj => by
    show y (g (b j)) = b j
    rw [g2 j hj, y3])
  have e2 : gp_c y g (b l) = x := by
    show y (g (b l)) = x
    rw [g3, y3]
  rw [e2] at a
  exact a e
theorem ch_iff {n : Nat} {b : Nat → Nat} {T : Nat → Nat → Option (Nat → Nat)} {G : (Nat → Nat) → Prop} (gr : gp_Gr n G) (ok : ch_OK n b T G)
    {l x : Nat} {h : Nat → Nat} (hl : l < n) (hx : x < n) (hh : G h) : ch_E G b l h (h x) ↔ T l x ≠ none := by
  refine ⟨fun H e => ch_none gr ok hl hh e H, fun H => ?_⟩
  cases e : T l x with
  | none => exact absurd e H
  | some t =>
    obtain ⟨a, b1, c⟩ := ch_some gr ok.1 hl hx hh e
    exact ⟨_, a, b1, c⟩
theorem ch_E_ag {G : (Nat → Nat) → Prop} {b : Nat → Nat} {l : Nat} {h h' : Nat → Nat} (e : ch_A b l h h') (f : Nat) : ch_E G b l h f ↔ ch_E G b l h' f := by
  refine ⟨fun ⟨g, g1, g2, g3⟩ => ⟨g, g1, fun j hj => ?_, g3⟩, fun ⟨g, g1, g2, g3⟩ => ⟨g, g1, fun j hj => ?_, g3⟩⟩
  · rw [g2 j hj, e j hj]
  · rw [g2 j hj, e j hj]
theorem ch_cntE {n : Nat} {b : Nat → Nat} {T : Nat → Nat → Option (Nat → Nat)} {G : (Nat → Nat) → Prop} (gr : gp_Gr n G) (ok : ch_OK n b T G)
    {l : Nat} {h : Nat → Nat} (hl : l < n) (hh : G h) : cc (ch_E G b l h) n = cc (fun x => T l x ≠ none) n := by
  rw [← cc_perm (gr.1 h hh) (ch_E G b l h)]
  exact cc_eq (fun x hx => ch_iff gr ok hl hx hh)
/-- the positions in G that agree with h below level l -/
def ch_K (G : (Nat → Nat) → Prop) (b : Nat → Nat) (n l : Nat) (h : Nat → Nat) (k : Nat) : Prop := G (li_g n k) ∧ ch_A b l h (li_g n k)
def ch_o (s : Nat → Nat) : Nat → Nat → Nat
  | _, 0 => 1
  | l, d + 1 => s l * ch_o s (l + 1) d
theorem ch_o_S (s : Nat → Nat) (l d : Nat) : ch_o s l (d + 1) = s l * ch_o s (l + 1) d := rfl
theorem ch_K_S {G : (Nat → Nat) → Prop} {b : Nat → Nat} {n l : Nat} {h g : Nat → Nat} {f k : Nat} (hg : ch_A b l h g) (e : g (b l) = f) :
    (ch_K G b n l h k ∧ li_g n k (b l) = f) ↔ ch_K G b n (l + 1) g k := by
  unfold ch_K
  rw [ch_A_S]
  refine ⟨fun ⟨⟨a, c⟩, d⟩ => ⟨a, fun j hj => ?_, by rw [d, e]⟩, fun ⟨a, c, d⟩ => ⟨⟨a, fun j hj => ?_⟩, by rw [d, e]⟩⟩
  · rw [c j hj, hg j hj]
  · rw [c j hj, hg j hj]
theorem ch_eq_of {n : Nat} {b : Nat → Nat} (hb : ch_B n b) {g h : Nat → Nat} (hg : gp_P n g) (hh : gp_P n h) (a : ch_A b n h g) : g = h := by
  refine gp_ext hg hh (fun i hi => ?_)
  obtain ⟨l, hl, e⟩ := ch_Bs hb hi
  rw [← e]
  exact a l hl
noncomputable def ch_s (T : Nat → Nat → Option (Nat → Nat)) (n : Nat) : Nat → Nat := fun l => cc (fun x => T l x ≠ none) n
theorem ch_order {n : Nat} {b : Nat → Nat} {T : Nat → Nat → Option (Nat → Nat)} {G : (Nat → Nat) → Prop} (hn : n ≤ 10) (hb : ch_B n b) (gr : gp_Gr n G) (ok : ch_OK n b T G) :
    ∀ (d l : Nat) (h : Nat → Nat), l + d = n → G h → cc (ch_K G b n l h) (li_f n) = ch_o (ch_s T n) l d
  | 0, l, h, hl, hh => by
    obtain ⟨m, hm, e⟩ := li_pos (gr.1 h hh)
    have hl' : l = n := by omega
    subst hl'
    refine cc_one hm ⟨by rw [e]; exact hh, fun j _ => by rw [e]⟩ (fun k hk z => ?_)
    have := ch_eq_of hb (li_gP l k) (gr.1 h hh) z.2
    exact li_inj hn hk hm (this.trans e.symm)
  | d + 1, l, h, hl, hh => by
    rw [cc_fib (v := fun k => li_g n k (b l)) (n := n) (fun k _ _ => gp_lt (li_gP n k) (hb.1 l (by omega))), ch_o_S]
    have e : cs (fun f => cc (fun k => ch_K G b n l h k ∧ li_g n k (b l) = f) (li_f n)) n = cs (fun f => cc_b (ch_E G b l h f) * ch_o (ch_s T n) (l + 1) d) n := by
      apply cs_eq
      intro f _
      rcases Classical.em (ch_E G b l h f) with q | q
      · obtain ⟨g, g1, g2, g3⟩ := q
        rw [cc_bt ⟨g, g1, g2, g3⟩, Nat.one_mul, ← ch_order hn hb gr ok d (l + 1) g (by omega) g1]
        exact cc_eq (fun k _ => ch_K_S g2 g3)
      · rw [cc_bf q, Nat.zero_mul]
        exact cc_zero (fun k _ z => q ⟨li_g n k, z.1.1, z.1.2, z.2⟩)
    refine e.trans ?_
    rw [cs_mul, ch_cntE gr ok (by omega) hh]
    rfl
/-- how many of the block come before position m: by the choices at one level, and the rest -/
theorem ch_rank {n : Nat} {b : Nat → Nat} {T : Nat → Nat → Option (Nat → Nat)} {G : (Nat → Nat) → Prop} (hn : n ≤ 10) (hb : ch_B n b) (gr : gp_Gr n G) (ok : ch_OK n b T G)
    {d l m : Nat} (hl : l + d + 1 = n) (asc : ∀ p, p < b l → ∃ j, j < l ∧ b j = p) (hm : m < li_f n) :
    cc (ch_K G b n l (li_g n m)) m = cc (ch_E G b l (li_g n m)) (li_g n m (b l)) * ch_o (ch_s T n) (l + 1) d + cc (ch_K G b n (l + 1) (li_g n m)) m := by
  have hbl : b l < n := hb.1 l (by omega)
  have hs : li_g n m (b l) < n := gp_lt (li_gP n m) hbl
  have ag : ∀ k, ch_A b l (li_g n m) (li_g n k) → ∀ i, i < b l → li_g n k i = li_g n m i := by
    intro k hk i hi
    obtain ⟨j, hj, e⟩ := asc i hi
    rw [← e]; exact hk j hj
  rw [cc_fib (v := fun k => li_g n k (b l)) (n := n) (fun k _ _ => gp_lt (li_gP n k) hbl)]
  have e1 : cs (fun f => cc (fun k => ch_K G b n l (li_g n m) k ∧ li_g n k (b l) = f) m) n = cs (fun f => cc (fun k => ch_K G b n l (li_g n m) k ∧ li_g n k (b l) = f) m) (li_g n m (b l) + 1) := by
    refine cs_tail (by omega) (fun f hf _ => ?_)
    refine cc_zero (fun k hk z => ?_)
    have := li_lex hn (k := m) (m := k) hm hbl (fun i hi => (ag k z.1.2 i hi).symm) (by rw [z.2]; omega)
    omega
  refine e1.trans ?_
  rw [cs_S]
  have e2 : cc (fun k => ch_K G b n l (li_g n m) k ∧ li_g n k (b l) = li_g n m (b l)) m = cc (ch_K G b n (l + 1) (li_g n m)) m :=
    cc_eq (fun k _ => ch_K_S (fun _ _ => rfl) rfl)
  rw [e2]
  congr 1
  rw [← cs_mul]
  apply cs_eq
  intro f hf
  have e3 : cc (fun k => ch_K G b n l (li_g n m) k ∧ li_g n k (b l) = f) m = cc (fun k => ch_K G b n l (li_g n m) k ∧ li_g n k (b l) = f) (li_f n) := by
    refine (cc_tail (by omega) (fun k h1 h2 z => ?_)).symm
    have := li_lex hn (k := k) (m := m) h2 hbl (ag k z.1.2) (by rw [z.2]; exact hf)
    omega
  rw [e3]
  rcases Classical.em (ch_E G b l (li_g n m) f) with q | q
  · obtain ⟨g, g1, g2, g3⟩ := q
    rw [cc_bt ⟨g, g1, g2, g3⟩, Nat.one_mul, ← ch_order hn hb gr ok d (l + 1) g (by omega) g1]
    exact cc_eq (fun k _ => ch_K_S g2 g3)
  · rw [cc_bf q, Nat.zero_mul]
    exact cc_zero (fun k _ z => q ⟨li_g n k, z.1.1, z.1.2, z.2⟩)
/-- the images of a place under the elements of G that fix the base below l -/
def ch_R (G : (Nat → Nat) → Prop) (b : Nat → Nat) (pl l y : Nat) : Prop := ∃ g, G g ∧ (∀ j, j < l → g (b j) = b j) ∧ g pl = y
theorem ch_R_n {n : Nat} {b : Nat → Nat} {G : (Nat → Nat) → Prop} (hb : ch_B n b) (gr : gp_Gr n G) (pl y : Nat) : ch_R G b pl n y ↔ y = pl := by
  refine ⟨fun ⟨g, g1, g2, g3⟩ => ?_, fun e => ⟨gp_1, gr.2.1, fun _ _ => rfl, e.symm⟩⟩
  have : g = gp_1 := ch_eq_of hb (gr.1 g g1) gp_P1 g2
  rw [← g3, this]; rfl
theorem ch_R_S {n : Nat} {b : Nat → Nat} {T : Nat → Nat → Option (Nat → Nat)} {G : (Nat → Nat) → Prop} (hb : ch_B n b) (gr : gp_Gr n G) (ok : ch_OK n b T G)
    {l : Nat} (hl : l < n) (pl y : Nat) : ch_R G b pl l y ↔ ∃ x t z, x < n ∧ T l x = some t ∧ ch_R G b pl (l + 1) z ∧ t z = y := by
  refine ⟨fun ⟨g, g1, g2, g3⟩ => ?_, fun ⟨x, t, z, hx, ht, ⟨g, g1, g2, g3⟩, e⟩ => ?_⟩
  · have hx : g (b l) < n := gp_lt (gr.1 g g1) (hb.1 l hl)
    have hne := ok.2 l g hl g1 g2
    cases ht : T l (g (b l)) with
    | none => exact absurd ht hne
    | some t =>
      obtain ⟨t1, t2, t3⟩ := ok.1.1 l _ t hl hx ht
      obtain ⟨w, w1, w2, w3⟩ := gr.2.2.2 t t1
      refine ⟨g (b l), t, w (g pl), hx, ht, ⟨gp_c w g, gr.2.2.1 _ _ w1 g1, fun j hj => ?_, rfl⟩, by rw [w2, g3]⟩
      show w (g (b j)) = b j
      rcases Nat.lt_or_ge j l with q | q
      · rw [g2 j q, ← t2 j q, w3, t2 j q]
      · rw [show j = l from by omega, ← t3, w3]
  · obtain ⟨t1, t2, t3⟩ := ok.1.1 l x t hl hx ht
    refine ⟨gp_c t g, gr.2.2.1 _ _ t1 g1, fun j hj => ?_, ?_⟩
    · show t (g (b j)) = b j
      rw [g2 j (by omega), t2 j hj]
    · show t (g pl) = y
      rw [g3, e]
end
section
/-! building a chain: a table through which the generators and all products of two entries factor is complete -/
/-- g is a product of one entry of each of the last d levels -/
def bu_F (n : Nat) (T : Nat → Nat → Option (Nat → Nat)) : Nat → (Nat → Nat) → Prop
  | 0, g => g = gp_1
  | d + 1, g => ∃ x t r, x < n ∧ T (n - (d + 1)) x = some t ∧ bu_F n T d r ∧ g = gp_c t r
theorem bu_F_S {n : Nat} {T : Nat → Nat → Option (Nat → Nat)} {d l x : Nat} {t r : Nat → Nat} (hl : l + d + 1 = n) (hx : x < n) (ht : T l x = some t) (hr : bu_F n T d r) : bu_F n T (d + 1) (gp_c t r) :=
  ⟨x, t, r, hx, by rw [show n - (d + 1) = l from by omega]; exact ht, hr, rfl⟩
theorem bu_F_E {n : Nat} {T : Nat → Nat → Option (Nat → Nat)} {d l : Nat} {g : Nat → Nat} (hl : l + d + 1 = n) (h : bu_F n T (d + 1) g) : ∃ x t r, x < n ∧ T l x = some t ∧ bu_F n T d r ∧ g = gp_c t r := by
  obtain ⟨x, t, r, h1, h2, h3, h4⟩ := h
  rw [show n - (d + 1) = l from by omega] at h2
  exact ⟨x, t, r, h1, h2, h3, h4⟩
section
variable {n : Nat} {b : Nat → Nat} {T : Nat → Nat → Option (Nat → Nat)} {G : (Nat → Nat) → Prop}
theorem bu_up (hb : ch_B n b) (V : ch_V n b T G) {d : Nat} {r : Nat → Nat} (hd : d + 1 ≤ n) (h : bu_F n T d r) : bu_F n T (d + 1) r :=
  bu_F_S (l := n - (d + 1)) (x := b (n - (d + 1))) (t := gp_1) (by omega) (hb.1 _ (by omega)) (V.2 _ (by omega)) h
theorem bu_ups (hb : ch_B n b) (V : ch_V n b T G) {d : Nat} {r : Nat → Nat} (h : bu_F n T d r) : ∀ e, d + e ≤ n → bu_F n T (d + e) r
  | 0, _ => h
  | e + 1, he => bu_up hb V (d := d + e) he (bu_ups hb V h e (by omega))
theorem bu_1 (hb : ch_B n b) (V : ch_V n b T G) {d : Nat} (hd : d ≤ n) : bu_F n T d gp_1 := by
  have := bu_ups hb V (d := 0) (r := gp_1) rfl d (by omega)
  rw [Nat.zero_add] at this
  exact this
theorem bu_ent (hb : ch_B n b) (V : ch_V n b T G) {l x : Nat} {t : Nat → Nat} (hl : l < n) (hx : x < n) (ht : T l x = some t) : bu_F n T n t := by
  have a : bu_F n T (n - l - 1 + 1) (gp_c t gp_1) := bu_F_S (l := l) (by omega) hx ht (bu_1 hb V (by omega))
  have c := bu_ups hb V a l (by omega)
  rw [show n - l - 1 + 1 + l = n from by omega] at c
  exact c
theorem bu_fix (V : ch_V n b T G) (gr : gp_Gr n G) : ∀ {d : Nat} {g : Nat → Nat}, d ≤ n → bu_F n T d g → G g ∧ ∀ j, j < n - d → g (b j) = b j
  | 0, g, _, h => by
    have e : g = gp_1 := h
    rw [e]
    exact ⟨gr.2.1, fun _ _ => rfl⟩
  | d + 1, g, hd, h => by
    obtain ⟨x, t, r, hx, ht, hr, e⟩ := bu_F_E (l := n - (d + 1)) (by omega) h
    obtain ⟨t1, t2, t3⟩ := V.1 _ x t (by omega) hx ht
    obtain ⟨r1, r2⟩ := bu_fix V gr (d := d) (by omega) hr
    rw [e]
    refine ⟨gr.2.2.1 _ _ t1 r1, fun j hj => ?_⟩
    show t (r (b j)) = b j
    rw [r2 j (by omega), t2 j hj]
theorem bu_dn1 (V : ch_V n b T G) (gr : gp_Gr n G) {d l : Nat} {g : Nat → Nat} (hl : l + d + 1 = n) (h : bu_F n T (d + 1) g) (hg : g (b l) = b l) : bu_F n T d g := by
  obtain ⟨x, t, r, hx, ht, hr, e⟩ := bu_F_E hl h
  obtain ⟨t1, t2, t3⟩ := V.1 l x t (by omega) hx ht
  obtain ⟨r1, r2⟩ := bu_fix V gr (d := d) (by omega) hr
  have ex : x = b l := by
    have q : g (b l) = x := by
      rw [e]
      show t (r (b l)) = x
      rw [r2 l (by omega), t3]
    exact q.symm.trans hg
  rw [ex, V.2 l (by omega)] at ht
  have et : gp_1 = t := Option.some.inj ht
  rw [e, ← et]
  exact hr
theorem bu_dn (V : ch_V n b T G) (gr : gp_Gr n G) {d : Nat} {g : Nat → Nat} : ∀ e, d + e ≤ n → bu_F n T (d + e) g → (∀ j, j < n - d → g (b j) = b j) → bu_F n T d g
  | 0, _, h, _ => h
  | e + 1, he, h, hf => bu_dn V gr e (by omega) (bu_dn1 V gr (d := d + e) (l := n - (d + e + 1)) (by omega) h (hf _ (by omega))) hf
/-- the product of two entries factors -/
def bu_pairs (n : Nat) (T : Nat → Nat → Option (Nat → Nat)) : Prop := ∀ l x t l' x' t', l < n → x < n → l' < n → x' < n → T l x = some t → T l' x' = some t' → bu_F n T n (gp_c t t')
theorem bu_pair (V : ch_V n b T G) (gr : gp_Gr n G) (hp : bu_pairs n T) {d l l1 x1 l2 x2 : Nat} {t1 t2 : Nat → Nat} (hl : l + d + 1 = n) (h1 : l ≤ l1) (h1n : l1 < n) (h2 : l ≤ l2) (h2n : l2 < n) (hx1 : x1 < n) (hx2 : x2 < n)
    (e1 : T l1 x1 = some t1) (e2 : T l2 x2 = some t2) : bu_F n T (d + 1) (gp_c t1 t2) := by
  refine bu_dn V gr (d := d + 1) l (by omega) ?_ (fun j hj => ?_)
  · rw [show d + 1 + l = n from by omega]
    exact hp _ _ _ _ _ _ h1n hx1 h2n hx2 e1 e2
  · obtain ⟨_, a, _⟩ := V.1 l1 x1 t1 h1n hx1 e1
    obtain ⟨_, c, _⟩ := V.1 l2 x2 t2 h2n hx2 e2
    show t1 (t2 (b j)) = b j
    rw [c j (by omega), a j (by omega)]
theorem bu_clA (hb : ch_B n b) (V : ch_V n b T G) (gr : gp_Gr n G) (hp : bu_pairs n T) {d l x : Nat} {s : Nat → Nat} (hl : l + d + 1 = n) (hx : x < n) (hs : T l x = some s)
    (ih : ∀ g h, bu_F n T d g → bu_F n T d h → bu_F n T d (gp_c g h)) : ∀ e g, e ≤ d → bu_F n T e g → bu_F n T (d + 1) (gp_c g s)
  | 0, g, _, hg => by
    have e : g = gp_1 := hg
    rw [e]
    have q : bu_F n T (d + 1) (gp_c s gp_1) := bu_F_S hl hx hs (bu_1 hb V (by omega))
    exact q
  | e + 1, g, he, hg => by
    obtain ⟨x1, t, r, hx1, ht, hr, eg⟩ := bu_F_E (l := n - (e + 1)) (by omega) hg
    have a := bu_clA hb V gr hp hl hx hs ih e r (by omega) hr
    obtain ⟨x2, t2, r2, hx2, ht2, hr2, e2⟩ := bu_F_E hl a
    have c := bu_pair V gr hp hl (l1 := n - (e + 1)) (l2 := l) (by omega) (by omega) (by omega) (by omega) hx1 hx2 ht ht2
    obtain ⟨x3, t3, r3, hx3, ht3, hr3, e3⟩ := bu_F_E hl c
    have f : gp_c g s = gp_c t3 (gp_c r3 r2) := by
      have q1 : gp_c g s = gp_c t (gp_c r s) := by rw [eg]; rfl
      have q2 : gp_c t (gp_c t2 r2) = gp_c (gp_c t t2) r2 := rfl
      rw [q1, e2, q2, e3]; rfl
    rw [f]
    exact bu_F_S hl hx3 ht3 (ih _ _ hr3 hr2)
theorem bu_cl (hb : ch_B n b) (V : ch_V n b T G) (gr : gp_Gr n G) (hp : bu_pairs n T) : ∀ d, d ≤ n → ∀ g h, bu_F n T d g → bu_F n T d h → bu_F n T d (gp_c g h)
  | 0, _, g, h, hg, hh => by
    have e1 : g = gp_1 := hg
    have e2 : h = gp_1 := hh
    rw [e1, e2]
    exact (rfl : gp_c gp_1 gp_1 = gp_1)
  | d + 1, hd, g, h, hg, hh => by
    have ih := bu_cl hb V gr hp d (by omega)
    have hl : n - (d + 1) + d + 1 = n := by omega
    obtain ⟨x1, t1, r1, hx1, ht1, hr1, e1⟩ := bu_F_E hl hg
    obtain ⟨x2, t2, r2, hx2, ht2, hr2, e2⟩ := bu_F_E hl hh
    have a := bu_clA hb V gr hp hl hx2 ht2 ih d r1 (Nat.le_refl _) hr1
    obtain ⟨x3, t3, r3, hx3, ht3, hr3, e3⟩ := bu_F_E hl a
    have c := bu_pair V gr hp hl (Nat.le_refl _) (by omega) (Nat.le_refl _) (by omega) hx1 hx3 ht1 ht3
    obtain ⟨x4, t4, r4, hx4, ht4, hr4, e4⟩ := bu_F_E hl c
    have f : gp_c g h = gp_c t4 (gp_c r4 (gp_c r3 r2)) := by
      have q1 : gp_c g h = gp_c t1 (gp_c (gp_c r1 t2) r2) := by rw [e1, e2]; rfl
      have q2 : gp_c t1 (gp_c (gp_c t3 r3) r2) = gp_c (gp_c t1 t3) (gp_c r3 r2) := rfl
      rw [q1, e3, q2, e4]; rfl
    rw [f]
    exact bu_F_S hl hx4 ht4 (ih _ _ hr4 (ih _ _ hr3 hr2))
end
theorem bu_done {n : Nat} {b : Nat → Nat} {T : Nat → Nat → Option (Nat → Nat)} {A : (Nat → Nat) → Prop} (hA : ∀ t, A t → gp_P n t) (hb : ch_B n b) (V : ch_V n b T (gp_G A)) (hp : bu_pairs n T)
    (hg : ∀ t, A t → bu_F n T n t) : ch_OK n b T (gp_G A) := by
  have gr := gp_Gr_of hA
  refine ⟨V, fun l g hl gg gf => ?_⟩
  have a : bu_F n T n g := gg (bu_F n T n) (bu_1 hb V (Nat.le_refl _)) (fun x t hx ht => bu_cl hb V gr hp n (Nat.le_refl _) x t hx (hg t ht))
  have c : bu_F n T (n - l - 1 + 1) g := by
    refine bu_dn V gr (d := n - l - 1 + 1) l (by omega) ?_ (fun j hj => gf j (by omega))
    rw [show n - l - 1 + 1 + l = n from by omega]; exact a
  obtain ⟨x, t, r, hx, ht, hr, e⟩ := bu_F_E (l := l) (by omega) c
  obtain ⟨t1, t2, t3⟩ := V.1 l x t hl hx ht
  obtain ⟨r1, r2⟩ := bu_fix V gr (d := n - l - 1) (by omega) hr
  have ex : g (b l) = x := by
    rw [e]
    show t (r (b l)) = x
    rw [r2 l (by omega), t3]
  rw [ex, ht]
  exact fun z => nomatch z
theorem bu_mono {n : Nat} {T T' : Nat → Nat → Option (Nat → Nat)} (h : ∀ l x t, T l x = some t → T' l x = some t) : ∀ {d : Nat} {g : Nat → Nat}, bu_F n T d g → bu_F n T' d g
  | 0, _, hg => hg
  | d + 1, _, ⟨x, t, r, h1, h2, h3, h4⟩ => ⟨x, t, r, h1, h _ _ _ h2, bu_mono h h3, h4⟩
/-! a new entry -/
def bu_set (T : Nat → Nat → Option (Nat → Nat)) (l x : Nat) (t : Nat → Nat) : Nat → Nat → Option (Nat → Nat) := fun l' x' => if l' = l ∧ x' = x then some t else T l' x'
theorem bu_set_s {T : Nat → Nat → Option (Nat → Nat)} {l x : Nat} {t : Nat → Nat} : bu_set T l x t l x = some t := if_pos ⟨rfl, rfl⟩
theorem bu_set_n {T : Nat → Nat → Option (Nat → Nat)} {l x l' x' : Nat} {t : Nat → Nat} (h : ¬ (l' = l ∧ x' = x)) : bu_set T l x t l' x' = T l' x' := if_neg h
theorem bu_set_le {T : Nat → Nat → Option (Nat → Nat)} {l x : Nat} {t : Nat → Nat} (h : T l x = none) (l' x' : Nat) (s : Nat → Nat) (e : T l' x' = some s) : bu_set T l x t l' x' = some s := by
  rw [bu_set_n, e]
  rintro ⟨a, c⟩
  rw [a, c, h] at e
  exact nomatch e
theorem bu_set_V {n : Nat} {b : Nat → Nat} {T : Nat → Nat → Option (Nat → Nat)} {G : (Nat → Nat) → Prop} (V : ch_V n b T G) {l x : Nat} {t : Nat → Nat} (hn : T l x = none) (ht : G t) (hf : ∀ j, j < l → t (b j) = b j) (hx : t (b l) = x) : ch_V n b (bu_set T l x t) G := by
  refine ⟨fun l' x' s hl hx' e => ?_, fun l' hl => bu_set_le hn _ _ _ (V.2 l' hl)⟩
  rcases Classical.em (l' = l ∧ x' = x) with z | z
  · obtain ⟨rfl, rfl⟩ := z
    rw [bu_set_s] at e
    rw [← Option.some.inj e]
    exact ⟨ht, hf, hx⟩
  · rw [bu_set_n z] at e
    exact V.1 l' x' s hl hx' e
theorem bu_set_cnt {n : Nat} {T : Nat → Nat → Option (Nat → Nat)} {l x : Nat} {t : Nat → Nat} (hx : x < n) (hn : T l x = none) : ch_s (bu_set T l x t) n l = ch_s T n l + 1 := by
  show cc (fun y => bu_set T l x t l y ≠ none) n = cc (fun y => T l y ≠ none) n + 1
  rw [← cc_add (P := fun y => T l y ≠ none) (a := x) (fun z => z hn) hx]
  apply cc_eq
  intro y _
  rcases Classical.em (y = x) with e | e
  · subst e
    rw [bu_set_s]
    exact ⟨fun _ => Or.inr rfl, fun _ z => nomatch z⟩
  · rw [bu_set_n (fun z => e z.2)]
    exact ⟨Or.inl, fun z => z.elim id (fun q => absurd q e)⟩
theorem bu_set_cno {n : Nat} {T : Nat → Nat → Option (Nat → Nat)} {l x : Nat} {t : Nat → Nat} {l' : Nat} (h : l' ≠ l) : ch_s (bu_set T l x t) n l' = ch_s T n l' := by
  show cc (fun y => bu_set T l x t l' y ≠ none) n = cc (fun y => T l' y ≠ none) n
  apply cc_eq
  intro y _
  rw [bu_set_n (fun z => h z.1)]
/-- at most n - l entries at level l -/
theorem bu_lvl {n : Nat} {b : Nat → Nat} (hb : ch_B n b) : ∀ l, l ≤ n → cc (fun x => ∃ j, j < l ∧ b j = x) n = l
  | 0, _ => cc_zero (fun k _ ⟨j, h, _⟩ => by omega)
  | l + 1, hl => by
    have a := bu_lvl hb l (by omega)
    have c := cc_add (P := fun x => ∃ j, j < l ∧ b j = x) (a := b l) (fun ⟨j, h1, h2⟩ => by
      have := hb.2 j l (by omega) (by omega) h2
      omega) (N := n) (hb.1 l (by omega))
    rw [a] at c
    rw [← c]
    apply cc_eq
    intro k _
    refine ⟨fun ⟨j, h1, h2⟩ => ?_, fun z => z.elim (fun ⟨j, h1, h2⟩ => ⟨j, by omega, h2⟩) (fun e => ⟨l, by omega, e.symm⟩)⟩
    rcases Nat.lt_or_ge j l with q | q
    · exact Or.inl ⟨j, q, h2⟩
    · exact Or.inr (by rw [← h2, show j = l from by omega])
theorem bu_szle {n : Nat} {b : Nat → Nat} {T : Nat → Nat → Option (Nat → Nat)} {G : (Nat → Nat) → Prop} (hb : ch_B n b) (V : ch_V n b T G) (gr : gp_Gr n G) {l : Nat} (hl : l < n) : ch_s T n l ≤ n - l := by
  have a := bu_lvl hb l (by omega)
  have c := cc_disj (P := fun x => T l x ≠ none) (Q := fun x => ∃ j, j < l ∧ b j = x) (N := n) (fun x hx h1 ⟨j, h2, h3⟩ => by
    cases e : T l x with
    | none => exact h1 e
    | some t =>
      obtain ⟨t1, t2, t3⟩ := V.1 l x t hl hx e
      have q : t (b j) = t (b l) := by rw [t2 j h2, t3, h3]
      have := hb.2 j l (by omega) hl (gp_inj (gr.1 t t1) q)
      omega)
  have d : ch_s T n l = cc (fun x => T l x ≠ none) n := rfl
  omega
theorem bu_tri : ∀ n, n ≤ 7 → cs (fun l => n - l) n ≤ 21 + n := by decide
theorem bu_21 {n : Nat} {b : Nat → Nat} {T : Nat → Nat → Option (Nat → Nat)} {G : (Nat → Nat) → Prop} (hn : n ≤ 7) (hb : ch_B n b) (V : ch_V n b T G) (gr : gp_Gr n G) {sc : Nat} (h : cs (ch_s T n) n = sc + n) : sc ≤ 21 := by
  have a := cs_le (F := ch_s T n) (H := fun l => n - l) (N := n) (fun l hl => bu_szle hb V gr hl)
  have c := bu_tri n hn
  omega
end
section
/-! packed permutations: three bits a place -/
theorem bq_n (d : Nat) {i : Nat} (hi : i < 32) : bt (nI d) i = d.testBit i := by
  show (BitVec.ofNat 32 d).getLsbD i = _
  rw [BitVec.getLsbD_ofNat, decide_eq_true hi, Bool.true_and]
theorem bq_n8 {d : Nat} (hd : d < 8) {j : Nat} (hj : 3 ≤ j) : bt (nI d) j = false := by
  rcases Nat.lt_or_ge j 32 with h | h
  · rw [bq_n d h]
    have : 2 ^ 3 ≤ 2 ^ j := Nat.pow_le_pow_right (by omega) hj
    exact Nat.testBit_lt_two_pow (by omega)
  · exact b_big h
theorem bq_sh {d : Int32} (hd : ∀ j, 3 ≤ j → bt d j = false) {p : Nat} (hp : p < 10) {i : Nat} (hi : i < 32) : bt (d <<< (nI (3 * p) &&& 31)) i = (decide (i / 3 = p) && bt d (i % 3)) := by
  rw [b_shl (3 * p) (by omega) d hi]
  by_cases h : i / 3 = p
  · rw [decide_eq_true (show 3 * p ≤ i by omega), decide_eq_true h, show i - 3 * p = i % 3 from by omega]
  · rw [decide_eq_false h, Bool.false_and]
    by_cases h2 : 3 * p ≤ i
    · rw [hd (i - 3 * p) (by omega), Bool.and_false]
    · rw [decide_eq_false h2, Bool.false_and]
/-- x holds f at the places of S -/
def bq_H (S : Nat → Bool) (f : Nat → Nat) (x : Int32) : Prop := ∀ i, i < 32 → bt x i = (S (i / 3) && (f (i / 3)).testBit (i % 3))
theorem bq_0 (f : Nat → Nat) : bq_H (fun _ => false) f 0 := fun i _ => by rw [b_0]; rfl
theorem bq_u {S : Nat → Bool} {f : Nat → Nat} {x y : Int32} (hx : bq_H S f x) (hy : bq_H S f y) : x = y := b_ext (fun i hi => by rw [hx i hi, hy i hi])
theorem bq_S {S S' : Nat → Bool} {f : Nat → Nat} {x : Int32} (hx : bq_H S f x) (h : ∀ q, q < 11 → S q = S' q) : bq_H S' f x := fun i hi => by rw [hx i hi, h (i / 3) (by omega)]
theorem bq_or {S : Nat → Bool} {f : Nat → Nat} {x : Int32} (hx : bq_H S f x) {p d : Nat} (hp : p < 10) (hd : d < 8) (e : f p = d) :
    bq_H (fun q => S q || decide (q = p)) f (x ||| (nI d <<< (nI (3 * p) &&& 31))) := by
  intro i hi
  dsimp only
  rw [b_or, bq_sh (fun j hj => bq_n8 hd hj) hp hi, hx i hi]
  by_cases h : i / 3 = p
  · rw [decide_eq_true h, h, e, bq_n d (show i % 3 < 32 by omega)]
    cases S p <;> cases d.testBit (i % 3) <;> rfl
  · rw [decide_eq_false h, Bool.false_and, Bool.or_false, Bool.or_false]
theorem bq_7 : ∀ i, i < 32 → bt 7 i = decide (i < 3) := by decide +kernel
theorem bq_3 (p : Nat) : (3 : Int32) * nI p = nI (3 * p) := pk_mul 3 p
theorem bq_img {S : Nat → Bool} {f : Nat → Nat} {x : Int32} (hx : bq_H S f x) {p : Nat} (hp : p < 10) (hS : S p = true) (hf : f p < 8) : (x >>> (((3 : Int32) * nI p) &&& 31)) &&& 7 = nI (f p) := by
  rw [bq_3]
  apply b_ext
  intro i hi
  rw [b_and, bq_7 i hi, b_sshr (3 * p) (by omega) x hi]
  by_cases h : i < 3
  · rw [decide_eq_true h, Bool.and_true, if_pos (show 3 * p + i < 32 by omega), hx _ (by omega), show (3 * p + i) / 3 = p from by omega, show (3 * p + i) % 3 = i from by omega, hS, Bool.true_and, bq_n _ hi]
  · rw [decide_eq_false h, Bool.and_false, bq_n8 hf (by omega)]
def bq_p (f : Nat → Nat) : Nat → Int32
  | 0 => 0
  | k + 1 => bq_p f k ||| (nI (f k) <<< (nI (3 * k) &&& 31))
theorem bq_pS (f : Nat → Nat) (k : Nat) : bq_p f k ||| (nI (f k) <<< (((3 : Int32) * nI k) &&& 31)) = bq_p f (k + 1) := by rw [bq_3]; rfl
theorem bq_pH {f : Nat → Nat} : ∀ {k : Nat}, k ≤ 10 → (∀ i, i < k → f i < 8) → bq_H (fun q => decide (q < k)) f (bq_p f k)
  | 0, _, _ => bq_S (bq_0 f) (fun q _ => (decide_eq_false (Nat.not_lt_zero q)).symm)
  | k + 1, hk, h => by
    refine bq_S (bq_or (bq_pH (k := k) (by omega) (fun i hi => h i (by omega))) (p := k) (by omega) (h k (by omega)) rfl) (fun q _ => ?_)
    by_cases a : q < k
    · rw [decide_eq_true a, decide_eq_true (show q < k + 1 by omega)]; rfl
    · by_cases c : q = k
      · rw [decide_eq_true c, decide_eq_true (show q < k + 1 by omega), Bool.or_true]
      · rw [decide_eq_false a, decide_eq_false c, decide_eq_false (show ¬ q < k + 1 by omega)]; rfl
theorem bq_8 {n : Nat} {f : Nat → Nat} (hn : n ≤ 7) (hf : gp_P n f) : ∀ i, i < n → f i < 8 := fun i hi => by have := gp_lt hf hi; omega
theorem bq_pP {n : Nat} {f : Nat → Nat} (hn : n ≤ 7) (hf : gp_P n f) : bq_H (fun q => decide (q < n)) f (bq_p f n) := bq_pH (by omega) (bq_8 hn hf)
theorem bq_i {n : Nat} {f : Nat → Nat} (hn : n ≤ 7) (hf : gp_P n f) {p : Nat} (hp : p < n) : (bq_p f n >>> (((3 : Int32) * nI p) &&& 31)) &&& 7 = nI (f p) :=
  bq_img (bq_pP hn hf) (by omega) (decide_eq_true hp) (bq_8 hn hf p hp)
theorem bq_inj {n : Nat} {f g : Nat → Nat} (hn : n ≤ 7) (hf : gp_P n f) (hg : gp_P n g) (e : bq_p f n = bq_p g n) : f = g := by
  refine gp_ext hf hg (fun i hi => ?_)
  have a := bq_i hn hf hi
  rw [e, bq_i hn hg hi, nI_eq (by have := bq_8 hn hg i hi; omega) (by have := bq_8 hn hf i hi; omega)] at a
  exact a.symm
theorem bq_ne {n : Nat} {f : Nat → Nat} (h2 : 2 ≤ n) (hn : n ≤ 7) (hf : gp_P n f) : ¬ bq_p f n = 0 := by
  intro e
  have a := bq_i hn hf (p := 0) (by omega)
  have c := bq_i hn hf (p := 1) (by omega)
  rw [e, show ((0 : Int32) >>> (((3 : Int32) * nI 0) &&& 31)) &&& 7 = nI 0 from by decide, nI_eq (by omega) (by have := bq_8 hn hf 0 (by omega); omega)] at a
  rw [e, show ((0 : Int32) >>> (((3 : Int32) * nI 1) &&& 31)) &&& 7 = nI 0 from by decide, nI_eq (by omega) (by have := bq_8 hn hf 1 (by omega); omega)] at c
  have := gp_inj hf (a.symm.trans c)
  omega
/-! two places exchanged -/
def bq_w (f : Nat → Nat) (a b : Nat) : Nat → Nat := fun p => if p = a then f b else if p = b then f a else f p
theorem bq_wP {n : Nat} {f : Nat → Nat} (hf : gp_P n f) {a b : Nat} (ha : a < n) (hb : b < n) : gp_P n (bq_w f a b) := by
  have key : bq_w f a b = gp_c f (bq_w gp_1 a b) := by
    funext p
    show (if p = a then f b else if p = b then f a else f p) = f (if p = a then b else if p = b then a else p)
    by_cases h1 : p = a
    · rw [if_pos h1, if_pos h1]
    · rw [if_neg h1, if_neg h1]
      by_cases h2 : p = b
      · rw [if_pos h2, if_pos h2]
      · rw [if_neg h2, if_neg h2]
  rw [key]
  refine gp_Pc hf ⟨fun i hi => ?_, fun i hi => ?_, fun i j _ _ e => ?_⟩
  · show (if i = a then b else if i = b then a else i) < n
    by_cases h1 : i = a
    · rw [if_pos h1]; exact hb
    · rw [if_neg h1]
      by_cases h2 : i = b
      · rw [if_pos h2]; exact ha
      · rw [if_neg h2]; exact hi
  · show (if i = a then b else if i = b then a else i) = i
    rw [if_neg (by omega), if_neg (by omega)]
  · have e' : (if i = a then b else if i = b then a else i) = (if j = a then b else if j = b then a else j) := e
    by_cases h1 : i = a
    · rw [if_pos h1] at e'
      by_cases h2 : j = a
      · omega
      · rw [if_neg h2] at e'
        by_cases h3 : j = b
        · rw [if_pos h3] at e'; omega
        · rw [if_neg h3] at e'; omega
    · rw [if_neg h1] at e'
      by_cases h4 : i = b
      · rw [if_pos h4] at e'
        by_cases h2 : j = a
        · rw [if_pos h2] at e'; omega
        · rw [if_neg h2] at e'
          by_cases h3 : j = b
          · omega
          · rw [if_neg h3] at e'; omega
      · rw [if_neg h4] at e'
        by_cases h2 : j = a
        · rw [if_pos h2] at e'; omega
        · rw [if_neg h2] at e'
          by_cases h3 : j = b
          · rw [if_pos h3] at e'; omega
          · rw [if_neg h3] at e'; exact e'
theorem bq_sw {n : Nat} {f : Nat → Nat} (hn : n ≤ 7) (hf : gp_P n f) {a b : Nat} (ha : a < n) (hb : b < n) :
    (bq_p f n ^^^ ((nI (f a) ^^^ nI (f b)) <<< (((3 : Int32) * nI a) &&& 31))) ^^^ ((nI (f a) ^^^ nI (f b)) <<< (((3 : Int32) * nI b) &&& 31)) = bq_p (bq_w f a b) n := by
  have ha8 := bq_8 hn hf a ha
  have hb8 := bq_8 hn hf b hb
  have hd : ∀ j, 3 ≤ j → bt (nI (f a) ^^^ nI (f b)) j = false := fun j hj => by rw [b_xor, bq_n8 ha8 hj, bq_n8 hb8 hj]; rfl
  refine bq_u (S := fun q => decide (q < n)) (f := bq_w f a b) ?_ (bq_pP hn (bq_wP hf ha hb))
  intro i hi
  dsimp only
  rw [bq_3, bq_3, b_xor, b_xor, bq_sh hd (by omega) hi, bq_sh hd (by omega) hi, bq_pP hn hf i hi, b_xor, bq_n _ (show i % 3 < 32 by omega), bq_n _ (show i % 3 < 32 by omega)]
  dsimp only
  show _ = (decide (i / 3 < n) && (if i / 3 = a then f b else if i / 3 = b then f a else f (i / 3)).testBit (i % 3))
  by_cases h1 : i / 3 = a
  · rw [if_pos h1, decide_eq_true h1, h1]
    rw [decide_eq_true ha]
    by_cases h2 : a = b
    · rw [decide_eq_true h2, ← h2]
      cases (f a).testBit (i % 3) <;> rfl
    · rw [decide_eq_false h2]
      cases (f a).testBit (i % 3) <;> cases (f b).testBit (i % 3) <;> rfl
  · rw [if_neg h1, decide_eq_false h1]
    by_cases h2 : i / 3 = b
    · rw [if_pos h2, decide_eq_true h2, h2, decide_eq_true hb]
      cases (f a).testBit (i % 3) <;> cases (f b).testBit (i % 3) <;> rfl
    · rw [if_neg h2, decide_eq_false h2]
      cases (decide (i / 3 < n)) <;> cases (f (i / 3)).testBit (i % 3) <;> rfl
/-! masks -/
def bm_M (P : Nat → Prop) (x : Int32) : Prop := ∀ i, i < 32 → (bt x i = true ↔ P i)
theorem bm_0 : bm_M (fun _ => False) 0 := fun i _ => by rw [b_0]; exact ⟨fun z => (nomatch z), False.elim⟩
theorem bm_or {P Q : Nat → Prop} {x y : Int32} (hx : bm_M P x) (hy : bm_M Q y) : bm_M (fun i => P i ∨ Q i) (x ||| y) := fun i hi => by
  rw [b_or, Bool.or_eq_true, hx i hi, hy i hi]
theorem bm_1 {d : Nat} (hd : d < 32) : bm_M (fun i => i = d) ((1 : Int32) <<< (nI d &&& 31)) := fun i hi => by
  have h1 : ∀ j, j < 32 → bt 1 j = decide (j = 0) := by decide +kernel
  rw [b_shl d hd _ hi, h1 _ (by omega), Bool.and_eq_true, decide_eq_true_eq, decide_eq_true_eq]
  omega
theorem bm_u {P Q : Nat → Prop} {x y : Int32} (hx : bm_M P x) (hy : bm_M Q y) (h : ∀ i, i < 32 → (P i ↔ Q i)) : x = y := b_ext (fun i hi => by
  rw [Bool.eq_iff_iff, hx i hi, hy i hi]; exact h i hi)
theorem bm_c {P Q : Nat → Prop} {x : Int32} (hx : bm_M P x) (h : ∀ i, i < 32 → (P i ↔ Q i)) : bm_M Q x := fun i hi => (hx i hi).trans (h i hi)
theorem bm_t {P : Nat → Prop} {x : Int32} (hx : bm_M P x) {d : Nat} (hd : d < 32) : ((x >>> (nI d &&& 31)) &&& 1) = 1 ↔ P d := by
  have h1 : ∀ j, j < 32 → bt 1 j = decide (j = 0) := by decide +kernel
  rw [← hx d hd]
  refine ⟨fun e => ?_, fun e => b_ext (fun i hi => ?_)⟩
  · have a : bt ((x >>> (nI d &&& 31)) &&& 1) 0 = bt 1 0 := by rw [e]
    rw [b_and, h1 0 (by omega), b_sshr d hd x (by omega), if_pos (by omega), Nat.add_zero, decide_eq_true rfl, Bool.and_true] at a
    exact a
  · rw [b_and, h1 i hi, b_sshr d hd x hi]
    by_cases z : i = 0
    · rw [z, if_pos (by omega), Nat.add_zero, e]; rfl
    · rw [decide_eq_false z, Bool.and_false]
end
section
/-! the component's helpers, each against its pure value -/
theorem xw_ix (c l x : Nat) : ((nI c * 7) + nI l) * 7 + nI x = nI ((c * 7 + l) * 7 + x) := by
  show ((nI c * nI 7) + nI l) * nI 7 + nI x = _
  rw [pk_mul, nI_add, pk_mul, nI_add]
theorem xw_ix1 (c l : Nat) : (nI c * 7) + nI l = nI (c * 7 + l) := by
  show (nI c * nI 7) + nI l = _
  rw [pk_mul, nI_add]
theorem xw_c10 (a b : Nat) : nI a * 10 + nI b = nI (a * 10 + b) := by
  show nI a * nI 10 + nI b = _
  rw [pk_mul, nI_add]
theorem xw_7 (l : Nat) : (7 : Int32) + nI l = nI (7 + l) := nI_add 7 l
def bu_e (n : Nat) : Option (Nat → Nat) → Int32
  | none => 0
  | some t => bq_p t n
def ch_O (s : Nat → Nat) (n l : Nat) : Nat := ch_o s l (n - l)
theorem ch_O_S {s : Nat → Nat} {n l : Nat} (h : l < n) : ch_O s n l = s l * ch_O s n (l + 1) := by
  unfold ch_O
  rw [show n - l = (n - (l + 1)) + 1 from by omega]
  rfl
theorem ch_O_n (s : Nat → Nat) (n : Nat) : ch_O s n n = 1 := by unfold ch_O; rw [Nat.sub_self]; rfl
section
variable {n : Nat} {f_slotCount f_twistLimit f_solved f_moveCount f_strongCount f_pinnedLevels : Int32} {a_state a_move a_locked a_pins a_base a_size a_table a_stale a_strong : Nat → Int32}
theorem xw_image {post : Int32 → Prop} {f : Nat → Nat} {p : Nat} (hn : n ≤ 7) (hf : gp_P n f) (hp : p < n) (h : post (nI (f p))) : wpX_image post (nI n, f_slotCount, f_twistLimit, f_solved, f_moveCount, f_strongCount, f_pinnedLevels, a_state, a_move, a_locked, a_pins, a_base, a_size, a_table, a_stale, a_strong) (bq_p f n) (nI p) := by
  show post ((bq_p f n >>> (((3 : Int32) * nI p) &&& 31)) &&& 7)
  rw [bq_i hn hf hp]; exact h
theorem xw_comp5 {post : Int32 → Prop} {f g : Nat → Nat} (hn : n ≤ 7) (hf : gp_P n f) (hg : gp_P n g) (h : post (bq_p (gp_c f g) n)) :
    ∀ m p, p ≤ n → n - p < m → wX_compose_5 post (bq_p f n) (bq_p g n) (nI n) f_slotCount f_twistLimit f_solved f_moveCount f_strongCount f_pinnedLevels a_state a_move a_locked a_pins a_base a_size a_table a_stale a_strong m (bq_p (gp_c f g) p) (nI p)
  | 0, _, _, h2 => absurd h2 (Nat.not_lt_zero _)
  | m + 1, p, h1, h2 => pk_le n p (fun z => by rw [show p = n from by omega]; exact h)
      (fun z => xw_image hn hg z (xw_image hn hf (gp_lt hg z) (nm_r (bq_pS (gp_c f g) p) (nm_r (nI_1 p) (xw_comp5 hn hf hg h m (p + 1) (by omega) (by omega))))))
theorem xw_compose {post : Int32 → Prop} {f g : Nat → Nat} (hn : n ≤ 7) (hf : gp_P n f) (hg : gp_P n g) (h : post (bq_p (gp_c f g) n)) :
    wpX_compose post (nI n, f_slotCount, f_twistLimit, f_solved, f_moveCount, f_strongCount, f_pinnedLevels, a_state, a_move, a_locked, a_pins, a_base, a_size, a_table, a_stale, a_strong) (bq_p f n) (bq_p g n) := Exists.intro (n + 1) (xw_comp5 hn hf hg h (n + 1) 0 (by omega) (by omega))
theorem xw_place2 {post : Int32 → Prop} {f : Nat → Nat} {x y : Nat} (hn : n ≤ 7) (hf : gp_P n f) (hx : x < n) (e : f x = y) (h : post (nI x)) :
    ∀ m p, p ≤ x → x - p < m → wX_placeOf_2 post (bq_p f n) (nI y) (nI n) f_slotCount f_twistLimit f_solved f_moveCount f_strongCount f_pinnedLevels a_state a_move a_locked a_pins a_base a_size a_table a_stale a_strong m (nI p)
  | 0, _, _, h2 => absurd h2 (Nat.not_lt_zero _)
  | m + 1, p, h1, h2 => pk_le n p (fun z => absurd z (by omega)) (fun z => xw_image hn hf z (pk_eq (f p) y
      (fun q => by rw [gp_inj hf (q.trans e.symm)]; exact h)
      (fun q => nm_r (nI_1 p) (xw_place2 hn hf hx e h m (p + 1) (by have : p ≠ x := fun w => q (by rw [w, e]); omega) (by have : p ≠ x := fun w => q (by rw [w, e]); omega)))
      rfl rfl (by have := gp_lt hf z; omega) (by have := gp_lt hf hx; omega)))
theorem xw_placeOf {post : Int32 → Prop} {f : Nat → Nat} {x y : Nat} (hn : n ≤ 7) (hf : gp_P n f) (hx : x < n) (e : f x = y) (h : post (nI x)) :
    wpX_placeOf post (nI n, f_slotCount, f_twistLimit, f_solved, f_moveCount, f_strongCount, f_pinnedLevels, a_state, a_move, a_locked, a_pins, a_base, a_size, a_table, a_stale, a_strong) (bq_p f n) (nI y) := Exists.intro (n + 1) (xw_place2 hn hf hx e h (n + 1) 0 (by omega) (by omega))
theorem xw_extend {post : Int32 → Prop} {h : Nat → Nat} {t : Option (Nat → Nat)} {c l x y : Nat} (h2 : 2 ≤ n) (hn : n ≤ 7) (hc : c < 2) (hl : l < n) (hh : gp_P n h) (hx : x < n) (e : h x = y)
    (ht : a_table ((c * 7 + l) * 7 + x) = bu_e n t) (hP : ∀ s, t = some s → gp_P n s) (k0 : t = none → post 0) (k1 : ∀ s, t = some s → post (bq_p (gp_c h s) n)) :
    wpX_extend post (nI n, f_slotCount, f_twistLimit, f_solved, f_moveCount, f_strongCount, f_pinnedLevels, a_state, a_move, a_locked, a_pins, a_base, a_size, a_table, a_stale, a_strong) (nI c) (nI l) (bq_p h n) (nI y) := by
  unfold wpX_extend
  dsimp only
  refine xw_placeOf hn hh hx e ?_
  refine And.intro (by rw [xw_ix]; exact vp_in_nI (by omega) (by omega)) ?_
  rw [xw_ix, nI_clamp (by omega), ht]
  cases t with
  | none => exact nm_e (br_t rfl (k0 rfl))
  | some s => exact nm_e (br_f (bq_ne h2 hn (hP s rfl)) (xw_compose hn hh (hP s rfl) (k1 s rfl)))
theorem xw_invS {f g : Nat → Nat} {p : Nat} (hf : gp_P n f) (e1 : ∀ i, g (f i) = i) (e2 : ∀ i, f (g i) = i) (hp : p < n) (q : Nat) :
    (decide (q < n ∧ g q < p) || decide (q = f p)) = decide (q < n ∧ g q < p + 1) := by
  rw [Bool.eq_iff_iff, Bool.or_eq_true, decide_eq_true_eq, decide_eq_true_eq, decide_eq_true_eq]
  refine ⟨fun z => ?_, fun ⟨a, c⟩ => ?_⟩
  · rcases z with ⟨a, c⟩ | rfl
    · exact ⟨a, by omega⟩
    · exact ⟨gp_lt hf hp, by rw [e1]; omega⟩
  · by_cases w : g q = p
    · exact Or.inr (by rw [← w, e2])
    · exact Or.inl ⟨a, by omega⟩
theorem xw_inv4 {post : Int32 → Prop} {f g : Nat → Nat} (hn : n ≤ 7) (hf : gp_P n f) (hg : gp_P n g) (e1 : ∀ i, g (f i) = i) (e2 : ∀ i, f (g i) = i) (h : post (bq_p g n)) :
    ∀ m p x, p ≤ n → n - p < m → bq_H (fun q => decide (q < n ∧ g q < p)) g x → wX_inverse_4 post (bq_p f n) (nI n) f_slotCount f_twistLimit f_solved f_moveCount f_strongCount f_pinnedLevels a_state a_move a_locked a_pins a_base a_size a_table a_stale a_strong m x (nI p)
  | 0, _, _, _, h2, _ => absurd h2 (Nat.not_lt_zero _)
  | m + 1, p, x, h1, h2, hx => pk_le n p
      (fun z => by
        have e : x = bq_p g n := bq_u hx (bq_S (bq_pP hn hg) (fun q _ => by
          rw [decide_eq_decide]
          exact ⟨fun w => ⟨w, by have := gp_lt hg w; omega⟩, fun w => w.1⟩))
        rw [e]; exact h)
      (fun z => xw_image hn hf z (nm_e (nm_r (nI_1 p) (xw_inv4 hn hf hg e1 e2 h m (p + 1) _ (by omega) (by omega) (by
        have hfp := gp_lt hf z
        rw [bq_3]
        exact bq_S (bq_or hx (p := f p) (d := p) (by omega) (by omega) (e1 p)) (fun q _ => xw_invS hf e1 e2 z q))))))
theorem xw_inverse {post : Int32 → Prop} {f g : Nat → Nat} (hn : n ≤ 7) (hf : gp_P n f) (hg : gp_P n g) (e1 : ∀ i, g (f i) = i) (e2 : ∀ i, f (g i) = i) (h : post (bq_p g n)) :
    wpX_inverse post (nI n, f_slotCount, f_twistLimit, f_solved, f_moveCount, f_strongCount, f_pinnedLevels, a_state, a_move, a_locked, a_pins, a_base, a_size, a_table, a_stale, a_strong) (bq_p f n) := Exists.intro (n + 1) (xw_inv4 hn hf hg e1 e2 h (n + 1) 0 0 (by omega) (by omega) (bq_S (bq_0 g) (fun q _ => (decide_eq_false (fun w => Nat.not_lt_zero _ w.2)).symm)))
theorem xw_enc4 {post : Int32 → Prop} {f : Nat → Nat} (hn : n ≤ 7) (hf : gp_P n f) (h : post (nI (li_c f n))) :
    ∀ m p, p ≤ n → n - p < m → wX_encode_4 post (bq_p f n) (nI n) f_slotCount f_twistLimit f_solved f_moveCount f_strongCount f_pinnedLevels a_state a_move a_locked a_pins a_base a_size a_table a_stale a_strong m (nI (li_c f p)) (nI p)
  | 0, _, _, h2 => absurd h2 (Nat.not_lt_zero _)
  | m + 1, p, h1, h2 => pk_le n p (fun z => by rw [show p = n from by omega]; exact h)
      (fun z => xw_image hn hf z (nm_r (xw_c10 (li_c f p) (f p)) (nm_r (nI_1 p) (xw_enc4 hn hf h m (p + 1) (by omega) (by omega)))))
theorem xw_encode {post : Int32 → Prop} {f : Nat → Nat} (hn : n ≤ 7) (hf : gp_P n f) (h : post (nI (li_c f n))) : wpX_encode post (nI n, f_slotCount, f_twistLimit, f_solved, f_moveCount, f_strongCount, f_pinnedLevels, a_state, a_move, a_locked, a_pins, a_base, a_size, a_table, a_stale, a_strong) (bq_p f n) :=
  Exists.intro (n + 1) (xw_enc4 hn hf h (n + 1) 0 (by omega) (by omega))
theorem xw_ord5 {post : Int32 → Prop} {c : Nat} {s : Nat → Nat} (hn : n ≤ 7) (hc : c < 2) (hs : ∀ l, l < n → a_size (c * 7 + l) = nI (s l)) :
    ∀ m l a, l ≤ n → n - l < m → post (nI (a * ch_O s n l)) → wX_order_5 post (nI c) (nI n) f_slotCount f_twistLimit f_solved f_moveCount f_strongCount f_pinnedLevels a_state a_move a_locked a_pins a_base a_size a_table a_stale a_strong m (nI a) (nI l)
  | 0, _, _, _, h2, _ => absurd h2 (Nat.not_lt_zero _)
  | m + 1, l, a, h1, h2, h => pk_le n l
      (fun z => by rw [show l = n from by omega, ch_O_n, Nat.mul_one] at h; exact h)
      (fun z => And.intro (by rw [xw_ix1]; exact vp_in_nI (by omega) (by omega)) (nm_r (e' := nI (a * s l)) (by rw [xw_ix1, nI_clamp (by omega), hs l z, pk_mul])
        (nm_r (nI_1 l) (xw_ord5 hn hc hs m (l + 1) (a * s l) (by omega) (by omega) (by rw [Nat.mul_assoc, ← ch_O_S z]; exact h)))))
theorem xw_order {post : Int32 → Prop} {c l : Nat} {s : Nat → Nat} (hn : n ≤ 7) (hc : c < 2) (hs : ∀ l, l < n → a_size (c * 7 + l) = nI (s l)) (hl : l ≤ n) (h : post (nI (ch_O s n l))) :
    wpX_order post (nI n, f_slotCount, f_twistLimit, f_solved, f_moveCount, f_strongCount, f_pinnedLevels, a_state, a_move, a_locked, a_pins, a_base, a_size, a_table, a_stale, a_strong) (nI c) (nI l) := Exists.intro (n + 1) (xw_ord5 hn hc hs (n + 1) l 1 hl (by omega) (by rw [Nat.one_mul]; exact h))
theorem xw_slot1 {post : Int32 → Prop} {sl j : Nat} (hs : sl ≤ 8) (hj : j < sl) (h : post 1) : wpX_isSlot post (nI n, nI sl, f_twistLimit, f_solved, f_moveCount, f_strongCount, f_pinnedLevels, a_state, a_move, a_locked, a_pins, a_base, a_size, a_table, a_stale, a_strong) (nI j) := by
  unfold wpX_isSlot
  dsimp only
  exact br_f (nI_pos (by omega)) (pk_le sl j (fun z => absurd z (by omega)) (fun _ => h))
theorem xw_slot0 {post : Int32 → Prop} {sl : Nat} {v : Int32} (hv : v < 0 ∨ nI sl ≤ v) (h : post 0) : wpX_isSlot post (nI n, nI sl, f_twistLimit, f_solved, f_moveCount, f_strongCount, f_pinnedLevels, a_state, a_move, a_locked, a_pins, a_base, a_size, a_table, a_stale, a_strong) v := by
  unfold wpX_isSlot
  dsimp only
  exact br_c (fun _ => h) (fun z => br_t (hv.resolve_left z) h)
theorem xw_plc1 {post : Int32 → Prop} {j : Nat} (hn : n ≤ 7) (hj : j < n) (h : post 1) : wpX_isPlace post (nI n, f_slotCount, f_twistLimit, f_solved, f_moveCount, f_strongCount, f_pinnedLevels, a_state, a_move, a_locked, a_pins, a_base, a_size, a_table, a_stale, a_strong) (nI j) := by
  unfold wpX_isPlace
  dsimp only
  exact br_f (nI_pos (by omega)) (pk_le n j (fun z => absurd z (by omega)) (fun _ => h))
theorem xw_plc0 {post : Int32 → Prop} {v : Int32} (hv : v < 0 ∨ nI n ≤ v) (h : post 0) : wpX_isPlace post (nI n, f_slotCount, f_twistLimit, f_solved, f_moveCount, f_strongCount, f_pinnedLevels, a_state, a_move, a_locked, a_pins, a_base, a_size, a_table, a_stale, a_strong) v := by
  unfold wpX_isPlace
  dsimp only
  exact br_c (fun _ => h) (fun z => br_t (hv.resolve_left z) h)
theorem xw_tw1 {post : Int32 → Prop} {mc j : Nat} (hs : mc ≤ 6) (hj : j < mc) (h : post 1) : wpX_isTwist post (nI n, f_slotCount, f_twistLimit, f_solved, nI mc, f_strongCount, f_pinnedLevels, a_state, a_move, a_locked, a_pins, a_base, a_size, a_table, a_stale, a_strong) (nI j) := by
  unfold wpX_isTwist
  dsimp only
  exact br_f (nI_pos (by omega)) (pk_le mc j (fun z => absurd z (by omega)) (fun _ => h))
theorem xw_tw0 {post : Int32 → Prop} {mc : Nat} {v : Int32} (hv : v < 0 ∨ nI mc ≤ v) (h : post 0) : wpX_isTwist post (nI n, f_slotCount, f_twistLimit, f_solved, nI mc, f_strongCount, f_pinnedLevels, a_state, a_move, a_locked, a_pins, a_base, a_size, a_table, a_stale, a_strong) v := by
  unfold wpX_isTwist
  dsimp only
  exact br_c (fun _ => h) (fun z => br_t (hv.resolve_left z) h)
end
end
section
/-! decode: the permutation with a code -/
theorem bq_F {S : Nat → Bool} {f g : Nat → Nat} {x : Int32} (hx : bq_H S f x) (h : ∀ q, S q = true → f q = g q) : bq_H S g x := fun i hi => by
  rw [hx i hi]
  cases e : S (i / 3) with
  | false => rfl
  | true => rw [h _ e]
theorem xd_10 {a : Nat} (h : a < 2 ^ 31) : nI a - nI a / 10 * 10 = nI (a % 10) := pk_rem (d := 10) h (by omega) (by omega)
theorem xd_d10 {a : Nat} (h : a < 2 ^ 31) : nI a / 10 = nI (a / 10) := pk_div (d := 10) h (by omega) (by omega)
theorem xd_le {c : Nat} (h : c < 2 ^ 31) (k : Nat) : c / k < 2 ^ 31 := Nat.lt_of_le_of_lt (Nat.div_le_self _ _) h
theorem xd_end {n : Nat} {post : Int32 → Prop} {c : Nat} {x : Int32} (hn : n ≤ 7) (hc31 : c < 2 ^ 31) (yes : ∀ g, gp_P n g → li_c g n = c → post (bq_p g n)) (no : (∀ g, gp_P n g → li_c g n ≠ c) → post 0)
    (hx : bq_H (fun q => decide (0 ≤ q ∧ q < n)) (li_d n c) x) (hl : ∀ q, 0 ≤ q → q < n → li_d n c q < n) (hi : ∀ p q, 0 ≤ p → p < q → q < n → li_d n c p ≠ li_d n c q) :
    (nI (c / 10 ^ n) = 0 → post x) ∧ (¬ nI (c / 10 ^ n) = 0 → post 0) := by
  by_cases hc : c < 10 ^ n
  · refine br_t (by rw [Nat.div_eq_of_lt hc]; rfl) ?_
    have hP : gp_P n (fun p => if p < n then li_d n c p else p) := by
      refine ⟨fun i h => ?_, fun i h => if_neg (by omega), fun i j h1 h2 e => ?_⟩
      · dsimp only; rw [if_pos h]; exact hl i (by omega) h
      · dsimp only at e
        rw [if_pos h1, if_pos h2] at e
        rcases Nat.lt_trichotomy i j with z | z | z
        · exact absurd e (hi i j (by omega) z h2)
        · exact z
        · exact absurd e.symm (hi j i (by omega) z h1)
    have e1 : li_c (fun p => if p < n then li_d n c p else p) n = c := by
      rw [li_c_eq (g := li_d n c) (fun i h => if_pos h), li_c_d hc (Nat.le_refl _), Nat.sub_self, Nat.pow_zero, Nat.div_one]
    have e2 : x = bq_p (fun p => if p < n then li_d n c p else p) n := by
      refine bq_u (S := fun q => decide (q < n)) (bq_F (bq_S hx (fun q _ => ?_)) (fun q hq => ?_)) (bq_pP hn hP)
      · rw [decide_eq_decide]; exact ⟨fun w => w.2, fun w => ⟨Nat.zero_le _, w⟩⟩
      · exact (if_pos (of_decide_eq_true hq)).symm
    rw [e2]
    exact yes _ hP e1
  · have ng : ∀ g, gp_P n g → li_c g n ≠ c := fun g hg e => hc (by
      rw [← e]
      exact li_c_lt (fun i hi => by have := gp_lt hg hi; omega))
    have p10 : 0 < 10 ^ n := Nat.pow_pos (by omega)
    have : 0 < c / 10 ^ n := Nat.div_pos (by omega) p10
    exact br_f (nI_ne0 this (xd_le hc31 _)) (no ng)
theorem xd_dig {n c k : Nat} (hk : k < n) : c / 10 ^ (n - (k + 1)) % 10 = li_d n c k := by
  unfold li_d
  rw [show n - 1 - k = n - (k + 1) from by omega]
theorem xd_nx {n c k : Nat} (hk : k < n) : c / 10 ^ (n - (k + 1)) / 10 = c / 10 ^ (n - k) := by
  rw [Nat.div_div_eq_div_mul, ← Nat.pow_succ, show (n - (k + 1)).succ = n - k from by omega]
section
variable {n : Nat} {f_slotCount f_twistLimit f_solved f_moveCount f_strongCount f_pinnedLevels : Int32} {a_state a_move a_locked a_pins a_base a_size a_table a_stale a_strong : Nat → Int32}
theorem xd_21 {post : Int32 → Prop} {c : Nat} (hn : n ≤ 7) (hc31 : c < 2 ^ 31) (yes : ∀ g, gp_P n g → li_c g n = c → post (bq_p g n)) (no : (∀ g, gp_P n g → li_c g n ≠ c) → post 0) :
    ∀ k m x3 x4 x5, k ≤ n → k < m → x5 = nI k + (-1) → bm_M (fun i => ∃ q, k ≤ q ∧ q < n ∧ li_d n c q = i) x3 → bq_H (fun q => decide (k ≤ q ∧ q < n)) (li_d n c) x4 →
      (∀ q, k ≤ q → q < n → li_d n c q < n) → (∀ p q, k ≤ p → p < q → q < n → li_d n c p ≠ li_d n c q) → wX_decode_21 post (nI n) f_slotCount f_twistLimit f_solved f_moveCount f_strongCount f_pinnedLevels a_state a_move a_locked a_pins a_base a_size a_table a_stale a_strong m (nI (c / 10 ^ (n - k))) x3 x4 x5
  | _, 0, _, _, _, _, h2, _, _, _, _, _ => absurd h2 (Nat.not_lt_zero _)
  | 0, m + 1, x3, x4, x5, h1, h2, e, h3, h4, h5, h6 => by
    subst e
    exact br_t (by decide) (xd_end hn hc31 yes no h4 h5 h6)
  | k + 1, m + 1, x3, x4, x5, h1, h2, e, h3, h4, h5, h6 => by
    rw [pk_m1] at e
    subst e
    have hd : li_d n c k < 10 := Nat.mod_lt _ (by omega)
    refine br_f (nI_pos (by omega)) ?_
    refine And.intro (by decide) (nm_r (e' := nI (li_d n c k)) (by rw [xd_10 (xd_le hc31 _), xd_dig (by omega)]) ?_)
    refine And.intro (by decide) (nm_r (e' := nI (c / 10 ^ (n - k))) (by rw [xd_d10 (xd_le hc31 _), xd_nx (by omega)]) ?_)
    have dg : ∀ g, gp_P n g → li_c g n = c → ∀ q, q < n → g q = li_d n c q := fun g hg eg q hq => by
      rw [← eg, li_d_c (fun i hi => by have := gp_lt hg hi; omega) hq]
    refine pk_le n (li_d n c k) (fun z => no (fun g hg eg => ?_)) (fun z => ?_)
    · have a := gp_lt hg (i := k) (by omega)
      rw [dg g hg eg k (by omega)] at a
      omega
    · refine ek_if (bm_t h3 (by omega)) (fun w => no (fun g hg eg => ?_)) (fun w => ?_)
      · obtain ⟨q, q1, q2, q3⟩ := w
        rw [← dg g hg eg q q2, ← dg g hg eg k (by omega)] at q3
        have := gp_inj hg q3
        omega
      · refine nm_e (nm_e (nm_e ?_))
        refine xd_21 hn hc31 yes no k m _ _ _ (by omega) (by omega) rfl ?_ ?_ ?_ ?_
        · refine bm_c (bm_or h3 (bm_1 (by omega))) (fun i _ => ⟨fun v => ?_, fun v => ?_⟩)
          · rcases v with ⟨q, q1, q2, q3⟩ | v
            · exact ⟨q, by omega, q2, q3⟩
            · exact ⟨k, Nat.le_refl _, by omega, v.symm⟩
          · obtain ⟨q, q1, q2, q3⟩ := v
            rcases Nat.lt_or_ge k q with y | y
            · exact Or.inl ⟨q, y, q2, q3⟩
            · exact Or.inr (by rw [← q3, show q = k from by omega])
        · rw [bq_3]
          refine bq_S (bq_or h4 (p := k) (d := li_d n c k) (by omega) (by omega) rfl) (fun q _ => ?_)
          rw [Bool.eq_iff_iff, Bool.or_eq_true, decide_eq_true_eq, decide_eq_true_eq, decide_eq_true_eq]
          omega
        · intro q q1 q2
          rcases Nat.lt_or_ge k q with y | y
          · exact h5 q y q2
          · rw [show q = k from by omega]; exact z
        · intro p q p1 p2 p3 pe
          rcases Nat.lt_or_ge k p with y | y
          · exact h6 p q y p2 p3 pe
          · rw [show p = k from by omega] at pe
            exact w ⟨q, by omega, p3, pe.symm⟩
theorem xd_decode {post : Int32 → Prop} {c : Nat} (h2 : 2 ≤ n) (hn : n ≤ 7) (hc31 : c < 2 ^ 31) (yes : ∀ g, gp_P n g → li_c g n = c → post (bq_p g n)) (no : (∀ g, gp_P n g → li_c g n ≠ c) → post 0) :
    wpX_decode post (nI n, f_slotCount, f_twistLimit, f_solved, f_moveCount, f_strongCount, f_pinnedLevels, a_state, a_move, a_locked, a_pins, a_base, a_size, a_table, a_stale, a_strong) (nI c) := by
  unfold wpX_decode
  dsimp only
  refine br_t (nI_pos' hc31) (nm_e (Exists.intro (n + 1) ?_))
  have a := xd_21 (post := post) (f_slotCount := f_slotCount) (f_twistLimit := f_twistLimit) (f_solved := f_solved) (f_moveCount := f_moveCount) (f_strongCount := f_strongCount) (f_pinnedLevels := f_pinnedLevels)
    (a_state := a_state) (a_move := a_move) (a_locked := a_locked) (a_pins := a_pins) (a_base := a_base) (a_size := a_size) (a_table := a_table) (a_stale := a_stale) (a_strong := a_strong)
    hn hc31 yes no n (n + 1) 0 0 (nI n - 1) (Nat.le_refl _) (by omega) (by obtain ⟨w, rfl⟩ : ∃ w, n = w + 1 := ⟨n - 1, by omega⟩; rw [nI_pred, pk_m1])
    (bm_c bm_0 (fun i _ => ⟨False.elim, fun ⟨q, q1, q2, _⟩ => by omega⟩)) (bq_S (bq_0 _) (fun q _ => (decide_eq_false (by omega)).symm)) (fun q q1 q2 => by omega) (fun p q p1 p2 p3 => by omega)
  rw [Nat.sub_self, Nat.pow_zero, Nat.div_one] at a
  exact a
end
end
section
/-! the component's questions over a complete chain -/
def xc_Q (n c : Nat) (b : Nat → Nat) (T : Nat → Nat → Option (Nat → Nat)) (G : (Nat → Nat) → Prop) (a_base a_size a_table : Nat → Int32) : Prop :=
  ch_B n b ∧ ch_OK n b T G ∧ (∀ l, l < n → a_base (c * 7 + l) = nI (b l)) ∧ (∀ l, l < n → a_size (c * 7 + l) = nI (ch_s T n l)) ∧ (∀ l x, l < n → x < n → a_table ((c * 7 + l) * 7 + x) = bu_e n (T l x))
theorem xq_O {n c : Nat} {b : Nat → Nat} {T : Nat → Nat → Option (Nat → Nat)} {G : (Nat → Nat) → Prop} {a_base a_size a_table : Nat → Int32} (hn : n ≤ 7) (gr : gp_Gr n G) (Q : xc_Q n c b T G a_base a_size a_table)
    {l : Nat} {h : Nat → Nat} (hl : l ≤ n) (hh : G h) : cc (ch_K G b n l h) (li_f n) = ch_O (ch_s T n) n l :=
  ch_order (by omega) Q.1 gr Q.2.1 (n - l) l h (by omega) hh
theorem xq_rk {n c : Nat} {b : Nat → Nat} {T : Nat → Nat → Option (Nat → Nat)} {G : (Nat → Nat) → Prop} {a_base a_size a_table : Nat → Int32} (hn : n ≤ 7) (gr : gp_Gr n G) (Q : xc_Q n c b T G a_base a_size a_table)
    {l m : Nat} (hl : l < n) (asc : ∀ p, p < b l → ∃ j, j < l ∧ b j = p) (hm : m < li_f n) :
    cc (ch_K G b n l (li_g n m)) m = cc (ch_E G b l (li_g n m)) (li_g n m (b l)) * ch_O (ch_s T n) n (l + 1) + cc (ch_K G b n (l + 1) (li_g n m)) m := by
  have a := ch_rank (by omega) Q.1 gr Q.2.1 (d := n - (l + 1)) (l := l) (m := m) (by omega) asc hm
  exact a
section
variable {n : Nat} {f_slotCount f_twistLimit f_solved f_moveCount f_strongCount f_pinnedLevels : Int32} {a_state a_move a_locked a_pins a_base a_size a_table a_stale a_strong : Nat → Int32}
variable {c : Nat} {b : Nat → Nat} {T : Nat → Nat → Option (Nat → Nat)} {G : (Nat → Nat) → Prop}
theorem xq_extend {post : Int32 → Prop} {h : Nat → Nat} {l y : Nat} (h2 : 2 ≤ n) (hn : n ≤ 7) (hc : c < 2) (gr : gp_Gr n G) (Q : xc_Q n c b T G a_base a_size a_table) (hl : l < n) (hh : G h) (hy : y < n)
    (k0 : ¬ ch_E G b l h y → post 0) (k1 : ∀ g, G g → ch_A b l h g → g (b l) = y → post (bq_p g n)) :
    wpX_extend post (nI n, f_slotCount, f_twistLimit, f_solved, f_moveCount, f_strongCount, f_pinnedLevels, a_state, a_move, a_locked, a_pins, a_base, a_size, a_table, a_stale, a_strong) (nI c) (nI l) (bq_p h n) (nI y) := by
  obtain ⟨x, hx, e⟩ := gp_surj (gr.1 h hh) hy
  obtain ⟨hb, ok, _, _, hT⟩ := Q
  refine xw_extend h2 hn hc hl (gr.1 h hh) hx e (hT l x hl hx) (fun s es => gr.1 s (ok.1.1 l x s hl hx es).1) (fun en => k0 ?_) (fun s es => ?_)
  · rw [← e]; exact ch_none gr ok hl hh en
  · obtain ⟨a1, a2, a3⟩ := ch_some gr ok.1 hl hx hh es
    exact k1 _ a1 a2 (a3.trans e)
theorem xq_reach8 {post : Int32 → Prop} {s : Nat → Nat} (h2 : 2 ≤ n) (hn : n ≤ 7) (hc : c < 2) (gr : gp_Gr n G) (Q : xc_Q n c b T G a_base a_size a_table) (hs : gp_P n s) (k0 : ¬ G s → post 0) (k1 : G s → post 1) :
    ∀ m l h, l ≤ n → n - l < m → G h → ch_A b l s h → wX_isReachable_8 post (nI c) (bq_p s n) (nI n) f_slotCount f_twistLimit f_solved f_moveCount f_strongCount f_pinnedLevels a_state a_move a_locked a_pins a_base a_size a_table a_stale a_strong m (bq_p h n) (nI l)
  | 0, _, _, _, i2, _, _ => absurd i2 (Nat.not_lt_zero _)
  | m + 1, l, h, i1, i2, hh, ha => by
    refine pk_le n l (fun z => k1 ?_) (fun z => ?_)
    · have el : l = n := by omega
      subst el
      rw [← ch_eq_of Q.1 (gr.1 h hh) hs ha]; exact hh
    · have hbl := Q.1.1 l z
      refine And.intro (by rw [xw_ix1]; exact vp_in_nI (by omega) (by omega)) ?_
      rw [xw_ix1, nI_clamp (by omega), Q.2.2.1 l z]
      refine xw_image hn hs hbl ?_
      refine xq_extend h2 hn hc gr Q z hh (gp_lt hs hbl) (fun ne => ?_) (fun g g1 g2 g3 => ?_)
      · exact br_t rfl (k0 (fun gs => ne ⟨s, gs, fun j hj => (ha j hj).symm, rfl⟩))
      · refine br_f (bq_ne h2 hn (gr.1 g g1)) (nm_r (nI_1 l) ?_)
        refine xq_reach8 h2 hn hc gr Q hs k0 k1 m (l + 1) g (by omega) (by omega) g1 ?_
        exact ch_A_S.mpr ⟨fun j hj => by rw [g2 j hj, ha j hj], g3⟩
theorem xq_reach {post : Int32 → Prop} {s : Nat → Nat} (h2 : 2 ≤ n) (hn : n ≤ 7) (hc : c < 2) (gr : gp_Gr n G) (Q : xc_Q n c b T G a_base a_size a_table) (hs : gp_P n s) (k0 : ¬ G s → post 0) (k1 : G s → post 1) :
    wpX_isReachable post (nI n, f_slotCount, f_twistLimit, bq_p gp_1 n, f_moveCount, f_strongCount, f_pinnedLevels, a_state, a_move, a_locked, a_pins, a_base, a_size, a_table, a_stale, a_strong) (nI c) (bq_p s n) :=
  Exists.intro (n + 1) (xq_reach8 h2 hn hc gr Q hs k0 k1 (n + 1) 0 gp_1 (by omega) (by omega) gr.2.1 (fun j hj => absurd hj (Nat.not_lt_zero _)))
theorem xq_small6 {post : Int32 → Prop} {h : Nat → Nat} {l y : Nat} (h2 : 2 ≤ n) (hn : n ≤ 7) (gr : gp_Gr n G) (Q : xc_Q n 1 b T G a_base a_size a_table) (hl : l < n) (hh : G h) (hy : y ≤ n)
    (k : post (nI (cc (ch_E G b l h) y))) : ∀ m f, f ≤ y → y - f < m → wX_smallerChoices_6 post (nI l) (bq_p h n) (nI y) (nI n) f_slotCount f_twistLimit f_solved f_moveCount f_strongCount f_pinnedLevels a_state a_move a_locked a_pins a_base a_size a_table a_stale a_strong m (nI (cc (ch_E G b l h) f)) (nI f)
  | 0, _, _, i2 => absurd i2 (Nat.not_lt_zero _)
  | m + 1, f, i1, i2 => pk_le y f (fun z => by rw [show f = y from by omega]; exact k)
      (fun z => xq_extend (c := 1) h2 hn (by omega) gr Q hl hh (by omega)
        (fun ne => br_t rfl (nm_r (nI_1 f) (by
          have a := xq_small6 h2 hn gr Q hl hh hy k m (f + 1) (by omega) (by omega)
          rw [cc_S, cc_bf ne, Nat.add_zero] at a
          exact a)))
        (fun g g1 g2 g3 => br_f (bq_ne h2 hn (gr.1 g g1)) (nm_r (nI_1 _) (nm_r (nI_1 f) (by
          have a := xq_small6 h2 hn gr Q hl hh hy k m (f + 1) (by omega) (by omega)
          rw [cc_S, cc_bt ⟨g, g1, g2, g3⟩] at a
          exact a)))))
theorem xq_small {post : Int32 → Prop} {h : Nat → Nat} {l y : Nat} (h2 : 2 ≤ n) (hn : n ≤ 7) (gr : gp_Gr n G) (Q : xc_Q n 1 b T G a_base a_size a_table) (hl : l < n) (hh : G h) (hy : y ≤ n)
    (k : post (nI (cc (ch_E G b l h) y))) : wpX_smallerChoices post (nI n, f_slotCount, f_twistLimit, f_solved, f_moveCount, f_strongCount, f_pinnedLevels, a_state, a_move, a_locked, a_pins, a_base, a_size, a_table, a_stale, a_strong) (nI l) (bq_p h n) (nI y) :=
  Exists.intro (n + 1) (xq_small6 h2 hn gr Q hl hh hy k (n + 1) 0 (by omega) (by omega))
/-- the outcome of descend: the member of the block that has rest members before it -/
def xq_R (G : (Nat → Nat) → Prop) (b : Nat → Nat) (n l : Nat) (h : Nat → Nat) (rest m : Nat) : Prop := m < li_f n ∧ ch_K G b n l h m ∧ cc (ch_K G b n l h) m = rest
theorem xq_Rn (hn : n ≤ 7) (hb : ch_B n b) (gr : gp_Gr n G) {h : Nat → Nat} (hh : G h) : ∃ m, xq_R G b n n h 0 m ∧ li_g n m = h := by
  obtain ⟨m, hm, e⟩ := li_pos (gr.1 h hh)
  refine ⟨m, ⟨hm, ⟨by rw [e]; exact hh, fun j _ => by rw [e]⟩, cc_zero (fun k hk z => ?_)⟩, e⟩
  have e2 := ch_eq_of hb (li_gP n k) (gr.1 h hh) z.2
  have := li_inj (by omega) (by omega) hm (e2.trans e.symm)
  omega
theorem xq_RS (hn : n ≤ 7) (gr : gp_Gr n G) (Q : xc_Q n c b T G a_base a_size a_table) {l f r m : Nat} {h g : Nat → Nat} (hl : l < n) (asc : ∀ p, p < b l → ∃ j, j < l ∧ b j = p) (g2 : ch_A b l h g) (g3 : g (b l) = f)
    (R : xq_R G b n (l + 1) g r m) : xq_R G b n l h (r + cc (ch_E G b l h) f * ch_O (ch_s T n) n (l + 1)) m := by
  obtain ⟨R1, ⟨R2, R3⟩, R4⟩ := R
  have e1 := ch_A_S.mp R3
  have a1 : ch_A b l h (li_g n m) := fun j hj => by rw [e1.1 j hj, g2 j hj]
  have a2 : li_g n m (b l) = f := e1.2.trans g3
  refine ⟨R1, ⟨R2, a1⟩, ?_⟩
  have q1 : cc (ch_K G b n l h) m = cc (ch_K G b n l (li_g n m)) m := cc_eq (fun k _ => ⟨fun z => ⟨z.1, fun j hj => by rw [z.2 j hj, a1 j hj]⟩, fun z => ⟨z.1, fun j hj => by rw [z.2 j hj, a1 j hj]⟩⟩)
  have q2 : cc (ch_K G b n (l + 1) g) m = cc (ch_K G b n (l + 1) (li_g n m)) m := cc_eq (fun k _ => ⟨fun z => ⟨z.1, fun j hj => by rw [z.2 j hj, R3 j hj]⟩, fun z => ⟨z.1, fun j hj => by rw [z.2 j hj, R3 j hj]⟩⟩)
  have q3 : cc (ch_E G b l h) f = cc (ch_E G b l (li_g n m)) f := cc_eq (fun k _ => ch_E_ag a1 k)
  rw [q1, xq_rk hn gr Q hl asc R1, a2, ← q2, R4, q3]
  omega
/-- the inner loop of descend, from facelet f on, nothing chosen yet -/
theorem xq_desc36 {post : Int32 → Prop} {J : Int32 → Int32 → Int32 → Prop} {h : Nat → Nat} {l R : Nat} (h2 : 2 ≤ n) (hn : n ≤ 7) (hc : c < 2) (gr : gp_Gr n G) (Q : xc_Q n c b T G a_base a_size a_table) (hl : l < n) (hh : G h)
    (hO : ch_O (ch_s T n) n (l + 1) < 2 ^ 31) (hR31 : R < 2 ^ 31) (hR : R < ch_O (ch_s T n) n l)
    (k : ∀ g f r, G g → ch_A b l h g → g (b l) = f → f < n → r < ch_O (ch_s T n) n (l + 1) → R = r + cc (ch_E G b l h) f * ch_O (ch_s T n) n (l + 1) → J (bq_p g n) (nI r) (nI (l + 1))) :
    ∀ m f r, f ≤ n → n - f + 1 < m → R = r + cc (ch_E G b l h) f * ch_O (ch_s T n) n (l + 1) →
      wX_descend_36 post J (nI c) (bq_p h n) (nI l) (nI (ch_O (ch_s T n) n (l + 1))) (nI n) f_slotCount f_twistLimit f_solved f_moveCount f_strongCount f_pinnedLevels a_state a_move a_locked a_pins a_base a_size a_table a_stale a_strong m (nI r) 0 (nI f)
  | 0, _, _, _, i2, _ => absurd i2 (Nat.not_lt_zero _)
  | m + 1, f, r, i1, i2, e => by
    refine pk_le n f (fun z => ?_) (fun z => ?_)
    · exfalso
      rw [show f = n from by omega, ch_cntE gr Q.2.1 hl hh] at e
      have e2 : ch_O (ch_s T n) n l = ch_s T n l * ch_O (ch_s T n) n (l + 1) := ch_O_S hl
      have e3 : ch_s T n l = cc (fun x => T l x ≠ none) n := rfl
      rw [e3] at e2
      omega
    · refine br_t rfl ?_
      refine xq_extend h2 hn hc gr Q hl hh z (fun ne => ?_) (fun g g1 g2 g3 => ?_)
      · refine br_t rfl ?_
        unfold wX_descend_82
        refine br_t rfl (nm_r (nI_1 f) ?_)
        exact xq_desc36 h2 hn hc gr Q hl hh hO hR31 hR k m (f + 1) r (by omega) (by omega) (by rw [cc_S, cc_bf ne, Nat.add_zero]; exact e)
      · refine br_f (bq_ne h2 hn (gr.1 g g1)) ?_
        refine pk_le (ch_O (ch_s T n) n (l + 1)) r (fun w => ?_) (fun w => ?_) rfl rfl hO (by omega)
        · unfold wX_descend_82
          refine br_f (bq_ne h2 hn (gr.1 g g1)) (nm_r (pk_sub w) (nm_r (nI_1 f) ?_))
          refine xq_desc36 h2 hn hc gr Q hl hh hO hR31 hR k m (f + 1) _ (by omega) (by omega) ?_
          rw [cc_S, cc_bt ⟨g, g1, g2, g3⟩, Nat.add_mul, Nat.one_mul]
          omega
        · refine nm_r (nI_1 f) ?_
          have kk := k g f r g1 g2 g3 z w e
          cases m with
          | zero => omega
          | succ m =>
            exact br_c (fun _ => nm_r (nI_1 l) kk) (fun _ => br_f (bq_ne h2 hn (gr.1 g g1)) (nm_r (nI_1 l) kk))
theorem xq_desc10 {post : Int32 → Prop} {lo : Nat} (h2 : 2 ≤ n) (hn : n ≤ 7) (hc : c < 2) (gr : gp_Gr n G) (Q : xc_Q n c b T G a_base a_size a_table) (asc : ∀ l, lo ≤ l → l < n → ∀ p, p < b l → ∃ j, j < l ∧ b j = p)
    (hO : ∀ l, l ≤ n → ch_O (ch_s T n) n l ≤ 5040) :
    ∀ m l h R, lo ≤ l → l ≤ n → n - l < m → G h → R < ch_O (ch_s T n) n l → (∀ w, xq_R G b n l h R w → post (bq_p (li_g n w) n)) → wX_descend_10 post (nI c) (nI n) f_slotCount f_twistLimit f_solved f_moveCount f_strongCount f_pinnedLevels a_state a_move a_locked a_pins a_base a_size a_table a_stale a_strong m (bq_p h n) (nI R) (nI l)
  | 0, _, _, _, _, _, i2, _, _, _ => absurd i2 (Nat.not_lt_zero _)
  | m + 1, l, h, R, i0, i1, i2, hh, hR, k => by
    refine pk_le n l (fun z => ?_) (fun z => ?_)
    · have el : l = n := by omega
      subst el
      rw [ch_O_n] at hR
      obtain ⟨w, w1, w2⟩ := xq_Rn hn Q.1 gr hh
      have := k w (by rw [show R = 0 from by omega]; exact w1)
      rw [w2] at this
      exact this
    · rw [nI_1 l]
      refine xw_order hn hc Q.2.2.2.1 (by omega) ?_
      have b1 := hO l (by omega)
      have b2 := hO (l + 1) (by omega)
      refine Exists.intro (n + 2) ?_
      refine xq_desc36 h2 hn hc gr Q z hh (by omega) (R := R) (by omega) hR (fun g f r g1 g2 g3 g4 g5 g6 => ?_) (n + 2) 0 R (by omega) (by omega) (by rw [show cc (ch_E G b l h) 0 = 0 from rfl, Nat.zero_mul, Nat.add_zero])
      refine xq_desc10 h2 hn hc gr Q asc hO m (l + 1) g r (by omega) (by omega) (by omega) g1 g5 (fun w hw => k w ?_)
      rw [g6]
      exact xq_RS hn gr Q z (asc l i0 z) g2 g3 hw
theorem xq_descend {post : Int32 → Prop} {l R : Nat} {h : Nat → Nat} (h2 : 2 ≤ n) (hn : n ≤ 7) (hc : c < 2) (gr : gp_Gr n G) (Q : xc_Q n c b T G a_base a_size a_table) (asc : ∀ j, l ≤ j → j < n → ∀ p, p < b j → ∃ i, i < j ∧ b i = p)
    (hO : ∀ l, l ≤ n → ch_O (ch_s T n) n l ≤ 5040) (hl : l ≤ n) (hh : G h) (hR : R < ch_O (ch_s T n) n l) (k : ∀ w, xq_R G b n l h R w → post (bq_p (li_g n w) n)) :
    wpX_descend post (nI n, f_slotCount, f_twistLimit, f_solved, f_moveCount, f_strongCount, f_pinnedLevels, a_state, a_move, a_locked, a_pins, a_base, a_size, a_table, a_stale, a_strong) (nI c) (nI l) (bq_p h n) (nI R) :=
  Exists.intro (n + 1) (xq_desc10 h2 hn hc gr Q asc hO (n + 1) l h R (Nat.le_refl _) hl (by omega) hh hR k)
end
end
section
/-! the pinned chain: its base, the matches, and the questions on them -/
theorem cc_not (P : Nat → Prop) : ∀ N, cc P N + cc (fun k => ¬ P k) N = N
  | 0 => rfl
  | N + 1 => by
    have a := cc_not P N
    rw [cc_S, cc_S]
    rcases Classical.em (P N) with h | h
    · rw [cc_bt h, cc_bf (fun z => z h)]; omega
    · rw [cc_bf h, cc_bt h]; omega
theorem cc_at {P : Nat → Prop} {k : Nat} : ∀ {N : Nat}, k < cc P N → ∃ p, p < N ∧ P p ∧ cc P p = k
  | 0, h => absurd h (Nat.not_lt_zero _)
  | N + 1, h => by
    rw [cc_S] at h
    rcases Nat.lt_or_ge k (cc P N) with z | z
    · obtain ⟨p, h1, h2, h3⟩ := cc_at z
      exact ⟨p, by omega, h2, h3⟩
    · rcases Classical.em (P N) with q | q
      · rw [cc_bt q] at h
        exact ⟨N, by omega, q, by omega⟩
      · rw [cc_bf q] at h; omega
theorem cc_str {P : Nat → Prop} {p q : Nat} (h : p < q) (hp : P p) : cc P p < cc P q := by
  have a : cc P (p + 1) ≤ cc P q := cc_le2 h
  rw [cc_S, cc_bt hp] at a
  omega
def xb_f (ps : Nat → Int32) (p : Nat) : Prop := ps p = 7
def xb_p (ps : Nat → Int32) (p : Nat) : Prop := ¬ ps p = 7
/-- the base of the pinned chain: the pinned places, then the free ones -/
def xb_S (n : Nat) (ps : Nat → Int32) (pl : Nat) (b : Nat → Nat) : Prop :=
  pl = cc (xb_p ps) n ∧ (∀ p, p < n → xb_p ps p → b (cc (xb_p ps) p) = p) ∧ (∀ p, p < n → xb_f ps p → b (pl + cc (xb_f ps) p) = p)
section
variable {n pl : Nat} {ps : Nat → Int32} {b : Nat → Nat}
theorem xb_sum (S : xb_S n ps pl b) : pl + cc (xb_f ps) n = n := by
  have := cc_not (xb_f ps) n
  have e : cc (fun k => ¬ xb_f ps k) n = cc (xb_p ps) n := rfl
  have e2 := S.1
  omega
theorem xb_lv (S : xb_S n ps pl b) {l : Nat} (hl : l < n) : (l < pl ∧ ∃ p, p < n ∧ xb_p ps p ∧ cc (xb_p ps) p = l ∧ b l = p) ∨ (pl ≤ l ∧ ∃ p, p < n ∧ xb_f ps p ∧ pl + cc (xb_f ps) p = l ∧ b l = p) := by
  have hs := xb_sum S
  rcases Nat.lt_or_ge l pl with z | z
  · refine Or.inl ⟨z, ?_⟩
    obtain ⟨p, h1, h2, h3⟩ := cc_at (P := xb_p ps) (N := n) (k := l) (by rw [← S.1]; exact z)
    exact ⟨p, h1, h2, h3, by rw [← h3]; exact S.2.1 p h1 h2⟩
  · refine Or.inr ⟨z, ?_⟩
    obtain ⟨p, h1, h2, h3⟩ := cc_at (P := xb_f ps) (N := n) (k := l - pl) (by omega)
    have e : pl + cc (xb_f ps) p = l := by omega
    exact ⟨p, h1, h2, e, by rw [← e]; exact S.2.2 p h1 h2⟩
theorem xb_B (S : xb_S n ps pl b) : ch_B n b := by
  refine ⟨fun l hl => ?_, fun i j hi hj e => ?_⟩
  · rcases xb_lv S hl with ⟨_, p, h1, _, _, h4⟩ | ⟨_, p, h1, _, _, h4⟩
    · rw [h4]; exact h1
    · rw [h4]; exact h1
  · rcases xb_lv S hi with ⟨_, p, h1, h2, h3, h4⟩ | ⟨_, p, h1, h2, h3, h4⟩ <;> rcases xb_lv S hj with ⟨_, q, k1, k2, k3, k4⟩ | ⟨_, q, k1, k2, k3, k4⟩
    · have : p = q := by rw [← h4, ← k4, e]
      rw [← h3, ← k3, this]
    · have : p = q := by rw [← h4, ← k4, e]
      rw [this] at h2; exact absurd k2 h2
    · have : p = q := by rw [← h4, ← k4, e]
      rw [← this] at k2; exact absurd h2 k2
    · have : p = q := by rw [← h4, ← k4, e]
      rw [← h3, ← k3, this]
theorem xb_le (S : xb_S n ps pl b) : pl ≤ n := by have := xb_sum S; omega
theorem xb_pj (S : xb_S n ps pl b) {j : Nat} (hj : j < pl) : b j < n ∧ xb_p ps (b j) := by
  have := xb_le S
  rcases xb_lv S (l := j) (by omega) with ⟨_, p, h1, h2, _, h4⟩ | ⟨h0, _⟩
  · rw [h4]; exact ⟨h1, h2⟩
  · omega
theorem xb_pp (S : xb_S n ps pl b) {p : Nat} (hp : p < n) (h : xb_p ps p) : ∃ j, j < pl ∧ b j = p := by
  refine ⟨cc (xb_p ps) p, ?_, S.2.1 p hp h⟩
  rw [S.1]; exact cc_str hp h
theorem xb_fr (S : xb_S n ps pl b) {p : Nat} (hp : p < n) (h : xb_f ps p) : pl + cc (xb_f ps) p < n := by
  have a := cc_str hp h
  have := xb_sum S
  omega
theorem xb_asc (S : xb_S n ps pl b) {l : Nat} (h1 : pl ≤ l) (hl : l < n) (p : Nat) (hp : p < b l) : ∃ j, j < l ∧ b j = p := by
  rcases xb_lv S hl with ⟨h0, _⟩ | ⟨_, q, k1, k2, k3, k4⟩
  · omega
  · rw [k4] at hp
    rcases Classical.em (xb_f ps p) with z | z
    · exact ⟨pl + cc (xb_f ps) p, by have := cc_str hp z; omega, S.2.2 p (by omega) z⟩
    · obtain ⟨j, j1, j2⟩ := xb_pp S (p := p) (by omega) z
      exact ⟨j, by omega, j2⟩
/-- below the level of the free place p: pinned places, and free ones before p -/
theorem xb_low (S : xb_S n ps pl b) {p j : Nat} (hp : p ≤ n) (hj : j < pl + cc (xb_f ps) p) : (j < pl ∧ xb_p ps (b j) ∧ b j < n) ∨ b j < p := by
  rcases Nat.lt_or_ge j pl with z | z
  · exact Or.inl ⟨z, (xb_pj S z).2, (xb_pj S z).1⟩
  · refine Or.inr ?_
    have := xb_sum S
    have m : cc (xb_f ps) p ≤ cc (xb_f ps) n := cc_le2 hp
    rcases xb_lv S (l := j) (by omega) with ⟨h0, _⟩ | ⟨_, q, k1, k2, k3, k4⟩
    · omega
    · rw [k4]
      rcases Nat.lt_or_ge q p with y | y
      · exact y
      · have := cc_le2 (P := xb_f ps) y
        omega
end
def xb_M (n : Nat) (ps : Nat → Int32) (g : Nat → Nat) : Prop := ∀ p, p < n → ps p = 7 ∨ ps p = nI (g p)
theorem xb_Mb {n pl : Nat} {ps : Nat → Int32} {b g : Nat → Nat} (S : xb_S n ps pl b) : xb_M n ps g ↔ ∀ j, j < pl → ps (b j) = nI (g (b j)) := by
  refine ⟨fun H j hj => ?_, fun H p hp => ?_⟩
  · obtain ⟨h1, h2⟩ := xb_pj S hj
    exact (H _ h1).resolve_left h2
  · rcases Classical.em (ps p = 7) with z | z
    · exact Or.inl z
    · obtain ⟨j, j1, j2⟩ := xb_pp S hp z
      rw [← j2]; exact Or.inr (H j j1)
theorem xb_nI {n : Nat} (hn : n ≤ 7) {x y : Nat} (hx : x < n) (hy : y < n) (e : nI x = nI y) : x = y := (nI_eq (by omega) (by omega)).mp e
/-- with a match at hand, the matches are those that agree with it on the pinned levels -/
theorem xb_MK {n pl : Nat} {ps : Nat → Int32} {b h g : Nat → Nat} (hn : n ≤ 7) (S : xb_S n ps pl b) (hh : gp_P n h) (hg : gp_P n g) (mh : xb_M n ps h) : xb_M n ps g ↔ ch_A b pl h g := by
  rw [xb_Mb S]
  have mh' := (xb_Mb S).mp mh
  refine ⟨fun H j hj => ?_, fun H j hj => ?_⟩
  · have hb := (xb_pj S hj).1
    have := H j hj
    rw [mh' j hj] at this
    exact (xb_nI hn (gp_lt hh hb) (gp_lt hg hb) this).symm
  · rw [H j hj]; exact mh' j hj
section
variable {n : Nat} {f_slotCount f_twistLimit f_solved f_moveCount f_strongCount f_pinnedLevels : Int32} {a_state a_move a_locked a_pins a_base a_size a_table a_stale a_strong : Nat → Int32}
variable {pl : Nat} {ps : Nat → Int32} {b : Nat → Nat} {T : Nat → Nat → Option (Nat → Nat)} {G : (Nat → Nat) → Prop}
theorem xb_head7 {post : Int32 → Prop} (h2 : 2 ≤ n) (hn : n ≤ 7) (gr : gp_Gr n G) (Q : xc_Q n 1 b T G a_base a_size a_table) (S : xb_S n ps pl b) (hps : ∀ p, p < n → ps p = 7 ∨ ∃ v, v < n ∧ ps p = nI v)
    (k0 : (∀ g, G g → ¬ xb_M n ps g) → post 0) (k1 : ∀ h, G h → xb_M n ps h → post (bq_p h n)) :
    ∀ m l h, l ≤ pl → pl - l < m → G h → (∀ j, j < l → ps (b j) = nI (h (b j))) → wX_pinnedHead_7 post (nI n) f_slotCount f_twistLimit f_solved f_moveCount f_strongCount (nI pl) a_state a_move a_locked ps a_base a_size a_table a_stale a_strong m (bq_p h n) (nI l)
  | 0, _, _, _, i2, _, _ => absurd i2 (Nat.not_lt_zero _)
  | m + 1, l, h, i1, i2, hh, ha => by
    have hpl := xb_le S
    refine pk_le pl l (fun z => k1 h hh ((xb_Mb S).mpr (fun j hj => ha j (by omega)))) (fun z => ?_)
    obtain ⟨hb, hp⟩ := xb_pj S z
    have hB : a_base (7 + l) = nI (b l) := Q.2.2.1 l (by omega)
    obtain ⟨v, hv, ev⟩ := (hps (b l) hb).resolve_left hp
    refine And.intro (by rw [xw_7]; exact vp_in_nI (by omega) (by omega)) ?_
    rw [xw_7, nI_clamp (by omega), hB, nI_clamp (by omega), ev]
    refine And.intro (vp_in_nI (by omega) (by omega)) ?_
    refine xq_extend (c := 1) h2 hn (by omega) gr Q (by omega) hh hv (fun ne => br_t rfl (k0 (fun g g1 g2 => ne ?_))) (fun g g1 g2 g3 => ?_)
    · have H := (xb_Mb S).mp g2
      refine ⟨g, g1, fun j hj => ?_, ?_⟩
      · have hbj := (xb_pj S (j := j) (by omega)).1
        have a := H j (by omega)
        rw [ha j hj] at a
        exact (xb_nI hn (gp_lt (gr.1 h hh) hbj) (gp_lt (gr.1 g g1) hbj) a).symm
      · have a := H l z
        rw [ev] at a
        exact (xb_nI hn hv (gp_lt (gr.1 g g1) hb) a).symm
    · refine br_f (bq_ne h2 hn (gr.1 g g1)) (nm_r (nI_1 l) ?_)
      refine xb_head7 h2 hn gr Q S hps k0 k1 m (l + 1) g (by omega) (by omega) g1 (fun j hj => ?_)
      rcases Nat.lt_or_ge j l with y | y
      · rw [g2 j y]; exact ha j y
      · rw [show j = l from by omega, g3]; exact ev
theorem xb_head {post : Int32 → Prop} (h2 : 2 ≤ n) (hn : n ≤ 7) (gr : gp_Gr n G) (Q : xc_Q n 1 b T G a_base a_size a_table) (S : xb_S n ps pl b) (hps : ∀ p, p < n → ps p = 7 ∨ ∃ v, v < n ∧ ps p = nI v)
    (k0 : (∀ g, G g → ¬ xb_M n ps g) → post 0) (k1 : ∀ h, G h → xb_M n ps h → post (bq_p h n)) : wpX_pinnedHead post (nI n, f_slotCount, f_twistLimit, bq_p gp_1 n, f_moveCount, f_strongCount, nI pl, a_state, a_move, a_locked, ps, a_base, a_size, a_table, a_stale, a_strong) :=
  Exists.intro (pl + 1) (xb_head7 h2 hn gr Q S hps k0 k1 (pl + 1) 0 gp_1 (by omega) (by omega) gr.2.1 (fun j hj => absurd hj (Nat.not_lt_zero _)))
theorem xb_meets2 {post : Int32 → Prop} {s : Nat → Nat} (hn : n ≤ 7) (hs : gp_P n s) (k0 : ¬ xb_M n ps s → post 0) (k1 : xb_M n ps s → post 1) :
    ∀ m p, p ≤ n → n - p < m → (∀ q, q < p → ps q = 7 ∨ ps q = nI (s q)) → wX_meetsPins_2 post (bq_p s n) (nI n) f_slotCount f_twistLimit f_solved f_moveCount f_strongCount f_pinnedLevels a_state a_move a_locked ps a_base a_size a_table a_stale a_strong m (nI p)
  | 0, _, _, i2, _ => absurd i2 (Nat.not_lt_zero _)
  | m + 1, p, i1, i2, ha => by
    refine pk_le n p (fun z => k1 (fun q hq => ha q (by omega))) (fun z => ?_)
    have hi : vp_in (nI p) 7 := vp_in_nI (by omega) (by omega)
    refine And.intro hi ?_
    rw [nI_clamp (by omega)]
    refine br_c (fun e => nm_r (nI_1 p) ?_) (fun e => And.intro hi (xw_image hn hs z (br_c (fun e2 => nm_r (nI_1 p) ?_) (fun e2 => k0 (fun M => (M p z).elim e e2)))))
    · refine xb_meets2 hn hs k0 k1 m (p + 1) (by omega) (by omega) (fun q hq => ?_)
      rcases Nat.lt_or_ge q p with y | y
      · exact ha q y
      · rw [show q = p from by omega]; exact Or.inl e
    · refine xb_meets2 hn hs k0 k1 m (p + 1) (by omega) (by omega) (fun q hq => ?_)
      rcases Nat.lt_or_ge q p with y | y
      · exact ha q y
      · rw [show q = p from by omega]; exact Or.inr e2
theorem xb_meets {post : Int32 → Prop} {s : Nat → Nat} (hn : n ≤ 7) (hs : gp_P n s) (k0 : ¬ xb_M n ps s → post 0) (k1 : xb_M n ps s → post 1) : wpX_meetsPins post (nI n, f_slotCount, f_twistLimit, f_solved, f_moveCount, f_strongCount, f_pinnedLevels, a_state, a_move, a_locked, ps, a_base, a_size, a_table, a_stale, a_strong) (bq_p s n) :=
  Exists.intro (n + 1) (xb_meets2 hn hs k0 k1 (n + 1) 0 (by omega) (by omega) (fun q hq => absurd hq (Nat.not_lt_zero _)))
theorem xb_rank58 {post : Int32 → SX → Prop} {w : Nat} (h2 : 2 ≤ n) (hn : n ≤ 7) (gr : gp_Gr n G) (Q : xc_Q n 1 b T G a_base a_size a_table) (S : xb_S n ps pl b) (hw : w < li_f n) (hG : G (li_g n w)) :
    ∀ m l h A, pl ≤ l → l ≤ n → n - l < m → G h → ch_A b l (li_g n w) h → post (nI (A + cc (ch_K G b n l (li_g n w)) w)) (nI n, f_slotCount, f_twistLimit, f_solved, f_moveCount, f_strongCount, f_pinnedLevels, a_state, a_move, a_locked, a_pins, a_base, a_size, a_table, a_stale, a_strong) → wX_rank_58 post (bq_p (li_g n w) n) (nI n) f_slotCount f_twistLimit f_solved f_moveCount f_strongCount f_pinnedLevels a_state a_move a_locked a_pins a_base a_size a_table a_stale a_strong m (bq_p h n) (nI A) (nI l)
  | 0, _, _, _, _, _, i2, _, _, _ => absurd i2 (Nat.not_lt_zero _)
  | m + 1, l, h, A, i0, i1, i2, hh, ha, k => by
    refine pk_le n l (fun z => ?_) (fun z => ?_)
    · have el : l = n := by omega
      rw [el, cc_zero (fun k hk y => by
        have e2 := ch_eq_of Q.1 (li_gP n k) (li_gP n w) y.2
        have := li_inj (by omega) (by omega) hw e2
        omega), Nat.add_zero] at k
      exact k
    · have hbl := Q.1.1 l z
      have hB : a_base (7 + l) = nI (b l) := Q.2.2.1 l z
      have hsb := gp_lt (li_gP n w) hbl
      refine And.intro (by rw [xw_7]; exact vp_in_nI (by omega) (by omega)) ?_
      rw [xw_7, nI_clamp (by omega), hB, nI_1 l]
      refine xw_image hn (li_gP n w) hbl ?_
      refine xq_small h2 hn gr Q z hh (by omega) ?_
      refine xw_order (c := 1) hn (by omega) Q.2.2.2.1 (by omega) ?_
      refine nm_r (e' := nI (A + cc (ch_E G b l h) (li_g n w (b l)) * ch_O (ch_s T n) n (l + 1))) (by rw [pk_mul, nI_add]) ?_
      refine xq_extend (c := 1) h2 hn (by omega) gr Q z hh hsb (fun ne => absurd (⟨li_g n w, hG, fun j hj => (ha j hj).symm, rfl⟩ : ch_E G b l h (li_g n w (b l))) ne) (fun g g1 g2 g3 => ?_)
      refine nm_e ?_
      refine xb_rank58 h2 hn gr Q S hw hG m (l + 1) g _ (by omega) (by omega) (by omega) g1 (ch_A_S.mpr ⟨fun j hj => by rw [g2 j hj, ha j hj], g3⟩) ?_
      rw [xq_rk hn gr Q z (xb_asc S i0 z) hw] at k
      rw [cc_eq (fun f _ => ch_E_ag (G := G) (fun j hj => (ha j hj).symm : ch_A b l h (li_g n w)) f), Nat.add_assoc]
      exact k
/-- the answer of depth -/
def xb_D (G : (Nat → Nat) → Prop) (n : Nat) (ps : Nat → Int32) (s : Nat → Nat) (d : Nat) : Prop :=
  d ≤ n ∧ (∃ h, G h ∧ xb_M n ps h ∧ ∀ i, i < d → h i = s i) ∧ (∀ g, G g → xb_M n ps g → d < n → ¬ ∀ i, i < d + 1 → g i = s i)
theorem xb_dep42 {post : Int32 → SX → Prop} {s : Nat → Nat} (h2 : 2 ≤ n) (hn : n ≤ 7) (gr : gp_Gr n G) (Q : xc_Q n 1 b T G a_base a_size a_table) (S : xb_S n ps pl b) (hs : gp_P n s)
    (k : ∀ d, xb_D G n ps s d → post (nI d) (nI n, f_slotCount, f_twistLimit, f_solved, f_moveCount, f_strongCount, f_pinnedLevels, a_state, a_move, a_locked, ps, a_base, a_size, a_table, a_stale, a_strong)) :
    ∀ m p h, p ≤ n → n - p < m → G h → xb_M n ps h → (∀ i, i < p → h i = s i) → wX_depth_42 post (bq_p s n) (nI n) f_slotCount f_twistLimit f_solved f_moveCount f_strongCount f_pinnedLevels a_state a_move a_locked ps a_base a_size a_table a_stale a_strong m (bq_p h n) (nI (pl + cc (xb_f ps) p)) (nI p)
  | 0, _, _, _, i2, _, _, _ => absurd i2 (Nat.not_lt_zero _)
  | m + 1, p, h, i1, i2, hh, hM, ha => by
    have hPh := gr.1 h hh
    refine pk_le n p (fun z => k n ⟨Nat.le_refl _, ⟨h, hh, hM, fun i hi => ha i (by omega)⟩, fun _ _ _ w => by omega⟩) (fun z => ?_)
    have hi : vp_in (nI p) 7 := vp_in_nI (by omega) (by omega)
    refine xw_image hn hs z (And.intro hi ?_)
    rw [nI_clamp (by omega)]
    have hle := xb_le S
    refine br_c (fun e => ?_) (fun e => And.intro hi (br_c (fun e2 => nm_r (nI_1 p) ?_) (fun e2 => k p ⟨by omega, ⟨h, hh, hM, ha⟩, fun g g1 g2 _ g4 => ?_⟩)))
    · have hlev := xb_fr S z e
      have hb : b (pl + cc (xb_f ps) p) = p := S.2.2 p z e
      refine xq_extend (c := 1) h2 hn (by omega) gr Q hlev hh (gp_lt hs z) (fun ne => nm_e (br_t rfl (k p ⟨by omega, ⟨h, hh, hM, ha⟩, fun g g1 g2 _ g4 => ne ⟨g, g1, fun j hj => ?_, ?_⟩⟩))) (fun g g1 g2 g3 => ?_)
      · rcases xb_low S i1 hj with ⟨y1, y2, y3⟩ | y
        · have a1 := (hM _ y3).resolve_left y2
          have a2 := (g2 _ y3).resolve_left y2
          rw [a1] at a2
          exact (xb_nI hn (gp_lt hPh y3) (gp_lt (gr.1 g g1) y3) a2).symm
        · rw [g4 _ (by omega), ha _ y]
      · rw [hb]; exact g4 p (by omega)
      · refine nm_e (br_f (bq_ne h2 hn (gr.1 g g1)) (nm_r (nI_1 p) ?_))
        have a := xb_dep42 h2 hn gr Q S hs k m (p + 1) g (by omega) (by omega) g1 ((xb_MK hn S hPh (gr.1 g g1) hM).mpr (fun j hj => g2 j (by omega))) (fun i hi => ?_)
        · rw [cc_S, cc_bt (P := xb_f ps p) e, ← Nat.add_assoc, ← nI_1 (pl + cc (xb_f ps) p)] at a
          exact a
        · rcases Nat.lt_or_ge i p with y | y
          · rw [← ha i y]
            rcases Classical.em (xb_f ps i) with q | q
            · rw [← S.2.2 i (by omega) q]
              exact g2 _ (by have := cc_str (P := xb_f ps) y q; omega)
            · obtain ⟨j, j1, j2⟩ := xb_pp S (p := i) (by omega) q
              rw [← j2]
              exact g2 j (by omega)
          · rw [show i = p from by omega]
            rw [hb] at g3
            exact g3
    · have a1 := (hM p z).resolve_left e
      have e3 : h p = s p := xb_nI hn (gp_lt hPh z) (gp_lt hs z) (a1.symm.trans e2)
      have a := xb_dep42 h2 hn gr Q S hs k m (p + 1) h (by omega) (by omega) hh hM (fun i hi => by
        rcases Nat.lt_or_ge i p with y | y
        · exact ha i y
        · rw [show i = p from by omega]; exact e3)
      rw [cc_S, cc_bf (P := xb_f ps p) e, Nat.add_zero] at a
      exact a
    · have a1 := (g2 p z).resolve_left e
      rw [g4 p (by omega)] at a1
      exact e2 a1
end
end
section
/-! sets of places, and the first moved place -/
section
variable {n : Nat} {f_slotCount f_twistLimit f_solved f_moveCount f_strongCount f_pinnedLevels : Int32} {a_state a_move a_locked a_pins a_base a_size a_table a_stale a_strong : Nat → Int32}
variable {pl : Nat} {ps : Nat → Int32} {b : Nat → Nat} {T : Nat → Nat → Option (Nat → Nat)} {G : (Nat → Nat) → Prop}
theorem xs_ios5 {post : Int32 → Prop} {f : Nat → Nat} {P : Nat → Prop} {msk : Int32} (hn : n ≤ 7) (hf : gp_P n f) (hM : bm_M P msk) (k : ∀ x, bm_M (fun i => ∃ q, q < n ∧ P q ∧ f q = i) x → post x) :
    ∀ m p x, p ≤ n → n - p < m → bm_M (fun i => ∃ q, q < p ∧ P q ∧ f q = i) x → wX_imageOfSet_5 post (bq_p f n) msk (nI n) f_slotCount f_twistLimit f_solved f_moveCount f_strongCount f_pinnedLevels a_state a_move a_locked a_pins a_base a_size a_table a_stale a_strong m x (nI p)
  | 0, _, _, _, i2, _ => absurd i2 (Nat.not_lt_zero _)
  | m + 1, p, x, i1, i2, hx => by
    refine pk_le n p (fun z => k x (by rw [show n = p from by omega]; exact hx)) (fun z => ek_if (bm_t hM (by omega)) (fun w => ?_) (fun w => nm_r (nI_1 p) ?_))
    · refine xw_image hn hf z (nm_e (nm_r (nI_1 p) ?_))
      refine xs_ios5 hn hf hM k m (p + 1) _ (by omega) (by omega) (bm_c (bm_or hx (bm_1 (by have := gp_lt hf z; omega))) (fun i _ => ⟨fun v => ?_, fun v => ?_⟩))
      · rcases v with ⟨q, q1, q2, q3⟩ | v
        · exact ⟨q, by omega, q2, q3⟩
        · exact ⟨p, by omega, w, v.symm⟩
      · obtain ⟨q, q1, q2, q3⟩ := v
        rcases Nat.lt_or_ge q p with y | y
        · exact Or.inl ⟨q, y, q2, q3⟩
        · exact Or.inr (by rw [← q3, show q = p from by omega])
    · refine xs_ios5 hn hf hM k m (p + 1) x (by omega) (by omega) (bm_c hx (fun i _ => ⟨fun ⟨q, q1, q2, q3⟩ => ⟨q, by omega, q2, q3⟩, fun ⟨q, q1, q2, q3⟩ => ?_⟩))
      rcases Nat.lt_or_ge q p with y | y
      · exact ⟨q, y, q2, q3⟩
      · rw [show q = p from by omega] at q2; exact absurd q2 w
theorem xs_ios {post : Int32 → Prop} {f : Nat → Nat} {P : Nat → Prop} {msk : Int32} (hn : n ≤ 7) (hf : gp_P n f) (hM : bm_M P msk) (k : ∀ x, bm_M (fun i => ∃ q, q < n ∧ P q ∧ f q = i) x → post x) :
    wpX_imageOfSet post (nI n, f_slotCount, f_twistLimit, f_solved, f_moveCount, f_strongCount, f_pinnedLevels, a_state, a_move, a_locked, a_pins, a_base, a_size, a_table, a_stale, a_strong) (bq_p f n) msk :=
  Exists.intro (n + 1) (xs_ios5 hn hf hM k (n + 1) 0 0 (by omega) (by omega) (bm_c bm_0 (fun i _ => ⟨False.elim, fun ⟨q, q1, _⟩ => by omega⟩)))
theorem xs_ix (l x : Nat) : ((7 : Int32) + nI l) * 7 + nI x = nI ((1 * 7 + l) * 7 + x) := by
  show (nI 7 + nI l) * nI 7 + nI x = _
  rw [nI_add, pk_mul, nI_add]
theorem xs_spr5 {post : Int32 → Prop} {P : Nat → Prop} {msk : Int32} {l : Nat} (h2 : 2 ≤ n) (hn : n ≤ 7) (gr : gp_Gr n G) (Q : xc_Q n 1 b T G a_base a_size a_table) (hl : l < n) (hM : bm_M P msk)
    (k : ∀ y, bm_M (fun i => ∃ x t z, x < n ∧ T l x = some t ∧ (z < n ∧ P z) ∧ t z = i) y → post y) :
    ∀ m p y, p ≤ n → n - p < m → bm_M (fun i => ∃ x t z, x < p ∧ T l x = some t ∧ (z < n ∧ P z) ∧ t z = i) y → wX_spread_5 post (nI l) msk (nI n) f_slotCount f_twistLimit f_solved f_moveCount f_strongCount f_pinnedLevels a_state a_move a_locked a_pins a_base a_size a_table a_stale a_strong m y (nI p)
  | 0, _, _, _, i2, _ => absurd i2 (Nat.not_lt_zero _)
  | m + 1, p, y, i1, i2, hy => by
    refine pk_le n p (fun z => k y (by rw [show n = p from by omega] at hy ⊢; exact hy)) (fun z => ?_)
    have hT := Q.2.2.2.2 l p hl z
    refine And.intro (by rw [xs_ix]; exact vp_in_nI (by omega) (by omega)) ?_
    rw [xs_ix, nI_clamp (by omega), hT]
    cases e : T l p with
    | none =>
      refine nm_e (br_t rfl (nm_r (nI_1 p) ?_))
      refine xs_spr5 h2 hn gr Q hl hM k m (p + 1) y (by omega) (by omega) (bm_c hy (fun i _ => ⟨fun ⟨x, t, q, q1, q2⟩ => ⟨x, t, q, by omega, q2⟩, fun ⟨x, t, q, q1, q2, q3⟩ => ?_⟩))
      rcases Nat.lt_or_ge x p with w | w
      · exact ⟨x, t, q, w, q2, q3⟩
      · rw [show x = p from by omega, e] at q2; exact nomatch q2
    | some t =>
      have hPt := gr.1 t (Q.2.1.1.1 l p t hl z e).1
      refine nm_e (br_f (bq_ne h2 hn hPt) ?_)
      refine xs_ios hn hPt hM (fun r hr => nm_e (nm_r (nI_1 p) ?_))
      refine xs_spr5 h2 hn gr Q hl hM k m (p + 1) _ (by omega) (by omega) (bm_c (bm_or hy hr) (fun i _ => ⟨fun v => ?_, fun ⟨x, u, q, q1, q2, q3, q4⟩ => ?_⟩))
      · rcases v with ⟨x, u, q, q1, q2⟩ | ⟨q, q1, q2, q3⟩
        · exact ⟨x, u, q, by omega, q2⟩
        · exact ⟨p, t, q, by omega, e, ⟨q1, q2⟩, q3⟩
      · rcases Nat.lt_or_ge x p with w | w
        · exact Or.inl ⟨x, u, q, w, q2, q3, q4⟩
        · rw [show x = p from by omega, e] at q2
          have eu := Option.some.inj q2
          exact Or.inr ⟨q, q3.1, q3.2, by rw [eu]; exact q4⟩
theorem xs_spread {post : Int32 → Prop} {P : Nat → Prop} {msk : Int32} {l : Nat} (h2 : 2 ≤ n) (hn : n ≤ 7) (gr : gp_Gr n G) (Q : xc_Q n 1 b T G a_base a_size a_table) (hl : l < n) (hM : bm_M P msk)
    (k : ∀ y, bm_M (fun i => ∃ x t z, x < n ∧ T l x = some t ∧ (z < n ∧ P z) ∧ t z = i) y → post y) : wpX_spread post (nI n, f_slotCount, f_twistLimit, f_solved, f_moveCount, f_strongCount, f_pinnedLevels, a_state, a_move, a_locked, a_pins, a_base, a_size, a_table, a_stale, a_strong) (nI l) msk :=
  Exists.intro (n + 1) (xs_spr5 h2 hn gr Q hl hM k (n + 1) 0 0 (by omega) (by omega) (bm_c bm_0 (fun i _ => ⟨False.elim, fun ⟨x, t, z, q1, _⟩ => by omega⟩)))
theorem xs_ch38 {post : Int32 → SX → Prop} {h : Nat → Nat} {pc : Nat} (h2 : 2 ≤ n) (hn : n ≤ 7) (gr : gp_Gr n G) (Q : xc_Q n 1 b T G a_base a_size a_table) (hpl : pl ≤ n) (hh : gp_P n h) (hpc : pc < n)
    (k : ∀ x, bm_M (fun i => ∃ q, q < n ∧ ch_R G b pc pl q ∧ h q = i) x → post x (nI n, f_slotCount, f_twistLimit, f_solved, f_moveCount, f_strongCount, nI pl, a_state, a_move, a_locked, a_pins, a_base, a_size, a_table, a_stale, a_strong)) :
    ∀ m l x3 x4, pl ≤ l → l ≤ n → l - pl < m → x4 = nI l + (-1) → bm_M (ch_R G b pc l) x3 → wX_choices_38 post (bq_p h n) (nI n) f_slotCount f_twistLimit f_solved f_moveCount f_strongCount (nI pl) a_state a_move a_locked a_pins a_base a_size a_table a_stale a_strong m x3 x4
  | 0, _, _, _, _, _, i2, _, _ => absurd i2 (Nat.not_lt_zero _)
  | m + 1, l, x3, x4, i0, i1, i2, e, hx => by
    rcases Nat.lt_or_ge pl l with z | z
    · obtain ⟨w, rfl⟩ : ∃ w, l = w + 1 := ⟨l - 1, by omega⟩
      rw [pk_m1] at e
      subst e
      refine pk_lt w pl (fun y => absurd y (by omega)) (fun y => ?_)
      refine xs_spread h2 hn gr Q (by omega) hx (fun y hy => nm_e ?_)
      refine xs_ch38 h2 hn gr Q hpl hh hpc k m w y _ (by omega) (by omega) (by omega) rfl (bm_c hy (fun i _ => ?_))
      rw [ch_R_S Q.1 gr Q.2.1 (by omega)]
      refine ⟨fun ⟨x, t, q, q1, q2, q3, q4⟩ => ⟨x, t, q, q1, q2, q3.2, q4⟩, fun ⟨x, t, q, q1, q2, q3, q4⟩ => ⟨x, t, q, q1, q2, ⟨?_, q3⟩, q4⟩⟩
      obtain ⟨g, g1, _, g3⟩ := q3
      rw [← g3]; exact gp_lt (gr.1 g g1) hpc
    · have el : l = pl := by omega
      subst el
      have hlt : x4 < nI l := by
        subst e
        cases l with
        | zero => decide
        | succ l => rw [pk_m1]; exact nI_lt (by omega) (by omega)
      exact br_t hlt (xs_ios hn hh hx (fun x hx2 => k x hx2))
theorem xs_fm2 {post : Int32 → Prop} {s : Nat → Nat} {i : Nat} (hn : n ≤ 7) (hs : gp_P n s) (hi : i < n) (h1 : ∀ j, j < i → s j = j) (hne : s i ≠ i) (k : post (nI i)) :
    ∀ m p, p ≤ i → i - p < m → wX_firstMoved_2 post (bq_p s n) (nI n) f_slotCount f_twistLimit f_solved f_moveCount f_strongCount f_pinnedLevels a_state a_move a_locked a_pins a_base a_size a_table a_stale a_strong m (nI p)
  | 0, _, _, i2 => absurd i2 (Nat.not_lt_zero _)
  | m + 1, p, i1, i2 => pk_le n p (fun z => absurd z (by omega)) (fun z => xw_image hn hs z (pk_eq (s p) p
      (fun e => nm_r (nI_1 p) (xs_fm2 hn hs hi h1 hne k m (p + 1) (by have : p ≠ i := fun w => hne (by rw [← w]; exact e); omega) (by have : p ≠ i := fun w => hne (by rw [← w]; exact e); omega)))
      (fun e => by have : p = i := by rcases Nat.lt_or_ge p i with y | y; { exact absurd (h1 p y) e }; { omega }
                   rw [this]; exact k)
      rfl rfl (by have := gp_lt hs z; omega) (by omega)))
theorem xs_first {post : Int32 → Prop} {s : Nat → Nat} {i : Nat} (hn : n ≤ 7) (hs : gp_P n s) (hi : i < n) (h1 : ∀ j, j < i → s j = j) (hne : s i ≠ i) (k : post (nI i)) : wpX_firstMoved post (nI n, f_slotCount, f_twistLimit, f_solved, f_moveCount, f_strongCount, f_pinnedLevels, a_state, a_move, a_locked, a_pins, a_base, a_size, a_table, a_stale, a_strong) (bq_p s n) :=
  Exists.intro (n + 1) (xs_fm2 hn hs hi h1 hne k (n + 1) 0 (by omega) (by omega))
end
end
section
/-! building a chain: enter, absorb -/
/-- the state of a build: table T, list st of length sc -/
def xe_I (n c : Nat) (b : Nat → Nat) (G : (Nat → Nat) → Prop) (T : Nat → Nat → Option (Nat → Nat)) (st : Nat → Nat → Nat) (sc : Nat) (a_size a_table a_strong : Nat → Int32) : Prop :=
  ch_V n b T G ∧ cs (ch_s T n) n = sc + n ∧ (∀ l x t, l < n → x < n → T l x = some t → t = gp_1 ∨ ∃ i, i < sc ∧ st i = t) ∧ (∀ i, i < sc → G (st i)) ∧
  (∀ l, l < n → a_size (c * 7 + l) = nI (ch_s T n l)) ∧ (∀ l x, l < n → x < n → a_table ((c * 7 + l) * 7 + x) = bu_e n (T l x)) ∧ (∀ i, i < sc → a_strong i = bq_p (st i) n)
/-- a later state of a build -/
def xe_X (c : Nat) (T : Nat → Nat → Option (Nat → Nat)) (st : Nat → Nat → Nat) (sc : Nat) (a_size a_table : Nat → Int32) (T' : Nat → Nat → Option (Nat → Nat)) (st' : Nat → Nat → Nat) (sc' : Nat) (a_size' a_table' : Nat → Int32) : Prop :=
  (∀ l x t, T l x = some t → T' l x = some t) ∧ sc ≤ sc' ∧ (∀ i, i < sc → st' i = st i) ∧ (∀ j, ¬ (c * 7 ≤ j ∧ j < c * 7 + 7) → a_size' j = a_size j) ∧ (∀ j, ¬ (c * 49 ≤ j ∧ j < c * 49 + 49) → a_table' j = a_table j)
theorem xe_Xr {c : Nat} {T : Nat → Nat → Option (Nat → Nat)} {st : Nat → Nat → Nat} {sc : Nat} {a_size a_table : Nat → Int32} : xe_X c T st sc a_size a_table T st sc a_size a_table :=
  ⟨fun _ _ _ h => h, Nat.le_refl _, fun _ _ => rfl, fun _ _ => rfl, fun _ _ => rfl⟩
theorem xe_Xt {c : Nat} {T T' T'' : Nat → Nat → Option (Nat → Nat)} {st st' st'' : Nat → Nat → Nat} {sc sc' sc'' : Nat} {a_size a_table a_size' a_table' a_size'' a_table'' : Nat → Int32}
    (x : xe_X c T st sc a_size a_table T' st' sc' a_size' a_table') (y : xe_X c T' st' sc' a_size' a_table' T'' st'' sc'' a_size'' a_table'') : xe_X c T st sc a_size a_table T'' st'' sc'' a_size'' a_table'' := by
  obtain ⟨x1, x2, x3, x4, x5⟩ := x
  obtain ⟨y1, y2, y3, y4, y5⟩ := y
  exact ⟨fun l i t h => y1 _ _ _ (x1 _ _ _ h), Nat.le_trans x2 y2, fun i hi => (y3 i (by omega)).trans (x3 i hi), fun j hj => (y4 j hj).trans (x4 j hj), fun j hj => (y5 j hj).trans (x5 j hj)⟩
theorem xe_idx {c l x l' x' : Nat} (hx : x < 7) (hx' : x' < 7) (e : (c * 7 + l) * 7 + x = (c * 7 + l') * 7 + x') : l = l' ∧ x = x' := by omega
section
variable {n : Nat} {f_slotCount f_twistLimit f_solved f_moveCount f_strongCount f_pinnedLevels : Int32} {a_state a_move a_locked a_pins a_base a_size a_table a_stale a_strong : Nat → Int32}
variable {c : Nat} {b : Nat → Nat} {G : (Nat → Nat) → Prop}
theorem xe_enter {post : SX → Prop} {r : Nat → Nat} {l x sc : Nat} (hn : n ≤ 7) (hc : c < 2) (hl : l < n) (hr : gp_P n r) (hbl : b l < n) (hb : a_base (c * 7 + l) = nI (b l)) (hx : r (b l) = x) (hsc : sc < 21)
    (k : post (nI n, f_slotCount, f_twistLimit, f_solved, f_moveCount, nI (sc + 1), f_pinnedLevels, a_state, a_move, a_locked, a_pins, a_base, upd a_size (c * 7 + l) (a_size (c * 7 + l) + 1), upd a_table ((c * 7 + l) * 7 + x) (bq_p r n), a_stale, upd a_strong sc (bq_p r n))) :
    wpX_enter post (nI n, f_slotCount, f_twistLimit, f_solved, f_moveCount, nI sc, f_pinnedLevels, a_state, a_move, a_locked, a_pins, a_base, a_size, a_table, a_stale, a_strong) (nI c) (nI l) (bq_p r n) := by
  have hxn : x < n := by rw [← hx]; exact gp_lt hr hbl
  have hv : vp_in (nI (c * 7 + l)) 14 := vp_in_nI (by omega) (by omega)
  have ei : nI (c * 7 + l) * 7 + nI x = nI ((c * 7 + l) * 7 + x) := by
    show nI (c * 7 + l) * nI 7 + nI x = _
    rw [pk_mul, nI_add]
  unfold wpX_enter
  dsimp only
  refine nm_r (xw_ix1 c l) (And.intro hv ?_)
  rw [nI_clamp (show c * 7 + l < 2 ^ 31 by omega), hb]
  refine xw_image hn hr hbl ?_
  rw [hx, ei, nI_clamp (show (c * 7 + l) * 7 + x < 2 ^ 31 by omega)]
  refine And.intro (vp_in_nI (by omega) (by omega)) (nm_e (And.intro hv (And.intro hv (nm_e ?_))))
  refine pk_le 21 sc (fun z => absurd z (by omega)) (fun z => And.intro (vp_in_nI (by omega) (by omega)) ?_)
  rw [nI_clamp (show sc < 2 ^ 31 by omega)]
  exact nm_e (nm_r (nI_1 sc) k)
theorem xe_ent {T : Nat → Nat → Option (Nat → Nat)} {st : Nat → Nat → Nat} {sc l x : Nat} {r : Nat → Nat} (hn : n ≤ 7) (hbB : ch_B n b) (gr : gp_Gr n G) (hl : l < n) (hx : x < n) (hG : G r) (hf : ∀ j, j < l → r (b j) = b j) (hrx : r (b l) = x) (hT : T l x = none)
    (I : xe_I n c b G T st sc a_size a_table a_strong) :
    sc < 21 ∧ xe_I n c b G (bu_set T l x r) (fun i => if i = sc then r else st i) (sc + 1) (upd a_size (c * 7 + l) (a_size (c * 7 + l) + 1)) (upd a_table ((c * 7 + l) * 7 + x) (bq_p r n)) (upd a_strong sc (bq_p r n)) ∧
    xe_X c T st sc a_size a_table (bu_set T l x r) (fun i => if i = sc then r else st i) (sc + 1) (upd a_size (c * 7 + l) (a_size (c * 7 + l) + 1)) (upd a_table ((c * 7 + l) * 7 + x) (bq_p r n)) := by
  obtain ⟨V, hsum, hent, hst, hsz, htb, hsg⟩ := I
  have V' := bu_set_V V hT hG hf hrx
  have hsum' : cs (ch_s (bu_set T l x r) n) n = sc + 1 + n := by
    rw [cs_bump (F := ch_s T n) (a := l) (bu_set_cnt hx hT) (fun k hk => bu_set_cno hk) hl, hsum]; omega
  have h21 := bu_21 hn hbB V' gr hsum'
  refine ⟨by omega, ⟨V', hsum', fun l' x' t hl' hx' e => ?_, fun i hi => ?_, fun l' hl' => ?_, fun l' x' hl' hx' => ?_, fun i hi => ?_⟩, fun l' x' t e => bu_set_le hT l' x' t e, by omega, fun i hi => if_neg (by omega), fun j hj => pk_un (by omega), fun j hj => pk_un (by omega)⟩
  · rcases Classical.em (l' = l ∧ x' = x) with z | z
    · obtain ⟨z1, z2⟩ := z
      subst z1; subst z2
      rw [bu_set_s] at e
      exact Or.inr ⟨sc, by omega, (if_pos rfl).trans (Option.some.inj e)⟩
    · rw [bu_set_n z] at e
      rcases hent l' x' t hl' hx' e with w | ⟨i, i1, i2⟩
      · exact Or.inl w
      · exact Or.inr ⟨i, by omega, (if_neg (by omega)).trans i2⟩
  · dsimp only
    rcases Nat.lt_or_ge i sc with z | z
    · rw [if_neg (by omega)]; exact hst i z
    · rw [if_pos (by omega)]; exact hG
  · rcases Nat.lt_trichotomy l' l with z | z | z
    · rw [pk_un (by omega), bu_set_cno (by omega)]; exact hsz l' hl'
    · subst z
      rw [pk_us, bu_set_cnt hx hT, hsz l' hl', nI_1]
    · rw [pk_un (by omega), bu_set_cno (by omega)]; exact hsz l' hl'
  · rcases Classical.em (l' = l ∧ x' = x) with z | z
    · obtain ⟨z1, z2⟩ := z
      subst z1; subst z2
      rw [pk_us, bu_set_s]; rfl
    · rw [bu_set_n z, pk_un (fun e => z (xe_idx (by omega) (by omega) e))]
      exact htb l' x' hl' hx'
  · dsimp only
    rcases Nat.lt_or_ge i sc with z | z
    · rw [if_neg (by omega), pk_un (by omega)]; exact hsg i z
    · rw [if_pos (by omega), show i = sc from by omega, pk_us]
theorem xe_abs8 {post : SX → Prop} {g : Nat → Nat} {T : Nat → Nat → Option (Nat → Nat)} {st : Nat → Nat → Nat} {sc : Nat} (h2 : 2 ≤ n) (hn : n ≤ 7) (hc : c < 2) (hbB : ch_B n b) (gr : gp_Gr n G) (hB : ∀ l, l < n → a_base (c * 7 + l) = nI (b l)) (hG : G g)
    (I : xe_I n c b G T st sc a_size a_table a_strong)
    (k : ∀ T' st' sc' a_size' a_table' a_strong', xe_I n c b G T' st' sc' a_size' a_table' a_strong' → xe_X c T st sc a_size a_table T' st' sc' a_size' a_table' → bu_F n T' n g →
      post (nI n, f_slotCount, f_twistLimit, f_solved, f_moveCount, nI sc', f_pinnedLevels, a_state, a_move, a_locked, a_pins, a_base, a_size', a_table', a_stale, a_strong')) :
    ∀ m l h, l ≤ n → n - l < m → G h → ch_A b l g h → (∀ T', (∀ l x t, T l x = some t → T' l x = some t) → ∀ r, bu_F n T' (n - l) r → bu_F n T' n (gp_c h r)) →
      wX_absorb_8 post (nI c) (bq_p g n) (nI n) f_slotCount f_twistLimit f_solved f_moveCount (nI sc) f_pinnedLevels a_state a_move a_locked a_pins a_base a_size a_table a_stale a_strong m (bq_p h n) (nI l)
  | 0, _, _, _, i2, _, _, _ => absurd i2 (Nat.not_lt_zero _)
  | m + 1, l, h, i1, i2, hh, ha, hF => by
    have hPg := gr.1 g hG
    have hPh := gr.1 h hh
    refine pk_le n l (fun z => ?_) (fun z => ?_)
    · have el : l = n := by omega
      subst el
      refine k T st sc a_size a_table a_strong I xe_Xr ?_
      have e := ch_eq_of hbB hPh hPg ha
      have a := hF T (fun _ _ _ w => w) gp_1 (by rw [Nat.sub_self]; exact rfl)
      rw [e] at a
      exact a
    · have hbl := hbB.1 l z
      refine And.intro (by rw [xw_ix1]; exact vp_in_nI (by omega) (by omega)) ?_
      rw [xw_ix1, nI_clamp (by omega), hB l z]
      refine xw_image hn hPg hbl ?_
      obtain ⟨x, hx, ex⟩ := gp_surj hPh (gp_lt hPg hbl)
      refine xw_extend h2 hn hc z hPh hx ex (I.2.2.2.2.2.1 l x z hx) (fun s es => gr.1 s (I.1.1 l x s z hx es).1) (fun en => br_t rfl ?_) (fun s es => ?_)
      · obtain ⟨y, y1, y2, y3⟩ := gr.2.2.2 h hh
        refine xw_inverse hn hPh (gr.1 y y1) y3 y2 ?_
        refine xw_compose hn (gr.1 y y1) hPg ?_
        have hr := gr.2.2.1 y g y1 hG
        have rf : ∀ j, j < l → gp_c y g (b j) = b j := fun j hj => by
          show y (g (b j)) = b j
          rw [← ha j hj, y3]
        have rx : gp_c y g (b l) = x := by
          show y (g (b l)) = x
          rw [← ex, y3]
        obtain ⟨q1, q2, q3⟩ := xe_ent hn hbB gr z hx hr rf rx en I
        refine xe_enter hn hc z (gr.1 _ hr) hbl (hB l z) rx q1 ?_
        refine k _ _ _ _ _ _ q2 q3 ?_
        have a := hF _ q3.1 (gp_c y g) (by
          rw [show n - l = (n - l - 1) + 1 from by omega]
          exact bu_F_S (r := gp_1) (l := l) (by omega) hx bu_set_s (bu_1 hbB q2.1 (by omega)))
        have e : gp_c h (gp_c y g) = g := funext fun i => y2 (g i)
        rw [e] at a
        exact a
      · obtain ⟨a1, a2, a3⟩ := ch_some gr I.1 z hx hh es
        refine br_f (bq_ne h2 hn (gr.1 _ a1)) (nm_r (nI_1 l) ?_)
        refine xe_abs8 h2 hn hc hbB gr hB hG I k m (l + 1) (gp_c h s) (by omega) (by omega) a1 (ch_A_S.mpr ⟨fun j hj => by rw [a2 j hj, ha j hj], by rw [a3, ex]⟩) (fun T' hT' r hr => ?_)
        refine hF T' hT' (gp_c s r) ?_
        rw [show n - l = (n - (l + 1)) + 1 from by omega]
        exact bu_F_S (l := l) (by omega) hx (hT' _ _ _ es) hr
theorem xe_absorb {post : SX → Prop} {g : Nat → Nat} {T : Nat → Nat → Option (Nat → Nat)} {st : Nat → Nat → Nat} {sc : Nat} (h2 : 2 ≤ n) (hn : n ≤ 7) (hc : c < 2) (hbB : ch_B n b) (gr : gp_Gr n G) (hB : ∀ l, l < n → a_base (c * 7 + l) = nI (b l)) (hG : G g)
    (I : xe_I n c b G T st sc a_size a_table a_strong)
    (k : ∀ T' st' sc' a_size' a_table' a_strong', xe_I n c b G T' st' sc' a_size' a_table' a_strong' → xe_X c T st sc a_size a_table T' st' sc' a_size' a_table' → bu_F n T' n g →
      post (nI n, f_slotCount, f_twistLimit, bq_p gp_1 n, f_moveCount, nI sc', f_pinnedLevels, a_state, a_move, a_locked, a_pins, a_base, a_size', a_table', a_stale, a_strong')) :
    wpX_absorb post (nI n, f_slotCount, f_twistLimit, bq_p gp_1 n, f_moveCount, nI sc, f_pinnedLevels, a_state, a_move, a_locked, a_pins, a_base, a_size, a_table, a_stale, a_strong) (nI c) (bq_p g n) :=
  Exists.intro (n + 1) (xe_abs8 h2 hn hc hbB gr hB hG I k (n + 1) 0 gp_1 (by omega) (by omega) gr.2.1 (fun j hj => absurd hj (Nat.not_lt_zero _)) (fun T' _ r hr => hr))
end
end
section
/-! closeUnder, rebuild, clear -/
section
variable {n : Nat} {f_slotCount f_twistLimit f_solved f_moveCount f_strongCount f_pinnedLevels : Int32} {a_state a_move a_locked a_pins a_base a_stale : Nat → Int32}
variable {c : Nat} {b : Nat → Nat} {G : (Nat → Nat) → Prop}
variable {T0 : Nat → Nat → Option (Nat → Nat)} {st0 : Nat → Nat → Nat} {sc0 : Nat} {a_size0 a_table0 : Nat → Int32}
theorem xe_cl2 {post : SX → Prop} {k : Nat} (h2 : 2 ≤ n) (hn : n ≤ 7) (hc : c < 2) (hbB : ch_B n b) (gr : gp_Gr n G) (hB : ∀ l, l < n → a_base (c * 7 + l) = nI (b l)) (hk21 : k < 21) (hk : k < sc0)
    (K : ∀ T st sc a_size a_table a_strong, xe_I n c b G T st sc a_size a_table a_strong → xe_X c T0 st0 sc0 a_size0 a_table0 T st sc a_size a_table → (∀ j, j < k + 1 → bu_F n T n (gp_c (st0 k) (st0 j)) ∧ bu_F n T n (gp_c (st0 j) (st0 k))) →
      post (nI n, f_slotCount, f_twistLimit, bq_p gp_1 n, f_moveCount, nI sc, f_pinnedLevels, a_state, a_move, a_locked, a_pins, a_base, a_size, a_table, a_stale, a_strong)) :
    ∀ m i T st sc a_size a_table a_strong, i ≤ k + 1 → k + 1 - i < m → xe_I n c b G T st sc a_size a_table a_strong → xe_X c T0 st0 sc0 a_size0 a_table0 T st sc a_size a_table →
      (∀ j, j < i → bu_F n T n (gp_c (st0 k) (st0 j)) ∧ bu_F n T n (gp_c (st0 j) (st0 k))) → wX_closeUnder_2 post (nI c) (nI k) m (nI i) (nI n) f_slotCount f_twistLimit (bq_p gp_1 n) f_moveCount (nI sc) f_pinnedLevels a_state a_move a_locked a_pins a_base a_size a_table a_stale a_strong
  | 0, _, _, _, _, _, _, _, _, i2, _, _, _ => absurd i2 (Nat.not_lt_zero _)
  | m + 1, i, T, st, sc, a_size, a_table, a_strong, i1, i2, I, X, hcl => by
    refine pk_lt k i (fun z => K T st sc a_size a_table a_strong I X (fun j hj => hcl j (by omega))) (fun z => ?_)
    have hsc := X.2.1
    have vk : vp_in (nI k) 21 := vp_in_nI (by omega) (by omega)
    have vi : vp_in (nI i) 21 := vp_in_nI (by omega) (by omega)
    have ek := I.2.2.2.2.2.2 k (by omega)
    have ei := I.2.2.2.2.2.2 i (by omega)
    rw [X.2.2.1 k hk] at ek
    rw [X.2.2.1 i (by omega)] at ei
    have gk : G (st0 k) := by have := I.2.2.2.1 k (by omega); rw [X.2.2.1 k hk] at this; exact this
    have gi : G (st0 i) := by have := I.2.2.2.1 i (by omega); rw [X.2.2.1 i (by omega)] at this; exact this
    refine And.intro vk (And.intro vi ?_)
    rw [nI_clamp (show k < 2 ^ 31 by omega), nI_clamp (show i < 2 ^ 31 by omega), ek, ei]
    refine xw_compose hn (gr.1 _ gk) (gr.1 _ gi) ?_
    refine xe_absorb h2 hn hc hbB gr hB (gr.2.2.1 _ _ gk gi) I (fun T1 st1 sc1 a_size1 a_table1 a_strong1 I1 X1 F1 => ?_)
    have X01 := xe_Xt X X1
    have ek1 := I1.2.2.2.2.2.2 k (by have := X1.2.1; omega)
    have ei1 := I1.2.2.2.2.2.2 i (by have := X1.2.1; omega)
    rw [X01.2.2.1 k hk] at ek1
    rw [X01.2.2.1 i (by omega)] at ei1
    refine And.intro vi (And.intro vk ?_)
    rw [ek1, ei1]
    refine xw_compose hn (gr.1 _ gi) (gr.1 _ gk) ?_
    refine xe_absorb h2 hn hc hbB gr hB (gr.2.2.1 _ _ gi gk) I1 (fun T3 st3 sc3 a_size3 a_table3 a_strong3 I3 X3 F3 => ?_)
    refine nm_r (nI_1 i) ?_
    refine xe_cl2 h2 hn hc hbB gr hB hk21 hk K m (i + 1) T3 st3 sc3 a_size3 a_table3 a_strong3 (by omega) (by omega) I3 (xe_Xt X01 X3) (fun j hj => ?_)
    rcases Nat.lt_or_ge j i with y | y
    · have a := hcl j y
      exact ⟨bu_mono X3.1 (bu_mono X1.1 a.1), bu_mono X3.1 (bu_mono X1.1 a.2)⟩
    · rw [show j = i from by omega]
      exact ⟨bu_mono X3.1 F1, F3⟩
end
section
variable {n : Nat} {f_slotCount f_twistLimit f_solved f_moveCount f_strongCount f_pinnedLevels : Int32} {a_state a_move a_locked a_pins a_base a_stale : Nat → Int32}
variable {c : Nat} {b : Nat → Nat} {G : (Nat → Nat) → Prop}
theorem xe_close {post : SX → Prop} {k : Nat} {T : Nat → Nat → Option (Nat → Nat)} {st : Nat → Nat → Nat} {sc : Nat} {a_size a_table a_strong : Nat → Int32} (h2 : 2 ≤ n) (hn : n ≤ 7) (hc : c < 2) (hbB : ch_B n b) (gr : gp_Gr n G) (hB : ∀ l, l < n → a_base (c * 7 + l) = nI (b l)) (hk21 : k < 21) (hk : k < sc)
    (I : xe_I n c b G T st sc a_size a_table a_strong)
    (K : ∀ T' st' sc' a_size' a_table' a_strong', xe_I n c b G T' st' sc' a_size' a_table' a_strong' → xe_X c T st sc a_size a_table T' st' sc' a_size' a_table' → (∀ j, j < k + 1 → bu_F n T' n (gp_c (st k) (st j)) ∧ bu_F n T' n (gp_c (st j) (st k))) →
      post (nI n, f_slotCount, f_twistLimit, bq_p gp_1 n, f_moveCount, nI sc', f_pinnedLevels, a_state, a_move, a_locked, a_pins, a_base, a_size', a_table', a_stale, a_strong')) :
    wpX_closeUnder post (nI n, f_slotCount, f_twistLimit, bq_p gp_1 n, f_moveCount, nI sc, f_pinnedLevels, a_state, a_move, a_locked, a_pins, a_base, a_size, a_table, a_stale, a_strong) (nI c) (nI k) :=
  Exists.intro (k + 2) (xe_cl2 h2 hn hc hbB gr hB hk21 hk K (k + 2) 0 T st sc a_size a_table a_strong (by omega) (by omega) I xe_Xr (fun j hj => absurd hj (Nat.not_lt_zero _)))
/-- all pairs of the list closed: all pairs of entries -/
theorem xe_pairs {T : Nat → Nat → Option (Nat → Nat)} {st : Nat → Nat → Nat} {sc : Nat} {a_size a_table a_strong : Nat → Int32} (hbB : ch_B n b) (I : xe_I n c b G T st sc a_size a_table a_strong)
    (h : ∀ i j, i < sc → j < sc → bu_F n T n (gp_c (st i) (st j))) : bu_pairs n T := by
  intro l x t l' x' t' hl hx hl' hx' e e'
  rcases I.2.2.1 l x t hl hx e with w | ⟨i, i1, i2⟩
  · rw [w]; exact bu_ent hbB I.1 hl' hx' e'
  · rcases I.2.2.1 l' x' t' hl' hx' e' with w | ⟨j, j1, j2⟩
    · rw [w]; exact bu_ent hbB I.1 hl hx e
    · rw [← i2, ← j2]; exact h i j i1 j1
end
section
variable {n : Nat} {f_slotCount f_twistLimit f_solved f_moveCount f_strongCount f_pinnedLevels : Int32} {a_state a_move a_locked a_pins a_base a_stale : Nat → Int32}
variable {c : Nat} {b : Nat → Nat} {A : (Nat → Nat) → Prop} {a_size0 a_table0 : Nat → Int32}
theorem xe_re43 {post : SX → Prop} (h2 : 2 ≤ n) (hn : n ≤ 7) (hc : c < 2) (hbB : ch_B n b) (hA : ∀ t, A t → gp_P n t) (hB : ∀ l, l < n → a_base (c * 7 + l) = nI (b l))
    (K : ∀ T sc a_size a_table a_strong, xc_Q n c b T (gp_G A) a_base a_size a_table → (∀ j, ¬ (c * 7 ≤ j ∧ j < c * 7 + 7) → a_size j = a_size0 j) → (∀ j, ¬ (c * 49 ≤ j ∧ j < c * 49 + 49) → a_table j = a_table0 j) →
      post (nI n, f_slotCount, f_twistLimit, bq_p gp_1 n, f_moveCount, nI sc, f_pinnedLevels, a_state, a_move, a_locked, a_pins, a_base, a_size, a_table, upd a_stale c 0, a_strong)) :
    ∀ m k T st sc a_size a_table a_strong, k ≤ sc → 22 - k < m → xe_I n c b (gp_G A) T st sc a_size a_table a_strong → (∀ t, A t → bu_F n T n t) → (∀ i j, i < k → j < k → bu_F n T n (gp_c (st i) (st j))) →
      (∀ j, ¬ (c * 7 ≤ j ∧ j < c * 7 + 7) → a_size j = a_size0 j) → (∀ j, ¬ (c * 49 ≤ j ∧ j < c * 49 + 49) → a_table j = a_table0 j) →
      wX_rebuild_43 post (nI c) m (nI k) (nI n) f_slotCount f_twistLimit (bq_p gp_1 n) f_moveCount (nI sc) f_pinnedLevels a_state a_move a_locked a_pins a_base a_size a_table a_stale a_strong
  | 0, _, _, _, _, _, _, _, _, i2, _, _, _, _, _ => absurd i2 (Nat.not_lt_zero _)
  | m + 1, k, T, st, sc, a_size, a_table, a_strong, i1, i2, I, hg, hcl, f1, f2 => by
    have gr := gp_Gr_of hA
    have s21 := bu_21 hn hbB I.1 gr I.2.1
    have fin : sc ≤ k → post (nI n, f_slotCount, f_twistLimit, bq_p gp_1 n, f_moveCount, nI sc, f_pinnedLevels, a_state, a_move, a_locked, a_pins, a_base, a_size, a_table, upd a_stale c 0, a_strong) := fun hsk =>
      K T sc a_size a_table a_strong ⟨hbB, bu_done hA hbB I.1 (xe_pairs hbB I (fun i j hi hj => hcl i j (by omega) (by omega))) hg, hB, I.2.2.2.2.1, I.2.2.2.2.2.1⟩ f1 f2
    have vc : vp_in (nI c) 2 := vp_in_nI hc (by omega)
    have es : upd a_stale (nI c).toNatClampNeg (vp_nar .boolean 0) = upd a_stale c 0 := by rw [nI_clamp (by omega)]; rfl
    refine pk_le 21 k (fun z => And.intro vc (nm_r es (fin (by omega)))) (fun z => ?_)
    refine pk_le sc k (fun z => And.intro vc (nm_r es (fin z))) (fun z => ?_)
    refine xe_close h2 hn hc hbB gr hB (by omega) z I (fun T1 st1 sc1 a_size1 a_table1 a_strong1 I1 X1 F1 => ?_)
    refine nm_r (nI_1 k) ?_
    refine xe_re43 h2 hn hc hbB hA hB K m (k + 1) T1 st1 sc1 a_size1 a_table1 a_strong1 (by have := X1.2.1; omega) (by omega) I1 (fun t ht => bu_mono X1.1 (hg t ht)) (fun i j hi hj => ?_)
      (fun j hj => (X1.2.2.2.1 j hj).trans (f1 j hj)) (fun j hj => (X1.2.2.2.2 j hj).trans (f2 j hj))
    rw [X1.2.2.1 i (by omega), X1.2.2.1 j (by omega)]
    rcases Nat.lt_or_ge i k with y | y
    · rcases Nat.lt_or_ge j k with w | w
      · exact bu_mono X1.1 (hcl i j y w)
      · rw [show j = k from by omega]; exact (F1 i (by omega)).2
    · rw [show i = k from by omega]; exact (F1 j (by omega)).1
end
/-- the generators: the unlocked twists -/
def rx_A (n mc : Nat) (mv : Nat → Nat) (lk : Nat → Int32) (t : Nat → Nat) : Prop := ∃ i, i < mc ∧ lk i = 0 ∧ t = li_g n (mv i)
theorem rx_AP {n mc : Nat} {mv : Nat → Nat} {lk : Nat → Int32} : ∀ t, rx_A n mc mv lk t → gp_P n t := fun t ⟨i, _, _, e⟩ => by rw [e]; exact li_gP n _
section
variable {n : Nat} {f_slotCount f_twistLimit f_solved f_moveCount f_strongCount f_pinnedLevels : Int32} {a_state a_move a_pins a_base a_stale : Nat → Int32}
variable {c mc : Nat} {b mv : Nat → Nat} {lk : Nat → Int32} {a_size0 a_table0 : Nat → Int32}
theorem xe_re7 {post : SX → Prop} (h2 : 2 ≤ n) (hn : n ≤ 7) (hc : c < 2) (hmc : mc ≤ 6) (hbB : ch_B n b) (hB : ∀ l, l < n → a_base (c * 7 + l) = nI (b l)) (hmv : ∀ t, t < mc → a_move t = bq_p (li_g n (mv t)) n)
    (K : ∀ T sc a_size a_table a_strong, xc_Q n c b T (gp_G (rx_A n mc mv lk)) a_base a_size a_table → (∀ j, ¬ (c * 7 ≤ j ∧ j < c * 7 + 7) → a_size j = a_size0 j) → (∀ j, ¬ (c * 49 ≤ j ∧ j < c * 49 + 49) → a_table j = a_table0 j) →
      post (nI n, f_slotCount, f_twistLimit, bq_p gp_1 n, nI mc, nI sc, f_pinnedLevels, a_state, a_move, lk, a_pins, a_base, a_size, a_table, upd a_stale c 0, a_strong)) :
    ∀ m t T st sc a_size a_table a_strong, t ≤ mc → mc - t < m → xe_I n c b (gp_G (rx_A n mc mv lk)) T st sc a_size a_table a_strong → (∀ i, i < t → lk i = 0 → bu_F n T n (li_g n (mv i))) →
      (∀ j, ¬ (c * 7 ≤ j ∧ j < c * 7 + 7) → a_size j = a_size0 j) → (∀ j, ¬ (c * 49 ≤ j ∧ j < c * 49 + 49) → a_table j = a_table0 j) →
      wX_rebuild_7 post (nI c) m (nI t) (nI n) f_slotCount f_twistLimit (bq_p gp_1 n) (nI mc) (nI sc) f_pinnedLevels a_state a_move lk a_pins a_base a_size a_table a_stale a_strong
  | 0, _, _, _, _, _, _, _, _, i2, _, _, _, _ => absurd i2 (Nat.not_lt_zero _)
  | m + 1, t, T, st, sc, a_size, a_table, a_strong, i1, i2, I, hg, f1, f2 => by
    refine pk_le mc t (fun z => Exists.intro 23 (xe_re43 h2 hn hc hbB rx_AP hB K 23 0 T st sc a_size a_table a_strong (by omega) (by omega) I (fun s ⟨i, j1, j2, j3⟩ => by rw [j3]; exact hg i (by omega) j2) (fun i j hi _ => absurd hi (Nat.not_lt_zero _)) f1 f2)) (fun z => ?_)
    have vt : vp_in (nI t) 6 := vp_in_nI (by omega) (by omega)
    refine And.intro vt ?_
    rw [nI_clamp (show t < 2 ^ 31 by omega)]
    refine br_c (fun e => And.intro vt ?_) (fun e => nm_r (nI_1 t) ?_)
    · rw [hmv t z]
      refine xe_absorb h2 hn hc hbB (gp_Gr_of rx_AP) hB (gp_Gi ⟨t, z, e, rfl⟩) I (fun T1 st1 sc1 a_size1 a_table1 a_strong1 I1 X1 F1 => ?_)
      refine nm_r (nI_1 t) ?_
      refine xe_re7 h2 hn hc hmc hbB hB hmv K m (t + 1) T1 st1 sc1 a_size1 a_table1 a_strong1 (by omega) (by omega) I1 (fun i hi hl => ?_) (fun j hj => (X1.2.2.2.1 j hj).trans (f1 j hj)) (fun j hj => (X1.2.2.2.2 j hj).trans (f2 j hj))
      rcases Nat.lt_or_ge i t with y | y
      · exact bu_mono X1.1 (hg i y hl)
      · rw [show i = t from by omega]; exact F1
    · refine xe_re7 h2 hn hc hmc hbB hB hmv K m (t + 1) T st sc a_size a_table a_strong (by omega) (by omega) I (fun i hi hl => ?_) f1 f2
      rcases Nat.lt_or_ge i t with y | y
      · exact hg i y hl
      · rw [show i = t from by omega] at hl; exact absurd hl e
end
end
section
/-! clear, rebuild, the bases, and the use of a chain -/
theorem cs_one {F : Nat → Nat} : ∀ {N : Nat}, (∀ k, k < N → F k = 1) → cs F N = N
  | 0, _ => rfl
  | N + 1, h => by rw [cs_S, cs_one (N := N) (fun k hk => h k (by omega)), h N (by omega)]
/-- the table after clear -/
def xl_T (b : Nat → Nat) : Nat → Nat → Option (Nat → Nat) := fun l x => if x = b l then some gp_1 else none
theorem xl_Ts {b : Nat → Nat} {l : Nat} : xl_T b l (b l) = some gp_1 := if_pos rfl
theorem xl_Tn {b : Nat → Nat} {l x : Nat} (h : ¬ x = b l) : xl_T b l x = none := if_neg h
theorem xl_Te {b : Nat → Nat} {l x : Nat} {t : Nat → Nat} (h : xl_T b l x = some t) : x = b l ∧ gp_1 = t := by
  rcases Classical.em (x = b l) with z | z
  · subst z
    rw [xl_Ts] at h
    exact ⟨rfl, Option.some.inj h⟩
  · rw [xl_Tn z] at h; exact nomatch h
theorem xl_s {n : Nat} {b : Nat → Nat} {l : Nat} (hb : b l < n) : ch_s (xl_T b) n l = 1 := by
  refine cc_one hb (by rw [xl_Ts]; exact fun z => nomatch z) (fun x hx h => ?_)
  rcases Classical.em (x = b l) with z | z
  · exact z
  · rw [xl_Tn z] at h; exact absurd rfl h
def xl_P (n c : Nat) (b : Nat → Nat) (a_size0 a_table0 : Nat → Int32) (l : Nat) (a_size a_table : Nat → Int32) : Prop :=
  (∀ l' x, l' < l → x < n → a_table ((c * 7 + l') * 7 + x) = bu_e n (xl_T b l' x)) ∧ (∀ l', l' < l → a_size (c * 7 + l') = nI 1) ∧
  (∀ j, ¬ (c * 7 ≤ j ∧ j < c * 7 + 7) → a_size j = a_size0 j) ∧ (∀ j, ¬ (c * 49 ≤ j ∧ j < c * 49 + 49) → a_table j = a_table0 j)
section
variable {n : Nat} {f_slotCount f_twistLimit f_moveCount f_strongCount f_pinnedLevels : Int32} {a_state a_move a_locked a_pins a_base a_stale a_strong : Nat → Int32}
variable {c : Nat} {b : Nat → Nat} {a_size0 a_table0 : Nat → Int32}
theorem xl_25 {post : SX → Prop} {J : Int32 → (Nat → Int32) → (Nat → Int32) → (Nat → Int32) → (Nat → Int32) → (Nat → Int32) → (Nat → Int32) → (Nat → Int32) → (Nat → Int32) → (Nat → Int32) → Prop} {l : Nat} (hn : n ≤ 7) (hc : c < 2) (hl : l < n) (hbl : b l < n) (hB : a_base (c * 7 + l) = nI (b l))
    (K : ∀ a_size a_table, xl_P n c b a_size0 a_table0 (l + 1) a_size a_table → J (nI (l + 1)) a_state a_move a_locked a_pins a_base a_size a_table a_stale a_strong) :
    ∀ m x a_size a_table, x ≤ n → n - x < m → xl_P n c b a_size0 a_table0 l a_size a_table → (∀ y, y < x → a_table ((c * 7 + l) * 7 + y) = 0) → wX_clear_25 post J (nI c) (nI l) (nI (c * 7 + l)) (nI n) f_slotCount f_twistLimit (bq_p gp_1 n) f_moveCount f_strongCount f_pinnedLevels m (nI x) a_state a_move a_locked a_pins a_base a_size a_table a_stale a_strong
  | 0, _, _, _, _, i2, _, _ => absurd i2 (Nat.not_lt_zero _)
  | m + 1, x, a_size, a_table, i1, i2, P, hz => by
    have ei : ∀ y, nI (c * 7 + l) * 7 + nI y = nI ((c * 7 + l) * 7 + y) := fun y => by
      show nI (c * 7 + l) * nI 7 + nI y = _
      rw [pk_mul, nI_add]
    have hv : vp_in (nI (c * 7 + l)) 14 := vp_in_nI (by omega) (by omega)
    obtain ⟨p1, p2, p3, p4⟩ := P
    refine pk_le n x (fun z => ?_) (fun z => ?_)
    · refine And.intro hv ?_
      rw [nI_clamp (show c * 7 + l < 2 ^ 31 by omega), hB, ei, nI_clamp (show (c * 7 + l) * 7 + b l < 2 ^ 31 by omega)]
      refine And.intro (vp_in_nI (by omega) (by omega)) (nm_e (And.intro hv (nm_e (nm_r (nI_1 l) ?_))))
      refine K _ _ ⟨fun l' y hl' hy => ?_, fun l' hl' => ?_, fun j hj => ?_, fun j hj => ?_⟩
      · rcases Nat.lt_or_ge l' l with w | w
        · rw [pk_un (by omega)]; exact p1 l' y w hy
        · rw [show l' = l from by omega]
          rcases Classical.em (y = b l) with q | q
          · rw [q, pk_us, xl_Ts]; rfl
          · rw [pk_un (by omega), xl_Tn q]; exact hz y (by omega)
      · rcases Nat.lt_or_ge l' l with w | w
        · rw [pk_un (by omega)]; exact p2 l' w
        · rw [show l' = l from by omega, pk_us]; rfl
      · rw [pk_un (by omega)]; exact p3 j hj
      · rw [pk_un (by omega)]; exact p4 j hj
    · rw [ei, nI_clamp (show (c * 7 + l) * 7 + x < 2 ^ 31 by omega)]
      refine And.intro (vp_in_nI (by omega) (by omega)) (nm_e (nm_r (nI_1 x) ?_))
      refine xl_25 hn hc hl hbl hB K m (x + 1) a_size _ (by omega) (by omega) ⟨fun l' y hl' hy => ?_, p2, p3, fun j hj => ?_⟩ (fun y hy => ?_)
      · rw [pk_un (by omega)]; exact p1 l' y hl' hy
      · rw [pk_un (by omega)]; exact p4 j hj
      · rcases Nat.lt_or_ge y x with w | w
        · rw [pk_un (by omega)]; exact hz y w
        · rw [show y = x from by omega, pk_us]
theorem xl_7 {post : SX → Prop} (hn : n ≤ 7) (hc : c < 2) (hbB : ch_B n b) (hB : ∀ l, l < n → a_base (c * 7 + l) = nI (b l))
    (K : ∀ a_size a_table, xl_P n c b a_size0 a_table0 n a_size a_table → post (nI n, f_slotCount, f_twistLimit, bq_p gp_1 n, f_moveCount, f_strongCount, f_pinnedLevels, a_state, a_move, a_locked, a_pins, a_base, a_size, a_table, a_stale, a_strong)) :
    ∀ m l a_size a_table, l ≤ n → n - l < m → xl_P n c b a_size0 a_table0 l a_size a_table → wX_clear_7 post (nI c) (nI n) f_slotCount f_twistLimit (bq_p gp_1 n) f_moveCount f_strongCount f_pinnedLevels m (nI l) a_state a_move a_locked a_pins a_base a_size a_table a_stale a_strong
  | 0, _, _, _, _, i2, _ => absurd i2 (Nat.not_lt_zero _)
  | m + 1, l, a_size, a_table, i1, i2, P => by
    refine pk_le n l (fun z => K a_size a_table (by rw [show l = n from by omega] at P; exact P)) (fun z => nm_r (xw_ix1 c l) (Exists.intro (n + 1) ?_))
    exact xl_25 hn hc z (hbB.1 l z) (hB l z) (fun a_size' a_table' P' => xl_7 hn hc hbB hB K m (l + 1) a_size' a_table' (by omega) (by omega) P') (n + 1) 0 a_size a_table (by omega) (by omega) P (fun y hy => absurd hy (Nat.not_lt_zero _))
end
section
variable {n : Nat} {f_slotCount f_twistLimit f_solved f_moveCount f_strongCount f_pinnedLevels : Int32} {a_state a_move a_pins a_base a_size a_table a_stale a_strong : Nat → Int32}
variable {c mc : Nat} {b mv : Nat → Nat} {lk : Nat → Int32}
theorem xl_clear {post : SX → Prop} (hn : n ≤ 7) (hc : c < 2) (hbB : ch_B n b) (hB : ∀ l, l < n → a_base (c * 7 + l) = nI (b l))
    (K : ∀ a_size' a_table', xl_P n c b a_size a_table n a_size' a_table' → post (nI n, f_slotCount, f_twistLimit, bq_p gp_1 n, f_moveCount, nI 0, f_pinnedLevels, a_state, a_move, lk, a_pins, a_base, a_size', a_table', a_stale, a_strong)) : wpX_clear post (nI n, f_slotCount, f_twistLimit, bq_p gp_1 n, f_moveCount, f_strongCount, f_pinnedLevels, a_state, a_move, lk, a_pins, a_base, a_size, a_table, a_stale, a_strong) (nI c) :=
  Exists.intro (n + 1) (xl_7 hn hc hbB hB K (n + 1) 0 a_size a_table (by omega) (by omega) ⟨fun _ _ h => absurd h (Nat.not_lt_zero _), fun _ h => absurd h (Nat.not_lt_zero _), fun _ _ => rfl, fun _ _ => rfl⟩)
theorem xe_rebuild {post : SX → Prop} (h2 : 2 ≤ n) (hn : n ≤ 7) (hc : c < 2) (hmc : mc ≤ 6) (hbB : ch_B n b) (hB : ∀ l, l < n → a_base (c * 7 + l) = nI (b l)) (hmv : ∀ t, t < mc → a_move t = bq_p (li_g n (mv t)) n)
    (K : ∀ T sc a_size' a_table' a_strong', xc_Q n c b T (gp_G (rx_A n mc mv lk)) a_base a_size' a_table' → (∀ j, ¬ (c * 7 ≤ j ∧ j < c * 7 + 7) → a_size' j = a_size j) → (∀ j, ¬ (c * 49 ≤ j ∧ j < c * 49 + 49) → a_table' j = a_table j) →
      post (nI n, f_slotCount, f_twistLimit, bq_p gp_1 n, nI mc, nI sc, f_pinnedLevels, a_state, a_move, lk, a_pins, a_base, a_size', a_table', upd a_stale c 0, a_strong')) :
    wpX_rebuild post (nI n, f_slotCount, f_twistLimit, bq_p gp_1 n, nI mc, f_strongCount, f_pinnedLevels, a_state, a_move, lk, a_pins, a_base, a_size, a_table, a_stale, a_strong) (nI c) := by
  unfold wpX_rebuild
  dsimp only
  refine xl_clear hn hc hbB hB (fun a_size' a_table' P => ?_)
  obtain ⟨p1, p2, p3, p4⟩ := P
  refine Exists.intro (mc + 1) ?_
  refine xe_re7 h2 hn hc hmc hbB hB hmv K (mc + 1) 0 (xl_T b) (fun _ => gp_1) 0 a_size' a_table' a_strong (by omega) (by omega) ⟨⟨fun l x t hl hx e => ?_, fun l hl => xl_Ts⟩, ?_, fun l x t hl hx e => Or.inl (xl_Te e).2.symm, fun i hi => absurd hi (Nat.not_lt_zero _), fun l hl => ?_, p1, fun i hi => absurd hi (Nat.not_lt_zero _)⟩ (fun i hi => absurd hi (Nat.not_lt_zero _)) p3 p4
  · obtain ⟨e1, e2⟩ := xl_Te e
    rw [← e2, e1]
    exact ⟨gp_G1, fun _ _ => rfl, rfl⟩
  · rw [Nat.zero_add]
    exact cs_one (fun l hl => xl_s (hbB.1 l hl))
  · rw [xl_s (hbB.1 l hl)]; exact p2 l hl
end
section
variable {n : Nat} {f_slotCount f_twistLimit f_solved f_moveCount f_strongCount f_pinnedLevels : Int32} {a_state a_move a_locked a_size a_table a_stale a_strong : Nat → Int32}
variable {ps a_base0 : Nat → Int32}
theorem xa_5 {post : Int32 → SX → Prop} {want : Int32} {wt : Nat → Prop} {first : Nat} (hn : n ≤ 7) (h7 : ∀ p, p < n → ps p = 7 → ((0 : Int32) = want ↔ wt p)) (h1 : ∀ p, p < n → ¬ ps p = 7 → ((1 : Int32) = want ↔ wt p)) (room : ∀ p, p < n → wt p → first + cc wt p < 7)
    (K : ∀ a_base, (∀ p, p < n → wt p → a_base (7 + (first + cc wt p)) = nI p) → (∀ j, ¬ (7 + first ≤ j ∧ j < 7 + (first + cc wt n)) → a_base j = a_base0 j) → post (nI (first + cc wt n)) (nI n, f_slotCount, f_twistLimit, f_solved, f_moveCount, f_strongCount, f_pinnedLevels, a_state, a_move, a_locked, ps, a_base, a_size, a_table, a_stale, a_strong)) :
    ∀ m p a_base, p ≤ n → n - p < m → (∀ q, q < p → wt q → a_base (7 + (first + cc wt q)) = nI q) → (∀ j, ¬ (7 + first ≤ j ∧ j < 7 + (first + cc wt p)) → a_base j = a_base0 j) →
      wX_appendToBase_5 post want (nI n) f_slotCount f_twistLimit f_solved f_moveCount f_strongCount f_pinnedLevels m (nI (first + cc wt p)) (nI p) a_state a_move a_locked ps a_base a_size a_table a_stale a_strong
  | 0, _, _, _, i2, _, _ => absurd i2 (Nat.not_lt_zero _)
  | m + 1, p, a_base, i1, i2, hb, hf => by
    refine pk_le n p (fun z => ?_) (fun z => ?_)
    · have e : p = n := by omega
      rw [e] at hb hf ⊢
      exact K a_base hb hf
    · refine And.intro (vp_in_nI (by omega) (by omega)) ?_
      rw [nI_clamp (show p < 2 ^ 31 by omega)]
      have yes : wt p → ∀ zz : Int32, zz = want → wX_appendToBase_31 post (wX_appendToBase_5 post want (nI n) f_slotCount f_twistLimit f_solved f_moveCount f_strongCount f_pinnedLevels m) want (nI (first + cc wt p)) (nI p) zz (nI n) f_slotCount f_twistLimit f_solved f_moveCount f_strongCount f_pinnedLevels a_state a_move a_locked ps a_base a_size a_table a_stale a_strong := fun w zz ez => by
        have r := room p z w
        unfold wX_appendToBase_31
        rw [xw_7, nI_clamp (show 7 + (first + cc wt p) < 2 ^ 31 by omega)]
        refine br_t ez (And.intro (vp_in_nI (by omega) (by omega)) (nm_e (nm_r (nI_1 _) (nm_r (nI_1 p) ?_))))
        have a := xa_5 hn h7 h1 room K m (p + 1) (upd a_base (7 + (first + cc wt p)) (nI p)) (by omega) (by omega) (fun q hq wq => ?_) (fun j hj => ?_)
        · rw [cc_S, cc_bt w, ← Nat.add_assoc] at a
          exact a
        · rcases Nat.lt_or_ge q p with y | y
          · have := cc_str (P := wt) y wq
            rw [pk_un (by omega)]; exact hb q y wq
          · rw [show q = p from by omega, pk_us]
        · rw [cc_S, cc_bt w] at hj
          rw [pk_un (by omega)]
          exact hf j (by omega)
      have no : ¬ wt p → ∀ zz : Int32, ¬ zz = want → wX_appendToBase_31 post (wX_appendToBase_5 post want (nI n) f_slotCount f_twistLimit f_solved f_moveCount f_strongCount f_pinnedLevels m) want (nI (first + cc wt p)) (nI p) zz (nI n) f_slotCount f_twistLimit f_solved f_moveCount f_strongCount f_pinnedLevels a_state a_move a_locked ps a_base a_size a_table a_stale a_strong := fun w zz ez => by
        unfold wX_appendToBase_31
        refine br_f ez (nm_r (nI_1 p) ?_)
        have a := xa_5 hn h7 h1 room K m (p + 1) a_base (by omega) (by omega) (fun q hq wq => ?_) (fun j hj => ?_)
        · rw [cc_S, cc_bf w, Nat.add_zero] at a
          exact a
        · rcases Nat.lt_or_ge q p with y | y
          · exact hb q y wq
          · rw [show q = p from by omega] at wq; exact absurd wq w
        · rw [cc_S, cc_bf w, Nat.add_zero] at hj
          exact hf j hj
      refine br_c (fun e => ?_) (fun e => ?_)
      · rcases Classical.em (wt p) with w | w
        · exact yes w 0 ((h7 p z e).mpr w)
        · exact no w 0 (fun q => w ((h7 p z e).mp q))
      · rcases Classical.em (wt p) with w | w
        · exact yes w 1 ((h1 p z e).mpr w)
        · exact no w 1 (fun q => w ((h1 p z e).mp q))
end
section
variable {n : Nat} {f_slotCount f_twistLimit f_solved f_moveCount f_strongCount f_pinnedLevels : Int32} {a_state a_move a_locked a_base a_size a_table a_stale a_strong : Nat → Int32}
variable {ps : Nat → Int32}
theorem xa_app {post : Int32 → SX → Prop} {want : Int32} {wt : Nat → Prop} {first : Nat} (hn : n ≤ 7) (h7 : ∀ p, p < n → ps p = 7 → ((0 : Int32) = want ↔ wt p)) (h1 : ∀ p, p < n → ¬ ps p = 7 → ((1 : Int32) = want ↔ wt p)) (room : ∀ p, p < n → wt p → first + cc wt p < 7)
    (K : ∀ a_base', (∀ p, p < n → wt p → a_base' (7 + (first + cc wt p)) = nI p) → (∀ j, ¬ (7 + first ≤ j ∧ j < 7 + (first + cc wt n)) → a_base' j = a_base j) → post (nI (first + cc wt n)) (nI n, f_slotCount, f_twistLimit, f_solved, f_moveCount, f_strongCount, f_pinnedLevels, a_state, a_move, a_locked, ps, a_base', a_size, a_table, a_stale, a_strong)) :
    wpX_appendToBase post (nI n, f_slotCount, f_twistLimit, f_solved, f_moveCount, f_strongCount, f_pinnedLevels, a_state, a_move, a_locked, ps, a_base, a_size, a_table, a_stale, a_strong) (nI first) want :=
  Exists.intro (n + 1) (xa_5 hn h7 h1 room K (n + 1) 0 a_base (by omega) (by omega) (fun _ h => absurd h (Nat.not_lt_zero _)) (fun _ _ => rfl))
end
theorem xc_fr {n c : Nat} {b : Nat → Nat} {T : Nat → Nat → Option (Nat → Nat)} {G : (Nat → Nat) → Prop} {a_base a_size a_table a_base' a_size' a_table' : Nat → Int32} (hn : n ≤ 7) (Q : xc_Q n c b T G a_base a_size a_table)
    (h1 : ∀ j, c * 7 ≤ j → j < c * 7 + 7 → a_base' j = a_base j) (h2 : ∀ j, c * 7 ≤ j → j < c * 7 + 7 → a_size' j = a_size j) (h3 : ∀ j, c * 49 ≤ j → j < c * 49 + 49 → a_table' j = a_table j) : xc_Q n c b T G a_base' a_size' a_table' := by
  obtain ⟨q1, q2, q3, q4, q5⟩ := Q
  refine ⟨q1, q2, fun l hl => ?_, fun l hl => ?_, fun l x hl hx => ?_⟩
  · rw [h1 _ (by omega) (by omega)]; exact q3 l hl
  · rw [h2 _ (by omega) (by omega)]; exact q4 l hl
  · rw [h3 _ (by omega) (by omega)]; exact q5 l x hl hx
/-- what is known of the chains between calls -/
def rx_C0 (n : Nat) (G : (Nat → Nat) → Prop) (a_base a_size a_table a_stale : Nat → Int32) : Prop := a_stale 0 = 0 → ∃ T, xc_Q n 0 gp_1 T G a_base a_size a_table
def rx_C1 (n : Nat) (G : (Nat → Nat) → Prop) (ps : Nat → Int32) (f_pinnedLevels : Int32) (a_base a_size a_table a_stale : Nat → Int32) : Prop := a_stale 1 = 0 → ∃ pl b T, f_pinnedLevels = nI pl ∧ xb_S n ps pl b ∧ xc_Q n 1 b T G a_base a_size a_table
section
variable {n : Nat} {f_slotCount f_twistLimit f_moveCount f_strongCount f_pinnedLevels : Int32} {a_state a_move a_base a_size a_table a_stale a_strong : Nat → Int32}
variable {mc : Nat} {mv : Nat → Nat} {lk ps : Nat → Int32}
theorem rx_useP {post : SX → Prop} (h2 : 2 ≤ n) (hn : n ≤ 7) (hmc : mc ≤ 6) (hmv : ∀ t, t < mc → a_move t = bq_p (li_g n (mv t)) n)
    (C0 : rx_C0 n (gp_G (rx_A n mc mv lk)) a_base a_size a_table a_stale) (C1 : rx_C1 n (gp_G (rx_A n mc mv lk)) ps f_pinnedLevels a_base a_size a_table a_stale)
    (k : ∀ f_strongCount' pl b T a_base' a_size' a_table' a_stale' a_strong', xb_S n ps pl b → xc_Q n 1 b T (gp_G (rx_A n mc mv lk)) a_base' a_size' a_table' → rx_C0 n (gp_G (rx_A n mc mv lk)) a_base' a_size' a_table' a_stale' →
      post (nI n, f_slotCount, f_twistLimit, bq_p gp_1 n, nI mc, f_strongCount', nI pl, a_state, a_move, lk, ps, a_base', a_size', a_table', a_stale', a_strong')) :
    wpX_usePinnedChain post (nI n, f_slotCount, f_twistLimit, bq_p gp_1 n, nI mc, f_strongCount, f_pinnedLevels, a_state, a_move, lk, ps, a_base, a_size, a_table, a_stale, a_strong) := by
  unfold wpX_usePinnedChain
  dsimp only
  refine br_c (fun e => ?_) (fun e => ?_)
  · obtain ⟨pl, b, T, e1, S, Q⟩ := C1 e
    rw [e1]
    exact k f_strongCount pl b T a_base a_size a_table a_stale a_strong S Q C0
  · refine xa_app (first := 0) (want := 1) (wt := xb_p ps) hn (fun p _ h => ⟨fun z => absurd z (by decide), fun z => absurd h z⟩) (fun p _ h => ⟨fun _ => h, fun _ => rfl⟩) (fun p hp _ => by have := cc_le (xb_p ps) p; omega) (fun a_base1 hb1 hf1 => ?_)
    dsimp only
    have hs := cc_not (xb_f ps) n
    have hs2 : cc (fun k => ¬ xb_f ps k) n = cc (xb_p ps) n := rfl
    refine xa_app (first := 0 + cc (xb_p ps) n) (want := 0) (wt := xb_f ps) hn (fun p _ h => ⟨fun _ => h, fun _ => rfl⟩) (fun p _ h => ⟨fun z => absurd z (by decide), fun z => absurd z h⟩) (fun p hp w => by have := cc_str (P := xb_f ps) hp w; omega) (fun a_base2 hb2 hf2 => ?_)
    dsimp only
    have S : xb_S n ps (cc (xb_p ps) n) (fun l => (a_base2 (7 + l)).toNatClampNeg) := by
      refine ⟨rfl, fun p hp w => ?_, fun p hp w => ?_⟩
      · dsimp only
        have a := hb1 p hp w
        have c := cc_str (P := xb_p ps) hp w
        rw [Nat.zero_add] at a
        rw [hf2 _ (by omega), a, nI_clamp (by omega)]
      · dsimp only
        have a := hb2 p hp w
        rw [Nat.zero_add] at a
        rw [a, nI_clamp (by omega)]
    have hB : ∀ l, l < n → a_base2 (1 * 7 + l) = nI ((fun l => (a_base2 (7 + l)).toNatClampNeg) l) := by
      intro l hl
      show a_base2 (7 + l) = nI (a_base2 (7 + l)).toNatClampNeg
      rcases xb_lv S hl with ⟨y0, p, y1, y2, y3, y4⟩ | ⟨y0, p, y1, y2, y3, y4⟩
      · have a := hb1 p y1 y2
        rw [Nat.zero_add, y3] at a
        rw [hf2 _ (by omega), a, nI_clamp (by omega)]
      · have a := hb2 p y1 y2
        rw [Nat.zero_add, y3] at a
        rw [a, nI_clamp (by omega)]
    refine xe_rebuild (c := 1) h2 hn (by omega) hmc (xb_B S) hB hmv (fun T sc a_size' a_table' a_strong' Q f1 f2 => ?_)
    rw [Nat.zero_add]
    refine k (nI sc) (cc (xb_p ps) n) _ T a_base2 a_size' a_table' (upd a_stale 1 0) a_strong' S Q (fun e0 => ?_)
    rw [pk_un (by omega)] at e0
    obtain ⟨T0, Q0⟩ := C0 e0
    exact ⟨T0, xc_fr hn Q0 (fun j _ h => by rw [hf2 j (by omega), hf1 j (by omega)]) (fun j _ h => f1 j (by omega)) (fun j _ h => f2 j (by omega))⟩
theorem rx_nat11 {post : SX → Prop} {a_base0 : Nat → Int32} (h2 : 2 ≤ n) (hn : n ≤ 7) (hmc : mc ≤ 6) (hmv : ∀ t, t < mc → a_move t = bq_p (li_g n (mv t)) n)
    (C1 : rx_C1 n (gp_G (rx_A n mc mv lk)) ps f_pinnedLevels a_base0 a_size a_table a_stale)
    (k : ∀ f_strongCount' T a_base' a_size' a_table' a_stale' a_strong', xc_Q n 0 gp_1 T (gp_G (rx_A n mc mv lk)) a_base' a_size' a_table' → rx_C1 n (gp_G (rx_A n mc mv lk)) ps f_pinnedLevels a_base' a_size' a_table' a_stale' →
      post (nI n, f_slotCount, f_twistLimit, bq_p gp_1 n, nI mc, f_strongCount', f_pinnedLevels, a_state, a_move, lk, ps, a_base', a_size', a_table', a_stale', a_strong')) :
    ∀ m p a_base, p ≤ n → n - p < m → (∀ q, q < p → a_base q = nI q) → (∀ j, 7 ≤ j → a_base j = a_base0 j) → wX_useNaturalChain_11 post (nI n) f_slotCount f_twistLimit (bq_p gp_1 n) (nI mc) f_strongCount f_pinnedLevels m (nI p) a_state a_move lk ps a_base a_size a_table a_stale a_strong
  | 0, _, _, _, i2, _, _ => absurd i2 (Nat.not_lt_zero _)
  | m + 1, p, a_base, i1, i2, hb, hf => by
    refine pk_le n p (fun z => ?_) (fun z => ?_)
    · have hB : ∀ l, l < n → a_base (0 * 7 + l) = nI (gp_1 l) := fun l hl => by
        rw [Nat.zero_mul, Nat.zero_add]; exact hb l (by omega)
      refine xe_rebuild (c := 0) h2 hn (by omega) hmc ⟨fun l hl => hl, fun i j _ _ e => e⟩ hB hmv (fun T sc a_size' a_table' a_strong' Q f1 f2 => ?_)
      refine k (nI sc) T a_base a_size' a_table' (upd a_stale 0 0) a_strong' Q (fun e1 => ?_)
      rw [pk_un (by omega)] at e1
      obtain ⟨pl, b, T1, y1, y2, Q1⟩ := C1 e1
      exact ⟨pl, b, T1, y1, y2, xc_fr hn Q1 (fun j h _ => hf j (by omega)) (fun j h _ => f1 j (by omega)) (fun j h _ => f2 j (by omega))⟩
    · refine And.intro (vp_in_nI (by omega) (by omega)) ?_
      rw [nI_clamp (show p < 2 ^ 31 by omega)]
      refine nm_e (nm_r (nI_1 p) ?_)
      refine rx_nat11 h2 hn hmc hmv C1 k m (p + 1) _ (by omega) (by omega) (fun q hq => ?_) (fun j hj => ?_)
      · rcases Nat.lt_or_ge q p with y | y
        · rw [pk_un (by omega)]; exact hb q y
        · rw [show q = p from by omega, pk_us]
      · rw [pk_un (by omega)]; exact hf j hj
theorem rx_useN {post : SX → Prop} (h2 : 2 ≤ n) (hn : n ≤ 7) (hmc : mc ≤ 6) (hmv : ∀ t, t < mc → a_move t = bq_p (li_g n (mv t)) n)
    (C0 : rx_C0 n (gp_G (rx_A n mc mv lk)) a_base a_size a_table a_stale) (C1 : rx_C1 n (gp_G (rx_A n mc mv lk)) ps f_pinnedLevels a_base a_size a_table a_stale)
    (k : ∀ f_strongCount' T a_base' a_size' a_table' a_stale' a_strong', xc_Q n 0 gp_1 T (gp_G (rx_A n mc mv lk)) a_base' a_size' a_table' → rx_C1 n (gp_G (rx_A n mc mv lk)) ps f_pinnedLevels a_base' a_size' a_table' a_stale' →
      post (nI n, f_slotCount, f_twistLimit, bq_p gp_1 n, nI mc, f_strongCount', f_pinnedLevels, a_state, a_move, lk, ps, a_base', a_size', a_table', a_stale', a_strong')) :
    wpX_useNaturalChain post (nI n, f_slotCount, f_twistLimit, bq_p gp_1 n, nI mc, f_strongCount, f_pinnedLevels, a_state, a_move, lk, ps, a_base, a_size, a_table, a_stale, a_strong) := by
  unfold wpX_useNaturalChain
  dsimp only
  refine br_c (fun e => ?_) (fun e => Exists.intro (n + 1) (rx_nat11 h2 hn hmc hmv C1 k (n + 1) 0 a_base (by omega) (by omega) (fun _ h => absurd h (Nat.not_lt_zero _)) (fun _ _ => rfl)))
  obtain ⟨T, Q⟩ := C0 e
  exact k f_strongCount T a_base a_size a_table a_stale a_strong Q C1
end
end
section
/-! the reference: find, product, agree -/
theorem li_f7 : ∀ n, n ≤ 7 → li_f n ≤ 5040 := by decide
def ry_T (n : Nat) (a_code a_digit : Nat → Int32) : Prop := (∀ m, m < li_f n → a_code m = nI (li_c (li_g n m) n)) ∧ (∀ m p, m < li_f n → p < n → a_digit (7 * m + p) = nI (li_g n m p))
theorem yf_cb {n : Nat} {g : Nat → Nat} (hn : n ≤ 7) (hg : gp_P n g) : li_c g n < 10000000 := by
  have a := li_c_lt (g := g) (k := n) (fun i hi => by have := gp_lt hg hi; omega)
  have b : 10 ^ n ≤ 10 ^ 7 := Nat.pow_le_pow_right (by omega) hn
  omega
theorem yf_ix (m p : Nat) : (7 : Int32) * nI m + nI p = nI (7 * m + p) := by
  show nI 7 * nI m + nI p = _
  rw [pk_mul, nI_add]
def yf_J : Nat → Nat
  | 0 => 0
  | e + 1 => 2 ^ e
theorem yf_J2 (e : Nat) : yf_J (e + 1) / 2 = yf_J e := by
  cases e with
  | zero => rfl
  | succ e =>
    show 2 ^ (e + 1) / 2 = 2 ^ e
    rw [Nat.pow_succ]; omega
section
variable {n : Nat} {f_slots f_twists f_admitted f_marked : Int32} {a_code a_digit a_move a_reached a_queue a_held a_pins a_twist a_locked : Nat → Int32}
theorem yf_6 {post : Int32 → Prop} {x : Int32} (hn : n ≤ 7) (ht : ry_T n a_code a_digit) (k0 : (∀ j, j < li_f n → ¬ nI (li_c (li_g n j) n) = x) → post (-1)) (k1 : ∀ j, j < li_f n → nI (li_c (li_g n j) n) = x → post (nI j)) :
    ∀ e m a, e ≤ 13 → e < m → a < li_f n → (a = 0 ∨ nI (li_c (li_g n a) n) ≤ x) → (∀ j, j < li_f n → a + 2 ^ e ≤ j → x < nI (li_c (li_g n j) n)) → wY_find_6 post x (nI n) f_slots f_twists (nI (li_f n)) f_admitted f_marked a_code a_digit a_move a_reached a_queue a_held a_pins a_twist a_locked 35280 m (nI a) (nI (yf_J e))
  | _, 0, _, _, h2, _, _, _ => absurd h2 (Nat.not_lt_zero _)
  | 0, m + 1, a, h1, h2, h3, h4, h5 => by
    have hs := li_f7 n hn
    have lt : ∀ i j, i < j → j < li_f n → nI (li_c (li_g n i) n) < nI (li_c (li_g n j) n) := fun i j hij hj =>
      nI_lt (li_lt (by omega) hij hj) (by have := yf_cb hn (li_gP n j); omega)
    refine br_t (by decide) (And.intro (vp_in_nI (by omega) (by omega)) ?_)
    rw [nI_clamp (by omega), ht.1 a h3]
    refine br_c (fun q => k1 a h3 q) (fun q => k0 (fun j hj e => ?_))
    rcases Nat.lt_trichotomy j a with z | z | z
    · have q1 := lt j a z h3
      have q2 := h4.resolve_left (by omega)
      rw [e] at q1
      exact absurd q2 (Int32.not_le.mpr q1)
    · rw [z] at e; exact q e
    · have q1 := h5 j hj (by omega)
      rw [e] at q1
      exact absurd q1 Int32.lt_irrefl
  | e + 1, m + 1, a, h1, h2, h3, h4, h5 => by
    have hs := li_f7 n hn
    have hp : 2 ^ e ≤ 2 ^ 12 := Nat.pow_le_pow_right (by omega) (by omega)
    have hp0 : 0 < 2 ^ e := Nat.pow_pos (by omega)
    have lt : ∀ i j, i < j → j < li_f n → nI (li_c (li_g n i) n) < nI (li_c (li_g n j) n) := fun i j hij hj =>
      nI_lt (li_lt (by omega) hij hj) (by have := yf_cb hn (li_gP n j); omega)
    have hd : nI (yf_J (e + 1)) / 2 = nI (yf_J e) := by
      rw [← yf_J2 e]
      exact pk_div (d := 2) (show 2 ^ e < 2 ^ 31 by omega) (by omega) (by omega)
    have ea : nI a + nI (yf_J (e + 1)) = nI (a + 2 ^ e) := nI_add a (2 ^ e)
    refine br_f (nI_nle (show 0 < 2 ^ e from hp0) (show 2 ^ e < 2 ^ 31 by omega)) ?_
    rw [ea]
    refine pk_le (li_f n) (a + 2 ^ e) (fun z => And.intro (by decide) (nm_r hd ?_)) (fun z => And.intro (vp_in_nI (by omega) (by omega)) ?_)
    · exact yf_6 hn ht k0 k1 e m a (by omega) (by omega) h3 h4 (fun j hj hj2 => by omega)
    · rw [nI_clamp (by omega), ht.1 _ z]
      refine br_c (fun q => And.intro (by decide) (nm_r hd ?_)) (fun q => nm_e (And.intro (by decide) (nm_r hd ?_)))
      · refine yf_6 hn ht k0 k1 e m a (by omega) (by omega) h3 h4 (fun j hj hj2 => ?_)
        rcases Nat.lt_or_ge (a + 2 ^ e) j with w | w
        · exact Int32.lt_trans q (lt _ _ w hj)
        · rw [show j = a + 2 ^ e from by omega]; exact q
      · refine yf_6 hn ht k0 k1 e m (a + 2 ^ e) (by omega) (by omega) z (Or.inr (Int32.not_lt.mp q)) (fun j hj hj2 => h5 j hj ?_)
        rw [Nat.pow_succ]; omega
theorem yf_find {post : Int32 → Prop} {x : Int32} (hn : n ≤ 7) (ht : ry_T n a_code a_digit) (k0 : (∀ j, j < li_f n → ¬ nI (li_c (li_g n j) n) = x) → post (-1)) (k1 : ∀ j, j < li_f n → nI (li_c (li_g n j) n) = x → post (nI j)) :
    wpY_find post (nI n, f_slots, f_twists, nI (li_f n), f_admitted, f_marked, a_code, a_digit, a_move, a_reached, a_queue, a_held, a_pins, a_twist, a_locked, 35280) x := Exists.intro 14 (yf_6 hn ht k0 k1 13 14 0 (by omega) (by omega) (li_f_pos n) (Or.inl rfl) (fun j hj h => by have := li_f7 n hn; omega))
theorem yf_findP {post : Int32 → Prop} {g : Nat → Nat} (hn : n ≤ 7) (ht : ry_T n a_code a_digit) (hg : gp_P n g) (k : ∀ w, w < li_f n → li_g n w = g → post (nI w)) : wpY_find post (nI n, f_slots, f_twists, nI (li_f n), f_admitted, f_marked, a_code, a_digit, a_move, a_reached, a_queue, a_held, a_pins, a_twist, a_locked, 35280) (nI (li_c g n)) := by
  obtain ⟨w, hw, e⟩ := li_pos hg
  refine yf_find hn ht (fun h => absurd (by rw [e]) (h w hw)) (fun j hj ej => ?_)
  rw [nI_eq (by have := yf_cb hn (li_gP n j); omega) (by have := yf_cb hn hg; omega), ← e] at ej
  have : j = w := by
    rcases Nat.lt_trichotomy j w with z | z | z
    · have := li_lt (n := n) (by omega) z hw; omega
    · exact z
    · have := li_lt (n := n) (by omega) z hj; omega
  rw [this]
  exact k w hw e
theorem yf_prod5 {post : Int32 → Prop} {x y : Nat} (hn : n ≤ 7) (ht : ry_T n a_code a_digit) (hx : x < li_f n) (hy : y < li_f n) (k : ∀ w, w < li_f n → li_g n w = gp_c (li_g n x) (li_g n y) → post (nI w)) :
    ∀ m p, p ≤ n → n - p < m → wY_product_5 post (nI x) (nI y) (nI n) f_slots f_twists (nI (li_f n)) f_admitted f_marked a_code a_digit a_move a_reached a_queue a_held a_pins a_twist a_locked 35280 m (nI (li_c (gp_c (li_g n x) (li_g n y)) p)) (nI p)
  | 0, _, _, h2 => absurd h2 (Nat.not_lt_zero _)
  | m + 1, p, h1, h2 => by
    have hs := li_f7 n hn
    refine pk_le n p (fun z => ?_) (fun z => ?_)
    · rw [show p = n from by omega]
      exact yf_findP hn ht (gp_Pc (li_gP n x) (li_gP n y)) k
    · have q := gp_lt (li_gP n y) z
      rw [yf_ix y p, nI_clamp (show 7 * y + p < 2 ^ 31 by omega), ht.2 y p hy z, yf_ix x (li_g n y p), nI_clamp (show 7 * x + li_g n y p < 2 ^ 31 by omega), ht.2 x _ hx q]
      refine And.intro (vp_in_nI (by omega) (by omega)) (And.intro (vp_in_nI (by omega) (by omega)) (nm_r (xw_c10 _ _) (nm_r (nI_1 p) ?_)))
      exact yf_prod5 hn ht hx hy k m (p + 1) (by omega) (by omega)
theorem yf_product {post : Int32 → Prop} {x y : Nat} (hn : n ≤ 7) (ht : ry_T n a_code a_digit) (hx : x < li_f n) (hy : y < li_f n) (k : ∀ w, w < li_f n → li_g n w = gp_c (li_g n x) (li_g n y) → post (nI w)) :
    wpY_product post (nI n, f_slots, f_twists, nI (li_f n), f_admitted, f_marked, a_code, a_digit, a_move, a_reached, a_queue, a_held, a_pins, a_twist, a_locked, 35280) (nI x) (nI y) := Exists.intro (n + 1) (yf_prod5 hn ht hx hy k (n + 1) 0 (by omega) (by omega))
theorem yf_agr2 {post : Int32 → Prop} {x y : Nat} (hn : n ≤ 7) (ht : ry_T n a_code a_digit) (hx : x < li_f n) (hy : y < li_f n) (k : ∀ d, d ≤ n → (∀ i, i < d → li_g n x i = li_g n y i) → (d < n → li_g n x d ≠ li_g n y d) → post (nI d)) :
    ∀ m p, p ≤ n → n - p < m → (∀ i, i < p → li_g n x i = li_g n y i) → wY_agree_2 post (nI x) (nI y) (nI n) f_slots f_twists (nI (li_f n)) f_admitted f_marked a_code a_digit a_move a_reached a_queue a_held a_pins a_twist a_locked 35280 m (nI p)
  | 0, _, _, h2, _ => absurd h2 (Nat.not_lt_zero _)
  | m + 1, p, h1, h2, ha => by
    have hs := li_f7 n hn
    refine pk_le n p (fun z => k p h1 ha (fun w => by omega)) (fun z => ?_)
    have q1 := gp_lt (li_gP n x) z
    have q2 := gp_lt (li_gP n y) z
    rw [yf_ix x p, yf_ix y p, nI_clamp (show 7 * x + p < 2 ^ 31 by omega), nI_clamp (show 7 * y + p < 2 ^ 31 by omega), ht.2 x p hx z, ht.2 y p hy z]
    refine And.intro (vp_in_nI (by omega) (by omega)) (And.intro (vp_in_nI (by omega) (by omega)) (pk_eq (li_g n x p) (li_g n y p) (fun e => nm_r (nI_1 p) ?_) (fun e => k p h1 ha (fun _ => e))))
    refine yf_agr2 hn ht hx hy k m (p + 1) (by omega) (by omega) (fun i hi => ?_)
    rcases Nat.lt_or_ge i p with w | w
    · exact ha i w
    · rw [show i = p from by omega]; exact e
theorem yf_agree {post : Int32 → Prop} {x y : Nat} (hn : n ≤ 7) (ht : ry_T n a_code a_digit) (hx : x < li_f n) (hy : y < li_f n) (k : ∀ d, d ≤ n → (∀ i, i < d → li_g n x i = li_g n y i) → (d < n → li_g n x d ≠ li_g n y d) → post (nI d)) :
    wpY_agree post (nI n, f_slots, f_twists, nI (li_f n), f_admitted, f_marked, a_code, a_digit, a_move, a_reached, a_queue, a_held, a_pins, a_twist, a_locked, 35280) (nI x) (nI y) := Exists.intro (n + 1) (yf_agr2 hn ht hx hy k (n + 1) 0 (by omega) (by omega) (fun _ h => absurd h (Nat.not_lt_zero _)))
theorem yw_slot1 {post : Int32 → Prop} {sl j : Nat} (hs : sl ≤ 8) (hj : j < sl) (h : post 0) : wpY_badSlot post (nI n, nI sl, f_twists, nI (li_f n), f_admitted, f_marked, a_code, a_digit, a_move, a_reached, a_queue, a_held, a_pins, a_twist, a_locked, 35280) (nI j) := by
  unfold wpY_badSlot
  dsimp only
  exact br_f (nI_pos (by omega)) (pk_lt j sl (fun _ => h) (fun z => absurd z (by omega)))
theorem yw_slot0 {post : Int32 → Prop} {sl : Nat} {v : Int32} (hv : v < 0 ∨ nI sl ≤ v) (h : post 1) : wpY_badSlot post (nI n, nI sl, f_twists, nI (li_f n), f_admitted, f_marked, a_code, a_digit, a_move, a_reached, a_queue, a_held, a_pins, a_twist, a_locked, 35280) v := by
  unfold wpY_badSlot
  dsimp only
  exact br_c (fun _ => h) (fun z => br_f (Int32.not_lt.mpr (hv.resolve_left z)) h)
theorem yw_plc1 {post : Int32 → Prop} {j : Nat} (hn : n ≤ 7) (hj : j < n) (h : post 0) : wpY_badPlace post (nI n, f_slots, f_twists, nI (li_f n), f_admitted, f_marked, a_code, a_digit, a_move, a_reached, a_queue, a_held, a_pins, a_twist, a_locked, 35280) (nI j) := by
  unfold wpY_badPlace
  dsimp only
  exact br_f (nI_pos (by omega)) (pk_lt j n (fun _ => h) (fun z => absurd z (by omega)))
theorem yw_plc0 {post : Int32 → Prop} {v : Int32} (hv : v < 0 ∨ nI n ≤ v) (h : post 1) : wpY_badPlace post (nI n, f_slots, f_twists, nI (li_f n), f_admitted, f_marked, a_code, a_digit, a_move, a_reached, a_queue, a_held, a_pins, a_twist, a_locked, 35280) v := by
  unfold wpY_badPlace
  dsimp only
  exact br_c (fun _ => h) (fun z => br_f (Int32.not_lt.mpr (hv.resolve_left z)) h)
theorem yw_tw1 {post : Int32 → Prop} {mc j : Nat} (hs : mc ≤ 6) (hj : j < mc) (h : post 0) : wpY_badTwist post (nI n, f_slots, f_twists, nI (li_f n), nI mc, f_marked, a_code, a_digit, a_move, a_reached, a_queue, a_held, a_pins, a_twist, a_locked, 35280) (nI j) := by
  unfold wpY_badTwist
  dsimp only
  exact br_f (nI_pos (by omega)) (pk_lt j mc (fun _ => h) (fun z => absurd z (by omega)))
theorem yw_tw0 {post : Int32 → Prop} {mc : Nat} {v : Int32} (hv : v < 0 ∨ nI mc ≤ v) (h : post 1) : wpY_badTwist post (nI n, f_slots, f_twists, nI (li_f n), nI mc, f_marked, a_code, a_digit, a_move, a_reached, a_queue, a_held, a_pins, a_twist, a_locked, 35280) v := by
  unfold wpY_badTwist
  dsimp only
  exact br_c (fun _ => h) (fun z => br_f (Int32.not_lt.mpr (hv.resolve_left z)) h)
end
end
section
/-! the reference: match, below, mark -/
theorem yk_n0 : narrow .boolean (.int (0 : Int32)) = .int 0 := rfl
theorem yk_n1 : narrow .boolean (.int (1 : Int32)) = .int 1 := rfl
def yk_ok (n : Nat) (G : (Nat → Nat) → Prop) (a_reached : Nat → Int32) : Prop := ∀ m, m < li_f n → (a_reached m = 0 ∧ ¬ G (li_g n m)) ∨ (a_reached m = 1 ∧ G (li_g n m))
/-- position w is a match -/
def yk_M (n : Nat) (G : (Nat → Nat) → Prop) (ps : Nat → Int32) (w : Nat) : Prop := G (li_g n w) ∧ xb_M n ps (li_g n w)
section
variable {n : Nat} {f_slots f_twists f_admitted f_marked : Int32} {a_code a_digit a_move a_reached a_queue a_held a_twist a_locked : Nat → Int32}
variable {ps : Nat → Int32} {G : (Nat → Nat) → Prop}
theorem yk_m90 {post : Int32 → Prop} {w : Nat} {p : Int32} (k : post 0) (m : Nat) : wY_match_9 post (nI w) (nI n) f_slots f_twists (nI (li_f n)) f_admitted f_marked a_code a_digit a_move a_reached a_queue a_held ps a_twist a_locked 35280 (m + 1) 0 p := br_t rfl (And.intro yk_n0 k)
theorem yk_m9 {post : Int32 → Prop} {w : Nat} (hn : n ≤ 7) (ht : ry_T n a_code a_digit) (hw : w < li_f n) (k0 : ¬ xb_M n ps (li_g n w) → post 0) (k1 : xb_M n ps (li_g n w) → post 1) :
    ∀ m p, p ≤ n → n - p + 1 < m → (∀ q, q < p → ps q = 7 ∨ ps q = nI (li_g n w q)) → wY_match_9 post (nI w) (nI n) f_slots f_twists (nI (li_f n)) f_admitted f_marked a_code a_digit a_move a_reached a_queue a_held ps a_twist a_locked 35280 m 1 (nI p)
  | 0, _, _, h2, _ => absurd h2 (Nat.not_lt_zero _)
  | m + 1, p, h1, h2, ha => by
    have hs := li_f7 n hn
    refine br_f (by decide) (pk_le n p (fun z => And.intro yk_n1 (k1 (fun q hq => ha q (by omega)))) (fun z => ?_))
    have hi : vp_in (nI p) 7 := vp_in_nI (by omega) (by omega)
    rw [yf_ix w p, nI_clamp (show p < 2 ^ 31 by omega), nI_clamp (show 7 * w + p < 2 ^ 31 by omega), ht.2 w p hw z]
    refine And.intro hi (br_c (fun e => nm_r (nI_1 p) ?_) (fun e => And.intro hi (And.intro (vp_in_nI (by omega) (by omega)) (br_c (fun e2 => nm_r (nI_1 p) ?_) (fun e2 => nm_r (nI_1 p) ?_)))))
    · refine yk_m9 hn ht hw k0 k1 m (p + 1) (by omega) (by omega) (fun q hq => ?_)
      rcases Nat.lt_or_ge q p with y | y
      · exact ha q y
      · rw [show q = p from by omega]; exact Or.inl e
    · refine yk_m9 hn ht hw k0 k1 m (p + 1) (by omega) (by omega) (fun q hq => ?_)
      rcases Nat.lt_or_ge q p with y | y
      · exact ha q y
      · rw [show q = p from by omega]; exact Or.inr e2
    · cases m with
      | zero => omega
      | succ m => exact yk_m90 (k0 (fun M => (M p z).elim e e2)) m
theorem yk_match {post : Int32 → Prop} {w : Nat} (hn : n ≤ 7) (ht : ry_T n a_code a_digit) (hr : yk_ok n G a_reached) (hw : w < li_f n) (k0 : ¬ yk_M n G ps w → post 0) (k1 : yk_M n G ps w → post 1) : wpY_match post (nI n, f_slots, f_twists, nI (li_f n), f_admitted, f_marked, a_code, a_digit, a_move, a_reached, a_queue, a_held, ps, a_twist, a_locked, 35280) (nI w) := by
  have hs := li_f7 n hn
  unfold wpY_match
  dsimp only
  refine And.intro (vp_in_nI (by omega) (by omega)) ?_
  rw [nI_clamp (by omega)]
  rcases hr w hw with ⟨e, g⟩ | ⟨e, g⟩
  · rw [e]
    exact nm_e (Exists.intro 1 (yk_m90 (k0 (fun z => g z.1)) 0))
  · rw [e]
    exact nm_e (Exists.intro (n + 2) (yk_m9 hn ht hw (fun z => k0 (fun q => z q.2)) (fun z => k1 ⟨g, z⟩) (n + 2) 0 (by omega) (by omega) (fun _ h => absurd h (Nat.not_lt_zero _))))
theorem yk_bel4 {post : Int32 → Prop} {x : Nat} (hn : n ≤ 7) (ht : ry_T n a_code a_digit) (hr : yk_ok n G a_reached) (hx : x ≤ li_f n) (k : post (nI (cc (yk_M n G ps) x))) :
    ∀ m j, j ≤ x → x - j < m → wY_below_4 post (nI x) (nI n) f_slots f_twists (nI (li_f n)) f_admitted f_marked a_code a_digit a_move a_reached a_queue a_held ps a_twist a_locked 35280 m (nI (cc (yk_M n G ps) j)) (nI j)
  | 0, _, _, h2 => absurd h2 (Nat.not_lt_zero _)
  | m + 1, j, h1, h2 => by
    have hs := li_f7 n hn
    refine pk_le x j (fun z => by rw [show j = x from by omega]; exact k) (fun z => pk_le (li_f n) j (fun y => absurd y (by omega)) (fun y => ?_))
    refine yk_match hn ht hr y (fun q => br_t rfl (nm_r (nI_1 j) ?_)) (fun q => br_f (by decide) (nm_r (nI_1 _) (nm_r (nI_1 j) ?_)))
    · have a := yk_bel4 hn ht hr hx k m (j + 1) (by omega) (by omega)
      rw [cc_S, cc_bf q, Nat.add_zero] at a
      exact a
    · have a := yk_bel4 hn ht hr hx k m (j + 1) (by omega) (by omega)
      rw [cc_S, cc_bt q] at a
      exact a
theorem yk_below {post : Int32 → Prop} {x : Nat} (hn : n ≤ 7) (ht : ry_T n a_code a_digit) (hr : yk_ok n G a_reached) (hx : x ≤ li_f n) (k : post (nI (cc (yk_M n G ps) x))) : wpY_below post (nI n, f_slots, f_twists, nI (li_f n), f_admitted, f_marked, a_code, a_digit, a_move, a_reached, a_queue, a_held, ps, a_twist, a_locked, 35280) (nI x) :=
  Exists.intro (x + 1) (yk_bel4 hn ht hr hx k (x + 1) 0 (by omega) (by omega))
end
/-! mark -/
def ym_T (n mc : Nat) (mv : Nat → Nat) (a_move : Nat → Int32) : Prop := ∀ t m, t < mc → m < li_f n → ∃ w, w < li_f n ∧ a_move (5040 * t + m) = nI w ∧ li_g n w = gp_c (li_g n m) (li_g n (mv t))
/-- the marking under way: fd states found -/
def ym_I (n : Nat) (G : (Nat → Nat) → Prop) (fd : Nat) (a_reached a_queue : Nat → Int32) : Prop :=
  (∀ m, m < li_f n → a_reached m = 0 ∨ (a_reached m = 1 ∧ G (li_g n m))) ∧ fd = cc (fun m => a_reached m = 1) (li_f n) ∧ (∀ i, i < fd → ∃ m, m < li_f n ∧ a_queue i = nI m ∧ a_reached m = 1) ∧
  (∀ m, m < li_f n → a_reached m = 1 → ∃ i, i < fd ∧ a_queue i = nI m) ∧ a_reached 0 = 1 ∧ a_queue 0 = 0
/-- the first nx of them have all their successors -/
def ym_C (n mc : Nat) (mv : Nat → Nat) (lk : Nat → Int32) (nx tt : Nat) (a_reached a_queue : Nat → Int32) : Prop :=
  ∀ i m t w, i < nx → m < li_f n → a_queue i = nI m → t < tt → t < mc → lk t = 0 → w < li_f n → li_g n w = gp_c (li_g n m) (li_g n (mv t)) → a_reached w = 1
theorem ym_add {n : Nat} {G : (Nat → Nat) → Prop} {fd w : Nat} {a_reached a_queue : Nat → Int32} (hn : n ≤ 7) (I : ym_I n G fd a_reached a_queue) (hw : w < li_f n) (hG : G (li_g n w)) (h0 : a_reached w = 0) :
    fd < li_f n ∧ 0 < fd ∧ ym_I n G (fd + 1) (upd a_reached w 1) (upd a_queue fd (nI w)) := by
  obtain ⟨i1, i2, i3, i4, i5, i6⟩ := I
  have n01 : ¬ (0 : Int32) = 1 := by decide
  have e : cc (fun m => upd a_reached w 1 m = 1) (li_f n) = cc (fun m => a_reached m = 1) (li_f n) + 1 := by
    rw [← cc_add (P := fun m => a_reached m = 1) (a := w) (fun z => n01 (h0 ▸ z)) hw]
    refine cc_eq (fun m _ => ?_)
    rcases Classical.em (m = w) with z | z
    · rw [z, pk_us]; exact ⟨fun _ => Or.inr rfl, fun _ => rfl⟩
    · rw [pk_un z]; exact ⟨Or.inl, fun q => q.elim id (fun y => absurd y z)⟩
  have hle := cc_le (fun m => upd a_reached w 1 m = 1) (li_f n)
  have hpos := cc_pos (P := fun m => a_reached m = 1) i5 (li_f_pos n)
  have w0 : ¬ (0 : Nat) = w := fun z => by rw [← z, i5] at h0; exact absurd h0 (by decide)
  refine ⟨by omega, by omega, fun m hm => ?_, by omega, fun i hi => ?_, fun m hm hr => ?_, ?_, ?_⟩
  · rcases Classical.em (m = w) with z | z
    · rw [z, pk_us]; exact Or.inr ⟨rfl, hG⟩
    · rw [pk_un z]; exact i1 m hm
  · rcases Nat.lt_or_ge i fd with z | z
    · obtain ⟨m, m1, m2, m3⟩ := i3 i z
      refine ⟨m, m1, by rw [pk_un (by omega)]; exact m2, ?_⟩
      rw [pk_un (fun q => by rw [q, h0] at m3; exact n01 m3)]; exact m3
    · rw [show i = fd from by omega]
      exact ⟨w, hw, pk_us, pk_us⟩
  · rcases Classical.em (m = w) with z | z
    · exact ⟨fd, by omega, by rw [z]; exact pk_us⟩
    · rw [pk_un z] at hr
      obtain ⟨i, j1, j2⟩ := i4 m hm hr
      exact ⟨i, by omega, by rw [pk_un (by omega)]; exact j2⟩
  · rw [pk_un w0]; exact i5
  · rw [pk_un (by omega)]; exact i6
theorem ym_fin {n mc : Nat} {mv : Nat → Nat} {lk : Nat → Int32} {fd nx : Nat} {a_reached a_queue : Nat → Int32} (hn : n ≤ 7) (I : ym_I n (gp_G (rx_A n mc mv lk)) fd a_reached a_queue) (C : ym_C n mc mv lk nx mc a_reached a_queue) (h : fd ≤ nx) :
    yk_ok n (gp_G (rx_A n mc mv lk)) a_reached := by
  obtain ⟨i1, i2, i3, i4, i5, i6⟩ := I
  have key : ∀ g, gp_G (rx_A n mc mv lk) g → ∃ m, m < li_f n ∧ li_g n m = g ∧ a_reached m = 1 := by
    intro g hg
    refine hg (fun g => ∃ m, m < li_f n ∧ li_g n m = g ∧ a_reached m = 1) ⟨0, li_f_pos n, li_g0 n, i5⟩ (fun x t hx ht => ?_)
    obtain ⟨m, m1, m2, m3⟩ := hx
    obtain ⟨j, j1, j2, j3⟩ := ht
    obtain ⟨i, q1, q2⟩ := i4 m m1 m3
    obtain ⟨w, w1, w2⟩ := li_pos (gp_Pc (li_gP n m) (li_gP n (mv j)))
    exact ⟨w, w1, by rw [w2, m2, j3], C i m j w (by omega) m1 q2 j1 j1 j2 w1 w2⟩
  intro m hm
  rcases i1 m hm with z | z
  · refine Or.inl ⟨z, fun hg => ?_⟩
    obtain ⟨m', a1, a2, a3⟩ := key _ hg
    rw [li_inj (by omega) a1 hm a2, z] at a3
    exact absurd a3 (by decide)
  · exact Or.inr z
theorem ym_ix (t m : Nat) : (5040 : Int32) * nI t + nI m = nI (5040 * t + m) := by
  show nI 5040 * nI t + nI m = _
  rw [pk_mul, nI_add]
theorem ym_C_mono {n mc : Nat} {mv : Nat → Nat} {lk : Nat → Int32} {nx tt fd w : Nat} {a_reached a_queue : Nat → Int32} (C : ym_C n mc mv lk nx tt a_reached a_queue) (hnx : nx ≤ fd) : ym_C n mc mv lk nx tt (upd a_reached w 1) (upd a_queue fd (nI w)) := by
  intro i m t v h1 h2 h3 h4 h5 h6 h7 h8
  rw [pk_un (by omega)] at h3
  have := C i m t v h1 h2 h3 h4 h5 h6 h7 h8
  rcases Classical.em (v = w) with z | z
  · rw [z, pk_us]
  · rw [pk_un z]; exact this
section
variable {n : Nat} {f_slots f_twists f_marked : Int32} {a_code a_digit a_move a_held a_pins a_twist : Nat → Int32}
variable {mc : Nat} {mv : Nat → Nat} {lk : Nat → Int32}
/-- one successor w of the state nx -/
theorem ym_101 {post : SY → Prop} {J48 J63 : Int32 → Int32 → (Nat → Int32) → (Nat → Int32) → (Nat → Int32) → (Nat → Int32) → (Nat → Int32) → (Nat → Int32) → (Nat → Int32) → (Nat → Int32) → (Nat → Int32) → Prop} {fd t w : Nat} {x2 : Int32} {a_reached a_queue : Nat → Int32} (hn : n ≤ 7)
    (hw : w < li_f n) (hG : gp_G (rx_A n mc mv lk) (li_g n w)) (I : ym_I n (gp_G (rx_A n mc mv lk)) fd a_reached a_queue)
    (K0 : a_reached w = 1 → J63 (nI fd) (nI (t + 1)) a_code a_digit a_move a_reached a_queue a_held a_pins a_twist lk)
    (K1 : ym_I n (gp_G (rx_A n mc mv lk)) (fd + 1) (upd a_reached w 1) (upd a_queue fd (nI w)) → J63 (nI (fd + 1)) (nI (t + 1)) a_code a_digit a_move (upd a_reached w 1) (upd a_queue fd (nI w)) a_held a_pins a_twist lk) :
    wY_mark_101 post J48 J63 (nI fd) x2 (nI t) (nI w) (nI n) f_slots f_twists (nI (li_f n)) (nI mc) f_marked a_code a_digit a_move a_reached a_queue a_held a_pins a_twist lk 35280 := by
  have hs := li_f7 n hn
  have hfd : fd ≤ li_f n := by rw [I.2.1]; exact cc_le _ _
  have full : li_f n ≤ fd → a_reached w = 1 := fun h => cc_full (P := fun m => a_reached m = 1) (N := li_f n) (by rw [← I.2.1]; omega) w hw
  unfold wY_mark_101
  refine br_f (nI_pos (by omega)) (pk_le (li_f n) fd (fun z => nm_r (nI_1 t) (K0 (full z))) (fun z => And.intro (vp_in_nI (by omega) (by omega)) ?_))
  rw [nI_clamp (show w < 2 ^ 31 by omega), nI_clamp (show fd < 2 ^ 31 by omega)]
  refine br_c (fun e => ?_) (fun e => nm_r (nI_1 t) (K0 ?_))
  · obtain ⟨a1, a2, a3⟩ := ym_add hn I hw hG e
    exact And.intro (vp_in_nI (by omega) (by omega)) (nm_e (And.intro (vp_in_nI (by omega) (by omega)) (nm_e (nm_r (nI_1 fd) (nm_r (nI_1 t) (K1 a3))))))
  · exact ((I.1 w hw).resolve_left e).1
theorem ym_63 {post : SY → Prop} {J48 : Int32 → Int32 → (Nat → Int32) → (Nat → Int32) → (Nat → Int32) → (Nat → Int32) → (Nat → Int32) → (Nat → Int32) → (Nat → Int32) → (Nat → Int32) → (Nat → Int32) → Prop} {nx : Nat} (hn : n ≤ 7) (hmc : mc ≤ 6) (hmv : ym_T n mc mv a_move)
    (K : ∀ fd a_reached a_queue, nx < fd → ym_I n (gp_G (rx_A n mc mv lk)) fd a_reached a_queue → ym_C n mc mv lk nx mc a_reached a_queue → ym_C n mc mv lk (nx + 1) mc a_reached a_queue → J48 (nI fd) (nI (nx + 1)) a_code a_digit a_move a_reached a_queue a_held a_pins a_twist lk) :
    ∀ m t fd a_reached a_queue, t ≤ mc → mc - t < m → nx < fd → ym_I n (gp_G (rx_A n mc mv lk)) fd a_reached a_queue → ym_C n mc mv lk nx mc a_reached a_queue → ym_C n mc mv lk (nx + 1) t a_reached a_queue →
      wY_mark_63 post J48 (nI nx) (nI n) f_slots f_twists (nI (li_f n)) (nI mc) f_marked 35280 m (nI fd) (nI t) a_code a_digit a_move a_reached a_queue a_held a_pins a_twist lk
  | 0, _, _, _, _, _, h2, _, _, _, _ => absurd h2 (Nat.not_lt_zero _)
  | m + 1, t, fd, a_reached, a_queue, h1, h2, h3, I, C, Ct => by
    have hs := li_f7 n hn
    have hfd : fd ≤ li_f n := by rw [I.2.1]; exact cc_le _ _
    refine pk_le mc t (fun z => nm_r (nI_1 nx) (K fd a_reached a_queue h3 I C (by rw [show t = mc from by omega] at Ct; exact Ct))) (fun z => ?_)
    have vt : vp_in (nI t) 6 := vp_in_nI (by omega) (by omega)
    obtain ⟨p, p1, p2, p3⟩ := I.2.2.1 nx h3
    obtain ⟨w, w1, w2, w3⟩ := hmv t p z p1
    refine And.intro vt ?_
    rw [nI_clamp (show t < 2 ^ 31 by omega), nI_clamp (show nx < 2 ^ 31 by omega), p2, ym_ix, nI_clamp (show 5040 * t + p < 2 ^ 31 by omega), w2]
    have pG : gp_G (rx_A n mc mv lk) (li_g n p) := ((I.1 p p1).resolve_left (fun q => by rw [q] at p3; exact absurd p3 (by decide))).2
    have inj : ∀ q, q < li_f n → a_queue nx = nI q → q = p := fun q hq e => by
      rw [p2] at e
      exact ((nI_eq (by omega) (by omega)).mp e).symm
    refine br_c (fun e => And.intro (vp_in_nI (by omega) (by omega)) (And.intro (vp_in_nI (by omega) (by omega)) ?_)) (fun e => ?_)
    · have wG : gp_G (rx_A n mc mv lk) (li_g n w) := by rw [w3]; exact gp_Ga pG ⟨t, z, e, rfl⟩
      refine ym_101 hn w1 wG I (fun r => ?_) (fun I' => ?_)
      · refine ym_63 hn hmc hmv K m (t + 1) fd a_reached a_queue (by omega) (by omega) h3 I C (fun i q s v a1 a2 a3 a4 a5 a6 a7 a8 => ?_)
        rcases Nat.lt_or_ge s t with y | y
        · exact Ct i q s v a1 a2 a3 y a5 a6 a7 a8
        · have es : s = t := by omega
          rcases Nat.lt_or_ge i nx with x | x
          · exact C i q s v x a2 a3 a5 a5 a6 a7 a8
          · have ei : i = nx := by omega
            rw [ei] at a3
            rw [es, inj q a2 a3, ← w3] at a8
            rw [li_inj (by omega) a7 w1 a8]; exact r
      · have C' := ym_C_mono (w := w) (fd := fd) C (by omega)
        have Ct' := ym_C_mono (w := w) (fd := fd) Ct (by omega)
        refine ym_63 hn hmc hmv K m (t + 1) (fd + 1) _ _ (by omega) (by omega) (by omega) I' C' (fun i q s v a1 a2 a3 a4 a5 a6 a7 a8 => ?_)
        rcases Nat.lt_or_ge s t with y | y
        · exact Ct' i q s v a1 a2 a3 y a5 a6 a7 a8
        · have es : s = t := by omega
          rcases Nat.lt_or_ge i nx with x | x
          · exact C' i q s v x a2 a3 a5 a5 a6 a7 a8
          · have ei : i = nx := by omega
            rw [ei, pk_un (by omega)] at a3
            rw [es, inj q a2 a3, ← w3] at a8
            rw [li_inj (by omega) a7 w1 a8, pk_us]
    · have ne : ∀ s, s < t + 1 → lk s = 0 → s < t := fun s hs he => by
        rcases Nat.lt_or_ge s t with y | y
        · exact y
        · rw [show s = t from by omega] at he; exact absurd he e
      have nx1 : ym_C n mc mv lk (nx + 1) (t + 1) a_reached a_queue := fun i q s v a1 a2 a3 a4 a5 a6 a7 a8 => Ct i q s v a1 a2 a3 (ne s a4 a6) a5 a6 a7 a8
      refine ym_101 (w := 0) hn (li_f_pos n) (by rw [li_g0]; exact gp_G1) I (fun r => ?_) (fun I' => ?_)
      · exact ym_63 hn hmc hmv K m (t + 1) fd a_reached a_queue (by omega) (by omega) h3 I C nx1
      · exact ym_63 hn hmc hmv K m (t + 1) (fd + 1) _ _ (by omega) (by omega) (by omega) I' (ym_C_mono C (by omega)) (ym_C_mono nx1 (by omega))
theorem ym_48 {post : SY → Prop} (hn : n ≤ 7) (hmc : mc ≤ 6) (hmv : ym_T n mc mv a_move)
    (K : ∀ a_reached a_queue, yk_ok n (gp_G (rx_A n mc mv lk)) a_reached → a_queue 0 = 0 → post (nI n, f_slots, f_twists, nI (li_f n), nI mc, f_marked, a_code, a_digit, a_move, a_reached, a_queue, a_held, a_pins, a_twist, lk, 35280)) :
    ∀ m nx fd a_reached a_queue, nx ≤ fd → li_f n - nx < m → ym_I n (gp_G (rx_A n mc mv lk)) fd a_reached a_queue → ym_C n mc mv lk nx mc a_reached a_queue →
      wY_mark_48 post (nI n) f_slots f_twists (nI (li_f n)) (nI mc) f_marked 35280 m (nI fd) (nI nx) a_code a_digit a_move a_reached a_queue a_held a_pins a_twist lk
  | 0, _, _, _, _, _, h2, _, _ => absurd h2 (Nat.not_lt_zero _)
  | m + 1, nx, fd, a_reached, a_queue, h1, h2, I, C => by
    have hs := li_f7 n hn
    have hfd : fd ≤ li_f n := by rw [I.2.1]; exact cc_le _ _
    refine pk_le fd nx (fun z => K a_reached a_queue (ym_fin hn I C z) I.2.2.2.2.2) (fun z => pk_le (li_f n) nx (fun y => K a_reached a_queue (ym_fin hn I C (by omega)) I.2.2.2.2.2) (fun y => Exists.intro (mc + 1) ?_))
    refine ym_63 hn hmc hmv (fun fd' a_reached' a_queue' q1 I' C' C'' => ?_) (mc + 1) 0 fd a_reached a_queue (by omega) (by omega) z I C (fun i q s v a1 a2 a3 a4 => absurd a4 (Nat.not_lt_zero _))
    exact ym_48 hn hmc hmv K m (nx + 1) fd' a_reached' a_queue' (by omega) (by omega) I' C''
theorem ym_10 {post : SY → Prop} {a_queue : Nat → Int32} (hn : n ≤ 7) (hmc : mc ≤ 6) (hmv : ym_T n mc mv a_move) (hq : a_queue 0 = 0)
    (K : ∀ a_reached a_queue, yk_ok n (gp_G (rx_A n mc mv lk)) a_reached → a_queue 0 = 0 → post (nI n, f_slots, f_twists, nI (li_f n), nI mc, 1, a_code, a_digit, a_move, a_reached, a_queue, a_held, a_pins, a_twist, lk, 35280)) :
    ∀ m x a_reached, x ≤ li_f n → li_f n - x < m → (∀ i, i < x → a_reached i = if i = 0 then 1 else 0) → wY_mark_10 post (nI n) f_slots f_twists (nI (li_f n)) (nI mc) f_marked 35280 m (nI x) a_code a_digit a_move a_reached a_queue a_held a_pins a_twist lk
  | 0, _, _, _, h2, _ => absurd h2 (Nat.not_lt_zero _)
  | m + 1, x, a_reached, h1, h2, hr => by
    have hs := li_f7 n hn
    refine pk_le (li_f n) x (fun z => Exists.intro (li_f n + 1) ?_) (fun z => ?_)
    · have r0 : a_reached 0 = 1 := by rw [hr 0 (by have := li_f_pos n; omega), if_pos rfl]
      have rn : ∀ i, i < li_f n → i ≠ 0 → a_reached i = 0 := fun i hi h0 => by rw [hr i (by omega), if_neg h0]
      have n01 : ¬ (0 : Int32) = 1 := by decide
      refine ym_48 (f_marked := 1) hn hmc hmv K (li_f n + 1) 0 1 a_reached a_queue (by omega) (by omega) ⟨fun i hi => ?_, ?_, fun i hi => ?_, fun i hi e => ?_, r0, hq⟩ (fun i q s v a1 => absurd a1 (Nat.not_lt_zero _))
      · rcases Classical.em (i = 0) with y | y
        · rw [y]; exact Or.inr ⟨r0, by rw [li_g0]; exact gp_G1⟩
        · exact Or.inl (rn i hi y)
      · exact (cc_one (x := 0) (li_f_pos n) r0 (fun i hi e => by
          rcases Classical.em (i = 0) with y | y
          · exact y
          · rw [rn i hi y] at e; exact absurd e n01)).symm
      · rw [show i = 0 from by omega]; exact ⟨0, li_f_pos n, hq, r0⟩
      · rcases Classical.em (i = 0) with y | y
        · rw [y]; exact ⟨0, by omega, hq⟩
        · rw [rn i hi y] at e; exact absurd e n01
    · rw [nI_clamp (show x < 2 ^ 31 by omega)]
      refine pk_eq x 0 (fun e => And.intro (vp_in_nI (by omega) (by omega)) (nm_e (nm_r (nI_1 x) ?_))) (fun e => And.intro (vp_in_nI (by omega) (by omega)) (nm_e (nm_r (nI_1 x) ?_)))
      · refine ym_10 hn hmc hmv hq K m (x + 1) _ (by omega) (by omega) (fun i hi => ?_)
        rcases Nat.lt_or_ge i x with y | y
        · rw [pk_un (by omega)]; exact hr i y
        · rw [show i = x from by omega, pk_us, if_pos e]; rfl
      · refine ym_10 hn hmc hmv hq K m (x + 1) _ (by omega) (by omega) (fun i hi => ?_)
        rcases Nat.lt_or_ge i x with y | y
        · rw [pk_un (by omega)]; exact hr i y
        · rw [show i = x from by omega, pk_us, if_neg e]; rfl
theorem ym_mark {post : SY → Prop} {a_reached a_queue : Nat → Int32} (hn : n ≤ 7) (hmc : mc ≤ 6) (hmv : ym_T n mc mv a_move) (hq : a_queue 0 = 0) (hm : f_marked = 0 ∨ (f_marked = 1 ∧ yk_ok n (gp_G (rx_A n mc mv lk)) a_reached))
    (K : ∀ a_reached' a_queue', yk_ok n (gp_G (rx_A n mc mv lk)) a_reached' → a_queue' 0 = 0 → post (nI n, f_slots, f_twists, nI (li_f n), nI mc, 1, a_code, a_digit, a_move, a_reached', a_queue', a_held, a_pins, a_twist, lk, 35280)) :
    wpY_mark post (nI n, f_slots, f_twists, nI (li_f n), nI mc, f_marked, a_code, a_digit, a_move, a_reached, a_queue, a_held, a_pins, a_twist, lk, 35280) := by
  unfold wpY_mark
  dsimp only
  rcases hm with e | ⟨e, ok⟩
  · exact br_t e (Exists.intro (li_f n + 1) (ym_10 hn hmc hmv hq K (li_f n + 1) 0 a_reached (by omega) (by omega) (fun _ h => absurd h (Nat.not_lt_zero _))))
  · subst e
    exact br_f (by decide) (K a_reached a_queue ok hq)
end
end
section
/-! the reference's constructor: the list of all states -/
section
variable {n : Nat} {f_slots f_twists f_admitted f_marked : Int32} {a_digit a_move a_reached a_queue a_held a_pins a_twist a_locked : Nat → Int32}
variable {M : Nat} {a_code0 : Nat → Int32}
theorem yl_105 {post : SY → Prop} (hn : n ≤ 7) (hM : M < li_f n) (hd : ∀ p, p < n → a_digit (7 * M + p) = nI (li_g n M p))
    (K : ∀ a_code, a_code M = nI (li_c (li_g n M) n) → (∀ j, j ≠ M → a_code j = a_code0 j) → post (nI n, f_slots, f_twists, nI (li_f n), f_admitted, f_marked, a_code, a_digit, a_move, a_reached, a_queue, a_held, a_pins, a_twist, a_locked, 35280)) :
    ∀ m p a_code, p ≤ n → n - p < m → a_code M = nI (li_c (li_g n M) p) → (∀ j, j ≠ M → a_code j = a_code0 j) → wY_list_105 post (nI M) (nI n) f_slots f_twists (nI (li_f n)) f_admitted f_marked 35280 m (nI p) a_code a_digit a_move a_reached a_queue a_held a_pins a_twist a_locked
  | 0, _, _, _, h2, _, _ => absurd h2 (Nat.not_lt_zero _)
  | m + 1, p, a_code, h1, h2, hc, hf => by
    have hs := li_f7 n hn
    refine pk_le n p (fun z => K a_code (by rw [show p = n from by omega] at hc; exact hc) hf) (fun z => ?_)
    have vM : vp_in (nI M) 5040 := vp_in_nI (by omega) (by omega)
    rw [yf_ix, nI_clamp (show M < 2 ^ 31 by omega), nI_clamp (show 7 * M + p < 2 ^ 31 by omega), hd p z, hc]
    refine And.intro vM (And.intro (vp_in_nI (by omega) (by omega)) (And.intro vM (nm_e (nm_r (nI_1 p) ?_))))
    exact yl_105 hn hM hd K m (p + 1) _ (by omega) (by omega) (by rw [pk_us, xw_c10]; rfl) (fun j hj => by rw [pk_un hj]; exact hf j hj)
end
section
variable {n : Nat} {f_slots f_twists f_admitted f_marked : Int32} {a_code a_move a_reached a_queue a_held a_pins a_twist a_locked : Nat → Int32}
variable {M : Nat} {a_digit0 : Nat → Int32}
theorem yl_49 {post : SY → Prop} {J : Int32 → Int32 → (Nat → Int32) → (Nat → Int32) → (Nat → Int32) → (Nat → Int32) → (Nat → Int32) → (Nat → Int32) → (Nat → Int32) → (Nat → Int32) → (Nat → Int32) → Prop} {x2 x3 : Int32} {f s : Nat} {d0 : Nat → Nat}
    (hn : n ≤ 7) (hM : M < li_f n) (hf : f < 8) (h0 : ∀ q, s ≤ q → q < n → d0 q < 8)
    (K : ∀ a_digit, (∀ q, s ≤ q → q < n → a_digit (7 * M + q) = nI (li_b f (d0 q))) → (∀ j, ¬ (7 * M + s ≤ j ∧ j < 7 * M + n) → a_digit j = a_digit0 j) → J x2 (x3 + 1) a_code a_digit a_move a_reached a_queue a_held a_pins a_twist a_locked) :
    ∀ m q a_digit, s ≤ q → q ≤ n → n - q < m → (∀ r, s ≤ r → r < q → a_digit (7 * M + r) = nI (li_b f (d0 r))) → (∀ r, q ≤ r → r < n → a_digit (7 * M + r) = nI (d0 r)) →
      (∀ j, ¬ (7 * M + s ≤ j ∧ j < 7 * M + n) → a_digit j = a_digit0 j) → wY_list_49 post J (nI M) x2 x3 (nI f) (nI n) f_slots f_twists (nI (li_f n)) f_admitted f_marked 35280 m (nI q) a_code a_digit a_move a_reached a_queue a_held a_pins a_twist a_locked
  | 0, _, _, _, _, h2, _, _, _ => absurd h2 (Nat.not_lt_zero _)
  | m + 1, q, a_digit, h1, h1', h2, ha, hb, hc => by
    have hs := li_f7 n hn
    refine pk_le n q (fun z => nm_e (K a_digit (fun r r1 r2 => ha r r1 (by omega)) hc)) (fun z => ?_)
    have hq := h0 q h1 z
    have vq : vp_in (nI (7 * M + q)) 35280 := vp_in_nI (by omega) (by omega)
    rw [yf_ix, nI_clamp (show 7 * M + q < 2 ^ 31 by omega), hb q (Nat.le_refl _) z]
    refine And.intro vq (pk_lt (d0 q) f (fun y => nm_r (nI_1 q) ?_) (fun y => And.intro vq (And.intro vq (nm_r (e' := upd a_digit (7 * M + q) (nI (d0 q + 1))) (by rw [nI_1]) (nm_r (nI_1 q) ?_)))))
    · refine yl_49 hn hM hf h0 K m (q + 1) a_digit (by omega) (by omega) (by omega) (fun r r1 r2 => ?_) (fun r r1 r2 => hb r (by omega) r2) hc
      rcases Nat.lt_or_ge r q with w | w
      · exact ha r r1 w
      · rw [show r = q from by omega, hb q (Nat.le_refl _) z]
        unfold li_b
        rw [if_neg (by omega)]
    · refine yl_49 hn hM hf h0 K m (q + 1) _ (by omega) (by omega) (by omega) (fun r r1 r2 => ?_) (fun r r1 r2 => ?_) (fun j hj => ?_)
      · rcases Nat.lt_or_ge r q with w | w
        · rw [pk_un (by omega)]; exact ha r r1 w
        · rw [show r = q from by omega, pk_us]
          unfold li_b
          rw [if_pos y]
      · rw [pk_un (by omega)]; exact hb r (by omega) r2
      · rw [pk_un (by omega)]; exact hc j hj
end
section
variable {n : Nat} {f_slots f_twists f_admitted f_marked : Int32} {a_move a_reached a_queue a_held a_pins a_twist a_locked : Nat → Int32}
variable {M : Nat} {a_code0 a_digit0 : Nat → Int32}
theorem yl_4 {post : SY → Prop} (hn : n ≤ 7) (hM : M < li_f n) (hc0 : a_code0 M = 0)
    (K : ∀ a_code a_digit, a_code M = nI (li_c (li_g n M) n) → (∀ j, j ≠ M → a_code j = a_code0 j) → (∀ p, p < n → a_digit (7 * M + p) = nI (li_g n M p)) → (∀ j, ¬ (7 * M ≤ j ∧ j < 7 * M + 7) → a_digit j = a_digit0 j) → post (nI n, f_slots, f_twists, nI (li_f n), f_admitted, f_marked, a_code, a_digit, a_move, a_reached, a_queue, a_held, a_pins, a_twist, a_locked, 35280)) :
    ∀ m k a_digit, k ≤ n → n - k < m → (∀ p, p < k → a_digit (7 * M + (n - k + p)) = nI (li_D k M p)) → (∀ j, ¬ (7 * M ≤ j ∧ j < 7 * M + 7) → a_digit j = a_digit0 j) →
      wY_list_4 post (nI M) (nI n) f_slots f_twists (nI (li_f n)) f_admitted f_marked 35280 m (nI (M / li_f k)) (nI (k + 1)) a_code0 a_digit a_move a_reached a_queue a_held a_pins a_twist a_locked
  | 0, _, _, _, h2, _, _ => absurd h2 (Nat.not_lt_zero _)
  | m + 1, k, a_digit, h1, h2, hd, hf => by
    have hs := li_f7 n hn
    have hMk : M / li_f k < 2 ^ 31 := Nat.lt_of_le_of_lt (Nat.div_le_self _ _) (by omega)
    refine pk_lt n (k + 1) (fun z => Exists.intro (n + 1) ?_) (fun z => ?_)
    · have ek : k = n := by omega
      have hd' : ∀ p, p < n → a_digit (7 * M + p) = nI (li_g n M p) := fun p hp => by
        have := hd p (by omega)
        rw [ek, Nat.sub_self, Nat.zero_add, ← li_g_lt hp] at this
        exact this
      exact yl_105 (a_code0 := a_code0) hn hM hd' (fun a_code c1 c2 => K a_code a_digit c1 c2 hd' hf) (n + 1) 0 a_code0 (by omega) (by omega) hc0 (fun _ _ => rfl)
    · have fl : M / li_f k % (k + 1) < k + 1 := Nat.mod_lt _ (by omega)
      have e1 : ((7 : Int32) * nI M + nI n) - nI (k + 1) = nI (7 * M + (n - (k + 1))) := by
        rw [yf_ix, pk_sub (by omega)]
        exact congrArg nI (by omega)
      have e2 : (nI n - nI (k + 1)) + 1 = nI (n - k) := by
        rw [pk_sub (by omega), nI_1]
        exact congrArg nI (by omega)
      have e3 : M / li_f k / (k + 1) = M / li_f (k + 1) := by rw [Nat.div_div_eq_div_mul, Nat.mul_comm, ← li_f_S]
      refine And.intro (nI_ne0 (by omega) (by omega)) (nm_r (pk_rem hMk (by omega) (by omega)) (And.intro (nI_ne0 (by omega) (by omega)) (nm_r (e' := nI (M / li_f (k + 1))) (by rw [pk_div hMk (by omega) (by omega), e3]) ?_)))
      rw [e1, e2, nI_clamp (show 7 * M + (n - (k + 1)) < 2 ^ 31 by omega)]
      refine And.intro (vp_in_nI (by omega) (by omega)) (nm_e (nm_e (Exists.intro (n + 1) ?_)))
      refine yl_49 (s := n - k) (d0 := fun q => li_D k M (q - (n - k))) (a_digit0 := upd a_digit (7 * M + (n - (k + 1))) (nI (M / li_f k % (k + 1)))) hn hM (by omega)
        (fun q q1 q2 => by have := li_D_lt (k := k) M (p := q - (n - k)) (by omega); omega) (fun a_digit1 b1 b2 => ?_) (n + 1) (n - k) _ (by omega) (by omega) (by omega) (fun r r1 r2 => by omega) (fun r r1 r2 => ?_) (fun _ _ => rfl)
      · rw [nI_1 (k + 1)]
        refine yl_4 hn hM hc0 K m (k + 1) a_digit1 (by omega) (by omega) (fun p hp => ?_) (fun j hj => ?_)
        · cases p with
          | zero => rw [Nat.add_zero, b2 _ (by omega), pk_us, li_D_0]
          | succ p =>
            have := b1 (n - k + p) (by omega) (by omega)
            rw [show n - k + p - (n - k) = p from by omega] at this
            rw [show n - (k + 1) + (p + 1) = n - k + p from by omega, this, li_D_S]
        · rw [b2 j (by omega), pk_un (by omega)]; exact hf j hj
      · rw [pk_un (by omega)]
        have := hd (r - (n - k)) (by omega)
        rw [show n - k + (r - (n - k)) = r from by omega] at this
        exact this
end
section
variable {n : Nat} {f_slots f_twists f_admitted f_marked : Int32} {a_code a_digit a_move a_reached a_queue a_held a_pins a_twist a_locked : Nat → Int32}
variable {M : Nat}
theorem yl_list {post : SY → Prop} (hn : n ≤ 7) (hM : M < li_f n) (hc0 : a_code M = 0)
    (K : ∀ a_code' a_digit', a_code' M = nI (li_c (li_g n M) n) → (∀ j, j ≠ M → a_code' j = a_code j) → (∀ p, p < n → a_digit' (7 * M + p) = nI (li_g n M p)) → (∀ j, ¬ (7 * M ≤ j ∧ j < 7 * M + 7) → a_digit' j = a_digit j) → post (nI n, f_slots, f_twists, nI (li_f n), f_admitted, f_marked, a_code', a_digit', a_move, a_reached, a_queue, a_held, a_pins, a_twist, a_locked, 35280)) :
    wpY_list post (nI n, f_slots, f_twists, nI (li_f n), f_admitted, f_marked, a_code, a_digit, a_move, a_reached, a_queue, a_held, a_pins, a_twist, a_locked, 35280) (nI M) := by
  unfold wpY_list
  dsimp only
  have a := yl_4 (f_slots := f_slots) (f_twists := f_twists) (f_admitted := f_admitted) (f_marked := f_marked) (a_move := a_move) (a_reached := a_reached) (a_queue := a_queue) (a_held := a_held) (a_pins := a_pins) (a_twist := a_twist) (a_locked := a_locked)
    hn hM hc0 K (n + 1) 0 a_digit (by omega) (by omega) (fun p hp => absurd hp (Nat.not_lt_zero _)) (fun _ _ => rfl)
  rw [show li_f 0 = 1 from rfl, Nat.div_one] at a
  exact Exists.intro (n + 1) a
end
/-! the constructor itself -/
def yi_p (p : Nat) : Nat → Int32 := fun j => if j < p then 7 else 0
theorem yi_pS (p : Nat) : upd (yi_p p) p 7 = yi_p (p + 1) := by
  funext j
  unfold upd yi_p
  by_cases h : j = p
  · rw [if_pos h, if_pos (by omega)]
  · rw [if_neg h]
    by_cases h2 : j < p
    · rw [if_pos h2, if_pos (by omega)]
    · rw [if_neg h2, if_neg (by omega)]
theorem yi_p0 : (fun _ => 0 : Nat → Int32) = yi_p 0 := by
  funext j
  unfold yi_p
  rw [if_neg (by omega)]
section
variable {n : Nat} {f_slots f_twists f_admitted f_marked : Int32} {a_code a_digit a_move a_reached a_queue a_held a_twist a_locked : Nat → Int32}
theorem yi_216 {post : SY → Prop} (k : post (nI n, f_slots, f_twists, nI (li_f n), f_admitted, f_marked, a_code, a_digit, a_move, a_reached, a_queue, a_held, yi_p 7, a_twist, a_locked, 35280)) : ∀ m p, p ≤ 7 → 7 - p < m → wY_init_216 post (nI n) f_slots f_twists (nI (li_f n)) f_admitted f_marked 35280 m (nI p) a_code a_digit a_move a_reached a_queue a_held (yi_p p) a_twist a_locked
  | 0, _, _, h2 => absurd h2 (Nat.not_lt_zero _)
  | m + 1, p, h1, h2 => by
    refine pk_le 7 p (fun z => by rw [show p = 7 from by omega]; exact k) (fun z => ?_)
    rw [nI_clamp (show p < 2 ^ 31 by omega)]
    exact And.intro (vp_in_nI (by omega) (by omega)) (nm_r (yi_pS p) (nm_r (nI_1 p) (yi_216 k m (p + 1) (by omega) (by omega))))
end
section
variable {n : Nat} {f_slots f_twists f_admitted f_marked : Int32} {a_move a_reached a_queue a_held a_twist a_locked : Nat → Int32}
theorem yi_192 {post : SY → Prop} (hn : n ≤ 7) (k : ∀ a_code a_digit, ry_T n a_code a_digit → post (nI n, f_slots, f_twists, nI (li_f n), f_admitted, f_marked, a_code, a_digit, a_move, a_reached, a_queue, a_held, yi_p 7, a_twist, a_locked, 35280)) :
    ∀ m M a_code a_digit, M ≤ li_f n → li_f n - M < m → (∀ j, j < M → a_code j = nI (li_c (li_g n j) n)) → (∀ j, M ≤ j → a_code j = 0) → (∀ j p, j < M → p < n → a_digit (7 * j + p) = nI (li_g n j p)) → wY_init_192 post m (nI M) (nI n) f_slots f_twists (nI (li_f n)) f_admitted f_marked a_code a_digit a_move a_reached a_queue a_held (yi_p 0) a_twist a_locked 35280
  | 0, _, _, _, _, h2, _, _, _ => absurd h2 (Nat.not_lt_zero _)
  | m + 1, M, a_code, a_digit, h1, h2, c1, c2, d1 => by
    have hs := li_f7 n hn
    refine pk_le (li_f n) M (fun z => Exists.intro 8 (yi_216 (k a_code a_digit ⟨fun j hj => c1 j (by omega), fun j p hj hp => d1 j p (by omega) hp⟩) 8 0 (by omega) (by omega))) (fun z => ?_)
    refine yl_list hn z (c2 M (Nat.le_refl _)) (fun a_code' a_digit' q1 q2 q3 q4 => ?_)
    refine nm_r (nI_1 M) ?_
    refine yi_192 hn k m (M + 1) a_code' a_digit' (by omega) (by omega) (fun j hj => ?_) (fun j hj => ?_) (fun j p hj hp => ?_)
    · rcases Nat.lt_or_ge j M with y | y
      · rw [q2 j (by omega)]; exact c1 j y
      · rw [show j = M from by omega]; exact q1
    · rw [q2 j (by omega)]; exact c2 j (by omega)
    · rcases Nat.lt_or_ge j M with y | y
      · rw [q4 _ (by omega)]; exact d1 j p y hp
      · rw [show j = M from by omega]; exact q3 p hp
theorem yi_163 {post : SY → Prop} {a_code a_digit : Nat → Int32} (hn : n ≤ 7) (hc : ∀ j, a_code j = 0) (k : ∀ a_code a_digit, ry_T n a_code a_digit → post (nI n, f_slots, f_twists, nI (li_f n), f_admitted, f_marked, a_code, a_digit, a_move, a_reached, a_queue, a_held, yi_p 7, a_twist, a_locked, 35280)) :
    ∀ m j, 1 ≤ j → j ≤ n → n - j < m → wY_init_163 post (nI n) f_slots f_twists f_admitted f_marked a_code a_digit a_move a_reached a_queue a_held (yi_p 0) a_twist a_locked 35280 m (nI (j + 1)) (nI (li_f j))
  | 0, _, _, _, h2 => absurd h2 (Nat.not_lt_zero _)
  | m + 1, j, h0, h1, h2 => by
    refine pk_lt n (j + 1) (fun z => ?_) (fun z => ?_)
    · rw [show j = n from by omega]
      exact Exists.intro (li_f n + 1) (yi_192 hn k (li_f n + 1) 0 a_code a_digit (by omega) (by omega) (fun _ h => absurd h (Nat.not_lt_zero _)) (fun i _ => hc i) (fun _ _ h => absurd h (Nat.not_lt_zero _)))
    · exact nm_r (e' := nI (li_f (j + 1))) (by rw [pk_mul, Nat.mul_comm, ← li_f_S]) (nm_r (nI_1 (j + 1)) (yi_163 hn hc k m (j + 1) (by omega) (by omega) (by omega)))
end
/-- w is v clamped -/
def xi_C (v : Int32) (lo hi w : Nat) : Prop := lo ≤ w ∧ w ≤ hi ∧ ∀ A : Int32 → Prop, A (nI w) → (nI lo ≤ v → ((v ≤ nI hi → A v) ∧ (¬ v ≤ nI hi → A (nI hi)))) ∧ (¬ nI lo ≤ v → A (nI lo))
theorem xi_ex (v : Int32) {lo hi : Nat} (h : lo ≤ hi) (hh : hi < 2 ^ 31) : ∃ w, xi_C v lo hi w := by
  by_cases z : nI lo ≤ v
  · have nn : ¬ v < 0 := fun y => absurd (Int32.lt_of_le_of_lt z y) (nI_pos (by omega))
    obtain ⟨j, hj, e⟩ := nI_of nn
    subst e
    rw [nI_leI (by omega) hj] at z
    by_cases y : j ≤ hi
    · exact ⟨j, z, y, fun A a => br_t (nI_le z hj) (br_t (nI_le y hh) a)⟩
    · exact ⟨hi, h, Nat.le_refl _, fun A a => br_t (nI_le z hj) (br_f (fun q => y ((nI_leI hj hh).mp q)) a)⟩
  · exact ⟨lo, Nat.le_refl _, h, fun A a => br_f z a⟩
section
variable {n sl tw : Nat}
theorem yi_init {post : SY → Prop} {k0 k1 k2 : Int32} (c0 : xi_C k0 2 7 n) (c1 : xi_C k1 2 8 sl) (c2 : xi_C k2 1 6 tw)
    (k : ∀ a_code a_digit, ry_T n a_code a_digit → post (nI n, nI sl, nI tw, nI (li_f n), 0, 0, a_code, a_digit, (fun _ => 0), (fun _ => 0), (fun _ => 0), (fun _ => 0), yi_p 7, (fun _ => 0), (fun _ => 0), 35280)) :
    wpY_init post k0 k1 k2 := by
  unfold wpY_init
  refine And.intro (by decide) (nm_r (e' := 35280) (by decide) (And.intro (by omega) ?_))
  refine c0.2.2 (fun z => wY_init_107 post k1 k2 z 0 0 0 1 0 0 (fun _ => 0) (fun _ => 0) (fun _ => 0) (fun _ => 0) (fun _ => 0) (fun _ => 0) (fun _ => 0) (fun _ => 0) (fun _ => 0) 35280) ?_
  unfold wY_init_107
  refine c1.2.2 (fun z => wY_init_132 post k2 z (nI n) 0 0 1 0 0 (fun _ => 0) (fun _ => 0) (fun _ => 0) (fun _ => 0) (fun _ => 0) (fun _ => 0) (fun _ => 0) (fun _ => 0) (fun _ => 0) 35280) ?_
  unfold wY_init_132
  refine c2.2.2 (fun z => ∃ n163 : Nat, wY_init_163 post (nI n) (nI sl) z 0 0 (fun _ => 0) (fun _ => 0) (fun _ => 0) (fun _ => 0) (fun _ => 0) (fun _ => 0) (fun _ => 0) (fun _ => 0) (fun _ => 0) 35280 n163 2 1) ?_
  have a := yi_163 (n := n) (f_slots := nI sl) (f_twists := nI tw) (f_admitted := 0) (f_marked := 0) (a_move := fun _ => 0) (a_reached := fun _ => 0) (a_queue := fun _ => 0) (a_held := fun _ => 0) (a_twist := fun _ => 0) (a_locked := fun _ => 0)
    (a_code := fun _ => 0) (a_digit := fun _ => 0) (post := post) c0.2.1 (fun _ => rfl) k (n + 1) 1 (Nat.le_refl _) (by have := c0.1; omega) (by omega)
  rw [← yi_p0] at a
  exact Exists.intro (n + 1) a
end
end
section
/-! the component's constructor -/
section
variable {n : Nat} {f_slotCount f_twistLimit f_moveCount f_strongCount f_pinnedLevels : Int32} {a_state a_move a_locked a_pins a_base a_size a_table a_stale a_strong : Nat → Int32}
theorem xi_clamp {post : Int32 → Prop} {u : SX} {v : Int32} {lo hi w : Nat} (c : xi_C v lo hi w) (h : post (nI w)) : wpX_clamp post u v (nI lo) (nI hi) := c.2.2 post h
theorem xi_169 {post : SX → Prop} {x4 : Int32} {f_solved : Int32} (k : ∀ a_state, (∀ i, i < 8 → a_state i = x4) → post (nI n, f_slotCount, f_twistLimit, f_solved, f_moveCount, f_strongCount, f_pinnedLevels, a_state, a_move, a_locked, a_pins, a_base, a_size, a_table, upd (upd a_stale 0 1) 1 1, a_strong)) :
    ∀ m i a_state, i ≤ 8 → 8 - i < m → (∀ j, j < i → a_state j = x4) → wX_init_169 post x4 (nI n) f_slotCount f_twistLimit f_solved f_moveCount f_strongCount f_pinnedLevels m (nI i) a_state a_move a_locked a_pins a_base a_size a_table a_stale a_strong
  | 0, _, _, _, h2, _ => absurd h2 (Nat.not_lt_zero _)
  | m + 1, i, a_state, h1, h2, hs => by
    refine pk_le 8 i (fun z => nm_e (nm_e (k a_state (fun j hj => hs j (by omega))))) (fun z => ?_)
    rw [nI_clamp (show i < 2 ^ 31 by omega)]
    refine And.intro (vp_in_nI (by omega) (by omega)) (nm_e (nm_r (nI_1 i) ?_))
    refine xi_169 k m (i + 1) _ (by omega) (by omega) (fun j hj => ?_)
    rcases Nat.lt_or_ge j i with y | y
    · rw [pk_un (by omega)]; exact hs j y
    · rw [show j = i from by omega, pk_us]
theorem xi_117 {post : SX → Prop} {f_solved : Int32} (hn : n ≤ 7) (k : ∀ a_state, (∀ i, i < 8 → a_state i = bq_p gp_1 n) → post (nI n, f_slotCount, f_twistLimit, bq_p gp_1 n, f_moveCount, f_strongCount, f_pinnedLevels, a_state, a_move, a_locked, yi_p 7, a_base, a_size, a_table, upd (upd a_stale 0 1) 1 1, a_strong)) :
    ∀ m p q, p ≤ 7 → 7 - p < m → q ≤ n → (p < n → q = p) → (n ≤ p → q = n) → wX_init_117 post (nI n) f_slotCount f_twistLimit f_solved f_moveCount f_strongCount f_pinnedLevels m (bq_p gp_1 q) (nI p) a_state a_move a_locked (yi_p p) a_base a_size a_table a_stale a_strong
  | 0, _, _, _, h2, _, _, _ => absurd h2 (Nat.not_lt_zero _)
  | m + 1, p, q, h1, h2, h3, h4, h5 => by
    refine pk_le 7 p (fun z => ?_) (fun z => ?_)
    · rw [show p = 7 from by omega, h5 (by omega)]
      exact Exists.intro 9 (xi_169 k 9 0 a_state (by omega) (by omega) (fun _ h => absurd h (Nat.not_lt_zero _)))
    · rw [nI_clamp (show p < 2 ^ 31 by omega)]
      refine And.intro (vp_in_nI (by omega) (by omega)) (nm_r (yi_pS p) ?_)
      refine pk_le n p (fun y => nm_r (nI_1 p) ?_) (fun y => ?_)
      · exact xi_117 hn k m (p + 1) q (by omega) (by omega) h3 (fun w => by omega) (fun _ => h5 y)
      · rw [h4 y]
        exact nm_r (bq_pS gp_1 p) (nm_r (nI_1 p) (xi_117 hn k m (p + 1) (p + 1) (by omega) (by omega) (by omega) (fun _ => rfl) (fun w => by omega)))
end
theorem xi_init {n sl tw : Nat} {post : SX → Prop} {k0 k1 k2 : Int32} (c0 : xi_C k0 2 7 n) (c1 : xi_C k1 2 8 sl) (c2 : xi_C k2 1 6 tw)
    (k : ∀ a_state, (∀ i, i < 8 → a_state i = bq_p gp_1 n) → post (nI n, nI sl, nI tw, bq_p gp_1 n, 0, 0, 0, a_state, (fun _ => 0), (fun _ => 0), yi_p 7, (fun _ => 0), (fun _ => 0), (fun _ => 0), upd (upd (fun _ => 0) 0 1) 1 1, (fun _ => 0))) :
    wpX_init post k0 k1 k2 := by
  unfold wpX_init
  refine xi_clamp (lo := 2) (hi := 7) c0 (xi_clamp (lo := 2) (hi := 8) c1 (xi_clamp (lo := 1) (hi := 6) c2 ?_))
  have h2 := c0.1
  have a := xi_117 (n := n) (f_slotCount := nI sl) (f_twistLimit := nI tw) (f_moveCount := 0) (f_strongCount := 0) (f_pinnedLevels := 0) (a_state := fun _ => 0) (a_move := fun _ => 0) (a_locked := fun _ => 0) (a_base := fun _ => 0) (a_size := fun _ => 0) (a_table := fun _ => 0) (a_stale := fun _ => 0) (a_strong := fun _ => 0)
    (f_solved := 0) (post := post) c0.2.1 k 8 0 0 (by omega) (by omega) (by omega) (fun _ => rfl) (fun w => by omega)
  rw [← yi_p0] at a
  exact Exists.intro 8 a
end
section
/-! the relation: both sides against one abstract state -/
def rr_W (n sl tw mc : Nat) (h mv : Nat → Nat) (lk ps : Nat → Int32) : Prop :=
  2 ≤ n ∧ n ≤ 7 ∧ sl ≤ 8 ∧ tw ≤ 6 ∧ mc ≤ tw ∧ (∀ i, i < 8 → h i < li_f n) ∧ (∀ t, t < mc → mv t < li_f n) ∧ (∀ t, mc ≤ t → lk t = 0) ∧ (∀ p, p < n → ps p = 7 ∨ ∃ v, v < n ∧ ps p = nI v)
def rr_X (n sl tw mc : Nat) (h mv : Nat → Nat) (lk ps : Nat → Int32) : SX → Prop
  | (f_n, f_slotCount, f_twistLimit, f_solved, f_moveCount, f_strongCount, f_pinnedLevels, a_state, a_move, a_locked, a_pins, a_base, a_size, a_table, a_stale, a_strong) =>
    f_n = nI n ∧ f_slotCount = nI sl ∧ f_twistLimit = nI tw ∧ f_solved = bq_p gp_1 n ∧ f_moveCount = nI mc ∧ a_locked = lk ∧ a_pins = ps ∧
    (∀ i, i < 8 → a_state i = bq_p (li_g n (h i)) n) ∧ (∀ t, t < mc → a_move t = bq_p (li_g n (mv t)) n) ∧
    rx_C0 n (gp_G (rx_A n mc mv lk)) a_base a_size a_table a_stale ∧ rx_C1 n (gp_G (rx_A n mc mv lk)) ps f_pinnedLevels a_base a_size a_table a_stale
def rr_Y (n sl tw mc : Nat) (h mv : Nat → Nat) (lk ps : Nat → Int32) : SY → Prop
  | (f_n, f_slots, f_twists, f_size, f_admitted, f_marked, a_code, a_digit, a_move, a_reached, a_queue, a_held, a_pins, a_twist, a_locked, n_digit) =>
    f_n = nI n ∧ f_slots = nI sl ∧ f_twists = nI tw ∧ f_size = nI (li_f n) ∧ f_admitted = nI mc ∧ a_locked = lk ∧ a_pins = ps ∧ n_digit = 35280 ∧
    ry_T n a_code a_digit ∧ ym_T n mc mv a_move ∧ a_queue 0 = 0 ∧ (∀ i, i < 8 → a_held i = nI (h i)) ∧ (∀ t, t < mc → a_twist t = nI (mv t)) ∧
    (f_marked = 0 ∨ (f_marked = 1 ∧ yk_ok n (gp_G (rx_A n mc mv lk)) a_reached))
def i_Rel (k : Nat) (u : SX) (v : SY) : Prop := ∃ n sl tw mc h mv lk ps, rr_W n sl tw mc h mv lk ps ∧ rr_X n sl tw mc h mv lk ps u ∧ rr_Y n sl tw mc h mv lk ps v
theorem i_up {k : Nat} {u : SX} {v : SY} (h : i_Rel k u v) : i_Rel (k + 4) u v := h
/-- opening the relation -/
theorem rr_el {P : SX → SY → Prop} {k : Nat} {u : SX} {v : SY} (I : i_Rel k u v)
    (H : ∀ n sl tw mc h mv lk ps, rr_W n sl tw mc h mv lk ps →
      ∀ f_strongCount f_pinnedLevels a_state a_move a_base a_size a_table a_stale a_strong,
      (∀ i, i < 8 → a_state i = bq_p (li_g n (h i)) n) → (∀ t, t < mc → a_move t = bq_p (li_g n (mv t)) n) → rx_C0 n (gp_G (rx_A n mc mv lk)) a_base a_size a_table a_stale → rx_C1 n (gp_G (rx_A n mc mv lk)) ps f_pinnedLevels a_base a_size a_table a_stale →
      ∀ f_marked a_code a_digit b_move a_reached a_queue a_held a_twist, ry_T n a_code a_digit → ym_T n mc mv b_move → a_queue 0 = 0 → (∀ i, i < 8 → a_held i = nI (h i)) → (∀ t, t < mc → a_twist t = nI (mv t)) →
      (f_marked = 0 ∨ (f_marked = 1 ∧ yk_ok n (gp_G (rx_A n mc mv lk)) a_reached)) →
      P (nI n, nI sl, nI tw, bq_p gp_1 n, nI mc, f_strongCount, f_pinnedLevels, a_state, a_move, lk, ps, a_base, a_size, a_table, a_stale, a_strong) (nI n, nI sl, nI tw, nI (li_f n), nI mc, f_marked, a_code, a_digit, b_move, a_reached, a_queue, a_held, ps, a_twist, lk, 35280)) : P u v := by
  obtain ⟨n, sl, tw, mc, h, mv, lk, ps, W, X, Y⟩ := I
  obtain ⟨f_n, f_slotCount, f_twistLimit, f_solved, f_moveCount, f_strongCount, f_pinnedLevels, a_state, a_move, a_locked, a_pins, a_base, a_size, a_table, a_stale, a_strong⟩ := u
  obtain ⟨g_n, f_slots, f_twists, f_size, f_admitted, f_marked, a_code, a_digit, b_move, a_reached, a_queue, a_held, b_pins, a_twist, b_locked, n_digit⟩ := v
  obtain ⟨x1, x2, x3, x4, x5, x6, x7, x8, x9, x10, x11⟩ := X
  obtain ⟨y1, y2, y3, y4, y5, y6, y7, y8, y9, y10, y11, y12, y13, y14⟩ := Y
  rw [x1, x2, x3, x4, x5, x6, x7, y1, y2, y3, y4, y5, y6, y7, y8]
  exact H n sl tw mc h mv lk ps W f_strongCount f_pinnedLevels a_state a_move a_base a_size a_table a_stale a_strong x8 x9 x10 x11 f_marked a_code a_digit b_move a_reached a_queue a_held a_twist y9 y10 y11 y12 y13 y14
/-- closing it -/
theorem rr_in {n sl tw mc : Nat} {h mv : Nat → Nat} {lk ps : Nat → Int32} {k : Nat} {f_strongCount f_pinnedLevels : Int32} {a_state a_move a_base a_size a_table a_stale a_strong : Nat → Int32} {f_marked : Int32} {a_code a_digit b_move a_reached a_queue a_held a_twist : Nat → Int32}
    (W : rr_W n sl tw mc h mv lk ps) (x8 : ∀ i, i < 8 → a_state i = bq_p (li_g n (h i)) n) (x9 : ∀ t, t < mc → a_move t = bq_p (li_g n (mv t)) n) (x10 : rx_C0 n (gp_G (rx_A n mc mv lk)) a_base a_size a_table a_stale) (x11 : rx_C1 n (gp_G (rx_A n mc mv lk)) ps f_pinnedLevels a_base a_size a_table a_stale)
    (y9 : ry_T n a_code a_digit) (y10 : ym_T n mc mv b_move) (y11 : a_queue 0 = 0) (y12 : ∀ i, i < 8 → a_held i = nI (h i)) (y13 : ∀ t, t < mc → a_twist t = nI (mv t)) (y14 : f_marked = 0 ∨ (f_marked = 1 ∧ yk_ok n (gp_G (rx_A n mc mv lk)) a_reached)) :
    i_Rel k (nI n, nI sl, nI tw, bq_p gp_1 n, nI mc, f_strongCount, f_pinnedLevels, a_state, a_move, lk, ps, a_base, a_size, a_table, a_stale, a_strong) (nI n, nI sl, nI tw, nI (li_f n), nI mc, f_marked, a_code, a_digit, b_move, a_reached, a_queue, a_held, ps, a_twist, lk, 35280) :=
  ⟨n, sl, tw, mc, h, mv, lk, ps, W, ⟨rfl, rfl, rfl, rfl, rfl, rfl, rfl, x8, x9, x10, x11⟩, ⟨rfl, rfl, rfl, rfl, rfl, rfl, rfl, rfl, y9, y10, y11, y12, y13, y14⟩⟩
theorem i_vc0 (k0 : Int32) (k1 : Int32) (k2 : Int32) : wpX_init (fun u => wpY_init (fun v => i_Rel 3 u v) k0 k1 k2) k0 k1 k2 := by
  obtain ⟨n, c0⟩ := xi_ex k0 (lo := 2) (hi := 7) (by omega) (by omega)
  obtain ⟨sl, c1⟩ := xi_ex k1 (lo := 2) (hi := 8) (by omega) (by omega)
  obtain ⟨tw, c2⟩ := xi_ex k2 (lo := 1) (hi := 6) (by omega) (by omega)
  refine xi_init c0 c1 c2 (fun a_state hs => yi_init c0 c1 c2 (fun a_code a_digit ht => ?_))
  have s0 : ∀ {P : Prop}, upd (upd (fun _ => (0 : Int32)) 0 1) 1 1 0 = 0 → P := fun e => absurd e (by decide)
  have s1 : ∀ {P : Prop}, upd (upd (fun _ => (0 : Int32)) 0 1) 1 1 1 = 0 → P := fun e => absurd e (by decide)
  exact rr_in (h := fun _ => 0) (mv := fun _ => 0) (mc := 0) ⟨c0.1, c0.2.1, c1.2.1, c2.2.1, by omega, fun _ _ => li_f_pos n, fun _ h => absurd h (Nat.not_lt_zero _), fun _ _ => rfl, fun p hp => Or.inl (if_pos (by have := c0.2.1; omega))⟩
    (fun i hi => by rw [li_g0]; exact hs i hi) (fun _ h => absurd h (Nat.not_lt_zero _)) (fun e => s0 e) (fun e => s1 e) ht (fun _ _ h => absurd h (Nat.not_lt_zero _)) rfl (fun _ _ => rfl) (fun _ h => absurd h (Nat.not_lt_zero _)) (Or.inl rfl)
end
section
/-! the calls that work on slots and twists -/
theorem rr_set {n sl tw mc : Nat} {h mv : Nat → Nat} {lk ps : Nat → Int32} {k : Nat} {f_strongCount f_pinnedLevels : Int32} {a_state a_move a_base a_size a_table a_stale a_strong : Nat → Int32} {f_marked : Int32} {a_code a_digit b_move a_reached a_queue a_held a_twist : Nat → Int32}
    (W : rr_W n sl tw mc h mv lk ps) (x8 : ∀ i, i < 8 → a_state i = bq_p (li_g n (h i)) n) (x9 : ∀ t, t < mc → a_move t = bq_p (li_g n (mv t)) n) (x10 : rx_C0 n (gp_G (rx_A n mc mv lk)) a_base a_size a_table a_stale) (x11 : rx_C1 n (gp_G (rx_A n mc mv lk)) ps f_pinnedLevels a_base a_size a_table a_stale)
    (y9 : ry_T n a_code a_digit) (y10 : ym_T n mc mv b_move) (y11 : a_queue 0 = 0) (y12 : ∀ i, i < 8 → a_held i = nI (h i)) (y13 : ∀ t, t < mc → a_twist t = nI (mv t)) (y14 : f_marked = 0 ∨ (f_marked = 1 ∧ yk_ok n (gp_G (rx_A n mc mv lk)) a_reached))
    {j w : Nat} (hw : w < li_f n) : i_Rel k (nI n, nI sl, nI tw, bq_p gp_1 n, nI mc, f_strongCount, f_pinnedLevels, upd a_state j (bq_p (li_g n w) n), a_move, lk, ps, a_base, a_size, a_table, a_stale, a_strong) (nI n, nI sl, nI tw, nI (li_f n), nI mc, f_marked, a_code, a_digit, b_move, a_reached, a_queue, upd a_held j (nI w), ps, a_twist, lk, 35280) := by
  obtain ⟨w1, w2, w3, w4, w5, w6, w7, w8, w9⟩ := W
  refine rr_in (h := fun i => if i = j then w else h i) ⟨w1, w2, w3, w4, w5, fun i hi => ?_, w7, w8, w9⟩ (fun i hi => ?_) x9 x10 x11 y9 y10 y11 (fun i hi => ?_) y13 y14
  · show (if i = j then w else h i) < li_f n
    rcases Classical.em (i = j) with e | e
    · rw [if_pos e]; exact hw
    · rw [if_neg e]; exact w6 i hi
  · rcases Classical.em (i = j) with e | e
    · rw [if_pos e, e, pk_us]
    · rw [if_neg e, pk_un e]; exact x8 i hi
  · rcases Classical.em (i = j) with e | e
    · rw [if_pos e, e, pk_us]
    · rw [if_neg e, pk_un e]; exact y12 i hi
theorem i_vc_write {k : Nat} {u : SX} {v : SY} (I : i_Rel k u v) (hk : k + 4 ≤ 2051) (v1 : Int32) (v2 : Int32) : wpX_write (fun r u' => wpY_write (fun r' v' => r' = r ∧ i_Rel (k + 4) u' v') v v1 v2) u v1 v2 := by
  refine rr_el (P := fun u v => wpX_write (fun r u' => wpY_write (fun r' v' => r' = r ∧ i_Rel (k + 4) u' v') v v1 v2) u v1 v2) I ?_
  intro n sl tw mc h mv lk ps W f_strongCount f_pinnedLevels a_state a_move a_base a_size a_table a_stale a_strong x8 x9 C0 C1 f_marked a_code a_digit b_move a_reached a_queue a_held a_twist ht hm hq hh hw hk
  have same : ∀ k', i_Rel k' (nI n, nI sl, nI tw, bq_p gp_1 n, nI mc, f_strongCount, f_pinnedLevels, a_state, a_move, lk, ps, a_base, a_size, a_table, a_stale, a_strong) (nI n, nI sl, nI tw, nI (li_f n), nI mc, f_marked, a_code, a_digit, b_move, a_reached, a_queue, a_held, ps, a_twist, lk, 35280) := fun k' => rr_in W x8 x9 C0 C1 ht hm hq hh hw hk
  obtain ⟨h2, hn, hsl, htw, hmc, hhl, hml, hl0, hps⟩ := id W
  have hs := li_f7 n hn
  have bad : (v1 < 0 ∨ nI sl ≤ v1) → wpX_write (fun r u' => wpY_write (fun r' v' => r' = r ∧ i_Rel (k + 4) u' v') (nI n, nI sl, nI tw, nI (li_f n), nI mc, f_marked, a_code, a_digit, b_move, a_reached, a_queue, a_held, ps, a_twist, lk, 35280) v1 v2) (nI n, nI sl, nI tw, bq_p gp_1 n, nI mc, f_strongCount, f_pinnedLevels, a_state, a_move, lk, ps, a_base, a_size, a_table, a_stale, a_strong) v1 v2 := fun hv => by
    unfold wpX_write
    dsimp only
    refine xw_slot0 hv (br_t rfl ?_)
    unfold wpY_write
    dsimp only
    exact yw_slot0 hv (br_f (by decide) ⟨rfl, same _⟩)
  rcases pk_ix v1 (n := sl) (by omega) with e | e | ⟨j, hj, e⟩
  · exact bad (Or.inl e)
  · exact bad (Or.inr e)
  · subst e
    unfold wpX_write
    dsimp only
    refine xw_slot1 hsl hj (br_f (by decide) ?_)
    by_cases hv : v2 < 0
    · unfold wpX_decode
      dsimp only
      refine br_f (Int32.not_le.mpr hv) (br_t rfl ?_)
      unfold wpY_write
      dsimp only
      refine yw_slot1 hsl hj (br_t rfl ?_)
      refine yf_find hn ht (fun _ => br_f (by decide) ⟨rfl, same _⟩) (fun i hi ei => ?_)
      rw [← ei] at hv
      exact absurd hv (nI_pos (by have := yf_cb hn (li_gP n i); omega))
    · obtain ⟨c, hc, e⟩ := nI_of hv
      subst e
      refine xd_decode h2 hn hc (fun g hg eg => ?_) (fun ng => ?_)
      · refine br_f (bq_ne h2 hn hg) (And.intro (vp_in_nI (by omega) (by omega)) ?_)
        rw [nI_clamp (show j < 2 ^ 31 by omega)]
        refine nm_e ?_
        unfold wpY_write
        dsimp only
        refine yw_slot1 hsl hj (br_t rfl ?_)
        rw [← eg]
        refine yf_findP hn ht hg (fun w hw' ew => br_t (nI_pos' (by omega)) (And.intro (vp_in_nI (by omega) (by omega)) ?_))
        rw [nI_clamp (show j < 2 ^ 31 by omega), ← ew]
        exact nm_e ⟨rfl, rr_set W x8 x9 C0 C1 ht hm hq hh hw hk hw'⟩
      · refine br_t rfl ?_
        unfold wpY_write
        dsimp only
        refine yw_slot1 hsl hj (br_t rfl ?_)
        refine yf_find hn ht (fun _ => br_f (by decide) ⟨rfl, same _⟩) (fun i hi ei => ?_)
        rw [nI_eq (by have := yf_cb hn (li_gP n i); omega) hc] at ei
        exact absurd ei (ng _ (li_gP n i))
section
variable {n : Nat} {f_slots f_twists f_admitted f_marked : Int32} {a_code a_digit a_move a_reached a_queue a_held a_pins a_twist a_locked : Nat → Int32}
theorem ys_35 {post : Int32 → SY → Prop} {s j a b : Nat} (hn : n ≤ 7) (ht : ry_T n a_code a_digit) (hj : j < 8) (hs : s < li_f n) (e : a_held j = nI s) (ha : a < n) (hb : b < n)
    (k : ∀ w, w < li_f n → li_g n w = bq_w (li_g n s) a b → post 0 (nI n, f_slots, f_twists, nI (li_f n), f_admitted, f_marked, a_code, a_digit, a_move, a_reached, a_queue, upd a_held j (nI w), a_pins, a_twist, a_locked, 35280)) :
    ∀ m p, p ≤ n → n - p < m → wY_swap_35 post (nI j) (nI a) (nI b) (nI n) f_slots f_twists (nI (li_f n)) f_admitted f_marked a_code a_digit a_move a_reached a_queue a_held a_pins a_twist a_locked 35280 m (nI (li_c (bq_w (li_g n s) a b) p)) (nI p)
  | 0, _, _, h2 => absurd h2 (Nat.not_lt_zero _)
  | m + 1, p, h1, h2 => by
    have hf := li_f7 n hn
    have vj : vp_in (nI j) 8 := vp_in_nI hj (by omega)
    have cj : (nI j).toNatClampNeg = j := nI_clamp (by omega)
    refine pk_le n p (fun z => ?_) (fun z => ?_)
    · rw [show p = n from by omega]
      refine yf_findP hn ht (bq_wP (li_gP n s) ha hb) (fun w hw ew => And.intro vj ?_)
      rw [cj]
      exact nm_e (k w hw ew)
    · have step : ∀ q, q < n → li_g n s q = bq_w (li_g n s) a b p → vp_in ((7 : Int32) * nI s + nI q) 35280 ∧ (∀ x4 : Int32, x4 = nI (li_c (bq_w (li_g n s) a b) p) * 10 + a_digit ((7 : Int32) * nI s + nI q).toNatClampNeg → ∀ x5 : Int32, x5 = nI p + 1 → wY_swap_35 post (nI j) (nI a) (nI b) (nI n) f_slots f_twists (nI (li_f n)) f_admitted f_marked a_code a_digit a_move a_reached a_queue a_held a_pins a_twist a_locked 35280 m x4 x5) := fun q hq eq => by
        rw [yf_ix, nI_clamp (show 7 * s + q < 2 ^ 31 by omega), ht.2 s q hs hq, eq]
        exact ⟨vp_in_nI (by omega) (by omega), nm_r (xw_c10 _ _) (nm_r (nI_1 p) (ys_35 hn ht hj hs e ha hb k m (p + 1) (by omega) (by omega)))⟩
      refine And.intro vj ?_
      rw [cj, e]
      refine pk_eq p a (fun w => step b hb ?_) (fun w => pk_eq p b (fun y => step a ha ?_) (fun y => step p z ?_))
      · unfold bq_w; rw [if_pos w]
      · unfold bq_w; rw [if_neg w, if_pos y]
      · unfold bq_w; rw [if_neg w, if_neg y]
end
theorem i_vc_swap {k : Nat} {u : SX} {v : SY} (I : i_Rel k u v) (hk : k + 4 ≤ 2051) (v1 : Int32) (v2 : Int32) (v3 : Int32) : wpX_swap (fun r u' => wpY_swap (fun r' v' => r' = r ∧ i_Rel (k + 4) u' v') v v1 v2 v3) u v1 v2 v3 := by
  refine rr_el (P := fun u v => wpX_swap (fun r u' => wpY_swap (fun r' v' => r' = r ∧ i_Rel (k + 4) u' v') v v1 v2 v3) u v1 v2 v3) I ?_
  intro n sl tw mc h mv lk ps W f_strongCount f_pinnedLevels a_state a_move a_base a_size a_table a_stale a_strong x8 x9 C0 C1 f_marked a_code a_digit b_move a_reached a_queue a_held a_twist ht hm hq hh hw hk
  have same : ∀ k', i_Rel k' (nI n, nI sl, nI tw, bq_p gp_1 n, nI mc, f_strongCount, f_pinnedLevels, a_state, a_move, lk, ps, a_base, a_size, a_table, a_stale, a_strong) (nI n, nI sl, nI tw, nI (li_f n), nI mc, f_marked, a_code, a_digit, b_move, a_reached, a_queue, a_held, ps, a_twist, lk, 35280) := fun k' => rr_in W x8 x9 C0 C1 ht hm hq hh hw hk
  obtain ⟨h2, hn, hsl, htw, hmc, hhl, hml, hl0, hps⟩ := id W
  have hs := li_f7 n hn
  have bad : (v1 < 0 ∨ nI sl ≤ v1) → wpX_swap (fun r u' => wpY_swap (fun r' v' => r' = r ∧ i_Rel (k + 4) u' v') (nI n, nI sl, nI tw, nI (li_f n), nI mc, f_marked, a_code, a_digit, b_move, a_reached, a_queue, a_held, ps, a_twist, lk, 35280) v1 v2 v3) (nI n, nI sl, nI tw, bq_p gp_1 n, nI mc, f_strongCount, f_pinnedLevels, a_state, a_move, lk, ps, a_base, a_size, a_table, a_stale, a_strong) v1 v2 v3 := fun hv => by
    unfold wpX_swap
    dsimp only
    refine xw_slot0 hv (br_t rfl ?_)
    unfold wpY_swap
    dsimp only
    exact yw_slot0 hv (br_f (by decide) ⟨rfl, same _⟩)
  rcases pk_ix v1 (n := sl) (by omega) with e | e | ⟨j, hj, e⟩
  · exact bad (Or.inl e)
  · exact bad (Or.inr e)
  · subst e
    have bad2 : (v2 < 0 ∨ nI n ≤ v2) → wpX_swap (fun r u' => wpY_swap (fun r' v' => r' = r ∧ i_Rel (k + 4) u' v') (nI n, nI sl, nI tw, nI (li_f n), nI mc, f_marked, a_code, a_digit, b_move, a_reached, a_queue, a_held, ps, a_twist, lk, 35280) (nI j) v2 v3) (nI n, nI sl, nI tw, bq_p gp_1 n, nI mc, f_strongCount, f_pinnedLevels, a_state, a_move, lk, ps, a_base, a_size, a_table, a_stale, a_strong) (nI j) v2 v3 := fun hv => by
      unfold wpX_swap
      dsimp only
      refine xw_slot1 hsl hj (br_f (by decide) (xw_plc0 hv (br_t rfl ?_)))
      unfold wpY_swap
      dsimp only
      exact yw_slot1 hsl hj (br_t rfl (yw_plc0 hv (br_f (by decide) ⟨rfl, same _⟩)))
    rcases pk_ix v2 (n := n) (by omega) with e | e | ⟨a, ha, e⟩
    · exact bad2 (Or.inl e)
    · exact bad2 (Or.inr e)
    · subst e
      have bad3 : (v3 < 0 ∨ nI n ≤ v3) → wpX_swap (fun r u' => wpY_swap (fun r' v' => r' = r ∧ i_Rel (k + 4) u' v') (nI n, nI sl, nI tw, nI (li_f n), nI mc, f_marked, a_code, a_digit, b_move, a_reached, a_queue, a_held, ps, a_twist, lk, 35280) (nI j) (nI a) v3) (nI n, nI sl, nI tw, bq_p gp_1 n, nI mc, f_strongCount, f_pinnedLevels, a_state, a_move, lk, ps, a_base, a_size, a_table, a_stale, a_strong) (nI j) (nI a) v3 := fun hv => by
        unfold wpX_swap
        dsimp only
        refine xw_slot1 hsl hj (br_f (by decide) (xw_plc1 hn ha (br_f (by decide) (xw_plc0 hv (br_t rfl ?_)))))
        unfold wpY_swap
        dsimp only
        exact yw_slot1 hsl hj (br_t rfl (yw_plc1 hn ha (br_t rfl (yw_plc0 hv (br_f (by decide) ⟨rfl, same _⟩)))))
      rcases pk_ix v3 (n := n) (by omega) with e | e | ⟨b, hb, e⟩
      · exact bad3 (Or.inl e)
      · exact bad3 (Or.inr e)
      · subst e
        have vj : vp_in (nI j) 8 := vp_in_nI (by omega) (by omega)
        have cj : (nI j).toNatClampNeg = j := nI_clamp (by omega)
        have hPj := li_gP n (h j)
        unfold wpX_swap
        dsimp only
        refine xw_slot1 hsl hj (br_f (by decide) (xw_plc1 hn ha (br_f (by decide) (xw_plc1 hn hb (br_f (by decide) (And.intro vj ?_))))))
        rw [cj, x8 j (by omega)]
        refine nm_e (xw_image hn hPj ha (xw_image hn hPj hb (nm_e (And.intro vj ?_))))
        rw [bq_sw hn hPj ha hb]
        refine nm_e ?_
        unfold wpY_swap
        dsimp only
        refine yw_slot1 hsl hj (br_t rfl (yw_plc1 hn ha (br_t rfl (yw_plc1 hn hb (br_t rfl (Exists.intro (n + 1) ?_))))))
        refine ys_35 (s := h j) hn ht (by omega) (hhl j (by omega)) (hh j (by omega)) ha hb (fun w hw' ew => ?_) (n + 1) 0 (by omega) (by omega)
        rw [← ew]
        exact ⟨rfl, rr_set W x8 x9 C0 C1 ht hm hq hh hw hk hw'⟩
theorem i_vc_multiply {k : Nat} {u : SX} {v : SY} (I : i_Rel k u v) (hk : k + 4 ≤ 2051) (v1 : Int32) (v2 : Int32) (v3 : Int32) : wpX_multiply (fun r u' => wpY_multiply (fun r' v' => r' = r ∧ i_Rel (k + 4) u' v') v v1 v2 v3) u v1 v2 v3 := by
  refine rr_el (P := fun u v => wpX_multiply (fun r u' => wpY_multiply (fun r' v' => r' = r ∧ i_Rel (k + 4) u' v') v v1 v2 v3) u v1 v2 v3) I ?_
  intro n sl tw mc h mv lk ps W f_strongCount f_pinnedLevels a_state a_move a_base a_size a_table a_stale a_strong x8 x9 C0 C1 f_marked a_code a_digit b_move a_reached a_queue a_held a_twist ht hm hq hh hw hk
  have same : ∀ k', i_Rel k' (nI n, nI sl, nI tw, bq_p gp_1 n, nI mc, f_strongCount, f_pinnedLevels, a_state, a_move, lk, ps, a_base, a_size, a_table, a_stale, a_strong) (nI n, nI sl, nI tw, nI (li_f n), nI mc, f_marked, a_code, a_digit, b_move, a_reached, a_queue, a_held, ps, a_twist, lk, 35280) := fun k' => rr_in W x8 x9 C0 C1 ht hm hq hh hw hk
  obtain ⟨h2, hn, hsl, htw, hmc, hhl, hml, hl0, hps⟩ := id W
  have hs := li_f7 n hn
  have bad : (v1 < 0 ∨ nI sl ≤ v1) → wpX_multiply (fun r u' => wpY_multiply (fun r' v' => r' = r ∧ i_Rel (k + 4) u' v') (nI n, nI sl, nI tw, nI (li_f n), nI mc, f_marked, a_code, a_digit, b_move, a_reached, a_queue, a_held, ps, a_twist, lk, 35280) v1 v2 v3) (nI n, nI sl, nI tw, bq_p gp_1 n, nI mc, f_strongCount, f_pinnedLevels, a_state, a_move, lk, ps, a_base, a_size, a_table, a_stale, a_strong) v1 v2 v3 := fun hv => by
    unfold wpX_multiply
    dsimp only
    refine xw_slot0 hv (br_t rfl ?_)
    unfold wpY_multiply
    dsimp only
    exact yw_slot0 hv (br_f (by decide) ⟨rfl, same _⟩)
  rcases pk_ix v1 (n := sl) (by omega) with e | e | ⟨j, hj, e⟩
  · exact bad (Or.inl e)
  · exact bad (Or.inr e)
  · subst e
    have bad2 : (v2 < 0 ∨ nI sl ≤ v2) → wpX_multiply (fun r u' => wpY_multiply (fun r' v' => r' = r ∧ i_Rel (k + 4) u' v') (nI n, nI sl, nI tw, nI (li_f n), nI mc, f_marked, a_code, a_digit, b_move, a_reached, a_queue, a_held, ps, a_twist, lk, 35280) (nI j) v2 v3) (nI n, nI sl, nI tw, bq_p gp_1 n, nI mc, f_strongCount, f_pinnedLevels, a_state, a_move, lk, ps, a_base, a_size, a_table, a_stale, a_strong) (nI j) v2 v3 := fun hv => by
      unfold wpX_multiply
      dsimp only
      refine xw_slot1 hsl hj (br_f (by decide) (xw_slot0 hv (br_t rfl ?_)))
      unfold wpY_multiply
      dsimp only
      exact yw_slot1 hsl hj (br_t rfl (yw_slot0 hv (br_f (by decide) ⟨rfl, same _⟩)))
    rcases pk_ix v2 (n := sl) (by omega) with e | e | ⟨a, ha, e⟩
    · exact bad2 (Or.inl e)
    · exact bad2 (Or.inr e)
    · subst e
      have bad3 : (v3 < 0 ∨ nI sl ≤ v3) → wpX_multiply (fun r u' => wpY_multiply (fun r' v' => r' = r ∧ i_Rel (k + 4) u' v') (nI n, nI sl, nI tw, nI (li_f n), nI mc, f_marked, a_code, a_digit, b_move, a_reached, a_queue, a_held, ps, a_twist, lk, 35280) (nI j) (nI a) v3) (nI n, nI sl, nI tw, bq_p gp_1 n, nI mc, f_strongCount, f_pinnedLevels, a_state, a_move, lk, ps, a_base, a_size, a_table, a_stale, a_strong) (nI j) (nI a) v3 := fun hv => by
        unfold wpX_multiply
        dsimp only
        refine xw_slot1 hsl hj (br_f (by decide) (xw_slot1 hsl ha (br_f (by decide) (xw_slot0 hv (br_t rfl ?_)))))
        unfold wpY_multiply
        dsimp only
        exact yw_slot1 hsl hj (br_t rfl (yw_slot1 hsl ha (br_t rfl (yw_slot0 hv (br_f (by decide) ⟨rfl, same _⟩)))))
      rcases pk_ix v3 (n := sl) (by omega) with e | e | ⟨b, hb, e⟩
      · exact bad3 (Or.inl e)
      · exact bad3 (Or.inr e)
      · subst e
        have vj : vp_in (nI j) 8 := vp_in_nI (by omega) (by omega)
        have va : vp_in (nI a) 8 := vp_in_nI (by omega) (by omega)
        have vb : vp_in (nI b) 8 := vp_in_nI (by omega) (by omega)
        have cj : (nI j).toNatClampNeg = j := nI_clamp (by omega)
        have ca : (nI a).toNatClampNeg = a := nI_clamp (by omega)
        have cb : (nI b).toNatClampNeg = b := nI_clamp (by omega)
        unfold wpX_multiply
        dsimp only
        refine xw_slot1 hsl hj (br_f (by decide) (xw_slot1 hsl ha (br_f (by decide) (xw_slot1 hsl hb (br_f (by decide) (And.intro va (And.intro vb ?_)))))))
        rw [ca, cb, cj, x8 a (by omega), x8 b (by omega)]
        refine xw_compose hn (li_gP n _) (li_gP n _) (And.intro vj (nm_e ?_))
        unfold wpY_multiply
        dsimp only
        refine yw_slot1 hsl hj (br_t rfl (yw_slot1 hsl ha (br_t rfl (yw_slot1 hsl hb (br_t rfl (And.intro va (And.intro vb ?_)))))))
        rw [ca, cb, cj, hh a (by omega), hh b (by omega)]
        refine yf_product hn ht (hhl a (by omega)) (hhl b (by omega)) (fun w hw' ew => And.intro vj (nm_e ?_))
        rw [← ew]
        exact ⟨rfl, rr_set W x8 x9 C0 C1 ht hm hq hh hw hk hw'⟩
theorem i_vc_read {k : Nat} {u : SX} {v : SY} (I : i_Rel k u v) (hk : k + 4 ≤ 2051) (v1 : Int32) : wpX_read (fun r => wpY_read (fun r' => r' = r ∧ i_Rel (k + 4) u v) v v1) u v1 := by
  refine rr_el (P := fun u v => wpX_read (fun r => wpY_read (fun r' => r' = r ∧ i_Rel (k + 4) u v) v v1) u v1) I ?_
  intro n sl tw mc h mv lk ps W f_strongCount f_pinnedLevels a_state a_move a_base a_size a_table a_stale a_strong x8 x9 C0 C1 f_marked a_code a_digit b_move a_reached a_queue a_held a_twist ht hm hq hh hw hk
  have same : ∀ k', i_Rel k' (nI n, nI sl, nI tw, bq_p gp_1 n, nI mc, f_strongCount, f_pinnedLevels, a_state, a_move, lk, ps, a_base, a_size, a_table, a_stale, a_strong) (nI n, nI sl, nI tw, nI (li_f n), nI mc, f_marked, a_code, a_digit, b_move, a_reached, a_queue, a_held, ps, a_twist, lk, 35280) := fun k' => rr_in W x8 x9 C0 C1 ht hm hq hh hw hk
  obtain ⟨h2, hn, hsl, htw, hmc, hhl, hml, hl0, hps⟩ := id W
  have hs := li_f7 n hn
  have bad : (v1 < 0 ∨ nI sl ≤ v1) → wpX_read (fun r => wpY_read (fun r' => r' = r ∧ i_Rel (k + 4) (nI n, nI sl, nI tw, bq_p gp_1 n, nI mc, f_strongCount, f_pinnedLevels, a_state, a_move, lk, ps, a_base, a_size, a_table, a_stale, a_strong) (nI n, nI sl, nI tw, nI (li_f n), nI mc, f_marked, a_code, a_digit, b_move, a_reached, a_queue, a_held, ps, a_twist, lk, 35280)) (nI n, nI sl, nI tw, nI (li_f n), nI mc, f_marked, a_code, a_digit, b_move, a_reached, a_queue, a_held, ps, a_twist, lk, 35280) v1) (nI n, nI sl, nI tw, bq_p gp_1 n, nI mc, f_strongCount, f_pinnedLevels, a_state, a_move, lk, ps, a_base, a_size, a_table, a_stale, a_strong) v1 := fun hv => by
    unfold wpX_read
    dsimp only
    refine xw_slot0 hv (br_t rfl ?_)
    unfold wpY_read
    dsimp only
    exact yw_slot0 hv (br_f (by decide) ⟨rfl, same _⟩)
  rcases pk_ix v1 (n := sl) (by omega) with e | e | ⟨j, hj, e⟩
  · exact bad (Or.inl e)
  · exact bad (Or.inr e)
  · subst e
    have vj : vp_in (nI j) 8 := vp_in_nI (by omega) (by omega)
    have cj : (nI j).toNatClampNeg = j := nI_clamp (by omega)
    have hhj := hhl j (by omega)
    unfold wpX_read
    dsimp only
    refine xw_slot1 hsl hj (br_f (by decide) (And.intro vj ?_))
    rw [cj, x8 j (by omega)]
    refine xw_encode hn (li_gP n _) ?_
    unfold wpY_read
    dsimp only
    refine yw_slot1 hsl hj (br_t rfl (And.intro vj ?_))
    rw [cj, hh j (by omega), nI_clamp (show h j < 2 ^ 31 by omega), ht.1 _ hhj]
    exact And.intro (vp_in_nI (by omega) (by omega)) ⟨rfl, same _⟩
end
section
/-! a new twist; toggle, look, turn, pin, pinned -/
section
variable {n : Nat} {f_slots f_twists f_marked : Int32} {a_code a_digit a_reached a_queue a_held a_pins a_twist a_locked : Nat → Int32}
variable {a_move0 : Nat → Int32}
theorem ya_41 {post : Int32 → SY → Prop} {mc s j : Nat} (hn : n ≤ 7) (ht : ry_T n a_code a_digit) (hmc : mc < 6) (hj : j < 8) (hs : s < li_f n) (e : a_held j = nI s)
    (k : ∀ a_move, (∀ m, m < li_f n → ∃ w, w < li_f n ∧ a_move (5040 * mc + m) = nI w ∧ li_g n w = gp_c (li_g n m) (li_g n s)) → (∀ i, ¬ (5040 * mc ≤ i ∧ i < 5040 * mc + 5040) → a_move i = a_move0 i) → post (nI mc) (nI n, f_slots, f_twists, nI (li_f n), nI (mc + 1), 0, a_code, a_digit, a_move, a_reached, a_queue, a_held, a_pins, a_twist, a_locked, 35280)) :
    ∀ m x a_move, x ≤ li_f n → li_f n - x < m → (∀ i, i < x → ∃ w, w < li_f n ∧ a_move (5040 * mc + i) = nI w ∧ li_g n w = gp_c (li_g n i) (li_g n s)) → (∀ i, ¬ (5040 * mc ≤ i ∧ i < 5040 * mc + 5040) → a_move i = a_move0 i) →
      wY_admit_41 post (nI j) (nI n) f_slots f_twists (nI (li_f n)) (nI mc) f_marked 35280 m (nI x) a_code a_digit a_move a_reached a_queue a_held a_pins a_twist a_locked
  | 0, _, _, _, h2, _, _ => absurd h2 (Nat.not_lt_zero _)
  | m + 1, x, a_move, h1, h2, ha, hf => by
    have hs7 := li_f7 n hn
    refine pk_le (li_f n) x (fun z => nm_r (nI_1 mc) (k a_move (fun i hi => ha i (by omega)) hf)) (fun z => And.intro (vp_in_nI hj (by omega)) ?_)
    rw [nI_clamp (show j < 2 ^ 31 by omega), e]
    refine yf_product hn ht z hs (fun w hw ew => ?_)
    rw [ym_ix, nI_clamp (show 5040 * mc + x < 2 ^ 31 by omega)]
    refine And.intro (vp_in_nI (by omega) (by omega)) (nm_e (nm_r (nI_1 x) ?_))
    refine ya_41 hn ht hmc hj hs e k m (x + 1) _ (by omega) (by omega) (fun i hi => ?_) (fun i hi => ?_)
    · rcases Nat.lt_or_ge i x with y | y
      · rw [pk_un (by omega)]; exact ha i y
      · rw [show i = x from by omega]; exact ⟨w, hw, pk_us, ew⟩
    · rw [pk_un (by omega)]; exact hf i hi
end
theorem ra_lk {lk : Nat → Int32} {i : Nat} (h : lk i = 0) : upd lk i 0 = lk := by
  funext j
  unfold upd
  by_cases e : j = i
  · rw [if_pos e, e, h]
  · rw [if_neg e]
theorem ra_st0 {a : Nat → Int32} {P : Prop} (e : upd (upd a 0 1) 1 1 0 = 0) : P := by
  rw [pk_un (by omega), pk_us] at e
  exact absurd e (by decide)
theorem ra_st1 {a : Nat → Int32} {P : Prop} (e : upd (upd a 0 1) 1 1 1 = 0) : P := by
  rw [pk_us] at e
  exact absurd e (by decide)
theorem i_vc_admit {k : Nat} {u : SX} {v : SY} (I : i_Rel k u v) (hk : k + 4 ≤ 2051) (v1 : Int32) : wpX_admit (fun r u' => wpY_admit (fun r' v' => r' = r ∧ i_Rel (k + 4) u' v') v v1) u v1 := by
  refine rr_el (P := fun u v => wpX_admit (fun r u' => wpY_admit (fun r' v' => r' = r ∧ i_Rel (k + 4) u' v') v v1) u v1) I ?_
  intro n sl tw mc h mv lk ps W f_strongCount f_pinnedLevels a_state a_move a_base a_size a_table a_stale a_strong x8 x9 C0 C1 f_marked a_code a_digit b_move a_reached a_queue a_held a_twist ht hm hq hh hw hk
  have same : ∀ k', i_Rel k' (nI n, nI sl, nI tw, bq_p gp_1 n, nI mc, f_strongCount, f_pinnedLevels, a_state, a_move, lk, ps, a_base, a_size, a_table, a_stale, a_strong) (nI n, nI sl, nI tw, nI (li_f n), nI mc, f_marked, a_code, a_digit, b_move, a_reached, a_queue, a_held, ps, a_twist, lk, 35280) := fun k' => rr_in W x8 x9 C0 C1 ht hm hq hh hw hk
  obtain ⟨h2, hn, hsl, htw, hmc, hhl, hml, hl0, hps⟩ := id W
  have hs := li_f7 n hn
  have bad : (v1 < 0 ∨ nI sl ≤ v1) → wpX_admit (fun r u' => wpY_admit (fun r' v' => r' = r ∧ i_Rel (k + 4) u' v') (nI n, nI sl, nI tw, nI (li_f n), nI mc, f_marked, a_code, a_digit, b_move, a_reached, a_queue, a_held, ps, a_twist, lk, 35280) v1) (nI n, nI sl, nI tw, bq_p gp_1 n, nI mc, f_strongCount, f_pinnedLevels, a_state, a_move, lk, ps, a_base, a_size, a_table, a_stale, a_strong) v1 := fun hv => by
    unfold wpX_admit
    dsimp only
    refine xw_slot0 hv (br_t rfl ?_)
    unfold wpY_admit
    dsimp only
    exact yw_slot0 hv (br_f (by decide) ⟨rfl, same _⟩)
  rcases pk_ix v1 (n := sl) (by omega) with e | e | ⟨j, hj, e⟩
  · exact bad (Or.inl e)
  · exact bad (Or.inr e)
  · subst e
    have vj : vp_in (nI j) 8 := vp_in_nI (by omega) (by omega)
    have cj : (nI j).toNatClampNeg = j := nI_clamp (by omega)
    have cm : (nI mc).toNatClampNeg = mc := nI_clamp (by omega)
    have hhj := hhl j (by omega)
    unfold wpX_admit
    dsimp only
    refine xw_slot1 hsl hj (br_f (by decide) (pk_lt mc tw (fun z => ?_) (fun z => ?_)))
    · have vm : vp_in (nI mc) 6 := vp_in_nI (by omega) (by omega)
      rw [cj, cm]
      refine And.intro vj (And.intro vm (nm_e (And.intro vm (nm_r (ra_lk (hl0 mc (Nat.le_refl _))) (nm_r (nI_1 mc) ?_)))))
      unfold wpX_groupChanged
      dsimp only
      refine nm_e (nm_e ?_)
      unfold wpY_admit
      dsimp only
      refine yw_slot1 hsl hj (br_t rfl (pk_lt mc tw (fun _ => And.intro vj (And.intro vm ?_)) (fun y => absurd y (by omega))))
      rw [cj, cm]
      refine nm_e (Exists.intro (li_f n + 1) ?_)
      refine ya_41 (a_move0 := b_move) (s := h j) hn ht (by omega) (by omega) hhj (hh j (by omega)) (fun b_move' q1 q2 => ?_) (li_f n + 1) 0 b_move (by omega) (by omega) (fun _ h => absurd h (Nat.not_lt_zero _)) (fun _ _ => rfl)
      refine ⟨rfl, rr_in (mv := fun t => if t = mc then h j else mv t) ⟨h2, hn, hsl, htw, by omega, hhl, fun t ht' => ?_, fun t ht' => hl0 t (by omega), hps⟩ x8 (fun t ht' => ?_) (fun e => ra_st0 e) (fun e => ra_st1 e) ht (fun t m ht' hm' => ?_) hq hh (fun t ht' => ?_) (Or.inl rfl)⟩
      · show (if t = mc then h j else mv t) < li_f n
        rcases Classical.em (t = mc) with e | e
        · rw [if_pos e]; exact hhj
        · rw [if_neg e]; exact hml t (by omega)
      · rcases Classical.em (t = mc) with e | e
        · rw [if_pos e, e, pk_us]; exact x8 j (by omega)
        · rw [if_neg e, pk_un e]; exact x9 t (by omega)
      · show ∃ w, w < li_f n ∧ b_move' (5040 * t + m) = nI w ∧ li_g n w = gp_c (li_g n m) (li_g n (if t = mc then h j else mv t))
        rcases Classical.em (t = mc) with e | e
        · rw [if_pos e, e]; exact q1 m hm'
        · rw [if_neg e, q2 _ (by omega)]; exact hm t m (by omega) hm'
      · rcases Classical.em (t = mc) with e | e
        · rw [if_pos e, e, pk_us]; exact hh j (by omega)
        · rw [if_neg e, pk_un e]; exact hw t (by omega)
    · unfold wpY_admit
      dsimp only
      exact yw_slot1 hsl hj (br_t rfl (pk_lt mc tw (fun y => absurd y (by omega)) (fun _ => ⟨rfl, same _⟩)))
theorem i_vc_toggle {k : Nat} {u : SX} {v : SY} (I : i_Rel k u v) (hk : k + 4 ≤ 2051) (v1 : Int32) : wpX_toggle (fun r u' => wpY_toggle (fun r' v' => r' = r ∧ i_Rel (k + 4) u' v') v v1) u v1 := by
  refine rr_el (P := fun u v => wpX_toggle (fun r u' => wpY_toggle (fun r' v' => r' = r ∧ i_Rel (k + 4) u' v') v v1) u v1) I ?_
  intro n sl tw mc h mv lk ps W f_strongCount f_pinnedLevels a_state a_move a_base a_size a_table a_stale a_strong x8 x9 C0 C1 f_marked a_code a_digit b_move a_reached a_queue a_held a_twist ht hm hq hh hw hk
  have same : ∀ k', i_Rel k' (nI n, nI sl, nI tw, bq_p gp_1 n, nI mc, f_strongCount, f_pinnedLevels, a_state, a_move, lk, ps, a_base, a_size, a_table, a_stale, a_strong) (nI n, nI sl, nI tw, nI (li_f n), nI mc, f_marked, a_code, a_digit, b_move, a_reached, a_queue, a_held, ps, a_twist, lk, 35280) := fun k' => rr_in W x8 x9 C0 C1 ht hm hq hh hw hk
  obtain ⟨h2, hn, hsl, htw, hmc, hhl, hml, hl0, hps⟩ := id W
  have hs := li_f7 n hn
  have hmc6 : mc ≤ 6 := by omega
  have bad : (v1 < 0 ∨ nI mc ≤ v1) → wpX_toggle (fun r u' => wpY_toggle (fun r' v' => r' = r ∧ i_Rel (k + 4) u' v') (nI n, nI sl, nI tw, nI (li_f n), nI mc, f_marked, a_code, a_digit, b_move, a_reached, a_queue, a_held, ps, a_twist, lk, 35280) v1) (nI n, nI sl, nI tw, bq_p gp_1 n, nI mc, f_strongCount, f_pinnedLevels, a_state, a_move, lk, ps, a_base, a_size, a_table, a_stale, a_strong) v1 := fun hv => by
    unfold wpX_toggle
    dsimp only
    refine xw_tw0 hv (br_t rfl ?_)
    unfold wpY_toggle
    dsimp only
    exact yw_tw0 hv (br_f (by decide) ⟨rfl, same _⟩)
  rcases pk_ix v1 (n := mc) (by omega) with e | e | ⟨j, hj, e⟩
  · exact bad (Or.inl e)
  · exact bad (Or.inr e)
  · subst e
    have vj : vp_in (nI j) 6 := vp_in_nI (by omega) (by omega)
    have cj : (nI j).toNatClampNeg = j := nI_clamp (by omega)
    have fin : ∀ x : Int32, i_Rel (k + 4) (nI n, nI sl, nI tw, bq_p gp_1 n, nI mc, f_strongCount, f_pinnedLevels, a_state, a_move, upd lk j x, ps, a_base, a_size, a_table, upd (upd a_stale 0 1) 1 1, a_strong) (nI n, nI sl, nI tw, nI (li_f n), nI mc, 0, a_code, a_digit, b_move, a_reached, a_queue, a_held, ps, a_twist, upd lk j x, 35280) := fun x =>
      rr_in ⟨h2, hn, hsl, htw, hmc, hhl, hml, fun t ht' => by rw [pk_un (by omega)]; exact hl0 t ht', hps⟩ x8 x9 (fun e => ra_st0 e) (fun e => ra_st1 e) ht hm hq hh hw (Or.inl rfl)
    have v1' : vp_nar .boolean 1 = 1 := rfl
    have v0' : vp_nar .boolean 0 = 0 := rfl
    unfold wpX_toggle
    dsimp only
    refine xw_tw1 hmc6 hj (br_f (by decide) (And.intro vj (nm_e ?_)))
    rw [cj]
    refine br_c (fun z => ?_) (fun z => ?_)
    · unfold wX_toggle_32
      rw [cj, v1']
      refine And.intro vj (nm_e ?_)
      unfold wpX_groupChanged
      dsimp only
      refine nm_e (nm_e (br_t z ?_))
      unfold wpY_toggle
      dsimp only
      refine yw_tw1 hmc6 hj (br_t rfl (And.intro vj ?_))
      rw [cj]
      refine br_t z ?_
      unfold wY_toggle_30
      rw [cj, v1']
      refine And.intro vj (nm_e (And.intro vj ?_))
      rw [pk_us]
      exact br_f (by decide) ⟨rfl, fin 1⟩
    · unfold wX_toggle_32
      rw [cj, v0']
      refine And.intro vj (nm_e ?_)
      unfold wpX_groupChanged
      dsimp only
      refine nm_e (nm_e (br_f z ?_))
      unfold wpY_toggle
      dsimp only
      refine yw_tw1 hmc6 hj (br_t rfl (And.intro vj ?_))
      rw [cj]
      refine br_f z ?_
      unfold wY_toggle_30
      rw [cj, v0']
      refine And.intro vj (nm_e (And.intro vj ?_))
      rw [pk_us]
      exact br_t rfl ⟨rfl, fin 0⟩
theorem i_vc_look {k : Nat} {u : SX} {v : SY} (I : i_Rel k u v) (hk : k + 4 ≤ 2051) (v1 : Int32) : wpX_look (fun r => wpY_look (fun r' => r' = r ∧ i_Rel (k + 4) u v) v v1) u v1 := by
  refine rr_el (P := fun u v => wpX_look (fun r => wpY_look (fun r' => r' = r ∧ i_Rel (k + 4) u v) v v1) u v1) I ?_
  intro n sl tw mc h mv lk ps W f_strongCount f_pinnedLevels a_state a_move a_base a_size a_table a_stale a_strong x8 x9 C0 C1 f_marked a_code a_digit b_move a_reached a_queue a_held a_twist ht hm hq hh hw hk
  have same : ∀ k', i_Rel k' (nI n, nI sl, nI tw, bq_p gp_1 n, nI mc, f_strongCount, f_pinnedLevels, a_state, a_move, lk, ps, a_base, a_size, a_table, a_stale, a_strong) (nI n, nI sl, nI tw, nI (li_f n), nI mc, f_marked, a_code, a_digit, b_move, a_reached, a_queue, a_held, ps, a_twist, lk, 35280) := fun k' => rr_in W x8 x9 C0 C1 ht hm hq hh hw hk
  obtain ⟨h2, hn, hsl, htw, hmc, hhl, hml, hl0, hps⟩ := id W
  have hs := li_f7 n hn
  have hmc6 : mc ≤ 6 := by omega
  have bad : (v1 < 0 ∨ nI mc ≤ v1) → wpX_look (fun r => wpY_look (fun r' => r' = r ∧ i_Rel (k + 4) (nI n, nI sl, nI tw, bq_p gp_1 n, nI mc, f_strongCount, f_pinnedLevels, a_state, a_move, lk, ps, a_base, a_size, a_table, a_stale, a_strong) (nI n, nI sl, nI tw, nI (li_f n), nI mc, f_marked, a_code, a_digit, b_move, a_reached, a_queue, a_held, ps, a_twist, lk, 35280)) (nI n, nI sl, nI tw, nI (li_f n), nI mc, f_marked, a_code, a_digit, b_move, a_reached, a_queue, a_held, ps, a_twist, lk, 35280) v1) (nI n, nI sl, nI tw, bq_p gp_1 n, nI mc, f_strongCount, f_pinnedLevels, a_state, a_move, lk, ps, a_base, a_size, a_table, a_stale, a_strong) v1 := fun hv => by
    unfold wpX_look
    dsimp only
    refine xw_tw0 hv (br_t rfl ?_)
    unfold wpY_look
    dsimp only
    exact yw_tw0 hv (br_f (by decide) ⟨rfl, same _⟩)
  rcases pk_ix v1 (n := mc) (by omega) with e | e | ⟨j, hj, e⟩
  · exact bad (Or.inl e)
  · exact bad (Or.inr e)
  · subst e
    have vj : vp_in (nI j) 6 := vp_in_nI (by omega) (by omega)
    have cj : (nI j).toNatClampNeg = j := nI_clamp (by omega)
    have hmj := hml j hj
    unfold wpX_look
    dsimp only
    refine xw_tw1 hmc6 hj (br_f (by decide) (And.intro vj ?_))
    rw [cj, x9 j hj]
    refine xw_encode hn (li_gP n _) (And.intro vj ?_)
    have yy : ∀ {r : Int32}, ((lk j = 0 → nI (li_c (li_g n (mv j)) n) + 0 = r) ∧ (¬ lk j = 0 → nI (li_c (li_g n (mv j)) n) + 10000000 = r)) → wpY_look (fun r' => r' = r ∧ i_Rel (k + 4) (nI n, nI sl, nI tw, bq_p gp_1 n, nI mc, f_strongCount, f_pinnedLevels, a_state, a_move, lk, ps, a_base, a_size, a_table, a_stale, a_strong) (nI n, nI sl, nI tw, nI (li_f n), nI mc, f_marked, a_code, a_digit, b_move, a_reached, a_queue, a_held, ps, a_twist, lk, 35280)) (nI n, nI sl, nI tw, nI (li_f n), nI mc, f_marked, a_code, a_digit, b_move, a_reached, a_queue, a_held, ps, a_twist, lk, 35280) (nI j) := fun {r} hr => by
      unfold wpY_look
      dsimp only
      refine yw_tw1 hmc6 hj (br_t rfl (And.intro vj ?_))
      rw [cj, hw j hj, nI_clamp (show mv j < 2 ^ 31 by omega), ht.1 _ hmj]
      exact And.intro (vp_in_nI (by omega) (by omega)) (And.intro vj (br_c (fun z => ⟨hr.1 z, same _⟩) (fun z => ⟨hr.2 z, same _⟩)))
    refine br_c (fun z => yy ⟨fun _ => Int32.add_zero _, fun q => absurd z q⟩) (fun z => yy ⟨fun q => absurd q z, fun _ => rfl⟩)
theorem i_vc_turn {k : Nat} {u : SX} {v : SY} (I : i_Rel k u v) (hk : k + 4 ≤ 2051) (v1 : Int32) (v2 : Int32) : wpX_turn (fun r u' => wpY_turn (fun r' v' => r' = r ∧ i_Rel (k + 4) u' v') v v1 v2) u v1 v2 := by
  refine rr_el (P := fun u v => wpX_turn (fun r u' => wpY_turn (fun r' v' => r' = r ∧ i_Rel (k + 4) u' v') v v1 v2) u v1 v2) I ?_
  intro n sl tw mc h mv lk ps W f_strongCount f_pinnedLevels a_state a_move a_base a_size a_table a_stale a_strong x8 x9 C0 C1 f_marked a_code a_digit b_move a_reached a_queue a_held a_twist ht hm hq hh hw hk
  have same : ∀ k', i_Rel k' (nI n, nI sl, nI tw, bq_p gp_1 n, nI mc, f_strongCount, f_pinnedLevels, a_state, a_move, lk, ps, a_base, a_size, a_table, a_stale, a_strong) (nI n, nI sl, nI tw, nI (li_f n), nI mc, f_marked, a_code, a_digit, b_move, a_reached, a_queue, a_held, ps, a_twist, lk, 35280) := fun k' => rr_in W x8 x9 C0 C1 ht hm hq hh hw hk
  obtain ⟨h2, hn, hsl, htw, hmc, hhl, hml, hl0, hps⟩ := id W
  have hs := li_f7 n hn
  have hmc6 : mc ≤ 6 := by omega
  have bad : (v1 < 0 ∨ nI sl ≤ v1) → wpX_turn (fun r u' => wpY_turn (fun r' v' => r' = r ∧ i_Rel (k + 4) u' v') (nI n, nI sl, nI tw, nI (li_f n), nI mc, f_marked, a_code, a_digit, b_move, a_reached, a_queue, a_held, ps, a_twist, lk, 35280) v1 v2) (nI n, nI sl, nI tw, bq_p gp_1 n, nI mc, f_strongCount, f_pinnedLevels, a_state, a_move, lk, ps, a_base, a_size, a_table, a_stale, a_strong) v1 v2 := fun hv => by
    unfold wpX_turn
    dsimp only
    refine xw_slot0 hv (br_t rfl ?_)
    unfold wpY_turn
    dsimp only
    exact yw_slot0 hv (br_f (by decide) ⟨rfl, same _⟩)
  rcases pk_ix v1 (n := sl) (by omega) with e | e | ⟨j, hj, e⟩
  · exact bad (Or.inl e)
  · exact bad (Or.inr e)
  · subst e
    have bad2 : (v2 < 0 ∨ nI mc ≤ v2) → wpX_turn (fun r u' => wpY_turn (fun r' v' => r' = r ∧ i_Rel (k + 4) u' v') (nI n, nI sl, nI tw, nI (li_f n), nI mc, f_marked, a_code, a_digit, b_move, a_reached, a_queue, a_held, ps, a_twist, lk, 35280) (nI j) v2) (nI n, nI sl, nI tw, bq_p gp_1 n, nI mc, f_strongCount, f_pinnedLevels, a_state, a_move, lk, ps, a_base, a_size, a_table, a_stale, a_strong) (nI j) v2 := fun hv => by
      unfold wpX_turn
      dsimp only
      refine xw_slot1 hsl hj (br_f (by decide) (xw_tw0 hv (br_t rfl ?_)))
      unfold wpY_turn
      dsimp only
      exact yw_slot1 hsl hj (br_t rfl (yw_tw0 hv (br_f (by decide) ⟨rfl, same _⟩)))
    rcases pk_ix v2 (n := mc) (by omega) with e | e | ⟨t, htt, e⟩
    · exact bad2 (Or.inl e)
    · exact bad2 (Or.inr e)
    · subst e
      have vj : vp_in (nI j) 8 := vp_in_nI (by omega) (by omega)
      have cj : (nI j).toNatClampNeg = j := nI_clamp (by omega)
      have vt : vp_in (nI t) 6 := vp_in_nI (by omega) (by omega)
      have ct : (nI t).toNatClampNeg = t := nI_clamp (by omega)
      unfold wpX_turn
      dsimp only
      refine xw_slot1 hsl hj (br_f (by decide) (xw_tw1 hmc6 htt (br_f (by decide) (And.intro vt ?_))))
      rw [ct, cj]
      refine br_c (fun z => And.intro vj (And.intro vt ?_)) (fun z => ?_)
      · rw [x8 j (by omega), x9 t htt]
        refine xw_compose hn (li_gP n _) (li_gP n _) (And.intro vj (nm_e ?_))
        unfold wpY_turn
        dsimp only
        refine yw_slot1 hsl hj (br_t rfl (yw_tw1 hmc6 htt (br_t rfl (And.intro vt ?_))))
        rw [ct, cj]
        refine br_t z (And.intro vj (And.intro vt ?_))
        rw [hh j (by omega), hw t htt]
        refine yf_product hn ht (hhl j (by omega)) (hml t htt) (fun w hw' ew => And.intro vj (nm_e ?_))
        rw [← ew]
        exact ⟨rfl, rr_set W x8 x9 C0 C1 ht hm hq hh hw hk hw'⟩
      · unfold wpY_turn
        dsimp only
        refine yw_slot1 hsl hj (br_t rfl (yw_tw1 hmc6 htt (br_t rfl (And.intro vt ?_))))
        rw [ct]
        exact br_f z ⟨rfl, same _⟩
theorem i_vc_pinned {k : Nat} {u : SX} {v : SY} (I : i_Rel k u v) (hk : k + 4 ≤ 2051) (v1 : Int32) : wpX_pinned (fun r => wpY_pinned (fun r' => r' = r ∧ i_Rel (k + 4) u v) v v1) u v1 := by
  refine rr_el (P := fun u v => wpX_pinned (fun r => wpY_pinned (fun r' => r' = r ∧ i_Rel (k + 4) u v) v v1) u v1) I ?_
  intro n sl tw mc h mv lk ps W f_strongCount f_pinnedLevels a_state a_move a_base a_size a_table a_stale a_strong x8 x9 C0 C1 f_marked a_code a_digit b_move a_reached a_queue a_held a_twist ht hm hq hh hw hk
  have same : ∀ k', i_Rel k' (nI n, nI sl, nI tw, bq_p gp_1 n, nI mc, f_strongCount, f_pinnedLevels, a_state, a_move, lk, ps, a_base, a_size, a_table, a_stale, a_strong) (nI n, nI sl, nI tw, nI (li_f n), nI mc, f_marked, a_code, a_digit, b_move, a_reached, a_queue, a_held, ps, a_twist, lk, 35280) := fun k' => rr_in W x8 x9 C0 C1 ht hm hq hh hw hk
  obtain ⟨h2, hn, hsl, htw, hmc, hhl, hml, hl0, hps⟩ := id W
  have hs := li_f7 n hn
  have bad : (v1 < 0 ∨ nI n ≤ v1) → wpX_pinned (fun r => wpY_pinned (fun r' => r' = r ∧ i_Rel (k + 4) (nI n, nI sl, nI tw, bq_p gp_1 n, nI mc, f_strongCount, f_pinnedLevels, a_state, a_move, lk, ps, a_base, a_size, a_table, a_stale, a_strong) (nI n, nI sl, nI tw, nI (li_f n), nI mc, f_marked, a_code, a_digit, b_move, a_reached, a_queue, a_held, ps, a_twist, lk, 35280)) (nI n, nI sl, nI tw, nI (li_f n), nI mc, f_marked, a_code, a_digit, b_move, a_reached, a_queue, a_held, ps, a_twist, lk, 35280) v1) (nI n, nI sl, nI tw, bq_p gp_1 n, nI mc, f_strongCount, f_pinnedLevels, a_state, a_move, lk, ps, a_base, a_size, a_table, a_stale, a_strong) v1 := fun hv => by
    unfold wpX_pinned
    dsimp only
    refine xw_plc0 hv (br_t rfl ?_)
    unfold wpY_pinned
    dsimp only
    exact yw_plc0 hv (br_f (by decide) ⟨rfl, same _⟩)
  rcases pk_ix v1 (n := n) (by omega) with e | e | ⟨j, hj, e⟩
  · exact bad (Or.inl e)
  · exact bad (Or.inr e)
  · subst e
    have vj : vp_in (nI j) 7 := vp_in_nI (by omega) (by omega)
    unfold wpX_pinned
    dsimp only
    refine xw_plc1 hn hj (br_f (by decide) (And.intro vj ?_))
    unfold wpY_pinned
    dsimp only
    exact yw_plc1 hn hj (br_t rfl (And.intro vj ⟨rfl, same _⟩))
theorem ra_xbS {n p pl : Nat} {b : Nat → Nat} {ps : Nat → Int32} {x : Int32} (S : xb_S n ps pl b) (h : ps p = 7 ↔ x = 7) : xb_S n (upd ps p x) pl b := by
  have e1 : xb_f (upd ps p x) = xb_f ps := funext fun q => propext (by
    unfold xb_f
    rcases Classical.em (q = p) with z | z
    · rw [z, pk_us]; exact h.symm
    · rw [pk_un z])
  have e2 : xb_p (upd ps p x) = xb_p ps := funext fun q => propext (by
    show ¬ xb_f (upd ps p x) q ↔ ¬ xb_f ps q
    rw [e1])
  unfold xb_S
  rw [e1, e2]
  exact S
theorem i_vc_pin {k : Nat} {u : SX} {v : SY} (I : i_Rel k u v) (hk : k + 4 ≤ 2051) (v1 : Int32) (v2 : Int32) : wpX_pin (fun r u' => wpY_pin (fun r' v' => r' = r ∧ i_Rel (k + 4) u' v') v v1 v2) u v1 v2 := by
  refine rr_el (P := fun u v => wpX_pin (fun r u' => wpY_pin (fun r' v' => r' = r ∧ i_Rel (k + 4) u' v') v v1 v2) u v1 v2) I ?_
  intro n sl tw mc h mv lk ps W f_strongCount f_pinnedLevels a_state a_move a_base a_size a_table a_stale a_strong x8 x9 C0 C1 f_marked a_code a_digit b_move a_reached a_queue a_held a_twist ht hm hq hh hw hk
  have same : ∀ k', i_Rel k' (nI n, nI sl, nI tw, bq_p gp_1 n, nI mc, f_strongCount, f_pinnedLevels, a_state, a_move, lk, ps, a_base, a_size, a_table, a_stale, a_strong) (nI n, nI sl, nI tw, nI (li_f n), nI mc, f_marked, a_code, a_digit, b_move, a_reached, a_queue, a_held, ps, a_twist, lk, 35280) := fun k' => rr_in W x8 x9 C0 C1 ht hm hq hh hw hk
  obtain ⟨h2, hn, hsl, htw, hmc, hhl, hml, hl0, hps⟩ := id W
  have hs := li_f7 n hn
  have bad : (v1 < 0 ∨ nI n ≤ v1) → wpX_pin (fun r u' => wpY_pin (fun r' v' => r' = r ∧ i_Rel (k + 4) u' v') (nI n, nI sl, nI tw, nI (li_f n), nI mc, f_marked, a_code, a_digit, b_move, a_reached, a_queue, a_held, ps, a_twist, lk, 35280) v1 v2) (nI n, nI sl, nI tw, bq_p gp_1 n, nI mc, f_strongCount, f_pinnedLevels, a_state, a_move, lk, ps, a_base, a_size, a_table, a_stale, a_strong) v1 v2 := fun hv => by
    unfold wpX_pin
    dsimp only
    refine xw_plc0 hv (br_t rfl ?_)
    unfold wpY_pin
    dsimp only
    exact yw_plc0 hv (br_f (by decide) ⟨rfl, same _⟩)
  rcases pk_ix v1 (n := n) (by omega) with e | e | ⟨p, hp, e⟩
  · exact bad (Or.inl e)
  · exact bad (Or.inr e)
  · subst e
    have vp : vp_in (nI p) 7 := vp_in_nI (by omega) (by omega)
    have cp : (nI p).toNatClampNeg = p := nI_clamp (by omega)
    have go : (v2 = 7 ∨ ∃ v, v < n ∧ v2 = nI v) → (∀ r, r = (0 : Int32) → ∀ u', i_Rel (k + 4) u' (nI n, nI sl, nI tw, nI (li_f n), nI mc, f_marked, a_code, a_digit, b_move, a_reached, a_queue, a_held, upd ps p v2, a_twist, lk, 35280) → wpY_pin (fun r' v' => r' = r ∧ i_Rel (k + 4) u' v') (nI n, nI sl, nI tw, nI (li_f n), nI mc, f_marked, a_code, a_digit, b_move, a_reached, a_queue, a_held, ps, a_twist, lk, 35280) (nI p) v2) →
        wX_pin_28 (fun r u' => wpY_pin (fun r' v' => r' = r ∧ i_Rel (k + 4) u' v') (nI n, nI sl, nI tw, nI (li_f n), nI mc, f_marked, a_code, a_digit, b_move, a_reached, a_queue, a_held, ps, a_twist, lk, 35280) (nI p) v2) (nI p) v2 (nI n) (nI sl) (nI tw) (bq_p gp_1 n) (nI mc) f_strongCount f_pinnedLevels a_state a_move lk ps a_base a_size a_table a_stale a_strong := fun hv2 hy => by
      have W' : rr_W n sl tw mc h mv lk (upd ps p v2) := ⟨h2, hn, hsl, htw, hmc, hhl, hml, hl0, fun q hq' => by
        rcases Classical.em (q = p) with z | z
        · rw [z, pk_us]; exact hv2
        · rw [pk_un z]; exact hps q hq'⟩
      have keep : (ps p = 7 ↔ v2 = 7) → i_Rel (k + 4) (nI n, nI sl, nI tw, bq_p gp_1 n, nI mc, f_strongCount, f_pinnedLevels, a_state, a_move, lk, upd ps p v2, a_base, a_size, a_table, a_stale, a_strong) (nI n, nI sl, nI tw, nI (li_f n), nI mc, f_marked, a_code, a_digit, b_move, a_reached, a_queue, a_held, upd ps p v2, a_twist, lk, 35280) := fun hi =>
        rr_in W' x8 x9 C0 (fun e => by
          obtain ⟨pl, b, T, q1, q2, q3⟩ := C1 e
          exact ⟨pl, b, T, q1, ra_xbS q2 hi, q3⟩) ht hm hq hh hw hk
      have drop : i_Rel (k + 4) (nI n, nI sl, nI tw, bq_p gp_1 n, nI mc, f_strongCount, f_pinnedLevels, a_state, a_move, lk, upd ps p v2, a_base, a_size, a_table, upd a_stale 1 1, a_strong) (nI n, nI sl, nI tw, nI (li_f n), nI mc, f_marked, a_code, a_digit, b_move, a_reached, a_queue, a_held, upd ps p v2, a_twist, lk, 35280) :=
        rr_in W' x8 x9 (fun e => by
          rw [pk_un (by omega)] at e
          exact C0 e) (fun e => by
          rw [pk_us] at e
          exact absurd e (by decide)) ht hm hq hh hw hk
      unfold wX_pin_28
      refine And.intro vp ?_
      rw [cp]
      refine br_c (fun z => ?_) (fun z => ?_)
      · unfold wX_pin_44
        refine br_c (fun y => ?_) (fun y => ?_)
        · unfold wX_pin_55
          rw [cp]
          exact br_t rfl (And.intro vp (nm_e (hy 0 rfl _ (keep ⟨fun _ => y, fun _ => z⟩))))
        · unfold wX_pin_55
          rw [cp]
          exact br_f (by decide) (nm_e (And.intro vp (nm_e (hy 0 rfl _ drop))))
      · unfold wX_pin_44
        refine br_c (fun y => ?_) (fun y => ?_)
        · unfold wX_pin_55
          rw [cp]
          exact br_f (by decide) (nm_e (And.intro vp (nm_e (hy 0 rfl _ drop))))
        · unfold wX_pin_55
          rw [cp]
          exact br_t rfl (And.intro vp (nm_e (hy 0 rfl _ (keep ⟨fun q => absurd q z, fun q => absurd q y⟩))))
    unfold wpX_pin
    dsimp only
    refine xw_plc1 hn hp (br_f (by decide) (br_c (fun z => ?_) (fun z => ?_)))
    · refine go (Or.inl z) (fun r er u' hu => ?_)
      unfold wpY_pin
      dsimp only
      refine yw_plc1 hn hp (br_t rfl (br_t z (And.intro vp ?_)))
      rw [cp]
      exact nm_e ⟨er.symm, hu⟩
    · have bad2 : (v2 < 0 ∨ nI n ≤ v2) → wpY_pin (fun r' v' => r' = -3 ∧ i_Rel (k + 4) (nI n, nI sl, nI tw, bq_p gp_1 n, nI mc, f_strongCount, f_pinnedLevels, a_state, a_move, lk, ps, a_base, a_size, a_table, a_stale, a_strong) v') (nI n, nI sl, nI tw, nI (li_f n), nI mc, f_marked, a_code, a_digit, b_move, a_reached, a_queue, a_held, ps, a_twist, lk, 35280) (nI p) v2 := fun hv => by
        unfold wpY_pin
        dsimp only
        exact yw_plc1 hn hp (br_t rfl (br_f z (br_c (fun _ => ⟨rfl, same _⟩) (fun q => br_f (Int32.not_lt.mpr (hv.resolve_left q)) ⟨rfl, same _⟩))))
      rcases pk_ix v2 (n := n) (by omega) with e | e | ⟨w, hw', e⟩
      · exact xw_plc0 (Or.inl e) (br_t rfl (bad2 (Or.inl e)))
      · exact xw_plc0 (Or.inr e) (br_t rfl (bad2 (Or.inr e)))
      · subst e
        refine xw_plc1 hn hw' (br_f (by decide) (go (Or.inr ⟨w, hw', rfl⟩) (fun r er u' hu => ?_)))
        unfold wpY_pin
        dsimp only
        refine yw_plc1 hn hp (br_t rfl (br_f z (br_f (nI_pos (by omega)) (pk_lt w n (fun _ => And.intro vp ?_) (fun y => absurd y (by omega))))))
        rw [cp]
        exact nm_e ⟨er.symm, hu⟩
end
section
/-! count, recall, rank -/
theorem rq_MK {n pl : Nat} {ps : Nat → Int32} {b g : Nat → Nat} {G : (Nat → Nat) → Prop} (hn : n ≤ 7) (gr : gp_Gr n G) (S : xb_S n ps pl b) (g1 : G g) (g2 : xb_M n ps g) : yk_M n G ps = ch_K G b n pl g :=
  funext fun w => propext (and_congr_right fun _ => xb_MK hn S (gr.1 g g1) (li_gP n w) g2)
theorem rq_O {n c : Nat} {b : Nat → Nat} {T : Nat → Nat → Option (Nat → Nat)} {G : (Nat → Nat) → Prop} {a_base a_size a_table : Nat → Int32} (hn : n ≤ 7) (gr : gp_Gr n G) (Q : xc_Q n c b T G a_base a_size a_table) : ∀ l, l ≤ n → ch_O (ch_s T n) n l ≤ 5040 := fun l hl => by
  rw [← xq_O hn gr Q hl gr.2.1]
  exact Nat.le_trans (cc_le _ _) (li_f7 n hn)
theorem rq_uni {P : Nat → Prop} {w w' : Nat} (h : P w) (h' : P w') (e : cc P w' = cc P w) : w' = w := by
  rcases Nat.lt_trichotomy w' w with z | z | z
  · have := cc_str z h'; omega
  · exact z
  · have := cc_str z h; omega
theorem i_vc_count {k : Nat} {u : SX} {v : SY} (I : i_Rel k u v) (hk : k + 4 ≤ 2051) : wpX_count (fun r u' => wpY_count (fun r' v' => r' = r ∧ i_Rel (k + 4) u' v') v) u := by
  refine rr_el (P := fun u v => wpX_count (fun r u' => wpY_count (fun r' v' => r' = r ∧ i_Rel (k + 4) u' v') v) u) I ?_
  intro n sl tw mc h mv lk ps W f_strongCount f_pinnedLevels a_state a_move a_base a_size a_table a_stale a_strong x8 x9 C0 C1 f_marked a_code a_digit b_move a_reached a_queue a_held a_twist ht hm hq hh hw hk
  have same : ∀ k', i_Rel k' (nI n, nI sl, nI tw, bq_p gp_1 n, nI mc, f_strongCount, f_pinnedLevels, a_state, a_move, lk, ps, a_base, a_size, a_table, a_stale, a_strong) (nI n, nI sl, nI tw, nI (li_f n), nI mc, f_marked, a_code, a_digit, b_move, a_reached, a_queue, a_held, ps, a_twist, lk, 35280) := fun k' => rr_in W x8 x9 C0 C1 ht hm hq hh hw hk
  obtain ⟨h2, hn, hsl, htw, hmc, hhl, hml, hl0, hps⟩ := id W
  have hs := li_f7 n hn
  have hmc6 : mc ≤ 6 := by omega
  have gr : gp_Gr n (gp_G (rx_A n mc mv lk)) := gp_Gr_of rx_AP
  unfold wpX_count
  dsimp only
  refine rx_useP h2 hn hmc6 x9 C0 C1 (fun f_strongCount' pl b T a_base' a_size' a_table' a_stale' a_strong' S Q C0' => ?_)
  dsimp only
  have yy : ∀ r, r = nI (cc (yk_M n (gp_G (rx_A n mc mv lk)) ps) (li_f n)) → wpY_count (fun r' v' => r' = r ∧ i_Rel (k + 4) (nI n, nI sl, nI tw, bq_p gp_1 n, nI mc, f_strongCount', nI pl, a_state, a_move, lk, ps, a_base', a_size', a_table', a_stale', a_strong') v') (nI n, nI sl, nI tw, nI (li_f n), nI mc, f_marked, a_code, a_digit, b_move, a_reached, a_queue, a_held, ps, a_twist, lk, 35280) := fun r er => by
    unfold wpY_count
    dsimp only
    refine ym_mark hn hmc6 hm hq hk (fun a_reached' a_queue' ok q0 => ?_)
    dsimp only
    exact yk_below hn ht ok (Nat.le_refl _) ⟨er.symm, rr_in W x8 x9 C0' (fun _ => ⟨pl, b, T, rfl, S, Q⟩) ht hm q0 hh hw (Or.inr ⟨rfl, ok⟩)⟩
  refine xb_head h2 hn gr Q S hps (fun no => br_t rfl (yy 0 ?_)) (fun g g1 g2 => br_f (bq_ne h2 hn (gr.1 g g1)) (xw_order (c := 1) hn (by omega) Q.2.2.2.1 (xb_le S) (yy _ ?_)))
  · rw [cc_zero (fun w _ z => no _ z.1 z.2)]; rfl
  · rw [rq_MK hn gr S g1 g2, xq_O hn gr Q (xb_le S) g1]
section
variable {n : Nat} {f_slots f_twists f_admitted f_marked : Int32} {a_code a_digit a_move a_reached a_queue a_held a_twist a_locked : Nat → Int32}
variable {ps : Nat → Int32} {G : (Nat → Nat) → Prop}
theorem yr_19 {post : Int32 → SY → Prop} {j : Nat} {x2 : Int32} (hn : n ≤ 7) (ht : ry_T n a_code a_digit) (hr : yk_ok n G a_reached) (hj : j < 8) (k0 : (∀ w, w < li_f n → yk_M n G ps w → ¬ nI (cc (yk_M n G ps) w) = x2) → post (-8) (nI n, f_slots, f_twists, nI (li_f n), f_admitted, f_marked, a_code, a_digit, a_move, a_reached, a_queue, a_held, ps, a_twist, a_locked, 35280))
    (k1 : ∀ w, w < li_f n → yk_M n G ps w → nI (cc (yk_M n G ps) w) = x2 → post (nI (li_c (li_g n w) n)) (nI n, f_slots, f_twists, nI (li_f n), f_admitted, f_marked, a_code, a_digit, a_move, a_reached, a_queue, upd a_held j (nI w), ps, a_twist, a_locked, 35280)) :
    ∀ m x, x ≤ li_f n → li_f n - x < m → (∀ w, w < x → yk_M n G ps w → ¬ nI (cc (yk_M n G ps) w) = x2) → wY_recall_19 post (nI j) x2 (nI n) f_slots f_twists (nI (li_f n)) f_admitted f_marked a_code a_digit a_move a_reached a_queue a_held ps a_twist a_locked 35280 m (nI (cc (yk_M n G ps) x)) (nI x)
  | 0, _, _, h2, _ => absurd h2 (Nat.not_lt_zero _)
  | m + 1, x, h1, h2, ha => by
    have hs := li_f7 n hn
    refine pk_le (li_f n) x (fun z => k0 (fun w hw => ha w (by omega))) (fun z => ?_)
    have nxt : (yk_M n G ps x → ¬ nI (cc (yk_M n G ps) x) = x2) → wY_recall_19 post (nI j) x2 (nI n) f_slots f_twists (nI (li_f n)) f_admitted f_marked a_code a_digit a_move a_reached a_queue a_held ps a_twist a_locked 35280 m (nI (cc (yk_M n G ps) (x + 1))) (nI (x + 1)) := fun hx =>
      yr_19 hn ht hr hj k0 k1 m (x + 1) (by omega) (by omega) (fun w hw => by
        rcases Nat.lt_or_ge w x with y | y
        · exact ha w y
        · rw [show w = x from by omega]; exact hx)
    refine yk_match hn ht hr z (fun q => br_t rfl (nm_r (nI_1 x) ?_)) (fun q => br_f (by decide) (nm_r (nI_1 _) (br_c (fun e => And.intro (vp_in_nI hj (by omega)) ?_) (fun e => nm_r (nI_1 x) ?_))))
    · have a := nxt (fun y => absurd y q)
      rw [cc_S, cc_bf q, Nat.add_zero] at a
      exact a
    · rw [nI_clamp (show j < 2 ^ 31 by omega), nI_clamp (show x < 2 ^ 31 by omega), ht.1 x z]
      exact nm_e (And.intro (vp_in_nI (by omega) (by omega)) (k1 x z q e))
    · have a := nxt (fun _ => e)
      rw [cc_S, cc_bt q] at a
      exact a
end
theorem i_vc_recall {k : Nat} {u : SX} {v : SY} (I : i_Rel k u v) (hk : k + 4 ≤ 2051) (v1 : Int32) (v2 : Int32) : wpX_recall (fun r u' => wpY_recall (fun r' v' => r' = r ∧ i_Rel (k + 4) u' v') v v1 v2) u v1 v2 := by
  refine rr_el (P := fun u v => wpX_recall (fun r u' => wpY_recall (fun r' v' => r' = r ∧ i_Rel (k + 4) u' v') v v1 v2) u v1 v2) I ?_
  intro n sl tw mc h mv lk ps W f_strongCount f_pinnedLevels a_state a_move a_base a_size a_table a_stale a_strong x8 x9 C0 C1 f_marked a_code a_digit b_move a_reached a_queue a_held a_twist ht hm hq hh hw hk
  have same : ∀ k', i_Rel k' (nI n, nI sl, nI tw, bq_p gp_1 n, nI mc, f_strongCount, f_pinnedLevels, a_state, a_move, lk, ps, a_base, a_size, a_table, a_stale, a_strong) (nI n, nI sl, nI tw, nI (li_f n), nI mc, f_marked, a_code, a_digit, b_move, a_reached, a_queue, a_held, ps, a_twist, lk, 35280) := fun k' => rr_in W x8 x9 C0 C1 ht hm hq hh hw hk
  obtain ⟨h2, hn, hsl, htw, hmc, hhl, hml, hl0, hps⟩ := id W
  have hs := li_f7 n hn
  have hmc6 : mc ≤ 6 := by omega
  have gr : gp_Gr n (gp_G (rx_A n mc mv lk)) := gp_Gr_of rx_AP
  have bad : (v1 < 0 ∨ nI sl ≤ v1) → wpX_recall (fun r u' => wpY_recall (fun r' v' => r' = r ∧ i_Rel (k + 4) u' v') (nI n, nI sl, nI tw, nI (li_f n), nI mc, f_marked, a_code, a_digit, b_move, a_reached, a_queue, a_held, ps, a_twist, lk, 35280) v1 v2) (nI n, nI sl, nI tw, bq_p gp_1 n, nI mc, f_strongCount, f_pinnedLevels, a_state, a_move, lk, ps, a_base, a_size, a_table, a_stale, a_strong) v1 v2 := fun hv => by
    unfold wpX_recall
    dsimp only
    refine xw_slot0 hv (br_t rfl ?_)
    unfold wpY_recall
    dsimp only
    exact yw_slot0 hv (br_f (by decide) ⟨rfl, same _⟩)
  rcases pk_ix v1 (n := sl) (by omega) with e | e | ⟨j, hj, e⟩
  · exact bad (Or.inl e)
  · exact bad (Or.inr e)
  · subst e
    have cj : (nI j).toNatClampNeg = j := nI_clamp (by omega)
    unfold wpX_recall
    dsimp only
    refine xw_slot1 hsl hj (br_f (by decide) ?_)
    refine rx_useP h2 hn hmc6 x9 C0 C1 (fun f_strongCount' pl b T a_base' a_size' a_table' a_stale' a_strong' S Q C0' => ?_)
    dsimp only
    have hO := rq_O hn gr Q
    have y0 : (∀ w, w < li_f n → yk_M n (gp_G (rx_A n mc mv lk)) ps w → ¬ nI (cc (yk_M n (gp_G (rx_A n mc mv lk)) ps) w) = v2) → wpY_recall (fun r' v' => r' = -8 ∧ i_Rel (k + 4) (nI n, nI sl, nI tw, bq_p gp_1 n, nI mc, f_strongCount', nI pl, a_state, a_move, lk, ps, a_base', a_size', a_table', a_stale', a_strong') v') (nI n, nI sl, nI tw, nI (li_f n), nI mc, f_marked, a_code, a_digit, b_move, a_reached, a_queue, a_held, ps, a_twist, lk, 35280) (nI j) v2 := fun hno => by
      unfold wpY_recall
      dsimp only
      refine yw_slot1 hsl hj (br_t rfl ?_)
      refine ym_mark hn hmc6 hm hq hk (fun a_reached' a_queue' ok q0 => ?_)
      dsimp only
      refine Exists.intro (li_f n + 1) ?_
      exact yr_19 hn ht ok (by omega) (fun _ => ⟨rfl, rr_in W x8 x9 C0' (fun _ => ⟨pl, b, T, rfl, S, Q⟩) ht hm q0 hh hw (Or.inr ⟨rfl, ok⟩)⟩) (fun w w1 w2 w3 => absurd w3 (hno w w1 w2)) (li_f n + 1) 0 (by omega) (by omega) (fun _ h => absurd h (Nat.not_lt_zero _))
    have y1 : ∀ w, w < li_f n → yk_M n (gp_G (rx_A n mc mv lk)) ps w → nI (cc (yk_M n (gp_G (rx_A n mc mv lk)) ps) w) = v2 → wpY_recall (fun r' v' => r' = nI (li_c (li_g n w) n) ∧ i_Rel (k + 4) (nI n, nI sl, nI tw, bq_p gp_1 n, nI mc, f_strongCount', nI pl, upd a_state j (bq_p (li_g n w) n), a_move, lk, ps, a_base', a_size', a_table', a_stale', a_strong') v') (nI n, nI sl, nI tw, nI (li_f n), nI mc, f_marked, a_code, a_digit, b_move, a_reached, a_queue, a_held, ps, a_twist, lk, 35280) (nI j) v2 := fun w w1 w2 w3 => by
      unfold wpY_recall
      dsimp only
      refine yw_slot1 hsl hj (br_t rfl ?_)
      refine ym_mark hn hmc6 hm hq hk (fun a_reached' a_queue' ok q0 => ?_)
      dsimp only
      refine Exists.intro (li_f n + 1) ?_
      refine yr_19 hn ht ok (by omega) (fun hno => absurd w3 (hno w w1 w2)) (fun w' p1 p2 p3 => ?_) (li_f n + 1) 0 (by omega) (by omega) (fun _ h => absurd h (Nat.not_lt_zero _))
      have ew : w' = w := by
        have c1 := cc_le (yk_M n (gp_G (rx_A n mc mv lk)) ps) w
        have c2 := cc_le (yk_M n (gp_G (rx_A n mc mv lk)) ps) w'
        exact rq_uni w2 p2 ((nI_eq (by omega) (by omega)).mp (p3.trans w3.symm))
      rw [ew]
      exact ⟨rfl, rr_set W x8 x9 C0' (fun _ => ⟨pl, b, T, rfl, S, Q⟩) ht hm q0 hh hw (Or.inr ⟨rfl, ok⟩) w1⟩
    refine xb_head h2 hn gr Q S hps (fun no => ?_) (fun g g1 g2 => ?_)
    · have hno := y0 (fun w _ w2 => absurd w2.2 (no _ w2.1))
      exact br_c (fun _ => hno) (fun _ => br_t rfl hno)
    · have eM := rq_MK hn gr S g1 g2
      have hT := xq_O hn gr Q (xb_le S) g1
      have b1 := hO pl (xb_le S)
      refine br_c (fun z => y0 (fun w w1 w2 w3 => ?_)) (fun z => br_f (bq_ne h2 hn (gr.1 g g1)) (xw_order (c := 1) hn (by omega) Q.2.2.2.1 (xb_le S) ?_))
      · rw [← w3] at z
        have c1 := cc_le (yk_M n (gp_G (rx_A n mc mv lk)) ps) w
        exact absurd z (nI_pos (by omega))
      · obtain ⟨R, hR, e⟩ := nI_of z
        subst e
        refine pk_lt R (ch_O (ch_s T n) n pl) (fun y => ?_) (fun y => y0 (fun w w1 w2 w3 => ?_))
        · refine xq_descend (c := 1) h2 hn (by omega) gr Q (fun l l1 l2 p hp => xb_asc S l1 l2 p hp) hO (xb_le S) g1 y (fun w Rw => ?_)
          obtain ⟨r1, r2, r3⟩ := Rw
          refine And.intro (vp_in_nI (by omega) (by omega)) ?_
          rw [cj]
          refine nm_e (xw_encode hn (li_gP n w) (y1 w r1 (by rw [eM]; exact r2) (by rw [eM, r3])))
        · rw [nI_eq (by have := cc_le (yk_M n (gp_G (rx_A n mc mv lk)) ps) w; omega) hR] at w3
          have := cc_str (P := yk_M n (gp_G (rx_A n mc mv lk)) ps) w1 w2
          rw [eM] at this w3
          omega
theorem i_vc_rank {k : Nat} {u : SX} {v : SY} (I : i_Rel k u v) (hk : k + 4 ≤ 2051) (v1 : Int32) : wpX_rank (fun r u' => wpY_rank (fun r' v' => r' = r ∧ i_Rel (k + 4) u' v') v v1) u v1 := by
  refine rr_el (P := fun u v => wpX_rank (fun r u' => wpY_rank (fun r' v' => r' = r ∧ i_Rel (k + 4) u' v') v v1) u v1) I ?_
  intro n sl tw mc h mv lk ps W f_strongCount f_pinnedLevels a_state a_move a_base a_size a_table a_stale a_strong x8 x9 C0 C1 f_marked a_code a_digit b_move a_reached a_queue a_held a_twist ht hm hq hh hw hk
  have same : ∀ k', i_Rel k' (nI n, nI sl, nI tw, bq_p gp_1 n, nI mc, f_strongCount, f_pinnedLevels, a_state, a_move, lk, ps, a_base, a_size, a_table, a_stale, a_strong) (nI n, nI sl, nI tw, nI (li_f n), nI mc, f_marked, a_code, a_digit, b_move, a_reached, a_queue, a_held, ps, a_twist, lk, 35280) := fun k' => rr_in W x8 x9 C0 C1 ht hm hq hh hw hk
  obtain ⟨h2, hn, hsl, htw, hmc, hhl, hml, hl0, hps⟩ := id W
  have hs := li_f7 n hn
  have hmc6 : mc ≤ 6 := by omega
  have gr : gp_Gr n (gp_G (rx_A n mc mv lk)) := gp_Gr_of rx_AP
  have bad : (v1 < 0 ∨ nI sl ≤ v1) → wpX_rank (fun r u' => wpY_rank (fun r' v' => r' = r ∧ i_Rel (k + 4) u' v') (nI n, nI sl, nI tw, nI (li_f n), nI mc, f_marked, a_code, a_digit, b_move, a_reached, a_queue, a_held, ps, a_twist, lk, 35280) v1) (nI n, nI sl, nI tw, bq_p gp_1 n, nI mc, f_strongCount, f_pinnedLevels, a_state, a_move, lk, ps, a_base, a_size, a_table, a_stale, a_strong) v1 := fun hv => by
    unfold wpX_rank
    dsimp only
    refine xw_slot0 hv (br_t rfl ?_)
    unfold wpY_rank
    dsimp only
    exact yw_slot0 hv (br_f (by decide) ⟨rfl, same _⟩)
  rcases pk_ix v1 (n := sl) (by omega) with e | e | ⟨j, hj, e⟩
  · exact bad (Or.inl e)
  · exact bad (Or.inr e)
  · subst e
    have vj : vp_in (nI j) 8 := vp_in_nI (by omega) (by omega)
    have cj : (nI j).toNatClampNeg = j := nI_clamp (by omega)
    have hhj := hhl j (by omega)
    unfold wpX_rank
    dsimp only
    refine xw_slot1 hsl hj (br_f (by decide) ?_)
    refine rx_useP h2 hn hmc6 x9 C0 C1 (fun f_strongCount' pl b T a_base' a_size' a_table' a_stale' a_strong' S Q C0' => ?_)
    dsimp only
    have yy : ∀ r : Int32, (¬ gp_G (rx_A n mc mv lk) (li_g n (h j)) → r = -7) → (gp_G (rx_A n mc mv lk) (li_g n (h j)) → ¬ xb_M n ps (li_g n (h j)) → r = -8) →
        (yk_M n (gp_G (rx_A n mc mv lk)) ps (h j) → r = nI (cc (yk_M n (gp_G (rx_A n mc mv lk)) ps) (h j))) → wpY_rank (fun r' v' => r' = r ∧ i_Rel (k + 4) (nI n, nI sl, nI tw, bq_p gp_1 n, nI mc, f_strongCount', nI pl, a_state, a_move, lk, ps, a_base', a_size', a_table', a_stale', a_strong') v') (nI n, nI sl, nI tw, nI (li_f n), nI mc, f_marked, a_code, a_digit, b_move, a_reached, a_queue, a_held, ps, a_twist, lk, 35280) (nI j) := fun r r7 r8 r0 => by
      unfold wpY_rank
      dsimp only
      refine yw_slot1 hsl hj (br_t rfl ?_)
      refine ym_mark hn hmc6 hm hq hk (fun a_reached' a_queue' ok q0 => ?_)
      dsimp only
      have fin : i_Rel (k + 4) (nI n, nI sl, nI tw, bq_p gp_1 n, nI mc, f_strongCount', nI pl, a_state, a_move, lk, ps, a_base', a_size', a_table', a_stale', a_strong') (nI n, nI sl, nI tw, nI (li_f n), nI mc, 1, a_code, a_digit, b_move, a_reached', a_queue', a_held, ps, a_twist, lk, 35280) := rr_in W x8 x9 C0' (fun _ => ⟨pl, b, T, rfl, S, Q⟩) ht hm q0 hh hw (Or.inr ⟨rfl, ok⟩)
      rw [cj, hh j (by omega), nI_clamp (show h j < 2 ^ 31 by omega)]
      refine And.intro vj (And.intro (vp_in_nI (by omega) (by omega)) ?_)
      rcases ok (h j) hhj with ⟨e, g⟩ | ⟨e, g⟩
      · exact br_t e ⟨(r7 g).symm, fin⟩
      · refine br_f (by rw [e]; decide) (And.intro vj ?_)
        refine yk_match hn ht ok hhj (fun q => br_t rfl ⟨(r8 g (fun z => q ⟨g, z⟩)).symm, fin⟩) (fun q => br_f (by decide) (And.intro vj ?_))
        exact yk_below hn ht ok (by omega) ⟨(r0 q).symm, fin⟩
    refine And.intro vj ?_
    rw [cj, x8 j (by omega)]
    refine nm_e ?_
    refine xq_reach (c := 1) h2 hn (by omega) gr Q (li_gP n _) (fun g => br_t rfl (yy (-7) (fun _ => rfl) (fun q => absurd q g) (fun q => absurd q.1 g))) (fun g => br_f (by decide) ?_)
    refine xb_meets hn (li_gP n _) (fun M => br_t rfl (yy (-8) (fun q => absurd g q) (fun _ _ => rfl) (fun q => absurd q.2 M))) (fun M => br_f (by decide) ?_)
    refine xb_head h2 hn gr Q S hps (fun no => absurd M (no _ g)) (fun g' g1 g2 => Exists.intro (n + 1) ?_)
    have ha : ch_A b pl (li_g n (h j)) g' := (xb_MK hn S (li_gP n _) (gr.1 g' g1) M).mp g2
    refine xb_rank58 h2 hn gr Q S hhj g (n + 1) pl g' 0 (Nat.le_refl _) (xb_le S) (by omega) g1 ha ?_
    refine yy _ (fun q => absurd g q) (fun _ q => absurd M q) (fun _ => ?_)
    rw [Nat.zero_add, rq_MK hn gr S g M]
end
section
/-! depth, choices -/
section
variable {n : Nat} {f_slots f_twists f_admitted f_marked : Int32} {a_code a_digit a_move a_reached a_queue a_held a_twist a_locked : Nat → Int32}
variable {ps : Nat → Int32} {G : (Nat → Nat) → Prop}
/-- the greatest agreement so far -/
def yd_B (n : Nat) (G : (Nat → Nat) → Prop) (ps : Nat → Int32) (s : Nat → Nat) (d x : Nat) (B : Int32) : Prop :=
  (B = -8 ∧ ∀ w, w < x → ¬ yk_M n G ps w) ∨ (∃ e, B = nI e ∧ e ≤ d ∧ ∀ w, w < x → yk_M n G ps w → e < n → ¬ ∀ i, i < e + 1 → li_g n w i = s i)
theorem yd_19 {post : Int32 → SY → Prop} {j s d : Nat} (hn : n ≤ 7) (ht : ry_T n a_code a_digit) (hr : yk_ok n G a_reached) (gr : gp_Gr n G) (hj : j < 8) (hs : s < li_f n) (he : a_held j = nI s) (D : xb_D G n ps (li_g n s) d) (k : post (nI d) (nI n, f_slots, f_twists, nI (li_f n), f_admitted, f_marked, a_code, a_digit, a_move, a_reached, a_queue, a_held, ps, a_twist, a_locked, 35280)) :
    ∀ m x B, x ≤ li_f n → li_f n - x < m → yd_B n G ps (li_g n s) d x B → wY_depth_19 post (nI j) (nI n) f_slots f_twists (nI (li_f n)) f_admitted f_marked a_code a_digit a_move a_reached a_queue a_held ps a_twist a_locked 35280 m B (nI x)
  | 0, _, _, _, h2, _ => absurd h2 (Nat.not_lt_zero _)
  | m + 1, x, B, h1, h2, hB => by
    have hs7 := li_f7 n hn
    obtain ⟨D1, ⟨h0, D2, D3, D4⟩, D5⟩ := D
    refine pk_le (li_f n) x (fun z => ?_) (fun z => ?_)
    · obtain ⟨w0, w1, w2⟩ := li_pos (gr.1 h0 D2)
      have mw : yk_M n G ps w0 := ⟨by rw [w2]; exact D2, by rw [w2]; exact D3⟩
      rcases hB with ⟨_, no⟩ | ⟨e, e1, e2, e3⟩
      · exact absurd mw (no w0 (by omega))
      · have ed : e = d := by
          rcases Nat.lt_or_ge e d with y | y
          · exact absurd (fun i hi => by rw [w2]; exact D4 i (by omega)) (e3 w0 (by omega) mw (by omega))
          · omega
        rw [e1, ed]
        exact k
    · have vj : vp_in (nI j) 8 := vp_in_nI hj (by omega)
      have cj : (nI j).toNatClampNeg = j := nI_clamp (by omega)
      refine yk_match hn ht hr z (fun q => br_t rfl (nm_r (nI_1 x) ?_)) (fun q => br_f (by decide) (And.intro vj ?_))
      · refine yd_19 hn ht hr gr hj hs he ⟨D1, ⟨h0, D2, D3, D4⟩, D5⟩ k m (x + 1) B (by omega) (by omega) ?_
        rcases hB with ⟨e0, no⟩ | ⟨e, e1, e2, e3⟩
        · refine Or.inl ⟨e0, fun w hw => ?_⟩
          rcases Nat.lt_or_ge w x with y | y
          · exact no w y
          · rw [show w = x from by omega]; exact q
        · refine Or.inr ⟨e, e1, e2, fun w hw mw => ?_⟩
          rcases Nat.lt_or_ge w x with y | y
          · exact e3 w y mw
          · rw [show w = x from by omega] at mw; exact absurd mw q
      · rw [cj, he]
        refine yf_agree hn ht z hs (fun a a1 a2 a3 => ?_)
        have ad : a ≤ d := by
          rcases Nat.lt_or_ge d a with y | y
          · exact absurd (fun i hi => a2 i (by omega)) (D5 (li_g n x) q.1 q.2 (by omega))
          · exact y
        have up : ∀ e, a ≤ e → e < n → ¬ ∀ i, i < e + 1 → li_g n x i = li_g n s i := fun e e1 e2 e3 => a3 (by omega) (e3 a (by omega))
        have tak : (∀ w, w < x → yk_M n G ps w → a < n → ¬ ∀ i, i < a + 1 → li_g n w i = li_g n s i) → wY_depth_19 post (nI j) (nI n) f_slots f_twists (nI (li_f n)) f_admitted f_marked a_code a_digit a_move a_reached a_queue a_held ps a_twist a_locked 35280 m (nI a) (nI (x + 1)) := fun hlow => by
          refine yd_19 hn ht hr gr hj hs he ⟨D1, ⟨h0, D2, D3, D4⟩, D5⟩ k m (x + 1) (nI a) (by omega) (by omega) (Or.inr ⟨a, rfl, ad, fun w hw mw hn' => ?_⟩)
          rcases Nat.lt_or_ge w x with y | y
          · exact hlow w y mw hn'
          · rw [show w = x from by omega]; exact up a (Nat.le_refl _) hn'
        have again : (∀ w, w < x → yk_M n G ps w → a < n → ¬ ∀ i, i < a + 1 → li_g n w i = li_g n s i) → vp_in (nI j) 8 ∧ wpY_agree (fun r_77 => ∀ x3_94 : Int32, x3_94 = nI x + 1 → wY_depth_19 post (nI j) (nI n) f_slots f_twists (nI (li_f n)) f_admitted f_marked a_code a_digit a_move a_reached a_queue a_held ps a_twist a_locked 35280 m r_77 x3_94) (nI n, f_slots, f_twists, nI (li_f n), f_admitted, f_marked, a_code, a_digit, a_move, a_reached, a_queue, a_held, ps, a_twist, a_locked, 35280) (nI x) (nI s) := fun hlow => by
          refine ⟨vj, yf_agree hn ht z hs (fun a' b1 b2 b3 => nm_r (nI_1 x) ?_)⟩
          have ea : a' = a := by
            rcases Nat.lt_trichotomy a' a with y | y | y
            · exact absurd (a2 a' y) (b3 (by omega))
            · exact y
            · exact absurd (b2 a y) (a3 (by omega))
          rw [ea]
          exact tak hlow
        rcases hB with ⟨e0, no⟩ | ⟨e, e1, e2, e3⟩
        · rw [e0]
          refine br_f (fun y => ?_) (again (fun w hw mw => absurd mw (no w hw)))
          have : (0 : Int32) ≤ -8 := Int32.le_trans (nI_pos' (n := a) (by omega)) y
          exact absurd this (by decide)
        · rw [e1]
          refine pk_le a e (fun y => nm_r (nI_1 x) ?_) (fun y => again (fun w hw mw hn' hall => e3 w hw mw (by omega) (fun i hi => hall i (by omega))))
          refine yd_19 hn ht hr gr hj hs he ⟨D1, ⟨h0, D2, D3, D4⟩, D5⟩ k m (x + 1) (nI e) (by omega) (by omega) (Or.inr ⟨e, rfl, e2, fun w hw mw hn' => ?_⟩)
          rcases Nat.lt_or_ge w x with y' | y'
          · exact e3 w y' mw hn'
          · rw [show w = x from by omega]; exact up e y hn'
theorem yd_none {post : Int32 → SY → Prop} {x1 : Int32} (hn : n ≤ 7) (ht : ry_T n a_code a_digit) (hr : yk_ok n G a_reached) (no : ∀ w, w < li_f n → ¬ yk_M n G ps w) (k : post (-8) (nI n, f_slots, f_twists, nI (li_f n), f_admitted, f_marked, a_code, a_digit, a_move, a_reached, a_queue, a_held, ps, a_twist, a_locked, 35280)) :
    ∀ m x, x ≤ li_f n → li_f n - x < m → wY_depth_19 post x1 (nI n) f_slots f_twists (nI (li_f n)) f_admitted f_marked a_code a_digit a_move a_reached a_queue a_held ps a_twist a_locked 35280 m (-8) (nI x)
  | 0, _, _, h2 => absurd h2 (Nat.not_lt_zero _)
  | m + 1, x, h1, h2 => by
    have hs7 := li_f7 n hn
    refine pk_le (li_f n) x (fun z => k) (fun z => ?_)
    exact yk_match hn ht hr z (fun q => br_t rfl (nm_r (nI_1 x) (yd_none hn ht hr no k m (x + 1) (by omega) (by omega)))) (fun q => absurd q (no x z))
theorem yc_19 {post : Int32 → SY → Prop} {pc : Nat} (hn : n ≤ 7) (ht : ry_T n a_code a_digit) (hr : yk_ok n G a_reached) (hp : pc < n) (k : ∀ y, bm_M (fun i => ∃ w, w < li_f n ∧ yk_M n G ps w ∧ li_g n w pc = i) y → post y (nI n, f_slots, f_twists, nI (li_f n), f_admitted, f_marked, a_code, a_digit, a_move, a_reached, a_queue, a_held, ps, a_twist, a_locked, 35280)) :
    ∀ m x y, x ≤ li_f n → li_f n - x < m → bm_M (fun i => ∃ w, w < x ∧ yk_M n G ps w ∧ li_g n w pc = i) y → wY_choices_19 post (nI pc) (nI n) f_slots f_twists (nI (li_f n)) f_admitted f_marked a_code a_digit a_move a_reached a_queue a_held ps a_twist a_locked 35280 m y (nI x)
  | 0, _, _, _, h2, _ => absurd h2 (Nat.not_lt_zero _)
  | m + 1, x, y, h1, h2, hy => by
    have hs := li_f7 n hn
    refine pk_le (li_f n) x (fun z => k y (by rw [show li_f n = x from by omega]; exact hy)) (fun z => ?_)
    have hq := gp_lt (li_gP n x) hp
    refine yk_match hn ht hr z (fun q => br_t rfl (nm_r (nI_1 x) ?_)) (fun q => br_f (by decide) ?_)
    · refine yc_19 hn ht hr hp k m (x + 1) y (by omega) (by omega) (bm_c hy (fun i _ => ⟨fun ⟨w, w1, w2⟩ => ⟨w, by omega, w2⟩, fun ⟨w, w1, w2, w3⟩ => ?_⟩))
      rcases Nat.lt_or_ge w x with v | v
      · exact ⟨w, v, w2, w3⟩
      · rw [show w = x from by omega] at w2; exact absurd w2 q
    · rw [yf_ix, nI_clamp (show 7 * x + pc < 2 ^ 31 by omega), ht.2 x pc z hp]
      refine And.intro (vp_in_nI (by omega) (by omega)) (nm_e (nm_r (nI_1 x) ?_))
      refine yc_19 hn ht hr hp k m (x + 1) _ (by omega) (by omega) (bm_c (bm_or hy (bm_1 (by omega))) (fun i _ => ⟨fun v => ?_, fun ⟨w, w1, w2, w3⟩ => ?_⟩))
      · rcases v with ⟨w, w1, w2⟩ | v
        · exact ⟨w, by omega, w2⟩
        · exact ⟨x, by omega, q, v.symm⟩
      · rcases Nat.lt_or_ge w x with v | v
        · exact Or.inl ⟨w, v, w2, w3⟩
        · exact Or.inr (by rw [← w3, show w = x from by omega])
end
theorem i_vc_depth {k : Nat} {u : SX} {v : SY} (I : i_Rel k u v) (hk : k + 4 ≤ 2051) (v1 : Int32) : wpX_depth (fun r u' => wpY_depth (fun r' v' => r' = r ∧ i_Rel (k + 4) u' v') v v1) u v1 := by
  refine rr_el (P := fun u v => wpX_depth (fun r u' => wpY_depth (fun r' v' => r' = r ∧ i_Rel (k + 4) u' v') v v1) u v1) I ?_
  intro n sl tw mc h mv lk ps W f_strongCount f_pinnedLevels a_state a_move a_base a_size a_table a_stale a_strong x8 x9 C0 C1 f_marked a_code a_digit b_move a_reached a_queue a_held a_twist ht hm hq hh hw hk
  have same : ∀ k', i_Rel k' (nI n, nI sl, nI tw, bq_p gp_1 n, nI mc, f_strongCount, f_pinnedLevels, a_state, a_move, lk, ps, a_base, a_size, a_table, a_stale, a_strong) (nI n, nI sl, nI tw, nI (li_f n), nI mc, f_marked, a_code, a_digit, b_move, a_reached, a_queue, a_held, ps, a_twist, lk, 35280) := fun k' => rr_in W x8 x9 C0 C1 ht hm hq hh hw hk
  obtain ⟨h2, hn, hsl, htw, hmc, hhl, hml, hl0, hps⟩ := id W
  have hs := li_f7 n hn
  have hmc6 : mc ≤ 6 := by omega
  have gr : gp_Gr n (gp_G (rx_A n mc mv lk)) := gp_Gr_of rx_AP
  have bad : (v1 < 0 ∨ nI sl ≤ v1) → wpX_depth (fun r u' => wpY_depth (fun r' v' => r' = r ∧ i_Rel (k + 4) u' v') (nI n, nI sl, nI tw, nI (li_f n), nI mc, f_marked, a_code, a_digit, b_move, a_reached, a_queue, a_held, ps, a_twist, lk, 35280) v1) (nI n, nI sl, nI tw, bq_p gp_1 n, nI mc, f_strongCount, f_pinnedLevels, a_state, a_move, lk, ps, a_base, a_size, a_table, a_stale, a_strong) v1 := fun hv => by
    unfold wpX_depth
    dsimp only
    refine xw_slot0 hv (br_t rfl ?_)
    unfold wpY_depth
    dsimp only
    exact yw_slot0 hv (br_f (by decide) ⟨rfl, same _⟩)
  rcases pk_ix v1 (n := sl) (by omega) with e | e | ⟨j, hj, e⟩
  · exact bad (Or.inl e)
  · exact bad (Or.inr e)
  · subst e
    have vj : vp_in (nI j) 8 := vp_in_nI (by omega) (by omega)
    have cj : (nI j).toNatClampNeg = j := nI_clamp (by omega)
    have hhj := hhl j (by omega)
    unfold wpX_depth
    dsimp only
    refine xw_slot1 hsl hj (br_f (by decide) ?_)
    refine rx_useP h2 hn hmc6 x9 C0 C1 (fun f_strongCount' pl b T a_base' a_size' a_table' a_stale' a_strong' S Q C0' => ?_)
    dsimp only
    refine xb_head h2 hn gr Q S hps (fun no => br_t rfl ?_) (fun g g1 g2 => br_f (bq_ne h2 hn (gr.1 g g1)) (And.intro vj ?_))
    · unfold wpY_depth
      dsimp only
      refine yw_slot1 hsl hj (br_t rfl ?_)
      refine ym_mark hn hmc6 hm hq hk (fun a_reached' a_queue' ok q0 => ?_)
      dsimp only
      refine Exists.intro (li_f n + 1) ?_
      have fin : i_Rel (k + 4) (nI n, nI sl, nI tw, bq_p gp_1 n, nI mc, f_strongCount', nI pl, a_state, a_move, lk, ps, a_base', a_size', a_table', a_stale', a_strong') (nI n, nI sl, nI tw, nI (li_f n), nI mc, 1, a_code, a_digit, b_move, a_reached', a_queue', a_held, ps, a_twist, lk, 35280) := rr_in W x8 x9 C0' (fun _ => ⟨pl, b, T, rfl, S, Q⟩) ht hm q0 hh hw (Or.inr ⟨rfl, ok⟩)
      exact yd_none hn ht ok (fun w _ z => no _ z.1 z.2) ⟨rfl, fin⟩ (li_f n + 1) 0 (by omega) (by omega)
    · rw [cj, x8 j (by omega)]
      refine nm_e (Exists.intro (n + 1) ?_)
      have a := xb_dep42 (post := fun r u' => wpY_depth (fun r' v' => r' = r ∧ i_Rel (k + 4) u' v') (nI n, nI sl, nI tw, nI (li_f n), nI mc, f_marked, a_code, a_digit, b_move, a_reached, a_queue, a_held, ps, a_twist, lk, 35280) (nI j)) (f_slotCount := nI sl) (f_twistLimit := nI tw) (f_solved := bq_p gp_1 n) (f_moveCount := nI mc) (f_strongCount := f_strongCount') (f_pinnedLevels := nI pl)
        (a_state := a_state) (a_move := a_move) (a_locked := lk) (a_stale := a_stale') (a_strong := a_strong') h2 hn gr Q S (li_gP n (h j)) (fun d D => ?_) (n + 1) 0 g (by omega) (by omega) g1 g2 (fun _ h => absurd h (Nat.not_lt_zero _))
      · rw [show cc (xb_f ps) 0 = 0 from rfl, Nat.add_zero] at a
        exact a
      · unfold wpY_depth
        dsimp only
        refine yw_slot1 hsl hj (br_t rfl ?_)
        refine ym_mark hn hmc6 hm hq hk (fun a_reached' a_queue' ok q0 => ?_)
        dsimp only
        refine Exists.intro (li_f n + 1) ?_
        have fin : i_Rel (k + 4) (nI n, nI sl, nI tw, bq_p gp_1 n, nI mc, f_strongCount', nI pl, a_state, a_move, lk, ps, a_base', a_size', a_table', a_stale', a_strong') (nI n, nI sl, nI tw, nI (li_f n), nI mc, 1, a_code, a_digit, b_move, a_reached', a_queue', a_held, ps, a_twist, lk, 35280) := rr_in W x8 x9 C0' (fun _ => ⟨pl, b, T, rfl, S, Q⟩) ht hm q0 hh hw (Or.inr ⟨rfl, ok⟩)
        exact yd_19 hn ht ok gr (by omega) hhj (hh j (by omega)) D ⟨rfl, fin⟩ (li_f n + 1) 0 (-8) (by omega) (by omega) (Or.inl ⟨rfl, fun _ h => absurd h (Nat.not_lt_zero _)⟩)
/-- the images of a place under the matches -/
theorem rq_R {n pl pc : Nat} {ps : Nat → Int32} {b g : Nat → Nat} {G : (Nat → Nat) → Prop} (hn : n ≤ 7) (gr : gp_Gr n G) (S : xb_S n ps pl b) (g1 : G g) (g2 : xb_M n ps g) (hpc : pc < n) (i : Nat) :
    (∃ q, q < n ∧ ch_R G b pc pl q ∧ g q = i) ↔ ∃ w, w < li_f n ∧ yk_M n G ps w ∧ li_g n w pc = i := by
  rw [rq_MK hn gr S g1 g2]
  refine ⟨fun ⟨q, q1, ⟨f, f1, f2, f3⟩, q3⟩ => ?_, fun ⟨w, w1, ⟨w2, w3⟩, w4⟩ => ?_⟩
  · have hG := gr.2.2.1 g f g1 f1
    obtain ⟨w, w1, w2⟩ := li_pos (gr.1 _ hG)
    refine ⟨w, w1, ⟨by rw [w2]; exact hG, fun j hj => ?_⟩, ?_⟩
    · rw [w2]
      show g (f (b j)) = g (b j)
      rw [f2 j hj]
    · rw [w2]
      show g (f pc) = i
      rw [f3, q3]
  · obtain ⟨y, y1, y2, y3⟩ := gr.2.2.2 g g1
    have hG := gr.2.2.1 y _ y1 w2
    refine ⟨y (li_g n w pc), gp_lt (gr.1 y y1) (gp_lt (li_gP n w) hpc), ⟨gp_c y (li_g n w), hG, fun j hj => ?_, rfl⟩, by rw [y2, w4]⟩
    show y (li_g n w (b j)) = b j
    rw [w3 j hj, y3]
theorem i_vc_choices {k : Nat} {u : SX} {v : SY} (I : i_Rel k u v) (hk : k + 4 ≤ 2051) (v1 : Int32) : wpX_choices (fun r u' => wpY_choices (fun r' v' => r' = r ∧ i_Rel (k + 4) u' v') v v1) u v1 := by
  refine rr_el (P := fun u v => wpX_choices (fun r u' => wpY_choices (fun r' v' => r' = r ∧ i_Rel (k + 4) u' v') v v1) u v1) I ?_
  intro n sl tw mc h mv lk ps W f_strongCount f_pinnedLevels a_state a_move a_base a_size a_table a_stale a_strong x8 x9 C0 C1 f_marked a_code a_digit b_move a_reached a_queue a_held a_twist ht hm hq hh hw hk
  have same : ∀ k', i_Rel k' (nI n, nI sl, nI tw, bq_p gp_1 n, nI mc, f_strongCount, f_pinnedLevels, a_state, a_move, lk, ps, a_base, a_size, a_table, a_stale, a_strong) (nI n, nI sl, nI tw, nI (li_f n), nI mc, f_marked, a_code, a_digit, b_move, a_reached, a_queue, a_held, ps, a_twist, lk, 35280) := fun k' => rr_in W x8 x9 C0 C1 ht hm hq hh hw hk
  obtain ⟨h2, hn, hsl, htw, hmc, hhl, hml, hl0, hps⟩ := id W
  have hs := li_f7 n hn
  have hmc6 : mc ≤ 6 := by omega
  have gr : gp_Gr n (gp_G (rx_A n mc mv lk)) := gp_Gr_of rx_AP
  have bad : (v1 < 0 ∨ nI n ≤ v1) → wpX_choices (fun r u' => wpY_choices (fun r' v' => r' = r ∧ i_Rel (k + 4) u' v') (nI n, nI sl, nI tw, nI (li_f n), nI mc, f_marked, a_code, a_digit, b_move, a_reached, a_queue, a_held, ps, a_twist, lk, 35280) v1) (nI n, nI sl, nI tw, bq_p gp_1 n, nI mc, f_strongCount, f_pinnedLevels, a_state, a_move, lk, ps, a_base, a_size, a_table, a_stale, a_strong) v1 := fun hv => by
    unfold wpX_choices
    dsimp only
    refine xw_plc0 hv (br_t rfl ?_)
    unfold wpY_choices
    dsimp only
    exact yw_plc0 hv (br_f (by decide) ⟨rfl, same _⟩)
  rcases pk_ix v1 (n := n) (by omega) with e | e | ⟨pc, hpc, e⟩
  · exact bad (Or.inl e)
  · exact bad (Or.inr e)
  · subst e
    unfold wpX_choices
    dsimp only
    refine xw_plc1 hn hpc (br_f (by decide) ?_)
    refine rx_useP h2 hn hmc6 x9 C0 C1 (fun f_strongCount' pl b T a_base' a_size' a_table' a_stale' a_strong' S Q C0' => ?_)
    dsimp only
    have yy : ∀ r : Int32, bm_M (fun i => ∃ w, w < li_f n ∧ yk_M n (gp_G (rx_A n mc mv lk)) ps w ∧ li_g n w pc = i) r → wpY_choices (fun r' v' => r' = r ∧ i_Rel (k + 4) (nI n, nI sl, nI tw, bq_p gp_1 n, nI mc, f_strongCount', nI pl, a_state, a_move, lk, ps, a_base', a_size', a_table', a_stale', a_strong') v') (nI n, nI sl, nI tw, nI (li_f n), nI mc, f_marked, a_code, a_digit, b_move, a_reached, a_queue, a_held, ps, a_twist, lk, 35280) (nI pc) := fun r hr => by
      unfold wpY_choices
      dsimp only
      refine yw_plc1 hn hpc (br_t rfl ?_)
      refine ym_mark hn hmc6 hm hq hk (fun a_reached' a_queue' ok q0 => ?_)
      dsimp only
      refine Exists.intro (li_f n + 1) ?_
      have fin : i_Rel (k + 4) (nI n, nI sl, nI tw, bq_p gp_1 n, nI mc, f_strongCount', nI pl, a_state, a_move, lk, ps, a_base', a_size', a_table', a_stale', a_strong') (nI n, nI sl, nI tw, nI (li_f n), nI mc, 1, a_code, a_digit, b_move, a_reached', a_queue', a_held, ps, a_twist, lk, 35280) := rr_in W x8 x9 C0' (fun _ => ⟨pl, b, T, rfl, S, Q⟩) ht hm q0 hh hw (Or.inr ⟨rfl, ok⟩)
      exact yc_19 hn ht ok hpc (fun y hy => ⟨bm_u hy hr (fun _ _ => Iff.rfl), fin⟩) (li_f n + 1) 0 0 (by omega) (by omega) (bm_c bm_0 (fun i _ => ⟨False.elim, fun ⟨w, w1, _⟩ => by omega⟩))
    refine xb_head h2 hn gr Q S hps (fun no => br_t rfl (yy 0 (bm_c bm_0 (fun i _ => ⟨False.elim, fun ⟨w, _, w2, _⟩ => no _ w2.1 w2.2⟩)))) (fun g g1 g2 => br_f (bq_ne h2 hn (gr.1 g g1)) ?_)
    refine nm_e (nm_e (Exists.intro (n + 1) ?_))
    refine xs_ch38 (pc := pc) h2 hn gr Q (xb_le S) (gr.1 g g1) hpc (fun x hx => yy x (bm_c hx (fun i _ => rq_R hn gr S g1 g2 hpc i))) (n + 1) n _ _ (xb_le S) (Nat.le_refl _) (by omega) ?_ ?_
    · obtain ⟨w, rfl⟩ : ∃ w, n = w + 1 := ⟨n - 1, by omega⟩
      rw [nI_pred, pk_m1]
    · exact bm_c (bm_1 (by omega)) (fun i _ => (ch_R_n Q.1 gr pc i).symm)
end
section
/-! step -/
section
variable {n : Nat} {f_slots f_twists f_admitted f_marked : Int32} {a_code a_digit a_move a_reached a_queue a_held a_pins a_twist a_locked : Nat → Int32}
variable {G : (Nat → Nat) → Prop}
theorem yt_91 {post : Int32 → SY → Prop} {j s i q w : Nat} (hn : n ≤ 7) (ht : ry_T n a_code a_digit) (hr : yk_ok n G a_reached) (hj : j < 8) (hs : s < li_f n) (hi : i < n) (hq : q < n) (hw : w < li_f n)
    (c1 : G (li_g n w)) (c2 : ∀ l, l < i → li_g n w l = l) (c3 : li_g n w i = q) (hno : ∀ c, c < w → G (li_g n c) → (∀ l, l < i → li_g n c l = l) → li_g n c i = q → False)
    (k : ∀ x, x < li_f n → li_g n x = gp_c (li_g n s) (li_g n w) → post (nI (li_c (li_g n w) n)) (nI n, f_slots, f_twists, nI (li_f n), f_admitted, f_marked, a_code, a_digit, a_move, a_reached, a_queue, upd a_held j (nI x), a_pins, a_twist, a_locked, 35280)) :
    ∀ m c, c ≤ w → w - c < m → wY_step_91 post (nI j) (nI s) (nI i) (nI q) (nI n) f_slots f_twists (nI (li_f n)) f_admitted f_marked a_code a_digit a_move a_reached a_queue a_held a_pins a_twist a_locked 35280 m (nI c)
  | 0, _, _, h2 => absurd h2 (Nat.not_lt_zero _)
  | m + 1, c, h1, h2 => by
    have hs7 := li_f7 n hn
    have nxt : c ≠ w → wY_step_91 post (nI j) (nI s) (nI i) (nI q) (nI n) f_slots f_twists (nI (li_f n)) f_admitted f_marked a_code a_digit a_move a_reached a_queue a_held a_pins a_twist a_locked 35280 m (nI (c + 1)) := fun ne => yt_91 hn ht hr hj hs hi hq hw c1 c2 c3 hno k m (c + 1) (by omega) (by omega)
    have ag0 : ∀ d, d ≤ n → (∀ l, l < d → li_g n c l = li_g n 0 l) → (d < n → li_g n c d ≠ li_g n 0 d) → (i ≤ d ↔ ∀ l, l < i → li_g n c l = l) := fun d d1 d2 d3 => by
      rw [li_g0] at d2 d3
      refine ⟨fun h l hl => d2 l (by omega), fun h => ?_⟩
      rcases Nat.lt_or_ge d i with y | y
      · exact absurd (h d y) (d3 (by omega))
      · exact y
    refine pk_le (li_f n) c (fun z => absurd z (by omega)) (fun z => And.intro (vp_in_nI (by omega) (by omega)) ?_)
    rw [nI_clamp (show c < 2 ^ 31 by omega)]
    rcases hr c z with ⟨e, g⟩ | ⟨e, g⟩
    · exact br_t e (nm_r (nI_1 c) (nxt (fun y => g (by rw [y]; exact c1))))
    · refine br_f (by rw [e]; decide) ?_
      refine yf_agree (y := 0) hn ht z (li_f_pos n) (fun d d1 d2 d3 => ?_)
      refine pk_lt d i (fun y => nm_r (nI_1 c) (nxt (fun ec => ?_))) (fun y => ?_)
      · have := (ag0 d d1 d2 d3).mpr (by rw [ec]; exact c2)
        omega
      · have hag := (ag0 d d1 d2 d3).mp y
        rw [yf_ix, nI_clamp (show 7 * c + i < 2 ^ 31 by omega), ht.2 c i z hi, ht.1 c z]
        refine And.intro (vp_in_nI (by omega) (by omega)) (pk_eq (li_g n c i) q (fun eq => ?_) (fun ne => nm_r (nI_1 c) (nxt (fun ec => ne (by rw [ec]; exact c3)))) rfl rfl (by have := gp_lt (li_gP n c) hi; omega) (by omega))
        have ec : c = w := by
          rcases Nat.lt_or_ge c w with x | x
          · exact (hno c x g hag eq).elim
          · omega
        subst ec
        refine yf_product hn ht hs z (fun x x1 x2 => And.intro (vp_in_nI hj (by omega)) ?_)
        rw [nI_clamp (show j < 2 ^ 31 by omega)]
        exact nm_e (And.intro (vp_in_nI (by omega) (by omega)) (k x x1 x2))
theorem yt_53 {post : Int32 → SY → Prop} {j s i q : Nat} (hn : n ≤ 7) (ht : ry_T n a_code a_digit) (hs : s < li_f n) (hi : i < n) (hq : q < n) (e : li_g n s q = i) (k : ∃ m, wY_step_91 post (nI j) (nI s) (nI i) (nI q) (nI n) f_slots f_twists (nI (li_f n)) f_admitted f_marked a_code a_digit a_move a_reached a_queue a_held a_pins a_twist a_locked 35280 m 0) :
    ∀ m p x4, p ≤ n → n - p < m → (q < p → x4 = nI q) → wY_step_53 post (nI j) (nI s) (nI i) (nI n) f_slots f_twists (nI (li_f n)) f_admitted f_marked a_code a_digit a_move a_reached a_queue a_held a_pins a_twist a_locked 35280 m x4 (nI p)
  | 0, _, _, _, h2, _ => absurd h2 (Nat.not_lt_zero _)
  | m + 1, p, x4, h1, h2, hx => by
    have hs7 := li_f7 n hn
    refine pk_le n p (fun z => by rw [hx (by omega)]; exact k) (fun z => ?_)
    rw [yf_ix, nI_clamp (show 7 * s + p < 2 ^ 31 by omega), ht.2 s p hs z]
    refine And.intro (vp_in_nI (by omega) (by omega)) (pk_eq (li_g n s p) i (fun y => nm_r (nI_1 p) ?_) (fun y => nm_r (nI_1 p) ?_) rfl rfl (by have := gp_lt (li_gP n s) z; omega) (by omega))
    · have ep : p = q := gp_inj (li_gP n s) (y.trans e.symm)
      exact yt_53 hn ht hs hi hq e k m (p + 1) (nI p) (by omega) (by omega) (fun _ => by rw [ep])
    · refine yt_53 hn ht hs hi hq e k m (p + 1) x4 (by omega) (by omega) (fun w => hx ?_)
      have : q ≠ p := fun ep => y (by rw [← ep]; exact e)
      omega
end
theorem rt_first {n : Nat} {s : Nat → Nat} (hs : gp_P n s) (ne : s ≠ gp_1) : ∃ i, i < n ∧ (∀ l, l < i → s l = l) ∧ s i ≠ i := by
  have ex : ∃ i, s i ≠ i := by
    rcases Classical.em (∃ i, s i ≠ i) with z | z
    · exact z
    · exact absurd (funext fun i => Classical.byContradiction fun y => z ⟨i, y⟩) ne
  obtain ⟨i, h1, h2⟩ := pk_least (fun i => s i ≠ i) ex
  refine ⟨i, ?_, fun l hl => Classical.byContradiction fun y => h2 l hl y, h1⟩
  rcases Nat.lt_or_ge i n with z | z
  · exact z
  · exact absurd (hs.2.1 i z) h1
theorem i_vc_step {k : Nat} {u : SX} {v : SY} (I : i_Rel k u v) (hk : k + 4 ≤ 2051) (v1 : Int32) : wpX_step (fun r u' => wpY_step (fun r' v' => r' = r ∧ i_Rel (k + 4) u' v') v v1) u v1 := by
  refine rr_el (P := fun u v => wpX_step (fun r u' => wpY_step (fun r' v' => r' = r ∧ i_Rel (k + 4) u' v') v v1) u v1) I ?_
  intro n sl tw mc h mv lk ps W f_strongCount f_pinnedLevels a_state a_move a_base a_size a_table a_stale a_strong x8 x9 C0 C1 f_marked a_code a_digit b_move a_reached a_queue a_held a_twist ht hm hq hh hw hk
  have same : ∀ k', i_Rel k' (nI n, nI sl, nI tw, bq_p gp_1 n, nI mc, f_strongCount, f_pinnedLevels, a_state, a_move, lk, ps, a_base, a_size, a_table, a_stale, a_strong) (nI n, nI sl, nI tw, nI (li_f n), nI mc, f_marked, a_code, a_digit, b_move, a_reached, a_queue, a_held, ps, a_twist, lk, 35280) := fun k' => rr_in W x8 x9 C0 C1 ht hm hq hh hw hk
  obtain ⟨h2, hn, hsl, htw, hmc, hhl, hml, hl0, hps⟩ := id W
  have hs := li_f7 n hn
  have hmc6 : mc ≤ 6 := by omega
  have gr : gp_Gr n (gp_G (rx_A n mc mv lk)) := gp_Gr_of rx_AP
  have bad : (v1 < 0 ∨ nI sl ≤ v1) → wpX_step (fun r u' => wpY_step (fun r' v' => r' = r ∧ i_Rel (k + 4) u' v') (nI n, nI sl, nI tw, nI (li_f n), nI mc, f_marked, a_code, a_digit, b_move, a_reached, a_queue, a_held, ps, a_twist, lk, 35280) v1) (nI n, nI sl, nI tw, bq_p gp_1 n, nI mc, f_strongCount, f_pinnedLevels, a_state, a_move, lk, ps, a_base, a_size, a_table, a_stale, a_strong) v1 := fun hv => by
    unfold wpX_step
    dsimp only
    refine xw_slot0 hv (br_t rfl ?_)
    unfold wpY_step
    dsimp only
    exact yw_slot0 hv (br_f (by decide) ⟨rfl, same _⟩)
  rcases pk_ix v1 (n := sl) (by omega) with e | e | ⟨j, hj, e⟩
  · exact bad (Or.inl e)
  · exact bad (Or.inr e)
  · subst e
    have vj : vp_in (nI j) 8 := vp_in_nI (by omega) (by omega)
    have cj : (nI j).toNatClampNeg = j := nI_clamp (by omega)
    have hhj := hhl j (by omega)
    have hP := li_gP n (h j)
    unfold wpX_step
    dsimp only
    refine xw_slot1 hsl hj (br_f (by decide) ?_)
    refine rx_useN h2 hn hmc6 x9 C0 C1 (fun f_strongCount' T a_base' a_size' a_table' a_stale' a_strong' Q C1' => ?_)
    dsimp only
    have y7 : ∀ r : Int32, (¬ gp_G (rx_A n mc mv lk) (li_g n (h j)) → r = -7) → (gp_G (rx_A n mc mv lk) (li_g n (h j)) → h j = 0 ∧ r = -9) → wpY_step (fun r' v' => r' = r ∧ i_Rel (k + 4) (nI n, nI sl, nI tw, bq_p gp_1 n, nI mc, f_strongCount', f_pinnedLevels, a_state, a_move, lk, ps, a_base', a_size', a_table', a_stale', a_strong') v') (nI n, nI sl, nI tw, nI (li_f n), nI mc, f_marked, a_code, a_digit, b_move, a_reached, a_queue, a_held, ps, a_twist, lk, 35280) (nI j) := fun r r7 r9 => by
      unfold wpY_step
      dsimp only
      refine yw_slot1 hsl hj (br_t rfl ?_)
      refine ym_mark hn hmc6 hm hq hk (fun a_reached' a_queue' ok q0 => ?_)
      dsimp only
      have fin : i_Rel (k + 4) (nI n, nI sl, nI tw, bq_p gp_1 n, nI mc, f_strongCount', f_pinnedLevels, a_state, a_move, lk, ps, a_base', a_size', a_table', a_stale', a_strong') (nI n, nI sl, nI tw, nI (li_f n), nI mc, 1, a_code, a_digit, b_move, a_reached', a_queue', a_held, ps, a_twist, lk, 35280) := rr_in W x8 x9 (fun _ => ⟨T, Q⟩) C1' ht hm q0 hh hw (Or.inr ⟨rfl, ok⟩)
      rw [cj, hh j (by omega)]
      refine And.intro vj (nm_e (And.intro (vp_in_nI (by omega) (by omega)) ?_))
      rw [nI_clamp (show h j < 2 ^ 31 by omega)]
      rcases ok (h j) hhj with ⟨e, g⟩ | ⟨e, g⟩
      · exact br_t e ⟨(r7 g).symm, fin⟩
      · obtain ⟨p1, p2⟩ := r9 g
        exact br_f (by rw [e]; decide) (br_t (by rw [p1]; rfl) ⟨p2.symm, fin⟩)
    refine And.intro vj ?_
    rw [cj, x8 j (by omega)]
    refine nm_e ?_
    refine xq_reach (c := 0) h2 hn (by omega) gr Q hP (fun g => br_t rfl (y7 (-7) (fun _ => rfl) (fun q => absurd q g))) (fun g => br_f (by decide) ?_)
    refine br_c (fun e => y7 (-9) (fun q => absurd g q) (fun _ => ⟨?_, rfl⟩)) (fun e => ?_)
    · have := bq_inj hn hP gp_P1 e
      exact li_inj (by omega) hhj (li_f_pos n) (this.trans (li_g0 n).symm)
    · have ne1 : li_g n (h j) ≠ gp_1 := fun q => e (by rw [q])
      have nh0 : h j ≠ 0 := fun q => ne1 (by rw [q]; exact li_g0 n)
      obtain ⟨i, hi, i1, i2⟩ := rt_first hP ne1
      obtain ⟨q, hq', eq⟩ := gp_surj hP hi
      refine xs_first hn hP hi i1 i2 ?_
      refine xw_placeOf hn hP hq' eq ?_
      rw [nI_1 i]
      refine xq_extend (c := 0) h2 hn (by omega) gr Q hi gr.2.1 hq' (fun ne => ?_) (fun f f1 f2 f3 => ?_)
      · obtain ⟨y, y1, y2, y3⟩ := gr.2.2.2 _ g
        refine absurd ⟨y, y1, fun l hl => ?_, ?_⟩ ne
        · show y l = l
          have := y3 l
          rw [i1 l hl] at this
          exact this
        · show y i = q
          have := y3 q
          rw [eq] at this
          exact this
      · have fl : ∀ l, l < i → f l = l := fun l hl => f2 l hl
        have fi : f i = q := f3
        have hpos : 0 < ch_O (ch_s T n) n (i + 1) := by
          rw [← xq_O hn gr Q (l := i + 1) (by omega) f1]
          obtain ⟨m, m1, m2⟩ := li_pos (gr.1 f f1)
          exact cc_pos (a := m) ⟨by rw [m2]; exact f1, fun l _ => by rw [m2]⟩ m1
        refine xq_descend (c := 0) (l := i + 1) (R := 0) h2 hn (by omega) gr Q (fun l _ _ p hp => ⟨p, hp, rfl⟩) (rq_O hn gr Q) (by omega) f1 hpos (fun w Rw => ?_)
        obtain ⟨r1, ⟨r2, r3⟩, r4⟩ := Rw
        have w2 : ∀ l, l < i → li_g n w l = l := fun l hl => (r3 l (by omega)).trans (fl l hl)
        have w3 : li_g n w i = q := (r3 i (by omega)).trans fi
        refine xw_compose hn hP (li_gP n w) (And.intro vj (nm_e ?_))
        refine xw_encode hn (li_gP n w) ?_
        unfold wpY_step
        dsimp only
        refine yw_slot1 hsl hj (br_t rfl ?_)
        refine ym_mark hn hmc6 hm hq hk (fun a_reached' a_queue' ok q0 => ?_)
        dsimp only
        rw [cj, hh j (by omega)]
        refine And.intro vj (nm_e (And.intro (vp_in_nI (by omega) (by omega)) ?_))
        rw [nI_clamp (show h j < 2 ^ 31 by omega)]
        have rj : a_reached' (h j) = 1 := ((ok (h j) hhj).resolve_left (fun z => z.2 g)).1
        refine br_f (by rw [rj]; decide) (br_f (nI_ne0 (by omega) (by omega)) ?_)
        refine yf_agree (y := 0) hn ht hhj (li_f_pos n) (fun d d1 d2 d3 => ?_)
        rw [li_g0] at d2 d3
        have ed : d = i := by
          rcases Nat.lt_trichotomy d i with z | z | z
          · exact absurd (i1 d z) (d3 (by omega))
          · exact z
          · exact absurd (d2 i z) i2
        rw [ed]
        refine Exists.intro (n + 1) ?_
        refine yt_53 hn ht hhj hi hq' eq (Exists.intro (w + 1) ?_) (n + 1) 0 (nI i) (by omega) (by omega) (fun z => absurd z (Nat.not_lt_zero _))
        refine yt_91 (w := w) hn ht ok (by omega) hhj hi hq' r1 r2 w2 w3 (fun c c0 c1 c2 c3 => ?_) (fun x x1 x2 => ?_) (w + 1) 0 (by omega) (by omega)
        · have hk' : ch_K (gp_G (rx_A n mc mv lk)) gp_1 n (i + 1) f c := ⟨c1, fun l hl => by
            show li_g n c l = f l
            rcases Nat.lt_or_ge l i with z | z
            · rw [c2 l z, fl l z]
            · rw [show l = i from by omega, c3, fi]⟩
          have := cc_pos hk' c0
          omega
        · rw [← x2]
          exact ⟨rfl, rr_set W x8 x9 (fun _ => ⟨T, Q⟩) C1' ht hm q0 hh hw (Or.inr ⟨rfl, ok⟩) x1⟩
end
