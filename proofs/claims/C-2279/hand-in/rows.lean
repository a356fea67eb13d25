section
/-! rows pasted from the kit (starting texts) -/
theorem pk_us {f : Nat → Int32} {k : Nat} {x : Int32} : upd f k x k = x := if_pos rfl
theorem pk_un {f : Nat → Int32} {k j : Nat} {x : Int32} (h : j ≠ k) : upd f k x j = f j := if_neg h
theorem pk_sub {a b : Nat} (h : b ≤ a) : nI a - nI b = nI (a - b) := by
  obtain ⟨c, rfl⟩ : ∃ c, a = c + b := ⟨a - b, by omega⟩
  rw [← nI_add, Int32.add_sub_cancel, Nat.add_sub_cancel]
theorem pk_m1 (n : Nat) : nI (n + 1) + (-1) = nI n := by
  rw [← nI_1, Int32.add_assoc, show (1 : Int32) + (-1) = 0 from rfl, Int32.add_zero]
theorem pk_mul (a b : Nat) : nI a * nI b = nI (a * b) := (Int32.ofNat_mul a b).symm
theorem pk_sub_toInt {a b : Nat} (ha : a < 2 ^ 30) (hb : b < 2 ^ 30) : (nI a - nI b).toInt = (a : Int) - b := by
  rw [Int32.toInt_sub, nI_toInt (by omega), nI_toInt (by omega)]
  exact Int.bmod_eq_of_le (by omega) (by omega)
theorem pk_ix (x : Int32) {n : Nat} (hn : n < 2 ^ 31) : x < 0 ∨ nI n ≤ x ∨ ∃ j : Nat, j < n ∧ x = nI j := by
  by_cases h : x < 0
  · exact Or.inl h
  · obtain ⟨j, hj, rfl⟩ := nI_of h
    by_cases h2 : j < n
    · exact Or.inr (Or.inr ⟨j, h2, rfl⟩)
    · exact Or.inr (Or.inl (nI_le (by omega) hj))
theorem pk_le {x y : Int32} {A B : Prop} (a b : Nat) (f : a ≤ b → A) (g : b < a → B) (hx : x = nI a := by rfl) (hy : y = nI b := by rfl) (ha : a < 2 ^ 31 := by omega) (hb : b < 2 ^ 31 := by omega) : (x ≤ y → A) ∧ (¬ x ≤ y → B) := by
  subst hx hy
  rw [nI_leI ha hb]
  exact ⟨f, fun z => g (by omega)⟩
theorem pk_lt {x y : Int32} {A B : Prop} (a b : Nat) (f : a < b → A) (g : b ≤ a → B) (hx : x = nI a := by rfl) (hy : y = nI b := by rfl) (ha : a < 2 ^ 31 := by omega) (hb : b < 2 ^ 31 := by omega) : (x < y → A) ∧ (¬ x < y → B) := by
  subst hx hy
  rw [nI_ltI ha hb]
  exact ⟨f, fun z => g (by omega)⟩
theorem pk_eq {x y : Int32} {A B : Prop} (a b : Nat) (f : a = b → A) (g : a ≠ b → B) (hx : x = nI a := by rfl) (hy : y = nI b := by rfl) (ha : a < 2 ^ 31 := by omega) (hb : b < 2 ^ 31 := by omega) : (x = y → A) ∧ (¬ x = y → B) := by
  subst hx hy
  rw [nI_eq ha hb]
  exact ⟨f, g⟩
theorem pk_in {x : Int32} (n N : Nat) (h : n < N) (hx : x = nI n := by rfl) (hN : N < 2 ^ 31 := by omega) : vp_in x N := by
  subst hx
  exact vp_in_nI h hN
theorem pk_cl {x : Int32} (n : Nat) (hx : x = nI n := by rfl) (h : n < 2 ^ 31 := by omega) : x.toNatClampNeg = n := by
  subst hx
  exact nI_clamp h
theorem pk_tn {n : Nat} (h : n < 2 ^ 32) : (nI n).toBitVec.toNat = n := Nat.mod_eq_of_lt h
theorem pk_and (x : Int32) {m : Int32} (k : Nat) (hm : m.toBitVec.toNat = 2 ^ k - 1) : x &&& m = nI (x.toBitVec.toNat % 2 ^ k) := by
  apply Int32.toBitVec_inj.mp
  apply BitVec.eq_of_toNat_eq
  rw [Int32.toBitVec_and, BitVec.toNat_and, hm, Nat.and_two_pow_sub_one_eq_mod]
  show _ = (BitVec.ofNat 32 _).toNat
  rw [BitVec.toNat_ofNat]
  exact (Nat.mod_eq_of_lt (Nat.lt_of_le_of_lt (Nat.mod_le _ _) x.toBitVec.isLt)).symm
theorem pk_andN {n : Nat} (h : n < 2 ^ 32) {m : Int32} (k : Nat) (hm : m.toBitVec.toNat = 2 ^ k - 1) : nI n &&& m = nI (n % 2 ^ k) := by
  rw [pk_and _ k hm, pk_tn h]
theorem pk_shl (a s : Int32) (k : Nat) (hs : (s.toBitVec.smod 32).toNat = k) : (a <<< s).toBitVec.toNat = a.toBitVec.toNat * 2 ^ k % 2 ^ 32 := by
  show (a.toBitVec <<< (s.toBitVec.smod 32).toNat).toNat = _
  rw [hs, BitVec.toNat_shiftLeft, Nat.shiftLeft_eq]
theorem pk_shlN {n : Nat} (s : Int32) (k : Nat) (hs : (s.toBitVec.smod 32).toNat = k) (h : n * 2 ^ k < 2 ^ 32) : nI n <<< s = nI (n * 2 ^ k) := by
  apply Int32.toBitVec_inj.mp
  apply BitVec.eq_of_toNat_eq
  have hn : n < 2 ^ 32 := Nat.lt_of_le_of_lt (Nat.le_mul_of_pos_right n (Nat.two_pow_pos k)) h
  rw [pk_shl _ _ k hs, pk_tn hn, pk_tn h, Nat.mod_eq_of_lt h]
theorem pk_shr (a s : Int32) (k : Nat) (hs : (s.toBitVec.smod 32).toNat = k) : (a >>> s).toInt = a.toInt >>> k := by
  show (a.toBitVec.sshiftRight (s.toBitVec.smod 32).toNat).toInt = _
  rw [hs, BitVec.toInt_sshiftRight]
  rfl
theorem pk_shrN {n : Nat} (h : n < 2 ^ 31) (s : Int32) (k : Nat) (hs : (s.toBitVec.smod 32).toNat = k) : nI n >>> s = nI (n / 2 ^ k) := by
  apply Int32.toInt_inj.mp
  have h2 : n / 2 ^ k ≤ n := Nat.div_le_self _ _
  rw [pk_shr _ _ k hs, nI_toInt h, nI_toInt (by omega), Int.shiftRight_eq_div_pow]
  rfl
theorem pk_vb (z : Int32) : vp_nar .byte z.toInt8.toInt32 = z.toInt8.toInt32 := by rw [vp_nar_byte]; simp
theorem pk_least (P : Nat → Prop) (h : ∃ k, P k) : ∃ k, P k ∧ ∀ j, j < k → ¬ P j := by
  obtain ⟨k, hk⟩ := h
  induction k using Nat.strongRecOn with
  | ind k ih =>
    by_cases e : ∃ j, j < k ∧ P j
    · obtain ⟨j, hj, pj⟩ := e
      exact ih j hj pj
    · exact ⟨k, hk, fun j hj pj => e ⟨j, hj, pj⟩⟩
def bt (x : Int32) (i : Nat) : Bool := x.toBitVec.getLsbD i
theorem b_ext {x y : Int32} (h : ∀ i, i < 32 → bt x i = bt y i) : x = y := Int32.toBitVec_inj.mp (BitVec.eq_of_getLsbD_eq (fun i hi => h i hi))
theorem b_and (x y : Int32) (i : Nat) : bt (x &&& y) i = (bt x i && bt y i) := by unfold bt; rw [Int32.toBitVec_and, BitVec.getLsbD_and]
theorem b_xor (x y : Int32) (i : Nat) : bt (x ^^^ y) i = (bt x i ^^ bt y i) := by unfold bt; rw [Int32.toBitVec_xor, BitVec.getLsbD_xor]
theorem b_big {x : Int32} {i : Nat} (h : 32 ≤ i) : bt x i = false := BitVec.getLsbD_of_ge _ _ h
theorem b_m1 : ∀ i, i < 32 → bt (-1) i = true := by decide +kernel
theorem b_0 (i : Nat) : bt 0 i = false := BitVec.getLsbD_zero
theorem s_l : ∀ n, n < 32 → ((nI n &&& 31).toBitVec.smod 32).toNat = n := by decide +kernel
theorem b_shl (n : Nat) (hn : n < 32) (x : Int32) {i : Nat} (hi : i < 32) : bt (x <<< (nI n &&& 31)) i = (decide (n ≤ i) && bt x (i - n)) := by
  unfold bt
  rw [Int32.toBitVec_shiftLeft]
  show (x.toBitVec <<< ((nI n &&& 31).toBitVec.smod 32).toNat).getLsbD i = _
  rw [s_l n hn, BitVec.getLsbD_shiftLeft]
  rcases Nat.lt_or_ge i n with h | h
  · simp [h, Nat.not_le.mpr h]
  · simp [hi, h, Nat.not_lt.mpr h]
theorem nx_and (a b : Nat) : nI a &&& nI b = nI (a &&& b) := by
  apply Int32.toBitVec_inj.1
  show BitVec.ofNat 32 a &&& BitVec.ofNat 32 b = BitVec.ofNat 32 (a &&& b)
  apply BitVec.eq_of_getLsbD_eq
  intro i hi
  simp [hi]
end
section
/-! ===== paths through the words: costs that may be missing, the first end, the number of lines ===== -/
def pb_add : Option Int → Option Int → Option Int
  | some a, some b => some (a + b)
  | some _, none => none
  | none, _ => none
theorem pb_add_some {a b : Option Int} {c : Int} : pb_add a b = some c ↔ ∃ x y, a = some x ∧ b = some y ∧ c = x + y := by
  cases a with
  | none =>
    constructor
    · intro h; cases h
    · rintro ⟨x, y, h, _, _⟩; cases h
  | some x =>
    cases b with
    | none =>
      constructor
      · intro h; cases h
      · rintro ⟨x, y, _, h, _⟩; cases h
    | some y =>
      constructor
      · intro h; exact ⟨x, y, rfl, rfl, (Option.some.inj h).symm⟩
      · rintro ⟨x', y', hx, hy, rfl⟩; cases hx; cases hy; rfl
theorem pb_add_0 (a : Option Int) : pb_add a (some 0) = a := by
  cases a with
  | none => rfl
  | some x => show some (x + 0) = some x; rw [Int.add_zero]
theorem pb_add_assoc (a b c : Option Int) : pb_add (pb_add a b) c = pb_add a (pb_add b c) := by
  cases a <;> cases b <;> cases c <;> first | rfl | exact congrArg some (Int.add_assoc _ _ _)
/-- the cost of the way from k on (a line begun at b), d words to go; t j: a line ends behind word j -/
def pb_ct (L : Nat → Nat → Option Int) (t : Nat → Bool) : Nat → Nat → Nat → Option Int
  | 0, _, _ => some 0
  | d + 1, k, b => if t k = true ∨ d = 0 then pb_add (L b (k + 1)) (pb_ct L t d (k + 1) (k + 1)) else pb_ct L t d (k + 1) b
def pb_nl (t : Nat → Bool) : Nat → Nat → Nat
  | 0, _ => 0
  | d + 1, k => if t k = true ∨ d = 0 then 1 + pb_nl t d (k + 1) else pb_nl t d (k + 1)
def pb_fe (t : Nat → Bool) : Nat → Nat → Nat
  | 0, k => k
  | d + 1, k => if t k = true ∨ d = 0 then k + 1 else pb_fe t d (k + 1)
theorem pb_ct_z (L : Nat → Nat → Option Int) (t : Nat → Bool) (k b : Nat) : pb_ct L t 0 k b = some 0 := rfl
theorem pb_ct_s (L : Nat → Nat → Option Int) (t : Nat → Bool) (d k b : Nat) : pb_ct L t (d + 1) k b = if t k = true ∨ d = 0 then pb_add (L b (k + 1)) (pb_ct L t d (k + 1) (k + 1)) else pb_ct L t d (k + 1) b := rfl
theorem pb_nl_z (t : Nat → Bool) (k : Nat) : pb_nl t 0 k = 0 := rfl
theorem pb_nl_s (t : Nat → Bool) (d k : Nat) : pb_nl t (d + 1) k = if t k = true ∨ d = 0 then 1 + pb_nl t d (k + 1) else pb_nl t d (k + 1) := rfl
theorem pb_fe_z (t : Nat → Bool) (k : Nat) : pb_fe t 0 k = k := rfl
theorem pb_fe_s (t : Nat → Bool) (d k : Nat) : pb_fe t (d + 1) k = if t k = true ∨ d = 0 then k + 1 else pb_fe t d (k + 1) := rfl
theorem pb_nt {x : Bool} (h : ¬ x = true) : x = false := by cases x <;> first | rfl | exact absurd rfl h
theorem pb_fe_rng (t : Nat → Bool) : ∀ d k, 0 < d → k < pb_fe t d k ∧ pb_fe t d k ≤ k + d := by
  intro d
  induction d with
  | zero => intro k h; exact absurd h (Nat.lt_irrefl 0)
  | succ d ih =>
    intro k _
    rw [pb_fe_s]
    by_cases h : t k = true ∨ d = 0
    · rw [if_pos h]; omega
    · rw [if_neg h]
      have h0 : d ≠ 0 := fun z => h (Or.inr z)
      have := ih (k + 1) (by omega)
      omega
theorem pb_fe_off (t : Nat → Bool) : ∀ d k j, k ≤ j → j + 1 < pb_fe t d k → t j = false := by
  intro d
  induction d with
  | zero => intro k j h1 h2; rw [pb_fe_z] at h2; omega
  | succ d ih =>
    intro k j h1 h2
    rw [pb_fe_s] at h2
    by_cases h : t k = true ∨ d = 0
    · rw [if_pos h] at h2; omega
    · rw [if_neg h] at h2
      by_cases e : j = k
      · subst e; exact pb_nt (fun z => h (Or.inl z))
      · exact ih (k + 1) j (by omega) h2
theorem pb_fe_on (t : Nat → Bool) : ∀ d k, pb_fe t d k < k + d → t (pb_fe t d k - 1) = true := by
  intro d
  induction d with
  | zero => intro k h; rw [pb_fe_z] at h; omega
  | succ d ih =>
    intro k h2
    rw [pb_fe_s] at h2 ⊢
    by_cases h : t k = true ∨ d = 0
    · rw [if_pos h] at h2 ⊢
      rcases h with h | h
      · exact h
      · omega
    · rw [if_neg h] at h2 ⊢
      exact ih (k + 1) (by omega)
theorem pb_fe_of (t : Nat → Bool) : ∀ d k q, k < q → q ≤ k + d → (∀ j, k ≤ j → j + 1 < q → t j = false) → (q < k + d → t (q - 1) = true) → pb_fe t d k = q := by
  intro d
  induction d with
  | zero => intro k q h1 h2; omega
  | succ d ih =>
    intro k q h1 h2 h3 h4
    rw [pb_fe_s]
    by_cases e : q = k + 1
    · subst e
      by_cases z : d = 0
      · rw [if_pos (Or.inr z)]
      · have : t k = true := h4 (by omega)
        rw [if_pos (Or.inl this)]
    · have hk : t k = false := h3 k (Nat.le_refl k) (by omega)
      have hz : d ≠ 0 := by omega
      rw [if_neg (fun z => z.elim (fun a => by rw [hk] at a; cases a) hz)]
      exact ih (k + 1) q (by omega) (by omega) (fun j a b => h3 j (by omega) b) (fun a => h4 (by omega))
theorem pb_ct_fe (L : Nat → Nat → Option Int) (t : Nat → Bool) : ∀ d k b, 0 < d → pb_ct L t d k b = pb_add (L b (pb_fe t d k)) (pb_ct L t (k + d - pb_fe t d k) (pb_fe t d k) (pb_fe t d k)) := by
  intro d
  induction d with
  | zero => intro k b h; exact absurd h (Nat.lt_irrefl 0)
  | succ d ih =>
    intro k b _
    rw [pb_ct_s, pb_fe_s]
    by_cases h : t k = true ∨ d = 0
    · have e : k + (d + 1) - (k + 1) = d := by omega
      rw [if_pos h, if_pos h, e]
    · have h0 : d ≠ 0 := fun z => h (Or.inr z)
      have e : k + (d + 1) = k + 1 + d := by omega
      rw [if_neg h, if_neg h, ih (k + 1) b (by omega), e]
theorem pb_nl_fe (t : Nat → Bool) : ∀ d k, 0 < d → pb_nl t d k = 1 + pb_nl t (k + d - pb_fe t d k) (pb_fe t d k) := by
  intro d
  induction d with
  | zero => intro k h; exact absurd h (Nat.lt_irrefl 0)
  | succ d ih =>
    intro k _
    rw [pb_nl_s, pb_fe_s]
    by_cases h : t k = true ∨ d = 0
    · have e : k + (d + 1) - (k + 1) = d := by omega
      rw [if_pos h, if_pos h, e]
    · have h0 : d ≠ 0 := fun z => h (Or.inr z)
      have e : k + (d + 1) = k + 1 + d := by omega
      rw [if_neg h, if_neg h, ih (k + 1) (by omega), e]
theorem pb_ct_cg (L : Nat → Nat → Option Int) {t t' : Nat → Bool} : ∀ d k b, (∀ j, k ≤ j → j + 1 < k + d → t j = t' j) → pb_ct L t d k b = pb_ct L t' d k b := by
  intro d
  induction d with
  | zero => intro k b _; rfl
  | succ d ih =>
    intro k b h
    rw [pb_ct_s, pb_ct_s]
    by_cases z : d = 0
    · subst z; rw [if_pos (Or.inr rfl), if_pos (Or.inr rfl)]; rfl
    · rw [h k (Nat.le_refl k) (by omega), ih (k + 1) (k + 1) (fun j a c => h j (by omega) (by omega)), ih (k + 1) b (fun j a c => h j (by omega) (by omega))]
theorem pb_nl_cg {t t' : Nat → Bool} : ∀ d k, (∀ j, k ≤ j → j + 1 < k + d → t j = t' j) → pb_nl t d k = pb_nl t' d k := by
  intro d
  induction d with
  | zero => intro k _; rfl
  | succ d ih =>
    intro k h
    rw [pb_nl_s, pb_nl_s]
    by_cases z : d = 0
    · subst z; rw [if_pos (Or.inr rfl), if_pos (Or.inr rfl)]; rfl
    · rw [h k (Nat.le_refl k) (by omega), ih (k + 1) (fun j a c => h j (by omega) (by omega))]
theorem pb_ct_sp (L : Nat → Nat → Option Int) (t : Nat → Bool) : ∀ d1 d2 k b, 0 < d1 → 0 < d2 → t (k + d1 - 1) = true → pb_ct L t (d1 + d2) k b = pb_add (pb_ct L t d1 k b) (pb_ct L t d2 (k + d1) (k + d1)) := by
  intro d1
  induction d1 with
  | zero => intro d2 k b h; exact absurd h (Nat.lt_irrefl 0)
  | succ d1 ih =>
    intro d2 k b _ h2 h
    have e : d1 + 1 + d2 = (d1 + d2) + 1 := by omega
    rw [e, pb_ct_s, pb_ct_s]
    by_cases z : d1 = 0
    · subst z
      have tk : t k = true := h
      rw [if_pos (Or.inl tk), if_pos (Or.inl tk), pb_ct_z, pb_add_0, Nat.zero_add, Nat.zero_add]
    · have n0 : d1 + d2 ≠ 0 := by omega
      have h' : t (k + 1 + d1 - 1) = true := by
        have e2 : k + 1 + d1 - 1 = k + (d1 + 1) - 1 := by omega
        rw [e2]; exact h
      have e3 : k + (d1 + 1) = k + 1 + d1 := by omega
      by_cases tk : t k = true
      · rw [if_pos (Or.inl tk), if_pos (Or.inl tk), pb_add_assoc, ih d2 (k + 1) (k + 1) (by omega) h2 h', e3]
      · rw [if_neg (fun a => a.elim tk n0), if_neg (fun a => a.elim tk z), ih d2 (k + 1) b (by omega) h2 h', e3]
theorem pb_nl_sp (t : Nat → Bool) : ∀ d1 d2 k, 0 < d1 → 0 < d2 → t (k + d1 - 1) = true → pb_nl t (d1 + d2) k = pb_nl t d1 k + pb_nl t d2 (k + d1) := by
  intro d1
  induction d1 with
  | zero => intro d2 k h; exact absurd h (Nat.lt_irrefl 0)
  | succ d1 ih =>
    intro d2 k _ h2 h
    have e : d1 + 1 + d2 = (d1 + d2) + 1 := by omega
    rw [e, pb_nl_s, pb_nl_s]
    by_cases z : d1 = 0
    · subst z
      have tk : t k = true := h
      rw [if_pos (Or.inl tk), if_pos (Or.inl tk), pb_nl_z, Nat.zero_add, Nat.zero_add]
    · have n0 : d1 + d2 ≠ 0 := by omega
      have h' : t (k + 1 + d1 - 1) = true := by
        have e2 : k + 1 + d1 - 1 = k + (d1 + 1) - 1 := by omega
        rw [e2]; exact h
      have e3 : k + (d1 + 1) = k + 1 + d1 := by omega
      by_cases tk : t k = true
      · rw [if_pos (Or.inl tk), if_pos (Or.inl tk), ih d2 (k + 1) (by omega) h2 h', e3]; omega
      · rw [if_neg (fun a => a.elim tk n0), if_neg (fun a => a.elim tk z), ih d2 (k + 1) (by omega) h2 h', e3]
theorem pb_ct_bd {L : Nat → Nat → Option Int} {N : Nat} (hL : ∀ p q l, p < q → q ≤ N → L p q = some l → -40 ≤ l ∧ l ≤ 4000) (t : Nat → Bool) : ∀ d k b c, b ≤ k → k + d ≤ N → pb_ct L t d k b = some c → -40 * (d : Int) ≤ c ∧ c ≤ 4000 * (d : Int) := by
  intro d
  induction d with
  | zero => intro k b c _ _ h; rw [pb_ct_z] at h; cases h; omega
  | succ d ih =>
    intro k b c h1 h2 h
    rw [pb_ct_s] at h
    by_cases z : t k = true ∨ d = 0
    · rw [if_pos z] at h
      obtain ⟨x, y, hx, hy, rfl⟩ := pb_add_some.mp h
      have a := hL b (k + 1) x (by omega) (by omega) hx
      have b := ih (k + 1) (k + 1) y (Nat.le_refl _) (by omega) hy
      omega
    · rw [if_neg z] at h
      have b := ih (k + 1) b c (by omega) (by omega) h
      omega
theorem pb_nl_le (t : Nat → Bool) : ∀ d k, pb_nl t d k ≤ d := by
  intro d
  induction d with
  | zero => intro k; exact Nat.le_refl 0
  | succ d ih =>
    intro k
    have := ih (k + 1)
    rw [pb_nl_s]
    by_cases z : t k = true ∨ d = 0
    · rw [if_pos z]; omega
    · rw [if_neg z]; omega
theorem pb_nl_pos (t : Nat → Bool) {d : Nat} (k : Nat) (h : 0 < d) : 0 < pb_nl t d k := by
  rw [pb_nl_fe t d k h]; omega
/-- s up to word p, then a line from p to q, then t -/
def pb_gl (p q : Nat) (s t : Nat → Bool) : Nat → Bool := fun j => if j < p then s j else if j + 1 < q then false else if j + 1 = q then true else t j
theorem pb_gl_lo {p q : Nat} {s t : Nat → Bool} {j : Nat} (h : j < p) : pb_gl p q s t j = s j := if_pos h
theorem pb_gl_mid {p q : Nat} {s t : Nat → Bool} {j : Nat} (h : p ≤ j) (h2 : j + 1 < q) : pb_gl p q s t j = false := by
  unfold pb_gl; rw [if_neg (by omega), if_pos h2]
theorem pb_gl_q {p q : Nat} {s t : Nat → Bool} (h : p < q) : pb_gl p q s t (q - 1) = true := by
  unfold pb_gl; rw [if_neg (by omega), if_neg (by omega), if_pos (by omega)]
theorem pb_gl_hi {p q : Nat} {s t : Nat → Bool} {j : Nat} (h : p < q) (h2 : q ≤ j) : pb_gl p q s t j = t j := by
  unfold pb_gl; rw [if_neg (by omega), if_neg (by omega), if_neg (by omega)]
theorem pb_gl_fe {p q N : Nat} (s t : Nat → Bool) (h : p < q) (h2 : q ≤ N) : pb_fe (pb_gl p q s t) (N - p) p = q :=
  pb_fe_of _ _ _ _ h (by omega) (fun _ a b => pb_gl_mid a b) (fun _ => pb_gl_q h)
theorem pb_gl_ct (L : Nat → Nat → Option Int) {p q N : Nat} (s t : Nat → Bool) (h : p < q) (h2 : q ≤ N) : pb_ct L (pb_gl p q s t) (N - p) p p = pb_add (L p q) (pb_ct L t (N - q) q q) := by
  have e : p + (N - p) - q = N - q := by omega
  rw [pb_ct_fe L _ (N - p) p p (by omega), pb_gl_fe s t h h2, e, pb_ct_cg L (t' := t) (N - q) q q (fun j a _ => pb_gl_hi h a)]
theorem pb_gl_nl {p q N : Nat} (s t : Nat → Bool) (h : p < q) (h2 : q ≤ N) : pb_nl (pb_gl p q s t) (N - p) p = 1 + pb_nl t (N - q) q := by
  have e : p + (N - p) - q = N - q := by omega
  rw [pb_nl_fe _ (N - p) p (by omega), pb_gl_fe s t h h2, e, pb_nl_cg (t' := t) (N - q) q (fun j a _ => pb_gl_hi h a)]
/-- c is the cost of a way from p to the end with n lines -/
def pb_SO (L : Nat → Nat → Option Int) (N n p : Nat) (c : Int) : Prop := ∃ t : Nat → Bool, pb_nl t (N - p) p = n ∧ pb_ct L t (N - p) p p = some c
theorem pb_SO_0 (L : Nat → Nat → Option Int) {N p : Nat} (hp : p ≤ N) (c : Int) : pb_SO L N 0 p c ↔ p = N ∧ c = 0 := by
  constructor
  · rintro ⟨t, h1, h2⟩
    by_cases z : N - p = 0
    · rw [z, pb_ct_z] at h2
      exact ⟨by omega, (Option.some.inj h2).symm⟩
    · have := pb_nl_pos t (d := N - p) p (by omega)
      omega
  · rintro ⟨rfl, rfl⟩
    refine ⟨fun _ => false, ?_, ?_⟩
    · rw [Nat.sub_self]; rfl
    · rw [Nat.sub_self]; rfl
theorem pb_SO_s (L : Nat → Nat → Option Int) {N n p : Nat} (hp : p ≤ N) (c : Int) : pb_SO L N (n + 1) p c ↔ ∃ q l r, p < q ∧ q ≤ N ∧ L p q = some l ∧ pb_SO L N n q r ∧ c = l + r := by
  constructor
  · rintro ⟨t, h1, h2⟩
    have z : 0 < N - p := by
      rcases Nat.eq_zero_or_pos (N - p) with z | z
      · rw [z, pb_nl_z] at h1; omega
      · exact z
    have hr := pb_fe_rng t (N - p) p z
    have e : p + (N - p) - pb_fe t (N - p) p = N - pb_fe t (N - p) p := by omega
    rw [pb_nl_fe t (N - p) p z, e] at h1
    rw [pb_ct_fe L t (N - p) p p z, e] at h2
    obtain ⟨x, y, hx, hy, rfl⟩ := pb_add_some.mp h2
    exact ⟨pb_fe t (N - p) p, x, y, hr.1, by omega, hx, ⟨t, by omega, hy⟩, rfl⟩
  · rintro ⟨q, l, r, h1, h2, hl, ⟨t, h3, h4⟩, rfl⟩
    refine ⟨pb_gl p q t t, ?_, ?_⟩
    · rw [pb_gl_nl t t h1 h2, h3, Nat.add_comm]
    · rw [pb_gl_ct L t t h1 h2, hl, h4]; rfl
/-- m is the least of S, or FAR if S is empty -/
def pb_Mi (S : Int → Prop) (m : Int) : Prop := (m = 1000000 ∧ ∀ c, ¬ S c) ∨ (m < 1000000 ∧ S m ∧ ∀ c, S c → m ≤ c)
theorem pb_Mi_cg {S T : Int → Prop} {m : Int} (h : ∀ c, S c ↔ T c) (a : pb_Mi S m) : pb_Mi T m := by
  rcases a with ⟨a, b⟩ | ⟨a, b, c⟩
  · exact Or.inl ⟨a, fun c z => b c ((h c).mpr z)⟩
  · exact Or.inr ⟨a, (h m).mp b, fun d z => c d ((h d).mpr z)⟩
theorem pb_Mi_u {S T : Int → Prop} {m k : Int} (a : pb_Mi S m) (b : pb_Mi T k) (h : m ≤ k) : pb_Mi (fun c => S c ∨ T c) m := by
  rcases a with ⟨a, a2⟩ | ⟨a, a2, a3⟩
  · rcases b with ⟨b, b2⟩ | ⟨b, b2, b3⟩
    · exact Or.inl ⟨a, fun c z => z.elim (a2 c) (b2 c)⟩
    · omega
  · refine Or.inr ⟨a, Or.inl a2, fun c z => z.elim (a3 c) (fun y => ?_)⟩
    rcases b with ⟨b, b2⟩ | ⟨b, b2, b3⟩
    · exact absurd y (b2 c)
    · have := b3 c y
      omega
theorem pb_Mi_v {S T : Int → Prop} {m k : Int} (a : pb_Mi S m) (b : pb_Mi T k) (h : k ≤ m) : pb_Mi (fun c => S c ∨ T c) k :=
  pb_Mi_cg (fun _ => Or.comm) (pb_Mi_u b a h)
theorem pb_Mi_le {S : Int → Prop} {m : Int} (a : pb_Mi S m) : m ≤ 1000000 := by
  rcases a with ⟨a, _⟩ | ⟨a, _⟩ <;> omega
theorem pb_Mi_0 {S : Int → Prop} (h : ∀ c, ¬ S c) : pb_Mi S 1000000 := Or.inl ⟨rfl, h⟩
theorem pb_Mi_un {S : Int → Prop} {m k : Int} (a : pb_Mi S m) (b : pb_Mi S k) : m = k := by
  rcases a with ⟨a, a2⟩ | ⟨a, a2, a3⟩
  · rcases b with ⟨b, b2⟩ | ⟨b, b2, b3⟩
    · omega
    · exact absurd b2 (a2 k)
  · rcases b with ⟨b, b2⟩ | ⟨b, b2, b3⟩
    · exact absurd a2 (b2 m)
    · have := a3 k b2
      have := b3 m a2
      omega
end
section
/-! ===== how many ways have the cost c ===== -/
def pb_T (o : Option Int) (g : Int → Nat) (c : Int) : Nat := match o with
  | none => 0
  | some l => g (c - l)
theorem pb_T_none (g : Int → Nat) (c : Int) : pb_T none g c = 0 := rfl
theorem pb_T_some (l : Int) (g : Int → Nat) (c : Int) : pb_T (some l) g c = g (c - l) := rfl
def pb_gc (L : Nat → Nat → Option Int) : Nat → Nat → Nat → Int → Nat
  | 0, _, _, c => if c = 0 then 1 else 0
  | d + 1, k, b, c => pb_T (L b (k + 1)) (pb_gc L d (k + 1) (k + 1)) c + (if d = 0 then 0 else pb_gc L d (k + 1) b c)
theorem pb_gc_z (L : Nat → Nat → Option Int) (k b : Nat) (c : Int) : pb_gc L 0 k b c = if c = 0 then 1 else 0 := rfl
theorem pb_gc_s (L : Nat → Nat → Option Int) (d k b : Nat) (c : Int) : pb_gc L (d + 1) k b c = pb_T (L b (k + 1)) (pb_gc L d (k + 1) (k + 1)) c + (if d = 0 then 0 else pb_gc L d (k + 1) b c) := rfl
/-- the sum over the first line's end q = k + 1 .. k + m -/
def pb_ps (L : Nat → Nat → Option Int) (N b k : Nat) : Nat → Int → Nat
  | 0, _ => 0
  | m + 1, c => pb_ps L N b k m c + pb_T (L b (k + m + 1)) (pb_gc L (N - (k + m + 1)) (k + m + 1) (k + m + 1)) c
theorem pb_ps_z (L : Nat → Nat → Option Int) (N b k : Nat) (c : Int) : pb_ps L N b k 0 c = 0 := rfl
theorem pb_ps_s (L : Nat → Nat → Option Int) (N b k m : Nat) (c : Int) : pb_ps L N b k (m + 1) c = pb_ps L N b k m c + pb_T (L b (k + m + 1)) (pb_gc L (N - (k + m + 1)) (k + m + 1) (k + m + 1)) c := rfl
theorem pb_ps_front (L : Nat → Nat → Option Int) (N b k : Nat) (c : Int) : ∀ m, pb_ps L N b k (m + 1) c = pb_T (L b (k + 1)) (pb_gc L (N - (k + 1)) (k + 1) (k + 1)) c + pb_ps L N b (k + 1) m c := by
  intro m
  induction m with
  | zero => rw [pb_ps_s, pb_ps_z, pb_ps_z, Nat.add_zero, Nat.zero_add, Nat.add_zero (pb_T _ _ _)]
  | succ m ih =>
    have e : k + (m + 1) + 1 = k + 1 + m + 1 := by omega
    rw [pb_ps_s, ih, pb_ps_s L N b (k + 1) m c, e, Nat.add_assoc]
theorem pb_gc_ps (L : Nat → Nat → Option Int) (N : Nat) (b : Nat) (c : Int) : ∀ d k, 0 < d → k + d = N → pb_gc L d k b c = pb_ps L N b k d c := by
  intro d
  induction d with
  | zero => intro k h; exact absurd h (Nat.lt_irrefl 0)
  | succ d ih =>
    intro k _ h
    have e : N - (k + 1) = d := by omega
    rw [pb_gc_s, pb_ps_front, e]
    by_cases z : d = 0
    · subst z; rw [if_pos rfl, pb_ps_z]
    · rw [if_neg z, ih (k + 1) (by omega) (by omega)]
def pb_cnt (Q : Nat → Bool) : Nat → Nat
  | 0 => 0
  | n + 1 => pb_cnt Q n + (if Q n = true then 1 else 0)
theorem pb_cnt_z (Q : Nat → Bool) : pb_cnt Q 0 = 0 := rfl
theorem pb_cnt_s (Q : Nat → Bool) (n : Nat) : pb_cnt Q (n + 1) = pb_cnt Q n + (if Q n = true then 1 else 0) := rfl
theorem pb_cnt_two (Q : Nat → Bool) : ∀ n, pb_cnt Q (2 * n) = pb_cnt (fun s => Q (2 * s)) n + pb_cnt (fun s => Q (2 * s + 1)) n := by
  intro n
  induction n with
  | zero => rfl
  | succ n ih =>
    have e : 2 * (n + 1) = 2 * n + 1 + 1 := by omega
    rw [e, pb_cnt_s, pb_cnt_s, ih, pb_cnt_s (fun s => Q (2 * s)), pb_cnt_s (fun s => Q (2 * s + 1))]
    omega
theorem pb_cnt_cg {Q R : Nat → Bool} : ∀ n, (∀ s, s < n → Q s = R s) → pb_cnt Q n = pb_cnt R n := by
  intro n
  induction n with
  | zero => intro _; rfl
  | succ n ih =>
    intro h
    rw [pb_cnt_s, pb_cnt_s, ih (fun s a => h s (by omega)), h n (Nat.lt_succ_self n)]
theorem pb_cnt_0 {Q : Nat → Bool} : ∀ n, (∀ s, s < n → Q s = false) → pb_cnt Q n = 0 := by
  intro n
  induction n with
  | zero => intro _; rfl
  | succ n ih =>
    intro h
    rw [pb_cnt_s, ih (fun s a => h s (by omega)), h n (Nat.lt_succ_self n)]
    rfl
theorem pb_cnt_ne {Q : Nat → Bool} : ∀ n, pb_cnt Q n ≠ 0 ↔ ∃ s, s < n ∧ Q s = true := by
  intro n
  constructor
  · intro h
    by_cases z : ∃ s, s < n ∧ Q s = true
    · exact z
    · exact absurd (pb_cnt_0 n (fun s a => pb_nt (fun b => z ⟨s, a, b⟩))) h
  · rintro ⟨s, a, b⟩
    induction n with
    | zero => omega
    | succ n ih =>
      rw [pb_cnt_s]
      by_cases e : s = n
      · subst e; rw [if_pos b]; omega
      · have := ih (by omega)
        omega
theorem pb_gc_cnt (L : Nat → Nat → Option Int) : ∀ d k b c, pb_gc L (d + 1) k b c = pb_cnt (fun s => decide (pb_ct L (fun j => s.testBit (j - k)) (d + 1) k b = some c)) (2 ^ d) := by
  intro d
  induction d with
  | zero =>
    intro k b c
    rw [pb_gc_s, if_pos rfl, Nat.pow_zero, pb_cnt_s, pb_cnt_z, Nat.zero_add, Nat.add_zero, pb_ct_s, if_pos (Or.inr rfl), pb_ct_z, pb_add_0]
    cases L b (k + 1) with
    | none => rfl
    | some l =>
      rw [pb_T_some, pb_gc_z]
      by_cases z : c = l
      · subst z
        rw [if_pos (Int.sub_self c), if_pos (decide_eq_true rfl)]
      · rw [if_neg (by omega), if_neg (fun h => z (Option.some.inj (of_decide_eq_true h)).symm)]
  | succ d ih =>
    intro k b c
    have e : 2 ^ (d + 1) = 2 * 2 ^ d := by rw [Nat.pow_succ, Nat.mul_comm]
    rw [pb_gc_s, if_neg (Nat.succ_ne_zero d), e, pb_cnt_two, Nat.add_comm]
    have b0 : ∀ s : Nat, (2 * s).testBit (k - k) = false := by
      intro s; rw [Nat.sub_self, Nat.testBit_zero]; exact decide_eq_false (by omega)
    have b1 : ∀ s : Nat, (2 * s + 1).testBit (k - k) = true := by
      intro s; rw [Nat.sub_self, Nat.testBit_zero]; exact decide_eq_true (by omega)
    have c0 : ∀ s j : Nat, k + 1 ≤ j → (2 * s).testBit (j - k) = s.testBit (j - (k + 1)) := by
      intro s j h
      have e1 : j - k = (j - (k + 1)) + 1 := by omega
      have e2 : 2 * s / 2 = s := by omega
      rw [e1, Nat.testBit_succ, e2]
    have c1 : ∀ s j : Nat, k + 1 ≤ j → (2 * s + 1).testBit (j - k) = s.testBit (j - (k + 1)) := by
      intro s j h
      have e1 : j - k = (j - (k + 1)) + 1 := by omega
      have e2 : (2 * s + 1) / 2 = s := by omega
      rw [e1, Nat.testBit_succ, e2]
    congr 1
    · rw [ih (k + 1) b c]
      refine pb_cnt_cg _ (fun s _ => ?_)
      have z : pb_ct L (fun j => (2 * s).testBit (j - k)) (d + 1 + 1) k b = pb_ct L (fun j => s.testBit (j - (k + 1))) (d + 1) (k + 1) b := by
        rw [pb_ct_s, if_neg (fun h => h.elim (fun a => by have a : (2 * s).testBit (k - k) = true := a; rw [b0] at a; cases a) (Nat.succ_ne_zero d))]
        exact pb_ct_cg L _ _ _ (fun j a _ => c0 s j a)
      exact decide_eq_decide.mpr (by rw [z])
    · cases hl : L b (k + 1) with
      | none =>
        rw [pb_T_none]
        refine (pb_cnt_0 _ (fun s _ => decide_eq_false (fun h => ?_))).symm
        rw [pb_ct_s, if_pos (Or.inl (b1 s)), hl] at h
        cases h
      | some l =>
        rw [pb_T_some, ih (k + 1) (k + 1) (c - l)]
        refine pb_cnt_cg _ (fun s _ => ?_)
        refine decide_eq_decide.mpr ?_
        rw [pb_ct_s L (fun j => (2 * s + 1).testBit (j - k)), if_pos (Or.inl (b1 s)), hl, pb_ct_cg L (t := fun j => (2 * s + 1).testBit (j - k)) (t' := fun j => s.testBit (j - (k + 1))) (d + 1) (k + 1) (k + 1) (fun j a _ => c1 s j a)]
        constructor
        · intro h
          rw [h]
          exact congrArg some (by omega)
        · intro h
          obtain ⟨x, y, hx, hy, rfl⟩ := pb_add_some.mp h
          cases hx
          rw [hy]
          exact congrArg some (by omega)
/-- every choice of bits is a number -/
theorem pb_bits : ∀ (d : Nat) (t : Nat → Bool), ∃ s, s < 2 ^ d ∧ ∀ j, j < d → s.testBit j = t j := by
  intro d
  induction d with
  | zero => intro t; exact ⟨0, by decide, fun j h => absurd h (Nat.not_lt_zero j)⟩
  | succ d ih =>
    intro t
    obtain ⟨s, h1, h2⟩ := ih (fun j => t (j + 1))
    have e : 2 ^ (d + 1) = 2 * 2 ^ d := by rw [Nat.pow_succ, Nat.mul_comm]
    cases h0 : t 0 with
    | false =>
      refine ⟨2 * s, by omega, fun j hj => ?_⟩
      cases j with
      | zero => rw [Nat.testBit_zero, h0]; exact decide_eq_false (by omega)
      | succ j =>
        have e2 : 2 * s / 2 = s := by omega
        rw [Nat.testBit_succ, e2]; exact h2 j (by omega)
    | true =>
      refine ⟨2 * s + 1, by omega, fun j hj => ?_⟩
      cases j with
      | zero => rw [Nat.testBit_zero, h0]; exact decide_eq_true (by omega)
      | succ j =>
        have e2 : (2 * s + 1) / 2 = s := by omega
        rw [Nat.testBit_succ, e2]; exact h2 j (by omega)
theorem pb_gc_ne (L : Nat → Nat → Option Int) (d k b : Nat) (c : Int) : pb_gc L d k b c ≠ 0 ↔ ∃ t : Nat → Bool, pb_ct L t d k b = some c := by
  cases d with
  | zero =>
    rw [pb_gc_z]
    by_cases z : c = 0
    · subst z
      rw [if_pos rfl]
      exact ⟨fun _ => ⟨fun _ => false, rfl⟩, fun _ => by decide⟩
    · rw [if_neg z]
      exact ⟨fun h => absurd rfl h, fun ⟨t, h⟩ => absurd (Option.some.inj h).symm z⟩
  | succ d =>
    rw [pb_gc_cnt, pb_cnt_ne]
    constructor
    · rintro ⟨s, _, h⟩
      exact ⟨_, of_decide_eq_true h⟩
    · rintro ⟨t, h⟩
      obtain ⟨s, h1, h2⟩ := pb_bits d (fun j => t (j + k))
      refine ⟨s, h1, decide_eq_true ?_⟩
      rw [← h]
      refine pb_ct_cg L _ _ _ (fun j a b => ?_)
      show s.testBit (j - k) = t j
      have e : j - k + k = j := by omega
      rw [h2 (j - k) (by omega), e]
/-- the best and in how many ways it is reached -/
def pb_BW (g : Int → Nat) (b w : Int32) : Prop := pb_Mi (fun c => g c ≠ 0) b.toInt ∧ w = nI (g b.toInt)
theorem pb_ps_same {L : Nat → Nat → Option Int} {N b k m : Nat} (h : ∀ l, L b (k + m + 1) = some l → ∀ c, pb_gc L (N - (k + m + 1)) (k + m + 1) (k + m + 1) c = 0) : pb_ps L N b k (m + 1) = pb_ps L N b k m := by
  funext c
  rw [pb_ps_s]
  cases hl : L b (k + m + 1) with
  | none => rfl
  | some l => rw [pb_T_some, h l hl]; rfl
theorem pb_ps_lt {L : Nat → Nat → Option Int} {N b k m : Nat} {l mm mq : Int} (hl : L b (k + m + 1) = some l) (hm : pb_Mi (fun c => pb_ps L N b k m c ≠ 0) mm) (hq : pb_Mi (fun c => pb_gc L (N - (k + m + 1)) (k + m + 1) (k + m + 1) c ≠ 0) mq) (h1 : mq < 1000000) (h2 : l + mq < mm) : pb_Mi (fun c => pb_ps L N b k (m + 1) c ≠ 0) (l + mq) ∧ pb_ps L N b k (m + 1) (l + mq) = pb_gc L (N - (k + m + 1)) (k + m + 1) (k + m + 1) mq := by
  have low : ∀ c, c < mm → pb_ps L N b k m c = 0 := by
    intro c hc
    rcases hm with ⟨_, a⟩ | ⟨_, _, a⟩
    · exact Classical.not_not.mp (a c)
    · by_cases z : pb_ps L N b k m c = 0
      · exact z
      · have := a c z
        omega
  have lowq : (∀ c, c < mq → pb_gc L (N - (k + m + 1)) (k + m + 1) (k + m + 1) c = 0) ∧ pb_gc L (N - (k + m + 1)) (k + m + 1) (k + m + 1) mq ≠ 0 := by
    rcases hq with ⟨a, _⟩ | ⟨_, b, a⟩
    · omega
    · refine ⟨fun c hc => ?_, b⟩
      by_cases z : pb_gc L (N - (k + m + 1)) (k + m + 1) (k + m + 1) c = 0
      · exact z
      · have := a c z
        omega
  have hle := pb_Mi_le hm
  have e : l + mq - l = mq := by omega
  have v : pb_ps L N b k (m + 1) (l + mq) = pb_gc L (N - (k + m + 1)) (k + m + 1) (k + m + 1) mq := by
    rw [pb_ps_s, hl, pb_T_some, low _ h2, e, Nat.zero_add]
  refine ⟨Or.inr ⟨by omega, ?_, fun c hc => ?_⟩, v⟩
  · show pb_ps L N b k (m + 1) (l + mq) ≠ 0
    rw [v]; exact lowq.2
  · have hc : pb_ps L N b k (m + 1) c ≠ 0 := hc
    by_cases z : l + mq ≤ c
    · exact z
    · exfalso
      apply hc
      rw [pb_ps_s, hl, pb_T_some, low c (by omega), lowq.1 (c - l) (by omega)]
theorem pb_ps_ge {L : Nat → Nat → Option Int} {N b k m : Nat} {l mm mq : Int} (hl : L b (k + m + 1) = some l) (hm : pb_Mi (fun c => pb_ps L N b k m c ≠ 0) mm) (hq : pb_Mi (fun c => pb_gc L (N - (k + m + 1)) (k + m + 1) (k + m + 1) c ≠ 0) mq) (h1 : l + mq < 1000000) (h2 : mm ≤ l + mq) : pb_Mi (fun c => pb_ps L N b k (m + 1) c ≠ 0) mm ∧ pb_ps L N b k (m + 1) mm = pb_ps L N b k m mm + (if l + mq = mm then pb_gc L (N - (k + m + 1)) (k + m + 1) (k + m + 1) mq else 0) := by
  have low : (∀ c, c < mm → pb_ps L N b k m c = 0) ∧ pb_ps L N b k m mm ≠ 0 := by
    rcases hm with ⟨a, _⟩ | ⟨_, b0, a⟩
    · omega
    · refine ⟨fun c hc => ?_, b0⟩
      by_cases z : pb_ps L N b k m c = 0
      · exact z
      · have := a c z
        omega
  have lowq : ∀ c, c < mq → pb_gc L (N - (k + m + 1)) (k + m + 1) (k + m + 1) c = 0 := by
    intro c hc
    rcases hq with ⟨_, a⟩ | ⟨_, _, a⟩
    · exact Classical.not_not.mp (a c)
    · by_cases z : pb_gc L (N - (k + m + 1)) (k + m + 1) (k + m + 1) c = 0
      · exact z
      · have := a c z
        omega
  refine ⟨Or.inr ⟨by omega, ?_, fun c hc => ?_⟩, ?_⟩
  · show pb_ps L N b k (m + 1) mm ≠ 0
    rw [pb_ps_s]
    have := low.2
    omega
  · have hc : pb_ps L N b k (m + 1) c ≠ 0 := hc
    by_cases z : mm ≤ c
    · exact z
    · exfalso
      apply hc
      rw [pb_ps_s, hl, pb_T_some, low.1 c (by omega), lowq (c - l) (by omega)]
  · rw [pb_ps_s, hl, pb_T_some]
    by_cases z : l + mq = mm
    · have e : mm - l = mq := by omega
      rw [if_pos z, e]
    · rw [if_neg z, lowq (mm - l) (by omega)]
end
section
/-! ===== bits below a place, the order of breakings of one cost ===== -/
theorem pb_cnt_mono (t : Nat → Bool) {i j : Nat} (h : i ≤ j) : pb_cnt t i ≤ pb_cnt t j := by
  induction j with
  | zero => have e : i = 0 := by omega
            subst e; exact Nat.le_refl _
  | succ j ih =>
    by_cases e : i = j + 1
    · subst e; exact Nat.le_refl _
    · have := ih (by omega)
      rw [pb_cnt_s]; omega
theorem pb_cnt_on {t : Nat → Bool} {i : Nat} (h : t i = true) : pb_cnt t (i + 1) = pb_cnt t i + 1 := by
  rw [pb_cnt_s, if_pos h]
theorem pb_cnt_off {t : Nat → Bool} {i : Nat} (h : t i = false) : pb_cnt t (i + 1) = pb_cnt t i := by
  rw [pb_cnt_s, if_neg (fun a => by rw [h] at a; cases a), Nat.add_zero]
theorem pb_cnt_run {t : Nat → Bool} {i : Nat} : ∀ j, i ≤ j → (∀ x, i ≤ x → x < j → t x = false) → pb_cnt t j = pb_cnt t i := by
  intro j
  induction j with
  | zero => intro h _; have e : i = 0 := by omega
            rw [e]
  | succ j ih =>
    intro h h2
    by_cases e : i = j + 1
    · rw [e]
    · rw [pb_cnt_off (h2 j (by omega) (by omega)), ih (by omega) (fun x a b => h2 x a (by omega))]
theorem pb_nl_cnt (t : Nat → Bool) : ∀ d k, 0 < d → pb_nl t d k + pb_cnt t k = pb_cnt t (k + d - 1) + 1 := by
  intro d
  induction d with
  | zero => intro k h; exact absurd h (Nat.lt_irrefl 0)
  | succ d ih =>
    intro k _
    rw [pb_nl_s]
    by_cases z : d = 0
    · subst z
      rw [if_pos (Or.inr rfl), pb_nl_z]
      show 1 + 0 + pb_cnt t k = pb_cnt t k + 1
      omega
    · have h := ih (k + 1) (by omega)
      have e : k + 1 + d - 1 = k + (d + 1) - 1 := by omega
      rw [e] at h
      by_cases tk : t k = true
      · rw [if_pos (Or.inl tk)]
        rw [pb_cnt_on tk] at h
        omega
      · rw [if_neg (fun a => a.elim tk z)]
        rw [pb_cnt_off (pb_nt tk)] at h
        omega
/-- breaking a comes before breaking b, both of one cost -/
def pb_bf (N : Nat) (a b : Nat → Bool) : Prop := pb_nl a N 0 < pb_nl b N 0 ∨ (pb_nl a N 0 = pb_nl b N 0 ∧ ∃ j, j + 1 < N ∧ (∀ i, i < j → a i = b i) ∧ a j = true ∧ b j = false)
theorem pb_bf_ir {N : Nat} {a : Nat → Bool} : ¬ pb_bf N a a := by
  rintro (h | ⟨_, j, _, _, h1, h2⟩)
  · exact absurd h (Nat.lt_irrefl _)
  · rw [h1] at h2; cases h2
theorem pb_bf_tr {N : Nat} {a b c : Nat → Bool} (h : pb_bf N a b) (g : pb_bf N b c) : pb_bf N a c := by
  rcases h with h | ⟨h, j, j1, j2, j3, j4⟩
  · rcases g with g | ⟨g, _⟩
    · exact Or.inl (Nat.lt_trans h g)
    · exact Or.inl (by omega)
  · rcases g with g | ⟨g, k, k1, k2, k3, k4⟩
    · exact Or.inl (by omega)
    · refine Or.inr ⟨by omega, ?_⟩
      rcases Nat.lt_trichotomy j k with z | z | z
      · exact ⟨j, j1, fun i hi => (j2 i hi).trans (k2 i (by omega)), j3, by rw [← k2 j z]; exact j4⟩
      · subst z
        rw [j4] at k3; cases k3
      · exact ⟨k, k1, fun i hi => (j2 i (by omega)).trans (k2 i hi), by rw [j2 k z]; exact k3, k4⟩
theorem pb_bf_cg {N : Nat} {a a' b : Nat → Bool} (e : ∀ j, j + 1 < N → a j = a' j) (h : pb_bf N a b) : pb_bf N a' b := by
  have n := pb_nl_cg (t := a) (t' := a') N 0 (fun j _ h => e j (by omega))
  rcases h with h | ⟨h, j, j1, j2, j3, j4⟩
  · exact Or.inl (by omega)
  · exact Or.inr ⟨by omega, j, j1, fun i hi => (e i (by omega)).symm.trans (j2 i hi), (e j j1).symm.trans j3, j4⟩
/-- t is the best of all breakings -/
def pb_Opt (L : Nat → Nat → Option Int) (N : Nat) (t : Nat → Bool) (m : Int) : Prop := pb_ct L t N 0 0 = some m ∧ ∀ t' m', pb_ct L t' N 0 0 = some m' → m ≤ m' ∧ (m' = m → ¬ pb_bf N t' t)
/-- the end of the i-th line -/
def pb_e (t : Nat → Bool) (N : Nat) : Nat → Nat
  | 0 => 0
  | i + 1 => pb_fe t (N - pb_e t N i) (pb_e t N i)
theorem pb_e_s (t : Nat → Bool) (N i : Nat) : pb_e t N (i + 1) = pb_fe t (N - pb_e t N i) (pb_e t N i) := rfl
/-- a place where a line begins -/
def pb_at (t : Nat → Bool) (N p : Nat) : Prop := p = 0 ∨ (p < N ∧ t (p - 1) = true)
theorem pb_spl (L : Nat → Nat → Option Int) {N p : Nat} {t t' : Nat → Bool} {m c c' : Int} (hp : pb_at t N p) (h : ∀ j, j < p → t' j = t j) (h1 : pb_ct L t N 0 0 = some m) (h2 : pb_ct L t (N - p) p p = some c) (h3 : pb_ct L t' (N - p) p p = some c') : pb_ct L t' N 0 0 = some (m - c + c') ∧ pb_nl t' N 0 + pb_nl t (N - p) p = pb_nl t N 0 + pb_nl t' (N - p) p := by
  rcases hp with rfl | ⟨hp, ht⟩
  · rw [Nat.sub_zero] at h2 h3 ⊢
    rw [h1] at h2
    cases h2
    refine ⟨?_, by omega⟩
    rw [h3]
    exact congrArg some (by omega)
  · by_cases z : p = 0
    · subst z
      rw [Nat.sub_zero] at h2 h3 ⊢
      rw [h1] at h2
      cases h2
      refine ⟨?_, by omega⟩
      rw [h3]
      exact congrArg some (by omega)
    · have e : N = p + (N - p) := by omega
      have ht0 : t (0 + p - 1) = true := by rw [Nat.zero_add]; exact ht
      have ht1 : t' (0 + p - 1) = true := by rw [Nat.zero_add, h (p - 1) (by omega)]; exact ht
      have a1 := pb_ct_sp L t p (N - p) 0 0 (by omega) (by omega) ht0
      have a2 := pb_ct_sp L t' p (N - p) 0 0 (by omega) (by omega) ht1
      have b1 := pb_nl_sp t p (N - p) 0 (by omega) (by omega) ht0
      have b2 := pb_nl_sp t' p (N - p) 0 (by omega) (by omega) ht1
      rw [← e, Nat.zero_add] at a1 a2 b1 b2
      have g1 := pb_ct_cg L (t := t') (t' := t) p 0 0 (fun j _ a => h j (by omega))
      have g2 := pb_nl_cg (t := t') (t' := t) p 0 (fun j _ a => h j (by omega))
      rw [h1, h2] at a1
      obtain ⟨x, y, hx, hy, hm⟩ := pb_add_some.mp a1.symm
      cases hy
      rw [g1, hx, h3] at a2
      refine ⟨?_, by omega⟩
      rw [a2]
      exact congrArg some (by omega)
/-- the places of the lines' ends -/
theorem pb_e_at (L : Nat → Nat → Option Int) {N : Nat} {t : Nat → Bool} {m : Int} (h1 : pb_ct L t N 0 0 = some m) : ∀ i, i ≤ pb_nl t N 0 → pb_e t N i ≤ N ∧ pb_nl t (N - pb_e t N i) (pb_e t N i) + i = pb_nl t N 0 ∧ (∃ c, pb_ct L t (N - pb_e t N i) (pb_e t N i) (pb_e t N i) = some c) ∧ (pb_e t N i < N → pb_at t N (pb_e t N i) ∧ pb_cnt t (pb_e t N i) = i) := by
  intro i
  induction i with
  | zero =>
    intro _
    refine ⟨Nat.zero_le _, rfl, ⟨m, h1⟩, fun _ => ⟨Or.inl rfl, rfl⟩⟩
  | succ i ih =>
    intro hi
    obtain ⟨a1, a2, ⟨c, a3⟩, a4⟩ := ih (by omega)
    have z : 0 < N - pb_e t N i := by
      rcases Nat.eq_zero_or_pos (N - pb_e t N i) with z | z
      · rw [z, pb_nl_z] at a2; omega
      · exact z
    obtain ⟨_, a5⟩ := a4 (by omega)
    have hr := pb_fe_rng t (N - pb_e t N i) (pb_e t N i) z
    have hn := pb_nl_fe t _ (pb_e t N i) z
    have hc := pb_ct_fe L t _ (pb_e t N i) (pb_e t N i) z
    have ho := pb_fe_off t (N - pb_e t N i) (pb_e t N i)
    have hq := pb_fe_on t (N - pb_e t N i) (pb_e t N i)
    have e : pb_e t N i + (N - pb_e t N i) = N := by omega
    rw [e] at hr hn hc hq
    rw [← pb_e_s] at hr hn hc ho hq
    rw [a3] at hc
    obtain ⟨x, y, hx, hy, _⟩ := pb_add_some.mp hc.symm
    refine ⟨hr.2, by omega, ⟨y, hy⟩, fun hlt => ⟨Or.inr ⟨hlt, hq hlt⟩, ?_⟩⟩
    have e2 : pb_e t N (i + 1) = (pb_e t N (i + 1) - 1) + 1 := by omega
    rw [e2, pb_cnt_on (hq hlt), pb_cnt_run _ (by omega) (fun x b1 b2 => ho x b1 (by omega)), a5]
theorem pb_e_lt (L : Nat → Nat → Option Int) {N : Nat} {t : Nat → Bool} {m : Int} (h1 : pb_ct L t N 0 0 = some m) {i : Nat} (hi : i < pb_nl t N 0) : pb_e t N i < N ∧ pb_e t N i < pb_e t N (i + 1) ∧ pb_e t N (i + 1) ≤ N ∧ pb_cnt t (pb_e t N (i + 1) - 1) = i ∧ (t (pb_e t N (i + 1) - 1) = true ∨ pb_e t N (i + 1) = N) := by
  obtain ⟨a1, a2, ⟨c, a3⟩, a4⟩ := pb_e_at L h1 i (by omega)
  have z : 0 < N - pb_e t N i := by
    rcases Nat.eq_zero_or_pos (N - pb_e t N i) with z | z
    · rw [z, pb_nl_z] at a2; omega
    · exact z
  obtain ⟨_, a5⟩ := a4 (by omega)
  have hr := pb_fe_rng t (N - pb_e t N i) (pb_e t N i) z
  have ho := pb_fe_off t (N - pb_e t N i) (pb_e t N i)
  have hq := pb_fe_on t (N - pb_e t N i) (pb_e t N i)
  have e : pb_e t N i + (N - pb_e t N i) = N := by omega
  rw [e] at hr hq
  rw [← pb_e_s] at hr ho hq
  refine ⟨by omega, hr.1, hr.2, ?_, ?_⟩
  · rw [pb_cnt_run _ (by omega) (fun x b1 b2 => ho x b1 (by omega)), a5]
  · by_cases z : pb_e t N (i + 1) = N
    · exact Or.inr z
    · exact Or.inl (hq (by omega))
/-- the best breaking's lines are the first of the least ones -/
theorem pb_ends {L : Nat → Nat → Option Int} {N : Nat} {t : Nat → Bool} {m : Int} (ho : pb_Opt L N t m) {i n : Nat} (hi : i + n + 1 = pb_nl t N 0) {mp : Int} (hmp : pb_Mi (pb_SO L N (n + 1) (pb_e t N i)) mp) : mp < 1000000 ∧
    (∃ l, L (pb_e t N i) (pb_e t N (i + 1)) = some l ∧ ∀ mq, pb_Mi (pb_SO L N n (pb_e t N (i + 1))) mq → mq < 1000000 ∧ l + mq = mp) ∧
    (∀ q, pb_e t N i < q → q < pb_e t N (i + 1) → ∀ l mq, L (pb_e t N i) q = some l → pb_Mi (pb_SO L N n q) mq → mq < 1000000 → l + mq ≠ mp) := by
  obtain ⟨h1, h2⟩ := ho
  obtain ⟨a1, a2, ⟨c, a3⟩, a4⟩ := pb_e_at L h1 i (by omega)
  obtain ⟨l1, l2, l3, l4, l5⟩ := pb_e_lt L h1 (i := i) (by omega)
  obtain ⟨hat, _⟩ := a4 l1
  have ns : pb_nl t (N - pb_e t N i) (pb_e t N i) = n + 1 := by omega
  have hS : pb_SO L N (n + 1) (pb_e t N i) c := ⟨t, ns, a3⟩
  have hmp' : mp < 1000000 ∧ pb_SO L N (n + 1) (pb_e t N i) mp ∧ mp ≤ c := by
    rcases hmp with ⟨_, b⟩ | ⟨b1, b2, b3⟩
    · exact absurd hS (b c)
    · exact ⟨b1, b2, b3 c hS⟩
  obtain ⟨hf, ⟨t2, t2n, t2c⟩, hle⟩ := hmp'
  have hc : mp = c := by
    have g := pb_spl L (t' := fun j => if j < pb_e t N i then t j else t2 j) (c' := mp) hat (fun j hj => if_pos hj) h1 a3 (by
      rw [pb_ct_cg L (t' := t2) _ _ _ (fun j b _ => if_neg (by omega))]
      exact t2c)
    have := (h2 _ _ g.1).1
    omega
  subst hc
  have z : 0 < N - pb_e t N i := by omega
  have hcf := pb_ct_fe L t _ (pb_e t N i) (pb_e t N i) z
  have hnf := pb_nl_fe t _ (pb_e t N i) z
  have hoff := pb_fe_off t (N - pb_e t N i) (pb_e t N i)
  have e : pb_e t N i + (N - pb_e t N i) = N := by omega
  rw [e] at hcf hnf
  rw [← pb_e_s] at hcf hnf hoff
  rw [a3] at hcf
  obtain ⟨l, cq, hl, hcq, hsum⟩ := pb_add_some.mp hcf.symm
  refine ⟨hf, ⟨l, hl, fun mq hmq => ?_⟩, fun q q1 q2 l' mq hl' hmq hqf heq => ?_⟩
  · have hSq : pb_SO L N n (pb_e t N (i + 1)) cq := ⟨t, by omega, hcq⟩
    rcases hmq with ⟨_, b⟩ | ⟨b1, b2, b3⟩
    · exact absurd hSq (b cq)
    · have c1 := b3 cq hSq
      have c2 : pb_SO L N (n + 1) (pb_e t N i) (l + mq) := (pb_SO_s L a1 _).mpr ⟨pb_e t N (i + 1), l, mq, l2, l3, hl, b2, rfl⟩
      rcases hmp with ⟨_, b⟩ | ⟨_, _, b⟩
      · exact absurd hS (b _)
      · have := b _ c2
        exact ⟨b1, by omega⟩
  · rcases hmq with ⟨b, _⟩ | ⟨b1, ⟨t3, t3n, t3c⟩, _⟩
    · omega
    · have g := pb_spl L (t' := pb_gl (pb_e t N i) q t t3) (c' := mp) hat (fun j hj => pb_gl_lo hj) h1 a3 (by
        rw [pb_gl_ct L t t3 q1 (by omega), hl', t3c]
        exact congrArg some heq)
      have gn := pb_gl_nl (N := N) t t3 q1 (by omega)
      refine (h2 _ _ g.1).2 (by omega) (Or.inr ⟨by omega, q - 1, by omega, fun j hj => ?_, pb_gl_q q1, ?_⟩)
      · by_cases b : j < pb_e t N i
        · exact pb_gl_lo b
        · rw [pb_gl_mid (by omega) (by omega), hoff j (by omega) (by omega)]
      · exact hoff (q - 1) (by omega) (by omega)
/-- the best breaking's number of lines is the first with the least cost -/
theorem pb_few {L : Nat → Nat → Option Int} {N : Nat} {t : Nat → Bool} {m : Int} (ho : pb_Opt L N t m) : (∀ mm, pb_Mi (pb_SO L N (pb_nl t N 0) 0) mm → mm < 1000000 ∧ mm = m) ∧ ∀ n, n < pb_nl t N 0 → ∀ mm, pb_Mi (pb_SO L N n 0) mm → mm < 1000000 → mm ≠ m := by
  obtain ⟨h1, h2⟩ := ho
  constructor
  · intro mm h
    have hS : pb_SO L N (pb_nl t N 0) 0 m := ⟨t, by rw [Nat.sub_zero], by rw [Nat.sub_zero]; exact h1⟩
    rcases h with ⟨_, b⟩ | ⟨b1, ⟨t', b2, b4⟩, b3⟩
    · exact absurd hS (b m)
    · have c1 := b3 m hS
      rw [Nat.sub_zero] at b4
      have := (h2 _ _ b4).1
      exact ⟨b1, by omega⟩
  · intro n hn mm h hf e
    rcases h with ⟨b, _⟩ | ⟨b1, ⟨t', b2, b4⟩, b3⟩
    · omega
    · rw [Nat.sub_zero] at b2 b4
      exact (h2 _ _ b4).2 e (Or.inl (by omega))
/-- word i stands in the line whose number is the number of breaks before it -/
theorem pb_lineof (L : Nat → Nat → Option Int) {N : Nat} {t : Nat → Bool} {m : Int} (h1 : pb_ct L t N 0 0 = some m) {i k : Nat} (hi : i < N) (hk : k < pb_nl t N 0) : i < pb_e t N (k + 1) ↔ pb_cnt t i ≤ k := by
  obtain ⟨l1, l2, l3, l4, l5⟩ := pb_e_lt L h1 hk
  constructor
  · intro h
    have := pb_cnt_mono t (show i ≤ pb_e t N (k + 1) - 1 by omega)
    omega
  · intro h
    by_cases z : i < pb_e t N (k + 1)
    · exact z
    · exfalso
      rcases l5 with l5 | l5
      · have a := pb_cnt_on l5
        have e : pb_e t N (k + 1) - 1 + 1 = pb_e t N (k + 1) := by omega
        rw [e] at a
        have := pb_cnt_mono t (show pb_e t N (k + 1) ≤ i by omega)
        omega
      · omega
theorem pb_cnt_lt (t : Nat → Bool) {N i : Nat} (hi : i < N) : pb_cnt t i < pb_nl t N 0 := by
  have a := pb_nl_cnt t N 0 (by omega)
  have b := pb_cnt_mono t (show i ≤ N - 1 by omega)
  rw [pb_cnt_z, Nat.zero_add] at a
  omega
/-! ===== from the beginning on ===== -/
theorem pb_last (L : Nat → Nat → Option Int) (t : Nat → Bool) : ∀ d k b c, 0 < d → pb_ct L t d k b = some c → L b (k + d) = some c ∨ ∃ p r l, k < p ∧ p < k + d ∧ pb_ct L t (p - k) k b = some r ∧ L p (k + d) = some l ∧ c = r + l := by
  intro d
  induction d with
  | zero => intro k b c h; exact absurd h (Nat.lt_irrefl 0)
  | succ d ih =>
    intro k b c _ h
    rw [pb_ct_s] at h
    have e : k + (d + 1) = k + 1 + d := by omega
    by_cases z : d = 0
    · subst z
      rw [if_pos (Or.inr rfl), pb_ct_z, pb_add_0] at h
      exact Or.inl h
    · by_cases tk : t k = true
      · rw [if_pos (Or.inl tk)] at h
        obtain ⟨x, y, hx, hy, rfl⟩ := pb_add_some.mp h
        rcases ih (k + 1) (k + 1) y (by omega) hy with g | ⟨p, r, l, g1, g2, g3, g4, rfl⟩
        · refine Or.inr ⟨k + 1, x, y, by omega, by omega, ?_, by rw [e]; exact g, rfl⟩
          have e1 : k + 1 - k = 0 + 1 := by omega
          rw [e1, pb_ct_s, if_pos (Or.inr rfl), pb_ct_z, pb_add_0]
          exact hx
        · refine Or.inr ⟨p, x + r, l, by omega, by omega, ?_, by rw [e]; exact g4, by omega⟩
          have e1 : p - k = (p - (k + 1)) + 1 := by omega
          rw [e1, pb_ct_s, if_pos (Or.inl tk), hx, g3]
          rfl
      · rw [if_neg (fun a => a.elim tk z)] at h
        rcases ih (k + 1) b c (by omega) h with g | ⟨p, r, l, g1, g2, g3, g4, rfl⟩
        · exact Or.inl (by rw [e]; exact g)
        · refine Or.inr ⟨p, r, l, by omega, by omega, ?_, by rw [e]; exact g4, rfl⟩
          have e1 : p - k = (p - (k + 1)) + 1 := by omega
          rw [e1, pb_ct_s, if_neg (fun a => a.elim tk (by omega))]
          exact g3
def pb_SU (L : Nat → Nat → Option Int) (q : Nat) (c : Int) : Prop := ∃ t : Nat → Bool, pb_ct L t q 0 0 = some c
theorem pb_SU_0 (L : Nat → Nat → Option Int) (c : Int) : pb_SU L 0 c ↔ c = 0 := by
  constructor
  · rintro ⟨t, h⟩; exact (Option.some.inj h).symm
  · rintro rfl; exact ⟨fun _ => false, rfl⟩
theorem pb_SU_s (L : Nat → Nat → Option Int) {q : Nat} (hq : 0 < q) (c : Int) : pb_SU L q c ↔ ∃ p r l, p < q ∧ pb_SU L p r ∧ L p q = some l ∧ c = r + l := by
  constructor
  · rintro ⟨t, h⟩
    rcases pb_last L t q 0 0 c hq h with g | ⟨p, r, l, g1, g2, g3, g4, rfl⟩
    · rw [Nat.zero_add] at g
      exact ⟨0, 0, c, hq, (pb_SU_0 L 0).mpr rfl, g, by omega⟩
    · rw [Nat.zero_add] at g2 g4
      exact ⟨p, r, l, g2, ⟨t, g3⟩, g4, rfl⟩
  · rintro ⟨p, r, l, h1, ⟨t, h2⟩, h3, rfl⟩
    refine ⟨fun j => if j + 1 < p then t j else decide (j + 1 = p), ?_⟩
    have tail : pb_ct L (fun j => if j + 1 < p then t j else decide (j + 1 = p)) (q - p) p p = some l := by
      have hfe : pb_fe (fun j => if j + 1 < p then t j else decide (j + 1 = p)) (q - p) p = q := by
        refine pb_fe_of _ _ _ _ h1 (by omega) (fun j a b => ?_) (fun a => by omega)
        show (if j + 1 < p then t j else decide (j + 1 = p)) = false
        rw [if_neg (by omega)]
        exact decide_eq_false (by omega)
      have e : p + (q - p) - q = 0 := by omega
      rw [pb_ct_fe L _ (q - p) p p (by omega), hfe, e, pb_ct_z, pb_add_0]
      exact h3
    by_cases z : p = 0
    · subst z
      rw [Nat.sub_zero] at tail
      rw [pb_ct_z] at h2
      cases h2
      rw [tail]
      exact congrArg some (by omega)
    · have sp := pb_ct_sp L (fun j => if j + 1 < p then t j else decide (j + 1 = p)) p (q - p) 0 0 (by omega) (by omega) (by
        show (if 0 + p - 1 + 1 < p then t (0 + p - 1) else decide (0 + p - 1 + 1 = p)) = true
        rw [if_neg (by omega)]
        exact decide_eq_true (by omega))
      have e : p + (q - p) = q := by omega
      rw [e, Nat.zero_add, tail, pb_ct_cg L (t' := t) p 0 0 (fun j _ a => if_pos (by omega)), h2] at sp
      exact sp
/-- a break behind word i: both parts by themselves -/
theorem pb_brk (L : Nat → Nat → Option Int) {N i : Nat} (hi : i + 1 < N) (c : Int) : (∃ t : Nat → Bool, t i = true ∧ pb_ct L t N 0 0 = some c) ↔ ∃ a b, pb_SU L (i + 1) a ∧ pb_gc L (N - (i + 1)) (i + 1) (i + 1) b ≠ 0 ∧ c = a + b := by
  have e : i + 1 + (N - (i + 1)) = N := by omega
  constructor
  · rintro ⟨t, h1, h2⟩
    have sp := pb_ct_sp L t (i + 1) (N - (i + 1)) 0 0 (by omega) (by omega) (by rw [Nat.zero_add]; exact h1)
    rw [e, Nat.zero_add, h2] at sp
    obtain ⟨x, y, hx, hy, rfl⟩ := pb_add_some.mp sp.symm
    exact ⟨x, y, ⟨t, hx⟩, (pb_gc_ne L _ _ _ _).mpr ⟨t, hy⟩, rfl⟩
  · rintro ⟨a, b, ⟨t, h1⟩, h2, rfl⟩
    obtain ⟨t2, h2⟩ := (pb_gc_ne L _ _ _ _).mp h2
    refine ⟨fun j => if j < i then t j else if j = i then true else t2 j, ?_, ?_⟩
    · show (if i < i then t i else if i = i then true else t2 i) = true
      rw [if_neg (Nat.lt_irrefl i), if_pos rfl]
    · have sp := pb_ct_sp L (fun j => if j < i then t j else if j = i then true else t2 j) (i + 1) (N - (i + 1)) 0 0 (by omega) (by omega) (by
        show (if 0 + (i + 1) - 1 < i then t (0 + (i + 1) - 1) else if 0 + (i + 1) - 1 = i then true else t2 (0 + (i + 1) - 1)) = true
        rw [if_neg (by omega), if_pos (by omega)])
      rw [e, Nat.zero_add, pb_ct_cg L (t' := t) (i + 1) 0 0 (fun j _ a => if_pos (by omega)), h1, pb_ct_cg L (t' := t2) (N - (i + 1)) (i + 1) (i + 1) (fun j a _ => by
        show (if j < i then t j else if j = i then true else t2 j) = t2 j
        rw [if_neg (by omega), if_neg (by omega)]), h2] at sp
      exact sp
/-- a word behind which one must not break -/
theorem pb_keep {L L' : Nat → Nat → Option Int} {N i : Nat} (hi : i + 1 < N) (hL : ∀ p q, p < q → q ≤ N → L' p q = if q = i + 1 then none else L p q) (t : Nat → Bool) (c : Int) : ∀ d k b, b ≤ k → k + d = N → (pb_ct L' t d k b = some c ↔ pb_ct L t d k b = some c ∧ (k ≤ i → t i = false)) := by
  intro d
  induction d generalizing c with
  | zero => intro k b _ h; rw [pb_ct_z, pb_ct_z]; exact ⟨fun a => ⟨a, fun z => by omega⟩, fun a => a.1⟩
  | succ d ih =>
    intro k b hb h
    rw [pb_ct_s, pb_ct_s]
    by_cases z : t k = true ∨ d = 0
    · rw [if_pos z, if_pos z, hL b (k + 1) (by omega) (by omega)]
      by_cases e : k = i
      · subst e
        rw [if_pos rfl]
        have tk : t k = true := z.elim id (fun a => by omega)
        constructor
        · intro a; cases a
        · intro a; have := a.2 (Nat.le_refl k); rw [tk] at this; cases this
      · rw [if_neg (by omega), pb_add_some, pb_add_some]
        constructor
        · rintro ⟨x, y, hx, hy, rfl⟩
          have := (ih y (k + 1) (k + 1) (Nat.le_refl _) (by omega)).mp hy
          exact ⟨⟨x, y, hx, this.1, rfl⟩, fun a => this.2 (by omega)⟩
        · rintro ⟨⟨x, y, hx, hy, rfl⟩, g⟩
          exact ⟨x, y, hx, (ih y (k + 1) (k + 1) (Nat.le_refl _) (by omega)).mpr ⟨hy, fun a => g (by omega)⟩, rfl⟩
    · rw [if_neg z, if_neg z, ih c (k + 1) b (by omega) (by omega)]
      by_cases e : k = i
      · subst e
        constructor
        · intro a; exact ⟨a.1, fun _ => pb_nt (fun b => z (Or.inl b))⟩
        · intro a; exact ⟨a.1, fun b => by omega⟩
      · constructor
        · intro a; exact ⟨a.1, fun b => a.2 (by omega)⟩
        · intro a; exact ⟨a.1, fun b => a.2 (by omega)⟩
end
section
/-! ===== a line's length and cost, in ints ===== -/
theorem pi_far : (1000000 : Int32).toInt = 1000000 := by decide
theorem pi_none : (-1000000 : Int32).toInt = -1000000 := by decide
theorem pi_0 : (0 : Int32).toInt = 0 := by decide
theorem pi_m1 : (-1 : Int32).toInt = -1 := by decide
theorem pi_lt {x y : Int32} {A B : Prop} {a b : Int} (hx : x.toInt = a) (hy : y.toInt = b) (f : a < b → A) (g : ¬ a < b → B) : (x < y → A) ∧ (¬ x < y → B) := by
  subst hx hy
  rw [Int32.lt_iff_toInt_lt]
  exact ⟨f, g⟩
theorem pi_le {x y : Int32} {A B : Prop} {a b : Int} (hx : x.toInt = a) (hy : y.toInt = b) (f : a ≤ b → A) (g : ¬ a ≤ b → B) : (x ≤ y → A) ∧ (¬ x ≤ y → B) := by
  subst hx hy
  rw [Int32.le_iff_toInt_le]
  exact ⟨f, g⟩
theorem pi_eq {x y : Int32} {A B : Prop} {a b : Int} (hx : x.toInt = a) (hy : y.toInt = b) (f : a = b → A) (g : ¬ a = b → B) : (x = y → A) ∧ (¬ x = y → B) := by
  subst hx hy
  rw [← Int32.toInt_inj]
  exact ⟨f, g⟩
theorem pi_add {x y : Int32} {a b : Int} (hx : x.toInt = a) (hy : y.toInt = b) (h1 : -2000000000 ≤ a + b) (h2 : a + b ≤ 2000000000) : (x + y).toInt = a + b := by
  subst hx hy
  exact Jvm.Kit.i32_add (by omega) (by omega)
theorem pi_sub {x y : Int32} {a b : Int} (hx : x.toInt = a) (hy : y.toInt = b) (h1 : -2000000000 ≤ a - b) (h2 : a - b ≤ 2000000000) : (x - y).toInt = a - b := by
  subst hx hy
  exact Jvm.Kit.i32_sub (by omega) (by omega)
theorem pi_mul {x y : Int32} {a b : Int} (hx : x.toInt = a) (hy : y.toInt = b) (h1 : -2000000000 ≤ a * b) (h2 : a * b ≤ 2000000000) : (x * y).toInt = a * b := by
  subst hx hy
  exact Jvm.Kit.i32_mul (by omega) (by omega)
theorem pi_sq {x a : Int} (h : -a ≤ x) (h2 : x ≤ a) : 0 ≤ x * x ∧ x * x ≤ a * a := by
  constructor
  · rcases Int.le_total 0 x with z | z
    · exact Int.mul_nonneg z z
    · have : 0 ≤ (-x) * (-x) := Int.mul_nonneg (by omega) (by omega)
      rw [Int.neg_mul_neg] at this
      exact this
  · have e : 0 ≤ (a - x) * (a + x) := Int.mul_nonneg (by omega) (by omega)
    have e2 : (a - x) * (a + x) = a * a - x * x := by
      rw [Int.sub_mul, Int.mul_add, Int.mul_add, Int.mul_comm x a]
      omega
    omega
def pb_sm (A : Nat → Int32) : Nat → Nat → Int
  | 0, _ => 0
  | d + 1, p => (A p).toInt + pb_sm A d (p + 1)
theorem pb_sm_z (A : Nat → Int32) (p : Nat) : pb_sm A 0 p = 0 := rfl
theorem pb_sm_s (A : Nat → Int32) (d p : Nat) : pb_sm A (d + 1) p = (A p).toInt + pb_sm A d (p + 1) := rfl
theorem pb_sm_bd {A : Nat → Int32} (hA : ∀ i, 0 ≤ (A i).toInt ∧ (A i).toInt ≤ 12) : ∀ d p, 0 ≤ pb_sm A d p ∧ pb_sm A d p ≤ 12 * (d : Int) := by
  intro d
  induction d with
  | zero => intro p; rw [pb_sm_z]; omega
  | succ d ih =>
    intro p
    have a := hA p
    have b := ih (p + 1)
    rw [pb_sm_s]
    omega
/-- the length of the line with the words from p to q - 1 -/
def pb_len (A : Nat → Int32) (p q : Nat) : Int := ((q : Int) - p - 1) * 2 + pb_sm A (q - p) p
def pb_D (w : Int32) (A : Nat → Int32) (p q : Nat) : Int := w.toInt - pb_len A p q
def pb_L (w e : Int32) (A B : Nat → Int32) (N : Nat) (bar : Int) (p q : Nat) : Option Int :=
  if pb_D w A p q < (p : Int) + 1 - q then none
  else if q < N ∧ (q : Int) - 1 = bar then none
  else if q = N then some (if pb_D w A p q < 0 then 3 * pb_D w A p q * pb_D w A p q else 0)
  else some ((if pb_D w A p q < 0 then 3 * pb_D w A p q * pb_D w A p q else pb_D w A p q * pb_D w A p q) + (B (q - 1)).toInt + (if (0 < p ∧ 0 < (B (p - 1)).toInt) ∧ 0 < (B (q - 1)).toInt then e.toInt else 0))
/-- the ranges of the shared state -/
def pb_C (w e : Int32) (N : Nat) (A B : Nat → Int32) : Prop := (5 ≤ w.toInt ∧ w.toInt ≤ 60) ∧ (0 ≤ e.toInt ∧ e.toInt ≤ 100) ∧ N ≤ 10 ∧ (∀ i, 0 ≤ (A i).toInt ∧ (A i).toInt ≤ 12) ∧ (∀ i, -40 ≤ (B i).toInt ∧ (B i).toInt ≤ 40)
theorem pb_len_bd {A : Nat → Int32} (hA : ∀ i, 0 ≤ (A i).toInt ∧ (A i).toInt ≤ 12) {p q : Nat} (h : p < q) (h2 : q ≤ 10) : 0 ≤ pb_len A p q ∧ pb_len A p q ≤ 138 := by
  have := pb_sm_bd hA (q - p) p
  unfold pb_len
  omega
theorem pb_D_bd {w e : Int32} {A B : Nat → Int32} {N : Nat} (hC : pb_C w e N A B) {p q : Nat} (h : p < q) (h2 : q ≤ N) : -133 ≤ pb_D w A p q ∧ pb_D w A p q ≤ 60 := by
  obtain ⟨hw, _, hN, hA, _⟩ := hC
  have := pb_len_bd hA h (show q ≤ 10 by omega)
  unfold pb_D
  omega
theorem pb_D3 {D : Int} {p q : Nat} (h : p < q) (h2 : q ≤ 10) (h3 : ¬ D < (p : Int) + 1 - q) (h4 : D < 0) : 0 ≤ D * D ∧ D * D ≤ 81 := pi_sq (a := 9) (by omega) (by omega)
theorem pb_L_bd {w e : Int32} {A B : Nat → Int32} {N : Nat} (hC : pb_C w e N A B) (bar : Int) : ∀ p q l, p < q → q ≤ N → pb_L w e A B N bar p q = some l → -40 ≤ l ∧ l ≤ 4000 := by
  intro p q l h1 h2 h
  have hD := pb_D_bd hC h1 h2
  obtain ⟨hw, he, hN, hA, hB⟩ := hC
  unfold pb_L at h
  generalize pb_D w A p q = D at h hD
  by_cases c1 : D < (p : Int) + 1 - q
  · rw [if_pos c1] at h; cases h
  · rw [if_neg c1] at h
    by_cases c2 : q < N ∧ (q : Int) - 1 = bar
    · rw [if_pos c2] at h; cases h
    · rw [if_neg c2] at h
      have s3 := pb_D3 (D := D) h1 (show q ≤ 10 by omega) c1
      by_cases c3 : q = N
      · rw [if_pos c3] at h
        cases h
        by_cases c4 : D < 0
        · rw [if_pos c4, Int.mul_assoc]
          have := s3 c4
          omega
        · rw [if_neg c4]; omega
      · rw [if_neg c3] at h
        cases h
        have b := hB (q - 1)
        have x : 0 ≤ (if (0 < p ∧ 0 < (B (p - 1)).toInt) ∧ 0 < (B (q - 1)).toInt then e.toInt else 0) ∧ (if (0 < p ∧ 0 < (B (p - 1)).toInt) ∧ 0 < (B (q - 1)).toInt then e.toInt else 0) ≤ 100 := by
          by_cases c5 : (0 < p ∧ 0 < (B (p - 1)).toInt) ∧ 0 < (B (q - 1)).toInt
          · rw [if_pos c5]; omega
          · rw [if_neg c5]; omega
        have y : 0 ≤ (if D < 0 then 3 * D * D else D * D) ∧ (if D < 0 then 3 * D * D else D * D) ≤ 3600 := by
          by_cases c4 : D < 0
          · rw [if_pos c4, Int.mul_assoc]
            have := s3 c4
            omega
          · rw [if_neg c4]
            exact pi_sq (a := 60) (by omega) (by omega)
        omega
/-- FAR for none -/
def pb_en : Option Int → Int
  | none => 1000000
  | some c => c
/-- NONE for none -/
def pb_ey : Option Int → Int
  | none => -1000000
  | some c => c
theorem pb_SO_bd {w e : Int32} {A B : Nat → Int32} {N : Nat} (hC : pb_C w e N A B) {bar : Int} {n p : Nat} {c : Int} (hp : p ≤ N) (h : pb_SO (pb_L w e A B N bar) N n p c) : -400 ≤ c ∧ c ≤ 40000 := by
  obtain ⟨t, _, h⟩ := h
  have := pb_ct_bd (pb_L_bd hC bar) t (N - p) p p c (Nat.le_refl p) (by omega) h
  have := hC.2.2.1
  omega
theorem pb_gc_bd {w e : Int32} {A B : Nat → Int32} {N : Nat} (hC : pb_C w e N A B) {bar : Int} {p : Nat} {c : Int} (hp : p ≤ N) (h : pb_gc (pb_L w e A B N bar) (N - p) p p c ≠ 0) : -400 ≤ c ∧ c ≤ 40000 := by
  obtain ⟨t, h⟩ := (pb_gc_ne _ _ _ _ _).mp h
  have := pb_ct_bd (pb_L_bd hC bar) t (N - p) p p c (Nat.le_refl p) (by omega) h
  have := hC.2.2.1
  omega
theorem pb_SU_bd {w e : Int32} {A B : Nat → Int32} {N : Nat} (hC : pb_C w e N A B) {bar : Int} {q : Nat} {c : Int} (hq : q ≤ N) (h : pb_SU (pb_L w e A B N bar) q c) : -400 ≤ c ∧ c ≤ 40000 := by
  obtain ⟨t, h⟩ := h
  have := pb_ct_bd (pb_L_bd hC bar) t q 0 0 c (Nat.le_refl 0) (by omega) h
  have := hC.2.2.1
  omega
theorem pb_cN_bd {w e : Int32} {A B : Nat → Int32} {N : Nat} (hC : pb_C w e N A B) {bar : Int} {t : Nat → Bool} {c : Int} (h : pb_ct (pb_L w e A B N bar) t N 0 0 = some c) : -400 ≤ c ∧ c ≤ 40000 :=
  pb_SU_bd hC (Nat.le_refl N) ⟨t, h⟩
theorem pb_Mi_T {R : Int → Prop} {mr l : Int} (h : pb_Mi R mr) (h1 : mr < 1000000) (h2 : l + mr < 1000000) : pb_Mi (fun c => ∃ r, R r ∧ c = l + r) (l + mr) := by
  rcases h with ⟨a, _⟩ | ⟨_, a, b⟩
  · omega
  · refine Or.inr ⟨h2, ⟨mr, a, rfl⟩, ?_⟩
    rintro c ⟨r, hr, rfl⟩
    have := b r hr
    omega
theorem pb_Mi_far {R : Int → Prop} {m : Int} (h : pb_Mi R m) (h1 : 1000000 ≤ m) : m = 1000000 ∧ ∀ c, ¬ R c := by
  rcases h with a | ⟨a, _⟩
  · exact a
  · omega
theorem pb_Mi_in {R : Int → Prop} {m : Int} (h : pb_Mi R m) (h1 : m < 1000000) : R m ∧ ∀ c, R c → m ≤ c := by
  rcases h with ⟨a, _⟩ | ⟨_, a⟩
  · omega
  · exact a
end
section
/-! ===== the component: a line's length and cost ===== -/
theorem px_len_l {post : Int32 → Prop} {w e c bar : Int32} {A B o up bs ws : Nat → Int32} {q : Nat} (hq : q ≤ 10) (hA : ∀ i, 0 ≤ (A i).toInt ∧ (A i).toInt ≤ 12) : ∀ d p n (x : Int32), p + d = q → d < n → 0 ≤ x.toInt → x.toInt + 12 * (d : Int) ≤ 1000 → (∀ r : Int32, r.toInt = x.toInt + pb_sm A d p → post r) → wX_length_11 post (nI q) w e c bar A B o up bs ws n x (nI p) := by
  intro d
  induction d with
  | zero =>
    intro p n x h1 h2 h3 h4 h
    cases n with
    | zero => omega
    | succ n => exact br_t (nI_le (by omega) (by omega)) (h x (by rw [pb_sm_z, Int.add_zero]))
  | succ d ih =>
    intro p n x h1 h2 h3 h4 h
    cases n with
    | zero => omega
    | succ n =>
      refine br_f (nI_ge (by omega) (by omega)) (And.intro (vp_in_nI (by omega) (by omega)) ?_)
      intro y ey z ez
      rw [nI_clamp (by omega)] at ey
      rw [nI_1] at ez
      subst ez
      have a := hA p
      have e1 : y.toInt = x.toInt + (A p).toInt := by rw [ey]; exact pi_add rfl rfl (by omega) (by omega)
      refine ih (p + 1) n y (by omega) (by omega) (by omega) (by omega) (fun r hr => h r ?_)
      rw [hr, e1, pb_sm_s]
      omega
theorem px_len {post : Int32 → Prop} {w e c bar : Int32} {A B o up bs ws : Nat → Int32} (hA : ∀ i, 0 ≤ (A i).toInt ∧ (A i).toInt ≤ 12) {p q : Nat} (hp : p < q) (hq : q ≤ 10) (h : ∀ r : Int32, r.toInt = pb_len A p q → post r) : wpX_length post (w, e, c, bar, A, B, o, up, bs, ws) (nI p) (nI q) := by
  intro x ex
  have e1 : x.toInt = ((q : Int) - p - 1) * 2 := by
    have e2 : (nI q - nI p - 1) * 2 = nI ((q - p - 1) * 2) := by
      obtain ⟨k, rfl⟩ : ∃ k, q = p + k + 1 := ⟨q - p - 1, by omega⟩
      have e3 : p + k + 1 - p = k + 1 := by omega
      rw [pk_sub (by omega), e3, nI_pred]
      exact pk_mul k 2
    rw [ex, e2, nI_toInt (by omega)]
    omega
  refine ⟨q - p + 1, px_len_l hq hA (q - p) p (q - p + 1) x (by omega) (by omega) (by omega) (by omega) (fun r hr => h r ?_)⟩
  rw [hr, e1]
  rfl
theorem px_pen {post : Int32 → Prop} {w e c bar : Int32} {A B o up bs ws : Nat → Int32} {p : Nat} (hp : p ≤ 10) (h1 : 0 < p ∧ 0 < (B (p - 1)).toInt → post 1) (h0 : ¬ (0 < p ∧ 0 < (B (p - 1)).toInt) → post 0) : wpX_penalised post (w, e, c, bar, A, B, o, up, bs, ws) (nI p) := by
  refine pk_le p 0 (fun z => h0 (by omega)) (fun z => ?_)
  obtain ⟨k, rfl⟩ : ∃ k, p = k + 1 := ⟨p - 1, by omega⟩
  rw [nI_pred, nI_clamp (show k < 2 ^ 31 by omega)]
  refine And.intro (vp_in_nI (by omega) (by omega)) ?_
  exact pi_le rfl pi_0 (fun a => h0 (fun b => by have := b.2; rw [Nat.add_sub_cancel] at this; omega)) (fun a => h1 ⟨by omega, by rw [Nat.add_sub_cancel]; omega⟩)
theorem px_lc79 {post : Int32 → Prop} {w e bar : Int32} {A B o up bs ws : Nat → Int32} {N : Nat} (hC : pb_C w e N A B) {p q : Nat} (hp : p < q) (hq : q ≤ N) {z : Int32} {D : Int} (hz : z.toInt = D) (hD : 0 ≤ D) (hD2 : D ≤ 4000) (h : ∀ r : Int32, r.toInt = D + (B (q - 1)).toInt + (if (0 < p ∧ 0 < (B (p - 1)).toInt) ∧ 0 < (B (q - 1)).toInt then e.toInt else 0) → post r) : wX_lineCost_79 post (nI p) (nI q) z w e (nI N) bar A B o up bs ws := by
  obtain ⟨hw, he, hN, hA, hB⟩ := hC
  have hb := hB (q - 1)
  have ec : nI q - 1 = nI (q - 1) := by
    obtain ⟨k, rfl⟩ : ∃ k, q = k + 1 := ⟨q - 1, by omega⟩
    rw [nI_pred, Nat.add_sub_cancel]
  have k105 : ∀ y : Int32, y.toInt = (if (0 < p ∧ 0 < (B (p - 1)).toInt) ∧ 0 < (B (q - 1)).toInt then e.toInt else 0) → 0 ≤ y.toInt → y.toInt ≤ 100 → wX_lineCost_105 post (nI q) z y w e (nI N) bar A B o up bs ws := by
    intro y hy y0 y1
    unfold wX_lineCost_105
    rw [ec, nI_clamp (by omega)]
    refine And.intro (vp_in_nI (by omega) (by omega)) (h _ ?_)
    rw [← hy]
    exact pi_add (pi_add hz rfl (by omega) (by omega)) rfl (by omega) (by omega)
  have k104 : ¬ ((0 < p ∧ 0 < (B (p - 1)).toInt) ∧ 0 < (B (q - 1)).toInt) → wX_lineCost_104 post (nI q) z w e (nI N) bar A B o up bs ws := by
    intro n
    refine k105 0 ?_ (by decide) (by decide)
    rw [if_neg n]
    exact pi_0
  unfold wX_lineCost_79
  refine px_pen (by omega) (fun h1 => br_f (by decide) ?_) (fun h1 => br_t rfl (k104 (fun a => h1 a.1)))
  refine px_pen (by omega) (fun h2 => br_f (by decide) ?_) (fun h2 => br_t rfl (k104 (fun a => h2 ⟨by omega, a.2⟩)))
  refine k105 e ?_ (by omega) (by omega)
  rw [if_pos ⟨h1, h2.2⟩]
theorem px_lc {post : Int32 → Prop} {w e bar : Int32} {A B o up bs ws : Nat → Int32} {N : Nat} (hC : pb_C w e N A B) {p q : Nat} (hp : p < q) (hq : q ≤ N) (h : ∀ r : Int32, r.toInt = pb_en (pb_L w e A B N bar.toInt p q) → post r) : wpX_lineCost post (w, e, nI N, bar, A, B, o, up, bs, ws) (nI p) (nI q) := by
  have hC' := hC
  obtain ⟨hw, he, hN, hA, hB⟩ := hC'
  unfold wpX_lineCost
  refine px_len hA hp (by omega) (fun r hr x ex => ?_)
  have hl := pb_len_bd hA hp (show q ≤ 10 by omega)
  have hx : x.toInt = pb_D w A p q := by
    rw [ex]
    exact pi_sub rfl hr (by omega) (by omega)
  have hDb := pb_D_bd hC hp hq
  have hL : pb_L w e A B N bar.toInt p q = pb_L w e A B N bar.toInt p q := rfl
  conv at hL => rhs; unfold pb_L
  generalize pb_D w A p q = D at hx hDb hL
  have hy : (nI p + 1 - nI q).toInt = (p : Int) + 1 - q := by
    rw [nI_1, pk_sub_toInt (by omega) (by omega)]
    omega
  have ec : (nI q - 1).toInt = (q : Int) - 1 := by
    obtain ⟨k, rfl⟩ : ∃ k, q = k + 1 := ⟨q - 1, by omega⟩
    rw [nI_pred, nI_toInt (by omega)]
    omega
  refine pi_lt hx hy (fun c1 => h _ ?_) (fun c1 => ?_)
  · rw [hL, if_pos c1]; exact pi_far
  rw [if_neg c1] at hL
  have s3 := pb_D3 (D := D) hp (show q ≤ 10 by omega) c1
  have p3 : D < 0 → ((3 * x) * x).toInt = 3 * D * D := by
    intro c4
    have := s3 c4
    have e3 : (3 : Int32).toInt = 3 := by decide
    refine pi_mul (pi_mul e3 hx (by omega) (by omega)) hx ?_ ?_
    · rw [Int.mul_assoc]; omega
    · rw [Int.mul_assoc]; omega
  have p2 : (x * x).toInt = D * D := by
    have := pi_sq (x := D) (a := 133) (by omega) (by omega)
    exact pi_mul hx hx (by omega) (by omega)
  have k42 : ¬ (q < N ∧ (q : Int) - 1 = bar.toInt) → wX_lineCost_42 post (nI p) (nI q) x w e (nI N) bar A B o up bs ws := by
    intro c2
    rw [if_neg c2] at hL
    unfold wX_lineCost_42
    refine pk_eq q N (fun c3 => ?_) (fun c3 => ?_)
    · rw [if_pos c3] at hL
      refine pi_lt hx pi_0 (fun c4 => h _ ?_) (fun c4 => h _ ?_)
      · rw [hL, if_pos c4]; exact p3 c4
      · rw [hL, if_neg c4]; exact pi_0
    · rw [if_neg c3] at hL
      refine pi_lt hx pi_0 (fun c4 => ?_) (fun c4 => ?_)
      · rw [if_pos c4] at hL
        have := s3 c4
        refine px_lc79 hC hp hq (p3 c4) (by rw [Int.mul_assoc]; omega) (by rw [Int.mul_assoc]; omega) (fun r hr => h r ?_)
        rw [hL]; exact hr
      · rw [if_neg c4] at hL
        have := pi_sq (x := D) (a := 60) (by omega) (by omega)
        refine px_lc79 hC hp hq p2 (by omega) (by omega) (fun r hr => h r ?_)
        rw [hL]; exact hr
  refine pk_le N q (fun c2 => k42 (fun a => by omega)) (fun c2 => ?_)
  refine pi_eq ec rfl (fun c5 => h _ ?_) (fun c5 => k42 (fun a => c5 a.2))
  rw [hL, if_pos ⟨c2, c5⟩]
  exact pi_far
/-- the two outcomes of a line's cost -/
theorem px_lc2 {post : Int32 → Prop} {w e bar : Int32} {A B o up bs ws : Nat → Int32} {N : Nat} (hC : pb_C w e N A B) {p q : Nat} (hp : p < q) (hq : q ≤ N) (h0 : pb_L w e A B N bar.toInt p q = none → ∀ r : Int32, 1000000 ≤ r → post r) (h1 : ∀ l, pb_L w e A B N bar.toInt p q = some l → -40 ≤ l → l ≤ 4000 → ∀ r : Int32, r.toInt = l → ¬ 1000000 ≤ r → post r) : wpX_lineCost post (w, e, nI N, bar, A, B, o, up, bs, ws) (nI p) (nI q) := by
  refine px_lc hC hp hq (fun r hr => ?_)
  cases hL : pb_L w e A B N bar.toInt p q with
  | none =>
    rw [hL] at hr
    have hr : r.toInt = 1000000 := hr
    refine h0 hL r ?_
    rw [Int32.le_iff_toInt_le, pi_far]
    omega
  | some l =>
    rw [hL] at hr
    have hr : r.toInt = l := hr
    have b := pb_L_bd hC bar.toInt p q l hp hq hL
    refine h1 l hL b.1 b.2 r hr ?_
    rw [Int32.le_iff_toInt_le, pi_far]
    omega
end
section
/-! ===== the component: learning from the end back ===== -/
def pb_UN (F : Nat → Int → Prop) (k : Nat) (c : Int) : Prop := ∃ i, i < k ∧ F i c
theorem pb_UN_s (F : Nat → Int → Prop) (k : Nat) (c : Int) : (pb_UN F k c ∨ F k c) ↔ pb_UN F (k + 1) c := by
  constructor
  · rintro (⟨i, h, g⟩ | g)
    · exact ⟨i, by omega, g⟩
    · exact ⟨k, by omega, g⟩
  · rintro ⟨i, h, g⟩
    by_cases e : i = k
    · subst e; exact Or.inr g
    · exact Or.inl ⟨i, by omega, g⟩
theorem pb_UN_skip {F : Nat → Int → Prop} {k : Nat} {x : Int} (h : ∀ c, ¬ F k c) (a : pb_Mi (pb_UN F k) x) : pb_Mi (pb_UN F (k + 1)) x :=
  pb_Mi_cg (pb_UN_s F k) (pb_Mi_u a (pb_Mi_0 h) (pb_Mi_le a))
theorem pb_UN_ge {F : Nat → Int → Prop} {k : Nat} {x m : Int} (h : pb_Mi (F k) m) (a : pb_Mi (pb_UN F k) x) (l : x ≤ m) : pb_Mi (pb_UN F (k + 1)) x :=
  pb_Mi_cg (pb_UN_s F k) (pb_Mi_u a h l)
theorem pb_UN_lt {F : Nat → Int → Prop} {k : Nat} {x m : Int} (h : pb_Mi (F k) m) (a : pb_Mi (pb_UN F k) x) (l : m ≤ x) : pb_Mi (pb_UN F (k + 1)) m :=
  pb_Mi_cg (pb_UN_s F k) (pb_Mi_v a h l)
theorem px_ix (n q : Nat) : (nI (n + 1) - 1) * 11 + nI q = nI (n * 11 + q) := by
  rw [nI_pred, show nI n * 11 = nI (n * 11) from pk_mul n 11, nI_add]
theorem px_ix2 (n q : Nat) : nI n * 11 + nI q = nI (n * 11 + q) := by
  rw [show nI n * 11 = nI (n * 11) from pk_mul n 11, nI_add]
theorem px_ix3 (n : Nat) : nI n * 11 = nI (n * 11) := pk_mul n 11
/-- the first line goes from p to q -/
def pb_FO (L : Nat → Nat → Option Int) (N n p q : Nat) (c : Int) : Prop := p < q ∧ ∃ l r, L p q = some l ∧ pb_SO L N n q r ∧ c = l + r
theorem pb_FO_all (L : Nat → Nat → Option Int) {N n p : Nat} (hp : p ≤ N) (c : Int) : pb_UN (pb_FO L N n p) (N + 1) c ↔ pb_SO L N (n + 1) p c := by
  rw [pb_SO_s L hp]
  constructor
  · rintro ⟨q, h1, h2, l, r, h3, h4, h5⟩
    exact ⟨q, l, r, h2, by omega, h3, h4, h5⟩
  · rintro ⟨q, l, r, h2, h1, h3, h4, h5⟩
    exact ⟨q, by omega, h2, l, r, h3, h4, h5⟩
theorem pb_FO_mi {L : Nat → Nat → Option Int} {N n p q : Nat} {l m : Int} (hp : p < q) (hl : L p q = some l) (h : pb_Mi (pb_SO L N n q) m) (h1 : m < 1000000) (h2 : l + m < 1000000) : pb_Mi (pb_FO L N n p q) (l + m) := by
  refine pb_Mi_cg (fun c => ?_) (pb_Mi_T h h1 h2)
  constructor
  · rintro ⟨r, h3, h4⟩; exact ⟨hp, l, r, hl, h3, h4⟩
  · rintro ⟨_, l', r, hl', h3, h4⟩
    rw [hl] at hl'
    cases hl'
    exact ⟨r, h3, h4⟩
theorem px_lo_l {post : Int32 → Prop} {w e bar : Int32} {A B o up bs ws : Nat → Int32} {N n p : Nat} {L : Nat → Nat → Option Int} (hL : pb_L w e A B N bar.toInt = L) (hC : pb_C w e N A B) (hn : n < 10) (hO : ∀ q, q ≤ N → pb_Mi (pb_SO L N n q) (o (n * 11 + q)).toInt) (hp : p ≤ N) (h : ∀ r : Int32, pb_Mi (pb_SO L N (n + 1) p) r.toInt → post r) : ∀ d q f (x : Int32), q + d = N + 1 → d < f → p < q → pb_Mi (pb_UN (pb_FO L N n p) q) x.toInt → wX_leastOnward_8 post (nI (n + 1)) (nI p) w e (nI N) bar A B o up bs ws f x (nI q) := by
  have hN := hC.2.2.1
  intro d
  induction d with
  | zero =>
    intro q f x h1 h2 h3 h4
    cases f with
    | zero => omega
    | succ f =>
      have e : q = N + 1 := by omega
      subst e
      exact br_t (nI_lt (by omega) (by omega)) (h x (pb_Mi_cg (pb_FO_all L hp) h4))
  | succ d ih =>
    intro q f x h1 h2 h3 h4
    cases f with
    | zero => omega
    | succ f =>
      have hqN : q ≤ N := by omega
      have ho := hO q hqN
      have skip : (∀ l r, L p q = some l → ¬ pb_SO L N n q r) → wX_leastOnward_8 post (nI (n + 1)) (nI p) w e (nI N) bar A B o up bs ws f x (nI q + 1) := by
        intro hs
        rw [nI_1]
        refine ih (q + 1) f x (by omega) (by omega) (by omega) (pb_UN_skip ?_ h4)
        rintro c ⟨_, l, r, a1, a2, _⟩
        exact hs l r a1 a2
      refine br_f (nI_nlt hqN (by omega)) ?_
      refine px_lc2 hC h3 hqN (fun hno r hr => ?_) (fun l hl b1 b2 r hr hnf => ?_)
      · rw [px_ix, nI_clamp (by omega)]
        refine And.intro (vp_in_nI (by omega) (by omega)) (fun y ey => br_t hr (fun z ez => ?_))
        rw [ez]
        exact skip (fun l r a => by rw [← hL, hno] at a; cases a)
      · rw [hL] at hl
        rw [px_ix, nI_clamp (by omega)]
        refine And.intro (vp_in_nI (by omega) (by omega)) (fun y ey => br_f hnf ?_)
        rw [← ey] at ho
        refine pi_le pi_far rfl (fun c1 => ?_) (fun c1 => ?_)
        · intro z ez
          rw [ez]
          exact skip (fun l r _ => (pb_Mi_far ho c1).2 r)
        · have hm := pb_SO_bd hC hqN (by rw [hL]; exact (pb_Mi_in ho (by omega)).1)
          have hs : (r + y).toInt = l + y.toInt := pi_add hr rfl (by omega) (by omega)
          have hT := pb_FO_mi h3 hl ho (by omega) (by omega)
          refine pi_le rfl hs (fun c2 => ?_) (fun c2 => ?_)
          · intro z ez
            rw [ez, nI_1]
            exact ih (q + 1) f x (by omega) (by omega) (by omega) (pb_UN_ge hT h4 c2)
          · intro v ev z ez
            rw [ez, ev, nI_1]
            refine ih (q + 1) f (r + y) (by omega) (by omega) (by omega) ?_
            rw [hs]
            exact pb_UN_lt hT h4 (by omega)
theorem px_lo {post : Int32 → Prop} {w e bar : Int32} {A B o up bs ws : Nat → Int32} {N n p : Nat} {L : Nat → Nat → Option Int} (hL : pb_L w e A B N bar.toInt = L) (hC : pb_C w e N A B) (hn : n < 10) (hO : ∀ q, q ≤ N → pb_Mi (pb_SO L N n q) (o (n * 11 + q)).toInt) (hp : p ≤ N) (h : ∀ r : Int32, pb_Mi (pb_SO L N (n + 1) p) r.toInt → post r) : wpX_leastOnward post (w, e, nI N, bar, A, B, o, up, bs, ws) (nI (n + 1)) (nI p) := by
  intro x ex
  rw [ex, nI_1]
  refine ⟨N - p + 1, px_lo_l hL hC hn hO hp h (N - p) (p + 1) _ _ (by omega) (by omega) (by omega) ?_⟩
  rw [pi_far]
  refine pb_Mi_0 ?_
  rintro c ⟨q, h1, h2, _⟩
  omega
theorem px_lo_big {post : Int32 → Prop} {w e bar : Int32} {A B o up bs ws : Nat → Int32} {N p : Nat} {x : Int32} (hp : N < p) (hp2 : p ≤ 10) (h : post 1000000) : wpX_leastOnward post (w, e, nI N, bar, A, B, o, up, bs, ws) x (nI p) := by
  intro y ey
  rw [ey, nI_1]
  exact ⟨1, br_t (nI_lt (by omega) (by omega)) h⟩
theorem px_fb72 {post : SX → Prop} {J : Int32 → (Nat → Int32) → (Nat → Int32) → (Nat → Int32) → (Nat → Int32) → (Nat → Int32) → (Nat → Int32) → Prop} {w e c bar : Int32} {A B o up bs ws : Nat → Int32} {p q : Nat} (hp : p ≤ 10) (hq : q ≤ 10) {y : Int32} (h1 : y = bs p → J (nI (q + 1)) A B o up bs (upd ws p (ws p + ws q))) (h2 : ¬ y = bs p → J (nI (q + 1)) A B o up bs (upd ws p (ws p + 0))) : wX_findBest_72 post J (nI p) (nI q) y w e c bar A B o up bs ws := by
  have vp : vp_in (nI p) 11 := vp_in_nI (by omega) (by omega)
  have vq : vp_in (nI q) 11 := vp_in_nI (by omega) (by omega)
  unfold wX_findBest_72
  rw [nI_clamp (show p < 2 ^ 31 by omega), nI_clamp (show q < 2 ^ 31 by omega)]
  refine And.intro vp (And.intro vp (br_c (fun a => And.intro vq (And.intro vp (fun v ev z ez => ?_))) (fun a => And.intro vp (fun v ev z ez => ?_))))
  · rw [ev, ez, nI_1]; exact h1 a
  · rw [ev, ez, nI_1]; exact h2 a
theorem px_fb_l {post : SX → Prop} {w e bar : Int32} {A B o up : Nat → Int32} {N p : Nat} {L : Nat → Nat → Option Int} (hL : pb_L w e A B N bar.toInt = L) (hC : pb_C w e N A B) : ∀ d m f (bs ws : Nat → Int32), p + m + d = N → d < f → (∀ q, p < q → q ≤ N → pb_BW (pb_gc L (N - q) q q) (bs q) (ws q)) → pb_BW (pb_ps L N p p m) (bs p) (ws p) → (∀ bs' ws' : Nat → Int32, (∀ j, j ≠ p → bs' j = bs j ∧ ws' j = ws j) → pb_BW (pb_ps L N p p (N - p)) (bs' p) (ws' p) → post (w, e, nI N, bar, A, B, o, up, bs', ws')) → wX_findBest_4 post (nI p) w e (nI N) bar f (nI (p + m + 1)) A B o up bs ws := by
  have hN := hC.2.2.1
  intro d
  induction d with
  | zero =>
    intro m f bs ws h1 h2 h3 h4 h
    cases f with
    | zero => omega
    | succ f =>
      have e : m = N - p := by omega
      rw [e] at h4
      exact br_t (nI_lt (by omega) (by omega)) (h bs ws (fun _ _ => ⟨rfl, rfl⟩) h4)
  | succ d ih =>
    intro m f bs ws h1 h2 h3 h4 h
    cases f with
    | zero => omega
    | succ f =>
      have hqN : p + m + 1 ≤ N := by omega
      have hpq : p < p + m + 1 := by omega
      have ho := h3 (p + m + 1) hpq hqN
      have vp : vp_in (nI p) 11 := vp_in_nI (by omega) (by omega)
      have vq : vp_in (nI (p + m + 1)) 11 := vp_in_nI (by omega) (by omega)
      have cp : (nI p).toNatClampNeg = p := nI_clamp (by omega)
      have cq : (nI (p + m + 1)).toNatClampNeg = p + m + 1 := nI_clamp (by omega)
      have skip : (∀ l, L p (p + m + 1) = some l → ∀ c, pb_gc L (N - (p + m + 1)) (p + m + 1) (p + m + 1) c = 0) → wX_findBest_4 post (nI p) w e (nI N) bar f (nI (p + m + 1) + 1) A B o up bs ws := by
        intro hs
        rw [nI_1]
        refine ih (m + 1) f bs ws (by omega) (by omega) h3 ?_ h
        rw [pb_ps_same hs]
        exact h4
      have go : ∀ bs' ws' : Nat → Int32, (∀ j, j ≠ p → bs' j = bs j ∧ ws' j = ws j) → pb_BW (pb_ps L N p p (m + 1)) (bs' p) (ws' p) → wX_findBest_4 post (nI p) w e (nI N) bar f (nI (p + m + 1 + 1)) A B o up bs' ws' := by
        intro bs' ws' hf hb
        refine ih (m + 1) f bs' ws' (by omega) (by omega) (fun q q1 q2 => ?_) hb (fun bs2 ws2 hf2 hb2 => h bs2 ws2 (fun j hj => ?_) hb2)
        · rw [(hf q (by omega)).1, (hf q (by omega)).2]; exact h3 q q1 q2
        · exact ⟨(hf2 j hj).1.trans (hf j hj).1, (hf2 j hj).2.trans (hf j hj).2⟩
      refine br_f (nI_nlt hqN (by omega)) ?_
      refine px_lc2 hC hpq hqN (fun hno r hr => br_t hr (fun z ez => ?_)) (fun l hl b1 b2 r hr hnf => br_f hnf (And.intro vq ?_))
      · rw [ez]
        exact skip (fun l a => by rw [← hL, hno] at a; cases a)
      · rw [hL] at hl
        rw [cq, cp]
        refine pi_le pi_far rfl (fun c1 => ?_) (fun c1 => ?_)
        · intro z ez
          rw [ez]
          exact skip (fun _ _ c => Classical.not_not.mp ((pb_Mi_far ho.1 c1).2 c))
        · have hm := pb_gc_bd hC hqN (by rw [hL]; exact (pb_Mi_in ho.1 (by omega)).1)
          refine And.intro vq (fun y ey => And.intro vp ?_)
          have hy : y.toInt = l + (bs (p + m + 1)).toInt := by rw [ey]; exact pi_add hr rfl (by omega) (by omega)
          refine pi_le rfl hy (fun c2 => ?_) (fun c2 => ?_)
          · have g := pb_ps_ge hl h4.1 ho.1 (by omega) c2
            refine px_fb72 (by omega) (by omega) (fun c3 => go bs _ (fun j hj => ⟨rfl, pk_un hj⟩) ⟨g.1, ?_⟩) (fun c3 => go bs _ (fun j hj => ⟨rfl, pk_un hj⟩) ⟨g.1, ?_⟩)
            · rw [pk_us, h4.2, ho.2, nI_add, g.2, if_pos (by rw [← hy, c3])]
            · rw [pk_us, h4.2, Int32.add_zero, g.2, if_neg (fun a => c3 (Int32.toInt_inj.mp (by rw [hy, a]))), Nat.add_zero]
          · have g := pb_ps_lt hl h4.1 ho.1 (by omega) (by omega)
            refine And.intro vp (fun bs1 eb => And.intro vp (fun ws1 ew => ?_))
            have yb : bs1 p = y := by rw [eb]; exact pk_us
            have yw : ws1 p = 0 := by rw [ew]; exact pk_us
            have yo : ∀ j, j ≠ p → bs1 j = bs j ∧ ws1 j = ws j := fun j hj => ⟨by rw [eb]; exact pk_un hj, by rw [ew]; exact pk_un hj⟩
            refine px_fb72 (by omega) (by omega) (fun c3 => go bs1 _ (fun j hj => ⟨(yo j hj).1, (pk_un hj).trans (yo j hj).2⟩) ⟨?_, ?_⟩) (fun c3 => absurd yb.symm c3)
            · rw [yb, hy]; exact g.1
            · rw [pk_us, yb, yw, (yo (p + m + 1) (by omega)).2, hy, g.2, ho.2, Int32.zero_add]
theorem px_fb {post : SX → Prop} {w e bar : Int32} {A B o up bs ws : Nat → Int32} {N p : Nat} {L : Nat → Nat → Option Int} (hL : pb_L w e A B N bar.toInt = L) (hC : pb_C w e N A B) (hp : p < N) (h3 : ∀ q, p < q → q ≤ N → pb_BW (pb_gc L (N - q) q q) (bs q) (ws q)) (hb : bs p = 1000000) (hw : ws p = 0) (h : ∀ bs' ws' : Nat → Int32, (∀ j, j ≠ p → bs' j = bs j ∧ ws' j = ws j) → pb_BW (pb_gc L (N - p) p p) (bs' p) (ws' p) → post (w, e, nI N, bar, A, B, o, up, bs', ws')) : wpX_findBest post (w, e, nI N, bar, A, B, o, up, bs, ws) (nI p) := by
  intro x ex
  rw [ex, nI_1]
  refine ⟨N - p + 1, px_fb_l hL hC (N - p) 0 (N - p + 1) bs ws (by omega) (by omega) h3 ?_ (fun bs' ws' hf hb => h bs' ws' hf ?_)⟩
  · refine ⟨?_, ?_⟩
    · rw [hb, pi_far]
      exact pb_Mi_0 (fun c a => a (pb_ps_z L N p p c))
    · rw [hw, pb_ps_z, nI_0]
  · have e : pb_gc L (N - p) p p = pb_ps L N p p (N - p) := funext (fun c => pb_gc_ps L N p c (N - p) p (by omega) (by omega))
    rw [e]
    exact hb
theorem px_le121 {post : SX → Prop} {w e bar : Int32} {A B o up : Nat → Int32} {N : Nat} {L : Nat → Nat → Option Int} (hL : pb_L w e A B N bar.toInt = L) (hC : pb_C w e N A B) (h : ∀ bs' ws' : Nat → Int32, (∀ q, q ≤ N → pb_BW (pb_gc L (N - q) q q) (bs' q) (ws' q)) → post (w, e, nI N, bar, A, B, o, up, bs', ws')) : ∀ k f (bs ws : Nat → Int32), k ≤ N → k < f → (∀ q, k ≤ q → q ≤ N → pb_BW (pb_gc L (N - q) q q) (bs q) (ws q)) → (∀ q, q < k → bs q = 1000000 ∧ ws q = 0) → wX_learn_121 post f (nI k + (-1)) w e (nI N) bar A B o up bs ws := by
  have hN := hC.2.2.1
  intro k
  induction k with
  | zero =>
    intro f bs ws _ h2 h3 _
    cases f with
    | zero => omega
    | succ f => exact br_t (by rw [nI_0]; decide) (h bs ws (fun q a => h3 q (Nat.zero_le q) a))
  | succ k ih =>
    intro f bs ws h1 h2 h3 h4
    cases f with
    | zero => omega
    | succ f =>
      rw [pk_m1]
      refine br_f (nI_pos (by omega)) ?_
      refine px_fb hL hC (by omega) (fun q a b => h3 q (by omega) b) (h4 k (by omega)).1 (h4 k (by omega)).2 (fun bs' ws' hf hb => ?_)
      intro x ex
      rw [ex]
      refine ih f bs' ws' (by omega) (by omega) (fun q a b => ?_) (fun q a => ?_)
      · by_cases z : q = k
        · subst z; exact hb
        · rw [(hf q z).1, (hf q z).2]; exact h3 q (by omega) b
      · rw [(hf q (by omega)).1, (hf q (by omega)).2]; exact h4 q (by omega)
theorem px_le79 {post : SX → Prop} {J : Int32 → (Nat → Int32) → (Nat → Int32) → (Nat → Int32) → (Nat → Int32) → (Nat → Int32) → (Nat → Int32) → Prop} {w e bar : Int32} {A B up bs ws : Nat → Int32} {N n : Nat} {L : Nat → Nat → Option Int} (hL : pb_L w e A B N bar.toInt = L) (hC : pb_C w e N A B) (hn : n < 10) (h : ∀ o' : Nat → Int32, (∀ n' q, n' ≤ n + 1 → q ≤ N → pb_Mi (pb_SO L N n' q) (o' (n' * 11 + q)).toInt) → J (nI (n + 1 + 1)) A B o' up bs ws) : ∀ d p f (o : Nat → Int32), p + d = 11 → d < f → (∀ n' q, n' ≤ n → q ≤ N → pb_Mi (pb_SO L N n' q) (o (n' * 11 + q)).toInt) → (∀ q, q < p → q ≤ N → pb_Mi (pb_SO L N (n + 1) q) (o ((n + 1) * 11 + q)).toInt) → wX_learn_79 post J (nI (n + 1)) w e (nI N) bar f (nI p) A B o up bs ws := by
  have hN := hC.2.2.1
  intro d
  induction d with
  | zero =>
    intro p f o h1 h2 h3 h4
    cases f with
    | zero => omega
    | succ f =>
      refine pk_lt 10 p (fun _ => ?_) (fun _ => by omega)
      intro x ex
      rw [ex, nI_1]
      refine h o (fun n' q a b => ?_)
      by_cases z : n' = n + 1
      · subst z; exact h4 q (by omega) b
      · exact h3 n' q (by omega) b
  | succ d ih =>
    intro p f o h1 h2 h3 h4
    cases f with
    | zero => omega
    | succ f =>
      have cont : ∀ r : Int32, (p ≤ N → pb_Mi (pb_SO L N (n + 1) p) r.toInt) → vp_in (nI (n + 1) * 11 + nI p) 121 ∧ ∀ o2 : Nat → Int32, o2 = upd o (nI (n + 1) * 11 + nI p).toNatClampNeg r → ∀ z : Int32, z = nI p + 1 → wX_learn_79 post J (nI (n + 1)) w e (nI N) bar f z A B o2 up bs ws := by
        intro r hr
        rw [px_ix2, nI_clamp (by omega)]
        refine And.intro (vp_in_nI (by omega) (by omega)) (fun o2 eo z ez => ?_)
        rw [ez, nI_1]
        refine ih (p + 1) f o2 (by omega) (by omega) (fun n' q a b => ?_) (fun q a b => ?_)
        · rw [eo, pk_un (by omega)]; exact h3 n' q a b
        · by_cases y : q = p
          · subst y; rw [eo, pk_us]; exact hr b
          · rw [eo, pk_un (by omega)]; exact h4 q (by omega) b
      refine pk_lt 10 p (fun _ => by omega) (fun _ => ?_)
      by_cases z : p ≤ N
      · exact px_lo hL hC hn (fun q a => h3 n q (Nat.le_refl n) a) z (fun r hr => cont r (fun _ => hr))
      · exact px_lo_big (by omega) (by omega) (cont _ (fun a => absurd a z))
theorem px_le71 {post : SX → Prop} {w e bar : Int32} {A B up bs ws : Nat → Int32} {N : Nat} {L : Nat → Nat → Option Int} (hL : pb_L w e A B N bar.toInt = L) (hC : pb_C w e N A B) (h : ∀ o' : Nat → Int32, (∀ n' q, n' ≤ 10 → q ≤ N → pb_Mi (pb_SO L N n' q) (o' (n' * 11 + q)).toInt) → ∃ f : Nat, wX_learn_121 post f (nI N + (-1)) w e (nI N) bar A B o' up bs ws) : ∀ d n f (o : Nat → Int32), n + d = 10 → d < f → (∀ n' q, n' ≤ n → q ≤ N → pb_Mi (pb_SO L N n' q) (o (n' * 11 + q)).toInt) → wX_learn_71 post w e (nI N) bar f (nI (n + 1)) A B o up bs ws := by
  intro d
  induction d with
  | zero =>
    intro n f o h1 h2 h3
    cases f with
    | zero => omega
    | succ f =>
      refine pk_lt 10 (n + 1) (fun _ => ?_) (fun _ => by omega)
      intro x ex
      rw [ex, Int32.sub_eq_add_neg]
      exact h o (fun n' q a b => h3 n' q (by omega) b)
  | succ d ih =>
    intro n f o h1 h2 h3
    cases f with
    | zero => omega
    | succ f =>
      refine pk_lt 10 (n + 1) (fun _ => by omega) (fun _ => ?_)
      refine ⟨12, ?_⟩
      exact px_le79 hL hC (by omega) (fun o' ho => ih (n + 1) f o' (by omega) (by omega) ho) 11 0 12 o (by omega) (by omega) h3 (fun q a => by omega)
/-- what has been learnt -/
def pb_LE (L : Nat → Nat → Option Int) (N : Nat) (o bs ws : Nat → Int32) : Prop := (∀ n q, n ≤ 10 → q ≤ N → pb_Mi (pb_SO L N n q) (o (n * 11 + q)).toInt) ∧ ∀ q, q ≤ N → pb_BW (pb_gc L (N - q) q q) (bs q) (ws q)
theorem px_le27 {post : SX → Prop} {J : Int32 → (Nat → Int32) → (Nat → Int32) → (Nat → Int32) → (Nat → Int32) → (Nat → Int32) → (Nat → Int32) → Prop} {w e c bar : Int32} {A B o up bs ws : Nat → Int32} {p : Nat} {y : Int32} (hp : p ≤ 10) (h : J (nI (p + 1)) A B (upd o p y) up (upd bs p 1000000) (upd ws p 0)) : wX_learn_27 post J (nI p) y (nI p) w e c bar A B o up bs ws := by
  have vp : vp_in (nI p) 11 := vp_in_nI (by omega) (by omega)
  unfold wX_learn_27
  rw [nI_clamp (show p < 2 ^ 31 by omega)]
  refine And.intro (vp_in_nI (by omega) (by omega)) (fun o1 eo => And.intro vp (fun b1 eb => And.intro vp (fun w1 ew z ez => ?_)))
  rw [eo, eb, ew, ez, nI_1]
  exact h
theorem px_le2 {post : SX → Prop} {w e bar : Int32} {A B up : Nat → Int32} {N : Nat} {L : Nat → Nat → Option Int} (hL : pb_L w e A B N bar.toInt = L) (hC : pb_C w e N A B) (h : ∀ o' bs' ws' : Nat → Int32, pb_LE L N o' bs' ws' → post (w, e, nI N, bar, A, B, o', up, bs', ws')) : ∀ d p f (o bs ws : Nat → Int32), p + d = 11 → d < f → (∀ q, q < p → o q = (if q = N then 0 else 1000000) ∧ bs q = 1000000 ∧ ws q = 0) → wX_learn_2 post w e (nI N) bar f (nI p) A B o up bs ws := by
  have hN := hC.2.2.1
  intro d
  induction d with
  | zero =>
    intro p f o bs ws h1 h2 h3
    cases f with
    | zero => omega
    | succ f =>
      have vN : vp_in (nI N) 11 := vp_in_nI (by omega) (by omega)
      refine pk_lt 10 p (fun _ => ?_) (fun _ => by omega)
      rw [nI_clamp (show N < 2 ^ 31 by omega)]
      refine And.intro vN (fun b1 eb => And.intro vN (fun w1 ew => ⟨11, ?_⟩))
      refine px_le71 hL hC (fun o' ho => ⟨N + 1, ?_⟩) 10 0 11 o (by omega) (by omega) (fun n' q a b => ?_)
      · refine px_le121 hL hC (fun bs' ws' hb => h o' bs' ws' ⟨ho, hb⟩) N (N + 1) b1 w1 (Nat.le_refl N) (by omega) (fun q a b => ?_) (fun q a => ?_)
        · have e : q = N := by omega
          subst e
          rw [eb, ew, pk_us, pk_us, Nat.sub_self]
          refine ⟨?_, ?_⟩
          · rw [pi_0]
            refine Or.inr ⟨by decide, ?_, fun c hc => ?_⟩
            · show pb_gc L 0 q q 0 ≠ 0
              rw [pb_gc_z, if_pos rfl]; decide
            · have hc : pb_gc L 0 q q c ≠ 0 := hc
              rw [pb_gc_z] at hc
              by_cases z : c = 0
              · omega
              · rw [if_neg z] at hc; exact absurd rfl hc
          · rw [pi_0, pb_gc_z, if_pos rfl]; rfl
        · rw [eb, ew, pk_un (by omega), pk_un (by omega)]
          exact (h3 q (by omega)).2
      · have e : n' = 0 := by omega
        subst e
        rw [Nat.zero_mul, Nat.zero_add, (h3 q (by omega)).1]
        by_cases z : q = N
        · rw [if_pos z, pi_0]
          refine pb_Mi_cg (fun c => (pb_SO_0 L b c).symm) (Or.inr ⟨by decide, ⟨z, rfl⟩, fun c hc => by have := hc.2; omega⟩)
        · rw [if_neg z, pi_far]
          exact pb_Mi_0 (fun c hc => z ((pb_SO_0 L b c).mp hc).1)
  | succ d ih =>
    intro p f o bs ws h1 h2 h3
    cases f with
    | zero => omega
    | succ f =>
      have cont : ∀ y : Int32, y = (if p = N then 0 else 1000000) → wX_learn_2 post w e (nI N) bar f (nI (p + 1)) A B (upd o p y) up (upd bs p 1000000) (upd ws p 0) := by
        intro y ey
        refine ih (p + 1) f _ _ _ (by omega) (by omega) (fun q a => ?_)
        by_cases z : q = p
        · subst z; rw [pk_us, pk_us, pk_us]; exact ⟨ey, rfl, rfl⟩
        · rw [pk_un z, pk_un z, pk_un z]; exact h3 q (by omega)
      refine pk_lt 10 p (fun _ => by omega) (fun _ => ?_)
      refine pk_eq p N (fun z => px_le27 (by omega) (cont 0 ?_)) (fun z => px_le27 (by omega) (cont 1000000 ?_))
      · rw [if_pos z]
      · rw [if_neg z]
theorem px_learn {post : SX → Prop} {w e bar : Int32} {A B o up bs ws : Nat → Int32} {N : Nat} {L : Nat → Nat → Option Int} (hL : pb_L w e A B N bar.toInt = L) (hC : pb_C w e N A B) (h : ∀ o' bs' ws' : Nat → Int32, pb_LE L N o' bs' ws' → post (w, e, nI N, bar, A, B, o', up, bs', ws')) : wpX_learn post (w, e, nI N, bar, A, B, o, up, bs, ws) :=
  ⟨12, px_le2 hL hC h 11 0 12 o bs ws (by omega) (by omega) (fun q a => by omega)⟩
theorem px_start {post : SX → Prop} {w e bar : Int32} {A B o up bs ws : Nat → Int32} {N : Nat} (hC : pb_C w e N A B) (h : ∀ o' bs' ws' : Nat → Int32, pb_LE (pb_L w e A B N (-1)) N o' bs' ws' → post (w, e, nI N, -1, A, B, o', up, bs', ws')) : wpX_start post (w, e, nI N, bar, A, B, o, up, bs, ws) := by
  unfold wpX_start
  refine px_learn (bar := -1) (by rw [pi_m1]) hC (fun o' bs' ws' hl => ?_)
  exact h o' bs' ws' hl
end
section
/-! ===== the component: the fewest lines, the ends of the lines ===== -/
theorem px_few_l {post : Int32 → Prop} {w e c bar : Int32} {A B o up bs ws : Nat → Int32} : ∀ d n f, n + d = 11 → d < f → (∀ k, n ≤ k → k ≤ 10 → (o (k * 11)).toInt < 1000000 → o (k * 11) = bs 0 → (∀ j, n ≤ j → j < k → (o (j * 11)).toInt < 1000000 → o (j * 11) ≠ bs 0) → post (nI k)) → ((∀ j, n ≤ j → j ≤ 10 → (o (j * 11)).toInt < 1000000 → o (j * 11) ≠ bs 0) → post (-1)) → wX_fewestLines_2 post w e c bar A B o up bs ws f (nI n) := by
  intro d
  induction d with
  | zero =>
    intro n f h1 h2 h3 h4
    cases f with
    | zero => omega
    | succ f => exact pk_lt 10 n (fun _ => h4 (fun j a b => by omega)) (fun _ => by omega)
  | succ d ih =>
    intro n f h1 h2 h3 h4
    cases f with
    | zero => omega
    | succ f =>
      have vi : vp_in (nI (n * 11)) 121 := vp_in_nI (by omega) (by omega)
      have skip : ((o (n * 11)).toInt < 1000000 → o (n * 11) ≠ bs 0) → wX_fewestLines_2 post w e c bar A B o up bs ws f (nI n + 1) := by
        intro hs
        rw [nI_1]
        refine ih (n + 1) f (by omega) (by omega) (fun k a b c1 c2 c3 => h3 k (by omega) b c1 c2 (fun j x y => ?_)) (fun hj => h4 (fun j x y => ?_))
        · by_cases z : j = n
          · subst z; exact hs
          · exact c3 j (by omega) y
        · by_cases z : j = n
          · subst z; exact hs
          · exact hj j (by omega) y
      refine pk_lt 10 n (fun _ => by omega) (fun _ => ?_)
      rw [px_ix3, nI_clamp (by omega)]
      refine And.intro vi (pi_le pi_far rfl (fun c1 => ?_) (fun c1 => And.intro vi (br_c (fun c2 => ?_) (fun c2 => ?_))))
      · intro z ez; rw [ez]; exact skip (fun a => by omega)
      · exact h3 n (Nat.le_refl n) (by omega) (by omega) c2 (fun j a b => by omega)
      · intro z ez; rw [ez]; exact skip (fun _ => c2)
theorem px_few {post : Int32 → Prop} {w e c bar : Int32} {A B o up bs ws : Nat → Int32} (h3 : ∀ k, k ≤ 10 → (o (k * 11)).toInt < 1000000 → o (k * 11) = bs 0 → (∀ j, j < k → (o (j * 11)).toInt < 1000000 → o (j * 11) ≠ bs 0) → post (nI k)) (h4 : (∀ j, j ≤ 10 → (o (j * 11)).toInt < 1000000 → o (j * 11) ≠ bs 0) → post (-1)) : wpX_fewestLines post (w, e, c, bar, A, B, o, up, bs, ws) :=
  ⟨12, px_few_l 11 0 12 (by omega) (by omega) (fun k _ b c1 c2 c3 => h3 k b c1 c2 (fun j a => c3 j (Nat.zero_le j) a)) (fun hj => h4 (fun j a => hj j (Nat.zero_le j) a))⟩
theorem pb_Opt_mi {L : Nat → Nat → Option Int} {N : Nat} {t : Nat → Bool} {m : Int} (ho : pb_Opt L N t m) (hm : m < 1000000) : pb_Mi (fun c => pb_gc L (N - 0) 0 0 c ≠ 0) m := by
  rw [Nat.sub_zero]
  refine Or.inr ⟨hm, (pb_gc_ne L _ _ _ _).mpr ⟨t, ho.1⟩, fun c hc => ?_⟩
  obtain ⟨t', h⟩ := (pb_gc_ne L _ _ _ _).mp hc
  exact (ho.2 t' c h).1
theorem pb_no_mi {L : Nat → Nat → Option Int} {N : Nat} (hi : ∀ t, pb_ct L t N 0 0 = none) : pb_Mi (fun c => pb_gc L (N - 0) 0 0 c ≠ 0) 1000000 := by
  rw [Nat.sub_zero]
  refine pb_Mi_0 (fun c hc => ?_)
  obtain ⟨t', h⟩ := (pb_gc_ne L _ _ _ _).mp hc
  rw [hi t'] at h
  cases h
/-- the fewest lines, if there is a breaking -/
theorem px_fl {post : Int32 → Prop} {w e c bar : Int32} {A B o up bs ws : Nat → Int32} {L : Nat → Nat → Option Int} {N : Nat} {t : Nat → Bool} {m : Int} (hN : N ≤ 10) (hE : pb_LE L N o bs ws) (ho : pb_Opt L N t m) (hm : m < 1000000) (h : post (nI (pb_nl t N 0))) : wpX_fewestLines post (w, e, c, bar, A, B, o, up, bs, ws) := by
  have hb : (bs 0).toInt = m := pb_Mi_un (hE.2 0 (Nat.zero_le N)).1 (pb_Opt_mi ho hm)
  have hf := pb_few ho
  have hn := pb_nl_le t N 0
  have hg := hE.1 (pb_nl t N 0) 0 (by omega) (Nat.zero_le N)
  rw [Nat.add_zero] at hg
  have hg := hf.1 _ hg
  have hgood : o (pb_nl t N 0 * 11) = bs 0 := Int32.toInt_inj.mp (by rw [hg.2, hb])
  refine px_few (fun k a c1 c2 c3 => ?_) (fun hj => absurd hgood (hj _ (by omega) hg.1))
  have e : k = pb_nl t N 0 := by
    rcases Nat.lt_trichotomy k (pb_nl t N 0) with z | z | z
    · have hk := hE.1 k 0 a (Nat.zero_le N)
      rw [Nat.add_zero] at hk
      exact absurd (by rw [c2, hb]) (hf.2 k z _ hk c1)
    · exact z
    · exact absurd hgood (c3 _ z hg.1)
  rw [e]
  exact h
theorem px_fl_no {post : Int32 → Prop} {w e c bar : Int32} {A B o up bs ws : Nat → Int32} {L : Nat → Nat → Option Int} {N : Nat} (hE : pb_LE L N o bs ws) (hi : ∀ t, pb_ct L t N 0 0 = none) (h : post (-1)) : wpX_fewestLines post (w, e, c, bar, A, B, o, up, bs, ws) := by
  have hb : (bs 0).toInt = 1000000 := pb_Mi_un (hE.2 0 (Nat.zero_le N)).1 (pb_no_mi hi)
  refine px_few (fun k a c1 c2 _ => ?_) (fun _ => h)
  rw [c2, hb] at c1
  omega
theorem px_fe_l {post : Int32 → Prop} {w e bar x3 : Int32} {A B o up bs ws : Nat → Int32} {N n p q0 : Nat} {L : Nat → Nat → Option Int} {l0 : Int} (hL : pb_L w e A B N bar.toInt = L) (hC : pb_C w e N A B) (hn : n < 10) (hO : ∀ q, q ≤ N → pb_Mi (pb_SO L N n q) (o (n * 11 + q)).toInt) (hq0 : q0 ≤ N) (h1 : L p q0 = some l0) (h2 : (o (n * 11 + q0)).toInt < 1000000) (h3 : l0 + (o (n * 11 + q0)).toInt = x3.toInt) (h4 : ∀ q, p < q → q < q0 → ∀ l, L p q = some l → (o (n * 11 + q)).toInt < 1000000 → l + (o (n * 11 + q)).toInt ≠ x3.toInt) (h : post (nI q0)) : ∀ d q f, q + d = q0 → d < f → p < q → wX_firstEnd_17 post (nI (n + 1)) (nI p) x3 w e (nI N) bar A B o up bs ws f (nI q) := by
  have hN := hC.2.2.1
  intro d
  induction d with
  | zero =>
    intro q f a1 a2 a3
    cases f with
    | zero => omega
    | succ f =>
      have e : q = q0 := by omega
      subst e
      refine br_f (nI_nlt hq0 (by omega)) ?_
      refine px_lc2 hC a3 hq0 (fun hno r hr => ?_) (fun l hl b1 b2 r hr hnf => ?_)
      · rw [← hL, hno] at h1; cases h1
      · rw [hL, h1] at hl
        cases hl
        rw [px_ix, nI_clamp (by omega)]
        refine And.intro (vp_in_nI (by omega) (by omega)) (fun y ey => br_f hnf ?_)
        have ho := hO q hq0
        have hm := pb_SO_bd hC hq0 (by rw [hL]; exact (pb_Mi_in ho h2).1)
        rw [← ey] at h2 h3 hm
        refine pi_le pi_far rfl (fun c1 => by omega) (fun c1 => ?_)
        have hs : (r + y).toInt = l0 + y.toInt := pi_add hr rfl (by omega) (by omega)
        exact pi_eq hs rfl (fun _ => h) (fun c2 => absurd h3 c2)
  | succ d ih =>
    intro q f a1 a2 a3
    cases f with
    | zero => omega
    | succ f =>
      have hqN : q ≤ N := by omega
      have skip : wX_firstEnd_17 post (nI (n + 1)) (nI p) x3 w e (nI N) bar A B o up bs ws f (nI q + 1) := by
        rw [nI_1]
        exact ih (q + 1) f (by omega) (by omega) (by omega)
      refine br_f (nI_nlt hqN (by omega)) ?_
      refine px_lc2 hC a3 hqN (fun hno r hr => ?_) (fun l hl b1 b2 r hr hnf => ?_)
      · rw [px_ix, nI_clamp (by omega)]
        refine And.intro (vp_in_nI (by omega) (by omega)) (fun y ey => br_t hr (fun z ez => ?_))
        rw [ez]
        exact skip
      · rw [hL] at hl
        rw [px_ix, nI_clamp (by omega)]
        refine And.intro (vp_in_nI (by omega) (by omega)) (fun y ey => br_f hnf ?_)
        refine pi_le pi_far rfl (fun c1 => ?_) (fun c1 => ?_)
        · intro z ez; rw [ez]; exact skip
        · have ho := hO q hqN
          have h5 := h4 q a3 (by omega) l hl
          rw [← ey] at ho h5
          have hm := pb_SO_bd hC hqN (by rw [hL]; exact (pb_Mi_in ho (by omega)).1)
          have hs : (r + y).toInt = l + y.toInt := pi_add hr rfl (by omega) (by omega)
          refine pi_eq hs rfl (fun c2 => absurd c2 (h5 (by omega))) (fun c2 => ?_)
          intro z ez; rw [ez]; exact skip
theorem px_fe {post : Int32 → Prop} {w e bar : Int32} {A B o up bs ws : Nat → Int32} {N i n : Nat} {L : Nat → Nat → Option Int} {t : Nat → Bool} {m : Int} (hL : pb_L w e A B N bar.toInt = L) (hC : pb_C w e N A B) (hE : pb_LE L N o bs ws) (ho : pb_Opt L N t m) (hi : i + n + 1 = pb_nl t N 0) (h : post (nI (pb_e t N (i + 1)))) : wpX_firstEnd post (w, e, nI N, bar, A, B, o, up, bs, ws) (nI (n + 1)) (nI (pb_e t N i)) := by
  have hN := hC.2.2.1
  have hnl := pb_nl_le t N 0
  obtain ⟨l1, l2, l3, _⟩ := pb_e_lt L ho.1 (i := i) (by omega)
  obtain ⟨g1, ⟨l, g2, g3⟩, g4⟩ := pb_ends ho hi (hE.1 (n + 1) (pb_e t N i) (by omega) (by omega))
  have g5 := g3 _ (hE.1 n _ (by omega) l3)
  unfold wpX_firstEnd
  show vp_in (nI (n + 1) * 11 + nI (pb_e t N i)) 121 ∧ _
  rw [px_ix2, nI_clamp (by omega)]
  refine And.intro (vp_in_nI (by omega) (by omega)) (fun x ex y ey => ?_)
  rw [ey, nI_1]
  rw [← ex] at g5 g4
  refine ⟨pb_e t N (i + 1) - pb_e t N i, ?_⟩
  exact px_fe_l hL hC (by omega) (fun q a => hE.1 n q (by omega) a) l3 g2 g5.1 g5.2 (fun q a b l hl hf => g4 q a b l _ hl (hE.1 n q (by omega) (by omega)) hf) h (pb_e t N (i + 1) - pb_e t N i - 1) (pb_e t N i + 1) _ (by omega) (by omega) (by omega)
theorem px_eol_l {post : Int32 → SX → Prop} {w e bar : Int32} {A B o up bs ws : Nat → Int32} {N k : Nat} {L : Nat → Nat → Option Int} {t : Nat → Bool} {m : Int} (hL : pb_L w e A B N bar.toInt = L) (hC : pb_C w e N A B) (hE : pb_LE L N o bs ws) (ho : pb_Opt L N t m) (hk : k < pb_nl t N 0) (h : post (nI (pb_e t N (k + 1))) (w, e, nI N, bar, A, B, o, up, bs, ws)) : ∀ d i f, i + d = k + 1 → d < f → wX_endOfLine_25 post (nI k) (nI (pb_nl t N 0)) w e (nI N) bar A B o up bs ws f (nI (pb_e t N i)) (nI i) := by
  have hN := hC.2.2.1
  have hnl := pb_nl_le t N 0
  intro d
  induction d with
  | zero =>
    intro i f h1 h2
    cases f with
    | zero => omega
    | succ f =>
      have e : i = k + 1 := by omega
      subst e
      exact br_t (nI_lt (by omega) (by omega)) h
  | succ d ih =>
    intro i f h1 h2
    cases f with
    | zero => omega
    | succ f =>
      refine br_f (nI_nlt (by omega) (by omega)) ?_
      have e : pb_nl t N 0 - i = (pb_nl t N 0 - i - 1) + 1 := by omega
      rw [pk_sub (by omega), e]
      refine px_fe hL hC hE ho (by omega) (fun x ex => ?_)
      rw [ex, nI_1]
      exact ih (i + 1) f (by omega) (by omega)
/-- the end of line k, if there is a breaking -/
theorem px_eol {post : Int32 → SX → Prop} {w e bar : Int32} {A B o up bs ws : Nat → Int32} {N : Nat} {t : Nat → Bool} {m : Int} (hC : pb_C w e N A B) (ho : pb_Opt (pb_L w e A B N (-1)) N t m) {k : Nat} (hk : k < pb_nl t N 0) (h : ∀ o' bs' ws' : Nat → Int32, post (nI (pb_e t N (k + 1))) (w, e, nI N, -1, A, B, o', up, bs', ws')) : wpX_endOfLine post (w, e, nI N, bar, A, B, o, up, bs, ws) (nI k) := by
  have hN := hC.2.2.1
  have hnl := pb_nl_le t N 0
  have hm := pb_cN_bd hC ho.1
  unfold wpX_endOfLine
  refine px_start hC (fun o' bs' ws' hE => ?_)
  refine px_fl hN hE ho (by omega) (br_f (nI_pos (by omega)) (br_t (nI_lt hk (by omega)) ⟨k + 2, ?_⟩))
  exact px_eol_l (bar := -1) (by rw [pi_m1]) hC hE ho hk (h o' bs' ws') (k + 1) 0 (k + 2) (by omega) (by omega)
theorem px_eol_out {post : Int32 → SX → Prop} {w e bar v : Int32} {A B o up bs ws : Nat → Int32} {N : Nat} {t : Nat → Bool} {m : Int} (hC : pb_C w e N A B) (ho : pb_Opt (pb_L w e A B N (-1)) N t m) (hv : v < 0 ∨ ¬ v < nI (pb_nl t N 0)) (h : ∀ o' bs' ws' : Nat → Int32, post (-1) (w, e, nI N, -1, A, B, o', up, bs', ws')) : wpX_endOfLine post (w, e, nI N, bar, A, B, o, up, bs, ws) v := by
  have hN := hC.2.2.1
  have hm := pb_cN_bd hC ho.1
  unfold wpX_endOfLine
  refine px_start hC (fun o' bs' ws' hE => ?_)
  refine px_fl hN hE ho (by omega) (br_c (fun _ => h o' bs' ws') (fun a => ?_))
  rcases hv with hv | hv
  · exact absurd hv a
  · exact br_f hv (h o' bs' ws')
theorem px_eol_no {post : Int32 → SX → Prop} {w e bar v : Int32} {A B o up bs ws : Nat → Int32} {N : Nat} (hC : pb_C w e N A B) (hi : ∀ t, pb_ct (pb_L w e A B N (-1)) t N 0 0 = none) (h : ∀ o' bs' ws' : Nat → Int32, post (-1) (w, e, nI N, -1, A, B, o', up, bs', ws')) : wpX_endOfLine post (w, e, nI N, bar, A, B, o, up, bs, ws) v := by
  unfold wpX_endOfLine
  refine px_start hC (fun o' bs' ws' hE => ?_)
  refine px_fl_no hE hi (br_c (fun _ => h o' bs' ws') (fun a => br_f (fun b => a ?_) (h o' bs' ws')))
  rw [Int32.lt_iff_toInt_lt, pi_m1] at b
  rw [Int32.lt_iff_toInt_lt, pi_0]
  omega
/-! ===== the component: from the beginning on ===== -/
def pb_FU (L : Nat → Nat → Option Int) (q p : Nat) (c : Int) : Prop := ∃ r l, pb_SU L p r ∧ L p q = some l ∧ c = r + l
theorem pb_FU_all (L : Nat → Nat → Option Int) {q : Nat} (hq : 0 < q) (c : Int) : pb_UN (pb_FU L q) q c ↔ pb_SU L q c := by
  rw [pb_SU_s L hq]
  constructor
  · rintro ⟨p, h1, r, l, h2, h3, h4⟩
    exact ⟨p, r, l, h1, h2, h3, h4⟩
  · rintro ⟨p, r, l, h1, h2, h3, h4⟩
    exact ⟨p, h1, r, l, h2, h3, h4⟩
theorem pb_FU_mi {L : Nat → Nat → Option Int} {p q : Nat} {l m : Int} (hl : L p q = some l) (h : pb_Mi (pb_SU L p) m) (h1 : m < 1000000) (h2 : m + l < 1000000) : pb_Mi (pb_FU L q p) (m + l) := by
  have e : m + l = l + m := Int.add_comm m l
  rw [e]
  refine pb_Mi_cg (fun c => ?_) (pb_Mi_T h h1 (by omega))
  constructor
  · rintro ⟨r, h3, h4⟩; exact ⟨r, l, h3, hl, by omega⟩
  · rintro ⟨r, l', h3, hl', h4⟩
    rw [hl] at hl'
    cases hl'
    exact ⟨r, h3, by omega⟩
theorem px_fu27 {post : SX → Prop} {J : Int32 → (Nat → Int32) → (Nat → Int32) → (Nat → Int32) → (Nat → Int32) → (Nat → Int32) → (Nat → Int32) → Prop} {w e bar : Int32} {A B o bs ws : Nat → Int32} {N q : Nat} {L : Nat → Nat → Option Int} (hL : pb_L w e A B N bar.toInt = L) (hC : pb_C w e N A B) (hq0 : 0 < q) (hq : q < N) (h : ∀ up' : Nat → Int32, (∀ p, p ≤ q → pb_Mi (pb_SU L p) (up' p).toInt) → J (nI (q + 1)) A B o up' bs ws) : ∀ d p f (up : Nat → Int32), p + d = q → d < f → (∀ p, p < q → pb_Mi (pb_SU L p) (up p).toInt) → pb_Mi (pb_UN (pb_FU L q) p) (up q).toInt → wX_findUpTo_27 post J (nI q) w e (nI N) bar f (nI p) A B o up bs ws := by
  have hN := hC.2.2.1
  intro d
  induction d with
  | zero =>
    intro p f up h1 h2 h3 h4
    cases f with
    | zero => omega
    | succ f =>
      have e : p = q := by omega
      subst e
      refine br_t (nI_le (Nat.le_refl p) (by omega)) (fun x ex => ?_)
      rw [ex, nI_1]
      refine h up (fun p' a => ?_)
      by_cases z : p' = p
      · subst z; exact pb_Mi_cg (pb_FU_all L hq0) h4
      · exact h3 p' (by omega)
  | succ d ih =>
    intro p f up h1 h2 h3 h4
    cases f with
    | zero => omega
    | succ f =>
      have hpq : p < q := by omega
      have vp : vp_in (nI p) 11 := vp_in_nI (by omega) (by omega)
      have vq : vp_in (nI q) 11 := vp_in_nI (by omega) (by omega)
      have cp : (nI p).toNatClampNeg = p := nI_clamp (by omega)
      have cq : (nI q).toNatClampNeg = q := nI_clamp (by omega)
      have ho := h3 p hpq
      have skip : (∀ c, ¬ pb_FU L q p c) → wX_findUpTo_27 post J (nI q) w e (nI N) bar f (nI p + 1) A B o up bs ws := by
        intro hs
        rw [nI_1]
        exact ih (p + 1) f up (by omega) (by omega) h3 (pb_UN_skip hs h4)
      refine br_f (nI_ge hpq (by omega)) ?_
      refine px_lc2 hC hpq (by omega) (fun hno r hr => br_t hr (fun z ez => ?_)) (fun l hl b1 b2 r hr hnf => br_f hnf (And.intro vp ?_))
      · rw [ez]
        refine skip ?_
        rintro c ⟨r, l, _, a, _⟩
        rw [← hL, hno] at a
        cases a
      · rw [hL] at hl
        rw [cp, cq]
        refine pi_le pi_far rfl (fun c1 => ?_) (fun c1 => ?_)
        · intro z ez
          rw [ez]
          refine skip ?_
          rintro c ⟨r, l, a, _⟩
          exact (pb_Mi_far ho c1).2 r a
        · have hm := pb_SU_bd hC (show p ≤ N by omega) (by rw [hL]; exact (pb_Mi_in ho (by omega)).1)
          have hs : (up p + r).toInt = (up p).toInt + l := pi_add rfl hr (by omega) (by omega)
          have hT := pb_FU_mi hl ho (by omega) (by omega)
          refine And.intro vp (And.intro vq (pi_le rfl hs (fun c2 => ?_) (fun c2 => And.intro vp (And.intro vq ?_))))
          · intro z ez
            rw [ez, nI_1]
            exact ih (p + 1) f up (by omega) (by omega) h3 (pb_UN_ge hT h4 c2)
          · intro up2 eu z ez
            rw [ez, nI_1]
            refine ih (p + 1) f up2 (by omega) (by omega) (fun p' a => ?_) ?_
            · rw [eu, pk_un (by omega)]; exact h3 p' a
            · rw [eu, pk_us, hs]; exact pb_UN_lt hT h4 (by omega)
theorem px_fu9 {post : SX → Prop} {w e bar : Int32} {A B o bs ws : Nat → Int32} {N : Nat} {L : Nat → Nat → Option Int} (hL : pb_L w e A B N bar.toInt = L) (hC : pb_C w e N A B) (h : ∀ up' : Nat → Int32, (∀ p, p < N → pb_Mi (pb_SU L p) (up' p).toInt) → post (w, e, nI N, bar, A, B, o, up', bs, ws)) : ∀ d q f (up : Nat → Int32), 0 < q → q + d = N → d < f → (∀ p, p < q → pb_Mi (pb_SU L p) (up p).toInt) → wX_findUpTo_9 post w e (nI N) bar f (nI q) A B o up bs ws := by
  have hN := hC.2.2.1
  intro d
  induction d with
  | zero =>
    intro q f up h0 h1 h2 h3
    cases f with
    | zero => omega
    | succ f => exact br_t (nI_le (by omega) (by omega)) (h up (fun p a => h3 p (by omega)))
  | succ d ih =>
    intro q f up h0 h1 h2 h3
    cases f with
    | zero => omega
    | succ f =>
      refine br_f (nI_ge (by omega) (by omega)) (And.intro (vp_in_nI (by omega) (by omega)) ?_)
      rw [nI_clamp (by omega)]
      intro up2 eu
      refine ⟨q + 1, ?_⟩
      refine px_fu27 hL hC h0 (by omega) (fun up' hu => ih (q + 1) f up' (by omega) (by omega) (by omega) (fun p a => hu p (by omega))) q 0 (q + 1) up2 (by omega) (by omega) (fun p a => ?_) ?_
      · rw [eu, pk_un (by omega)]; exact h3 p a
      · rw [eu, pk_us, pi_far]
        exact pb_Mi_0 (fun c ⟨i, a, _⟩ => by omega)
theorem px_fu {post : SX → Prop} {w e bar : Int32} {A B o up bs ws : Nat → Int32} {N : Nat} {L : Nat → Nat → Option Int} (hL : pb_L w e A B N bar.toInt = L) (hC : pb_C w e N A B) (hN0 : 0 < N) (h : ∀ up' : Nat → Int32, (∀ p, p < N → pb_Mi (pb_SU L p) (up' p).toInt) → post (w, e, nI N, bar, A, B, o, up', bs, ws)) : wpX_findUpTo post (w, e, nI N, bar, A, B, o, up, bs, ws) := by
  intro up2 eu
  refine ⟨N, px_fu9 hL hC h (N - 1) 1 N up2 (by omega) (by omega) (by omega) (fun p a => ?_)⟩
  have e : p = 0 := by omega
  subst e
  rw [eu, pk_us, pi_0]
  exact Or.inr ⟨by decide, (pb_SU_0 L 0).mpr rfl, fun c hc => by have := (pb_SU_0 L c).mp hc; omega⟩
end
section
/-! ===== the reference: lengths, badness, the cost of a set of breaks ===== -/
theorem py_bitv {s k : Nat} (hs : s < 2 ^ 31) (hk : k < 32) : (nI s >>> (nI k &&& 31)) &&& 1 = nI (if s.testBit k = true then 1 else 0) := by
  rw [pk_shrN hs _ k (s_l k hk)]
  have h2 : s / 2 ^ k ≤ s := Nat.div_le_self _ _
  rw [pk_andN (by omega) 1 (by decide), Nat.testBit_eq_decide_div_mod_eq]
  congr 1
  by_cases z : s / 2 ^ k % 2 = 1
  · rw [if_pos (decide_eq_true z)]; exact z
  · rw [if_neg (fun a => z (of_decide_eq_true a))]
    have : s / 2 ^ k % 2 ^ 1 = s / 2 ^ k % 2 := rfl
    omega
theorem py_bit {s k : Nat} (hs : s < 2 ^ 31) (hk : k < 32) {A B : Prop} (f : s.testBit k = true → A) (g : ¬ s.testBit k = true → B) : ((nI s >>> (nI k &&& 31)) &&& 1 = 1 → A) ∧ (¬ (nI s >>> (nI k &&& 31)) &&& 1 = 1 → B) := by
  rw [py_bitv hs hk]
  by_cases z : s.testBit k = true
  · rw [if_pos z]; exact br_t rfl (f z)
  · rw [if_neg z]; exact br_f (by decide) (g z)
theorem py_len_l {post : Int32 → Prop} {w e c : Int32} {A B : Nat → Int32} {j : Nat} (hj : j < 10) (hA : ∀ i, 0 ≤ (A i).toInt ∧ (A i).toInt ≤ 12) : ∀ d p n (x : Int32), p + d = j + 1 → d < n → 0 ≤ x.toInt → x.toInt + 12 * (d : Int) ≤ 1000 → (∀ r : Int32, r.toInt = x.toInt + pb_sm A d p → post r) → wY_length_9 post (nI j) w e c A B n x (nI p) := by
  intro d
  induction d with
  | zero =>
    intro p n x h1 h2 h3 h4 h
    cases n with
    | zero => omega
    | succ n => exact br_t (nI_lt (by omega) (by omega)) (h x (by rw [pb_sm_z, Int.add_zero]))
  | succ d ih =>
    intro p n x h1 h2 h3 h4 h
    cases n with
    | zero => omega
    | succ n =>
      refine br_f (nI_nlt (by omega) (by omega)) (And.intro (vp_in_nI (by omega) (by omega)) ?_)
      intro y ey z ez
      rw [nI_clamp (by omega)] at ey
      rw [nI_1] at ez
      subst ez
      have a := hA p
      have e1 : y.toInt = x.toInt + (A p).toInt := by rw [ey]; exact pi_add rfl rfl (by omega) (by omega)
      refine ih (p + 1) n y (by omega) (by omega) (by omega) (by omega) (fun r hr => h r ?_)
      rw [hr, e1, pb_sm_s]
      omega
/-- the words p to j -/
theorem py_len {post : Int32 → Prop} {w e c : Int32} {A B : Nat → Int32} (hA : ∀ i, 0 ≤ (A i).toInt ∧ (A i).toInt ≤ 12) {p j : Nat} (hp : p ≤ j) (hj : j < 10) (h : ∀ r : Int32, r.toInt = pb_len A p (j + 1) → post r) : wpY_length post (w, e, c, A, B) (nI p) (nI j) := by
  intro x ex
  have e1 : x.toInt = (((j + 1 : Nat) : Int) - p - 1) * 2 := by
    have e2 : 2 * (nI j - nI p) = nI (2 * (j - p)) := by
      rw [pk_sub hp]
      exact pk_mul 2 (j - p)
    rw [ex, e2, nI_toInt (by omega)]
    omega
  refine ⟨j + 1 - p + 1, py_len_l hj hA (j + 1 - p) p (j + 1 - p + 1) x (by omega) (by omega) (by omega) (by omega) (fun r hr => h r ?_)⟩
  rw [hr, e1]
  rfl
/-- badness of the words p to k, k below N -/
theorem py_bad {post : Int32 → Prop} {w e : Int32} {A B : Nat → Int32} {N : Nat} (hC : pb_C w e N A B) {p k : Nat} (hp : p ≤ k) (hk : k < N) (h0 : pb_D w A p (k + 1) < (p : Int) + 1 - ((k + 1 : Nat) : Int) → post (-1)) (h1 : ¬ pb_D w A p (k + 1) < (p : Int) + 1 - ((k + 1 : Nat) : Int) → ∀ r : Int32, r.toInt = (if pb_D w A p (k + 1) < 0 then 3 * pb_D w A p (k + 1) * pb_D w A p (k + 1) else if k + 1 = N then 0 else pb_D w A p (k + 1) * pb_D w A p (k + 1)) → post r) : wpY_badness post (w, e, nI N, A, B) (nI p) (nI k) := by
  have hDb := pb_D_bd hC (show p < k + 1 by omega) (show k + 1 ≤ N by omega)
  obtain ⟨hw, he, hN, hA, hB⟩ := hC
  unfold wpY_badness
  refine py_len hA hp (by omega) (fun r hr x ex => ?_)
  have hl := pb_len_bd hA (show p < k + 1 by omega) (show k + 1 ≤ 10 by omega)
  have hx : x.toInt = pb_D w A p (k + 1) := by
    rw [ex]
    exact pi_sub rfl hr (by omega) (by omega)
  generalize pb_D w A p (k + 1) = D at hx hDb h0 h1
  have hy : (nI p - nI k).toInt = (p : Int) - k := pk_sub_toInt (by omega) (by omega)
  have en : nI N - 1 = nI (N - 1) := by
    obtain ⟨i, rfl⟩ : ∃ i, N = i + 1 := ⟨N - 1, by omega⟩
    rw [nI_pred, Nat.add_sub_cancel]
  have p2 : (x * x).toInt = D * D := by
    have := pi_sq (x := D) (a := 133) (by omega) (by omega)
    exact pi_mul hx hx (by omega) (by omega)
  rw [en]
  refine pi_le hy hx (fun c1 => ?_) (fun c1 => h0 (by omega))
  have c1' : ¬ D < (p : Int) + 1 - ((k + 1 : Nat) : Int) := by omega
  refine pi_le pi_0 hx (fun c2 => ?_) (fun c2 => h1 c1' _ ?_)
  · have c2' : ¬ D < 0 := by omega
    refine pk_eq k (N - 1) (fun c3 => h1 c1' _ ?_) (fun c3 => h1 c1' _ ?_)
    · rw [if_neg c2', if_pos (by omega)]; exact pi_0
    · rw [if_neg c2', if_neg (by omega)]; exact p2
  · have := pb_D3 (D := D) (show p < k + 1 by omega) (show k + 1 ≤ 10 by omega) c1' (by omega)
    have e3 : (3 : Int32).toInt = 3 := by decide
    rw [if_pos (by omega), pi_mul p2 e3 (by omega) (by omega), Int.mul_assoc 3 D D]
    omega
/-- a line that ends behind word k -/
theorem py_co40 {post : Int32 → Prop} {J : Int32 → Int32 → Int32 → Int32 → Prop} {w e x1 x2 x4 : Int32} {A B : Nat → Int32} {N : Nat} (hC : pb_C w e N A B) {b k : Nat} (hb : b ≤ k) (hk : k < N) (hx : -100000 ≤ x2.toInt) (hx' : x2.toInt ≤ 100000) (h4 : x4 = if 0 < b ∧ 0 < (B (b - 1)).toInt then 1 else 0) (h0 : pb_L w e A B N (-1) b (k + 1) = none → post (-1000000)) (h1 : ∀ l (y z : Int32), pb_L w e A B N (-1) b (k + 1) = some l → y.toInt = x2.toInt + l → (k + 1 < N → z = if 0 < k + 1 ∧ 0 < (B (k + 1 - 1)).toInt then 1 else 0) → J y (nI (k + 1)) z (nI (k + 1))) : wY_costOf_40 post J x1 x2 (nI b) x4 (nI k) w e (nI N) A B := by
  have hLb := pb_L_bd hC (-1) b (k + 1)
  have hC' := hC
  obtain ⟨hw, he, hN, hA, hB⟩ := hC'
  have bk := hB k
  have hL : pb_L w e A B N (-1) b (k + 1) = pb_L w e A B N (-1) b (k + 1) := rfl
  conv at hL => rhs; unfold pb_L
  have en : nI N - 1 = nI (N - 1) := by
    obtain ⟨i, rfl⟩ : ∃ i, N = i + 1 := ⟨N - 1, by omega⟩
    rw [nI_pred, Nat.add_sub_cancel]
  have ck : (nI k).toNatClampNeg = k := nI_clamp (by omega)
  have vk : vp_in (nI k) 10 := vp_in_nI (by omega) (by omega)
  unfold wY_costOf_40
  refine py_bad hC hb hk (fun c1 => ?_) (fun c1 r hr => ?_)
  · rw [if_pos c1] at hL
    exact br_f (by decide) (h0 hL)
  rw [if_neg c1, if_neg (fun a => by have := a.2; omega)] at hL
  have hD3 := pb_D3 (D := pb_D w A b (k + 1)) (show b < k + 1 by omega) (show k + 1 ≤ 10 by omega) c1
  have hDb := pb_D_bd hC (show b < k + 1 by omega) (show k + 1 ≤ N by omega)
  generalize pb_D w A b (k + 1) = D at hr hL hD3 hDb
  have hr0 : 0 ≤ r.toInt ∧ r.toInt ≤ 3600 := by
    rw [hr]
    by_cases c4 : D < 0
    · have := hD3 c4
      rw [if_pos c4, Int.mul_assoc]; omega
    · rw [if_neg c4]
      by_cases c5 : k + 1 = N
      · rw [if_pos c5]; omega
      · rw [if_neg c5]; exact pi_sq (a := 60) (by omega) (by omega)
  have k130 : ∀ (u v z : Int32) (l : Int), pb_L w e A B N (-1) b (k + 1) = some l → (v + u).toInt = x2.toInt + l → (k + 1 < N → z = if 0 < k + 1 ∧ 0 < (B (k + 1 - 1)).toInt then 1 else 0) → wY_costOf_130 post J x1 (nI k) z u v w e (nI N) A B := by
    intro u v z l a1 a2 a3
    unfold wY_costOf_130
    intro y ey i ei j ej
    rw [ei, ej, nI_1]
    exact h1 l y z a1 (by rw [ey]; exact a2) a3
  refine pi_le pi_0 rfl (fun _ => ?_) (fun a => absurd hr0.1 a)
  rw [en, ck]
  by_cases c5 : k + 1 = N
  · have lst : wY_costOf_82 post J x1 x2 x4 (nI k) r w e (nI N) A B := by
      unfold wY_costOf_82 wY_costOf_83
      rw [en]
      refine br_t (nI_le (by omega) (by omega)) ?_
      unfold wY_costOf_111 wY_costOf_129
      have fin : wY_costOf_130 post J x1 (nI k) 0 0 (x2 + r + 0) w e (nI N) A B := by
        refine k130 0 _ 0 r.toInt ?_ ?_ (fun a => by omega)
        · rw [hL, if_pos c5, hr]
          by_cases c4 : D < 0
          · rw [if_pos c4, if_pos c4]
          · rw [if_neg c4, if_neg c4, if_pos c5]
        · rw [Int32.add_zero, Int32.add_zero]
          exact pi_add rfl rfl (by omega) (by omega)
      exact br_c (fun _ => fin) (fun _ => br_t rfl fin)
    exact br_t (nI_le (by omega) (by omega)) lst
  · have nle : ¬ nI (N - 1) ≤ nI k := nI_ge (by omega) (by omega)
    rw [if_neg c5] at hL
    have hL2 : pb_L w e A B N (-1) b (k + 1) = some (r.toInt + (B k).toInt + (if (0 < b ∧ 0 < (B (b - 1)).toInt) ∧ 0 < (B k).toInt then e.toInt else 0)) := by
      rw [hL, Nat.add_sub_cancel, hr]
      by_cases c4 : D < 0
      · rw [if_pos c4, if_pos c4]
      · rw [if_neg c4, if_neg c4, if_neg c5]
    have hs : (x2 + r + B k).toInt = x2.toInt + r.toInt + (B k).toInt := pi_add (pi_add rfl rfl (by omega) (by omega)) rfl (by omega) (by omega)
    have k129 : ∀ z : Int32, ¬ ((0 < b ∧ 0 < (B (b - 1)).toInt) ∧ 0 < (B k).toInt) → (z = if 0 < (B k).toInt then 1 else 0) → wY_costOf_129 post J x1 (nI k) z (x2 + r + B k) w e (nI N) A B := by
      intro z n1 n2
      unfold wY_costOf_129
      refine k130 0 _ z _ hL2 ?_ (fun _ => ?_)
      · rw [Int32.add_zero, if_neg n1, hs]; omega
      · rw [Nat.add_sub_cancel, n2]
        by_cases c6 : 0 < (B k).toInt
        · rw [if_pos c6, if_pos ⟨by omega, c6⟩]
        · rw [if_neg c6, if_neg (fun a => c6 a.2)]
    have go : ∀ z : Int32, (z = if 0 < (B k).toInt then 1 else 0) → wY_costOf_83 post J x1 x2 x4 (nI k) r z w e (nI N) A B := by
      intro z hz
      unfold wY_costOf_83
      rw [en, ck]
      refine br_f nle (And.intro vk ?_)
      unfold wY_costOf_111
      refine br_c (fun c6 => k129 z (fun a => ?_) hz) (fun c6 => br_c (fun c7 => k129 z (fun a => ?_) hz) (fun c7 => ?_))
      · rw [h4, if_pos a.1] at c6; exact absurd c6 (by decide)
      · rw [hz, if_pos a.2] at c7; exact absurd c7 (by decide)
      · have q1 : 0 < b ∧ 0 < (B (b - 1)).toInt := by
          by_cases z : 0 < b ∧ 0 < (B (b - 1)).toInt
          · exact z
          · rw [h4, if_neg z] at c6; exact absurd rfl c6
        have q2 : 0 < (B k).toInt := by
          by_cases z : 0 < (B k).toInt
          · exact z
          · rw [hz, if_neg z] at c7; exact absurd rfl c7
        refine k130 e _ z _ hL2 ?_ (fun _ => ?_)
        · rw [if_pos ⟨q1, q2⟩, pi_add hs rfl (by omega) (by omega)]; omega
        · rw [Nat.add_sub_cancel, hz, if_pos q2, if_pos ⟨by omega, q2⟩]
    refine br_f nle (And.intro vk (pi_le rfl pi_0 (fun c6 => ?_) (fun c6 => ?_)))
    · unfold wY_costOf_82
      exact go 0 (by rw [if_neg (by omega)])
    · exact go 1 (by rw [if_pos (by omega)])
theorem py_co_l {post : Int32 → Prop} {w e : Int32} {A B : Nat → Int32} {N s : Nat} (hC : pb_C w e N A B) (hs : s < 2 ^ 31) : ∀ d k b n (x2 x4 : Int32), k + d = N → d < n → b ≤ k → (k < N → x4 = if 0 < b ∧ 0 < (B (b - 1)).toInt then 1 else 0) → -1000 + 40 * (d : Int) ≤ x2.toInt → x2.toInt + 4000 * (d : Int) ≤ 60000 → (∀ r : Int32, r.toInt = pb_ey (pb_add (some x2.toInt) (pb_ct (pb_L w e A B N (-1)) s.testBit d k b)) → post r) → wY_costOf_10 post (nI s) w e (nI N) A B n x2 (nI b) x4 (nI k) := by
  have hN := hC.2.2.1
  intro d
  induction d with
  | zero =>
    intro k b n x2 x4 h1 h2 h3 h4 h5 h6 h
    cases n with
    | zero => omega
    | succ n =>
      refine br_t (nI_le (by omega) (by omega)) (h x2 ?_)
      rw [pb_ct_z, pb_add_0]
      rfl
  | succ d ih =>
    intro k b n x2 x4 h1 h2 h3 h4 h5 h6 h
    cases n with
    | zero => omega
    | succ n =>
      have en : nI N - 1 = nI (N - 1) := by
        obtain ⟨i, rfl⟩ : ∃ i, N = i + 1 := ⟨N - 1, by omega⟩
        rw [nI_pred, Nat.add_sub_cancel]
      have brk : s.testBit k = true ∨ d = 0 → wY_costOf_40 post (wY_costOf_10 post (nI s) w e (nI N) A B n) (nI s) x2 (nI b) x4 (nI k) w e (nI N) A B := by
        intro hb
        rw [pb_ct_s, if_pos hb] at h
        refine py_co40 hC h3 (by omega) (by omega) (by omega) (h4 (by omega)) (fun hno => h _ ?_) (fun l y z hl hy hz => ?_)
        · rw [hno]; exact pi_none
        · have lb := pb_L_bd hC (-1) b (k + 1) l (by omega) (by omega) hl
          refine ih (k + 1) (k + 1) n y z (by omega) (by omega) (Nat.le_refl _) hz (by omega) (by omega) (fun r hr => h r ?_)
          rw [hr, hl, ← pb_add_assoc, hy]
          rfl
      refine br_f (nI_ge (by omega) (by omega)) (py_bit hs (by omega) (fun c1 => brk (Or.inl c1)) (fun c1 => ?_))
      rw [en]
      refine pk_eq k (N - 1) (fun c2 => brk (Or.inr (by omega))) (fun c2 => ?_)
      intro y ey
      rw [ey, nI_1]
      rw [pb_ct_s, if_neg (fun a => a.elim c1 (by omega))] at h
      exact ih (k + 1) b n x2 x4 (by omega) (by omega) (by omega) (fun _ => h4 (by omega)) (by omega) (by omega) h
theorem py_co {post : Int32 → Prop} {w e : Int32} {A B : Nat → Int32} {N s : Nat} (hC : pb_C w e N A B) (hs : s < 2 ^ 31) (h : ∀ r : Int32, r.toInt = pb_ey (pb_ct (pb_L w e A B N (-1)) s.testBit N 0 0) → post r) : wpY_costOf post (w, e, nI N, A, B) (nI s) := by
  have hN := hC.2.2.1
  refine ⟨N + 1, ?_⟩
  refine py_co_l hC hs N 0 0 (N + 1) 0 0 (by omega) (by omega) (Nat.le_refl 0) (fun _ => ?_) (by rw [pi_0]; omega) (by rw [pi_0]; omega) (fun r hr => h r ?_)
  · rw [if_neg (fun a => absurd a.1 (Nat.lt_irrefl 0))]
  · rw [hr, pi_0]
    cases pb_ct (pb_L w e A B N (-1)) s.testBit N 0 0 with
    | none => rfl
    | some c => show 0 + c = c; omega
end
section
/-! ===== the reference: sets, counts, the order, the best set ===== -/
theorem py_pow {N : Nat} (hN : N ≤ 10) : 2 ^ (N - 1) ≤ 512 := by
  have : 2 ^ (N - 1) ≤ 2 ^ 9 := Nat.pow_le_pow_right (by decide) (by omega)
  exact this
theorem py_sets {post : Int32 → Prop} {w e : Int32} {A B : Nat → Int32} {N : Nat} (hN : N ≤ 10) (h : post (nI (2 ^ (N - 1)))) : wpY_sets post (w, e, nI N, A, B) := by
  have hp := py_pow hN
  refine pk_eq N 0 (fun z => ?_) (fun z => ?_)
  · subst z; exact h
  · have en : nI N - 1 = nI (N - 1) := by
      obtain ⟨i, rfl⟩ : ∃ i, N = i + 1 := ⟨N - 1, by omega⟩
      rw [nI_pred, Nat.add_sub_cancel]
    have e : (1 : Int32) <<< ((nI N - 1) &&& 31) = nI (2 ^ (N - 1)) := by
      rw [en]
      have := pk_shlN (n := 1) (nI (N - 1) &&& 31) (N - 1) (s_l (N - 1) (by omega)) (by omega)
      rw [Nat.one_mul] at this
      exact this
    rw [e]
    exact h
theorem py_high {N s j : Nat} (hs : s < 2 ^ (N - 1)) (hj : N ≤ j + 1) : s.testBit j = false := by
  refine Nat.testBit_lt_two_pow (Nat.lt_of_lt_of_le hs (Nat.pow_le_pow_right (by decide) (by omega)))
theorem py_nl {N s : Nat} (hN : N ≤ 10) (hs : s < 2 ^ (N - 1)) : pb_nl s.testBit N 0 = (if N = 0 then 0 else 1) + pb_cnt s.testBit 10 := by
  have hr : pb_cnt s.testBit 10 = pb_cnt s.testBit (N - 1) := pb_cnt_run 10 (by omega) (fun x a _ => py_high hs (by omega))
  rw [hr]
  by_cases z : N = 0
  · subst z; rfl
  · have := pb_nl_cnt s.testBit N 0 (by omega)
    rw [pb_cnt_z, Nat.zero_add] at this
    rw [if_neg z]
    omega
theorem py_cnt_l {post : Int32 → Prop} {w e c : Int32} {A B : Nat → Int32} {s y : Nat} (hs : s < 2 ^ 31) (h : post (nI (y + pb_cnt s.testBit 10))) : ∀ d k n, k + d = 10 → d < n → wY_count_15 post (nI s) w e c A B n (nI (y + pb_cnt s.testBit k)) (nI k) := by
  intro d
  induction d with
  | zero =>
    intro k n h1 h2
    cases n with
    | zero => omega
    | succ n =>
      have e : k = 10 := by omega
      subst e
      exact pk_le 10 10 (fun _ => h) (fun a => by omega)
  | succ d ih =>
    intro k n h1 h2
    cases n with
    | zero => omega
    | succ n =>
      refine pk_le 10 k (fun _ => by omega) (fun _ => ?_)
      intro x ex z ez
      rw [ex, ez, py_bitv hs (by omega), nI_add, nI_1]
      have := ih (k + 1) n (by omega) (by omega)
      rw [pb_cnt_s, ← Nat.add_assoc] at this
      exact this
theorem py_cnt {post : Int32 → Prop} {w e : Int32} {A B : Nat → Int32} {N s : Nat} (hN : N ≤ 10) (hs : s < 2 ^ (N - 1)) (h : post (nI (pb_nl s.testBit N 0))) : wpY_count post (w, e, nI N, A, B) (nI s) := by
  have hp := py_pow hN
  rw [py_nl hN hs] at h
  refine pk_le N 0 (fun z => ?_) (fun z => ?_)
  · rw [if_pos (by omega)] at h
    exact ⟨11, py_cnt_l (y := 0) (by omega) h 10 0 11 (by omega) (by omega)⟩
  · rw [if_neg (by omega)] at h
    exact ⟨11, py_cnt_l (y := 1) (by omega) h 10 0 11 (by omega) (by omega)⟩
theorem py_bf_l {post : Int32 → Prop} {w e c : Int32} {A B : Nat → Int32} {a b : Nat} (ha : a < 2 ^ 31) (hb : b < 2 ^ 31) (h1 : (∃ j, j < 10 ∧ (∀ i, i < j → a.testBit i = b.testBit i) ∧ a.testBit j = true ∧ b.testBit j = false) → post 1) (h0 : ¬ (∃ j, j < 10 ∧ (∀ i, i < j → a.testBit i = b.testBit i) ∧ a.testBit j = true ∧ b.testBit j = false) → post 0) : ∀ d k n, k + d = 10 → d < n → (∀ i, i < k → a.testBit i = b.testBit i) → wY_before_34 post (nI a) (nI b) w e c A B n (nI k) := by
  intro d
  induction d with
  | zero =>
    intro k n g1 g2 g3
    cases n with
    | zero => omega
    | succ n =>
      refine pk_le 10 k (fun _ => h0 ?_) (fun _ => by omega)
      rintro ⟨j, j1, j2, j3, j4⟩
      rw [g3 j (by omega), j4] at j3
      cases j3
  | succ d ih =>
    intro k n g1 g2 g3
    cases n with
    | zero => omega
    | succ n =>
      refine pk_le 10 k (fun _ => by omega) (fun _ => ?_)
      rw [py_bitv ha (show k < 32 by omega), py_bitv hb (show k < 32 by omega)]
      cases hx : a.testBit k with
      | true =>
        cases hy : b.testBit k with
        | true =>
          refine br_t rfl (fun x ex => ?_)
          rw [ex, nI_1]
          refine ih (k + 1) n (by omega) (by omega) (fun i hi => ?_)
          by_cases z : i = k
          · subst z; rw [hx, hy]
          · exact g3 i (by omega)
        | false =>
          refine br_f (by decide) (br_t rfl (h1 ⟨k, by omega, g3, hx, hy⟩))
      | false =>
        cases hy : b.testBit k with
        | true =>
          refine br_f (by decide) (br_f (by decide) (h0 ?_))
          rintro ⟨j, j1, j2, j3, j4⟩
          rcases Nat.lt_trichotomy j k with z | z | z
          · rw [g3 j z, j4] at j3; cases j3
          · subst z; rw [hx] at j3; cases j3
          · have := j2 k z; rw [hx, hy] at this; cases this
        | false =>
          refine br_t rfl (fun x ex => ?_)
          rw [ex, nI_1]
          refine ih (k + 1) n (by omega) (by omega) (fun i hi => ?_)
          by_cases z : i = k
          · subst z; rw [hx, hy]
          · exact g3 i (by omega)
theorem py_bf {post : Int32 → Prop} {w e : Int32} {A B : Nat → Int32} {N a b : Nat} (hN : N ≤ 10) (ha : a < 2 ^ (N - 1)) (hb : b < 2 ^ (N - 1)) (h1 : pb_bf N a.testBit b.testBit → post 1) (h0 : ¬ pb_bf N a.testBit b.testBit → post 0) : wpY_before post (w, e, nI N, A, B) (nI a) (nI b) := by
  have hp := py_pow hN
  have n1 := pb_nl_le a.testBit N 0
  have n2 := pb_nl_le b.testBit N 0
  unfold wpY_before
  refine py_cnt hN ha (py_cnt hN hb ?_)
  refine pk_eq (pb_nl a.testBit N 0) (pb_nl b.testBit N 0) (fun c => ?_) (fun c => ?_)
  · refine ⟨11, py_bf_l (by omega) (by omega) (fun g => h1 ?_) (fun g => h0 (fun h => g ?_)) 10 0 11 (by omega) (by omega) (fun i hi => by omega)⟩
    · obtain ⟨j, j1, j2, j3, j4⟩ := g
      refine Or.inr ⟨c, j, ?_, j2, j3, j4⟩
      rcases Nat.lt_or_ge (j + 1) N with z | z
      · exact z
      · rw [py_high ha z] at j3; cases j3
    · rcases h with h | ⟨_, j, j1, j2, j3, j4⟩
      · omega
      · exact ⟨j, by omega, j2, j3, j4⟩
  · refine pk_le (pb_nl b.testBit N 0) (pb_nl a.testBit N 0) (fun d => h0 (fun h => ?_)) (fun d => h1 (Or.inl d))
    rcases h with h | ⟨h, _⟩ <;> omega
/-- r is the best of the sets below x, least its cost -/
def pb_Oq (L : Nat → Nat → Option Int) (N : Nat) (ok : (Nat → Bool) → Prop) (x : Nat) (r least : Int32) : Prop :=
  (r = -1 ∧ ∀ s, s < x → ok s.testBit → pb_ct L s.testBit N 0 0 = none) ∨
  ∃ s, s < x ∧ r = nI s ∧ ok s.testBit ∧ pb_ct L s.testBit N 0 0 = some least.toInt ∧ ∀ s' m', s' < x → ok s'.testBit → pb_ct L s'.testBit N 0 0 = some m' → least.toInt ≤ m' ∧ (m' = least.toInt → ¬ pb_bf N s'.testBit s.testBit)
theorem pb_Oq_skip {L : Nat → Nat → Option Int} {N : Nat} {ok : (Nat → Bool) → Prop} {x : Nat} {r least : Int32} (h : pb_Oq L N ok x r least) (hs : ok x.testBit → pb_ct L x.testBit N 0 0 = none) : pb_Oq L N ok (x + 1) r least := by
  rcases h with ⟨h1, h2⟩ | ⟨s, h1, h2, h3, h4, h5⟩
  · refine Or.inl ⟨h1, fun s a b => ?_⟩
    by_cases z : s = x
    · subst z; exact hs b
    · exact h2 s (by omega) b
  · refine Or.inr ⟨s, by omega, h2, h3, h4, fun s' m' a b c => ?_⟩
    by_cases z : s' = x
    · subst z; rw [hs b] at c; cases c
    · exact h5 s' m' (by omega) b c
theorem py_be44 {post : Int32 → Prop} {J : Int32 → Int32 → Int32 → Prop} {w e x1 x2 r least z : Int32} {A B : Nat → Int32} {L : Nat → Nat → Option Int} {N x : Nat} {ok : (Nat → Bool) → Prop} (hN : N ≤ 10) (hx : x < 2 ^ (N - 1)) (h : pb_Oq L N ok x r least) (hz : (z = -1000000 ∧ (ok x.testBit → pb_ct L x.testBit N 0 0 = none)) ∨ (z ≠ -1000000 ∧ ok x.testBit ∧ pb_ct L x.testBit N 0 0 = some z.toInt)) (hJ : ∀ r' least' : Int32, pb_Oq L N ok (x + 1) r' least' → J r' least' (nI (x + 1))) : wY_best_44 post J x1 x2 r least (nI x) z w e (nI N) A B := by
  have hp := py_pow hN
  unfold wY_best_44
  rcases hz with ⟨hz, hs⟩ | ⟨hz, hs, hc⟩
  · refine br_t hz (fun y ey => ?_)
    rw [ey, nI_1]
    exact hJ _ _ (pb_Oq_skip h hs)
  refine br_f hz ?_
  have take : (∀ s' m', s' < x → ok s'.testBit → pb_ct L s'.testBit N 0 0 = some m' → z.toInt ≤ m' ∧ (m' = z.toInt → ¬ pb_bf N s'.testBit x.testBit)) → ∀ y : Int32, y = nI x + 1 → J (nI x) z y := by
    intro g y ey
    rw [ey, nI_1]
    refine hJ _ _ (Or.inr ⟨x, Nat.lt_succ_self x, rfl, hs, hc, fun s' m' a b c => ?_⟩)
    by_cases e : s' = x
    · subst e
      rw [hc] at c
      cases c
      exact ⟨Int.le_refl _, fun _ => pb_bf_ir⟩
    · exact g s' m' (by omega) b c
  rcases h with ⟨h1, h2⟩ | ⟨s, h1, h2, h3, h4, h5⟩
  · subst h1
    exact br_t (by decide) (take (fun s' m' a b c => by rw [h2 s' a b] at c; cases c))
  · subst h2
    have leave : least.toInt ≤ z.toInt → (z.toInt = least.toInt → ¬ pb_bf N x.testBit s.testBit) → ∀ y : Int32, y = nI x + 1 → J (nI s) least y := by
      intro g1 g2 y ey
      rw [ey, nI_1]
      refine hJ _ _ (Or.inr ⟨s, by omega, rfl, h3, h4, fun s' m' a b c => ?_⟩)
      by_cases e : s' = x
      · subst e
        rw [hc] at c
        cases c
        exact ⟨g1, g2⟩
      · exact h5 s' m' (by omega) b c
    refine br_f (nI_pos (by omega)) (pi_lt rfl rfl (fun c1 => ?_) (fun c1 => ?_))
    · exact take (fun s' m' a b c => by have := (h5 s' m' a b c).1; exact ⟨by omega, fun d => by omega⟩)
    · refine pi_eq rfl rfl (fun c2 => ?_) (fun c2 => leave (by omega) (fun d => absurd d c2))
      refine py_bf hN hx (by omega) (fun g => br_f (by decide) ?_) (fun g => br_t rfl (leave (by omega) (fun _ => g)))
      refine take (fun s' m' a b c => ?_)
      have k := h5 s' m' a b c
      exact ⟨by omega, fun d f => k.2 (by omega) (pb_bf_tr f g)⟩
theorem py_be_l {post : Int32 → Prop} {w e x1 x2 : Int32} {A B : Nat → Int32} {N : Nat} {ok : (Nat → Bool) → Prop} (hC : pb_C w e N A B) (hok : ∀ s, s < 2 ^ (N - 1) → (((x1 &&& (nI s ^^^ (-1))) = 0 ∧ (x2 &&& nI s) = 0) ↔ ok s.testBit)) (h : ∀ r least : Int32, pb_Oq (pb_L w e A B N (-1)) N ok (2 ^ (N - 1)) r least → post r) : ∀ d x n (r least : Int32), x + d = 2 ^ (N - 1) → d < n → pb_Oq (pb_L w e A B N (-1)) N ok x r least → wY_best_8 post x1 x2 w e (nI N) A B n r least (nI x) := by
  have hN := hC.2.2.1
  have hp := py_pow hN
  intro d
  induction d with
  | zero =>
    intro x n r least h1 h2 h3
    cases n with
    | zero => omega
    | succ n =>
      rw [wY_best_8]
      refine py_sets hN ?_
      refine br_t (nI_le (by omega) (by omega)) (h r least ?_)
      have e : x = 2 ^ (N - 1) := by omega
      rw [← e]
      exact h3
  | succ d ih =>
    intro x n r least h1 h2 h3
    cases n with
    | zero => omega
    | succ n =>
      have hx : x < 2 ^ (N - 1) := by omega
      have next : ∀ r' least' : Int32, pb_Oq (pb_L w e A B N (-1)) N ok (x + 1) r' least' → wY_best_8 post x1 x2 w e (nI N) A B n r' least' (nI (x + 1)) := fun r' least' g => ih (x + 1) n r' least' (by omega) (by omega) g
      have no : ¬ ok x.testBit → wY_best_42 post (wY_best_8 post x1 x2 w e (nI N) A B n) x1 x2 r least (nI x) w e (nI N) A B := by
        intro g
        unfold wY_best_42
        exact py_be44 hN hx h3 (Or.inl ⟨rfl, fun a => absurd a g⟩) next
      rw [wY_best_8]
      refine py_sets hN ?_
      refine br_f (nI_ge hx (by omega)) (br_c (fun c1 => br_c (fun c2 => ?_) (fun c2 => ?_)) (fun c1 => ?_))
      · have g := (hok x hx).mp ⟨c1, c2⟩
        refine py_co hC (by omega) (fun z hz => ?_)
        refine py_be44 hN hx h3 ?_ next
        cases hc : pb_ct (pb_L w e A B N (-1)) x.testBit N 0 0 with
        | none =>
          rw [hc] at hz
          exact Or.inl ⟨Int32.toInt_inj.mp (hz.trans pi_none.symm), fun _ => rfl⟩
        | some c =>
          rw [hc] at hz
          have hz : z.toInt = c := hz
          have bd := pb_cN_bd hC hc
          refine Or.inr ⟨fun a => ?_, g, by rw [hz]⟩
          rw [a, pi_none] at hz
          omega
      · exact no (fun g => c2 ((hok x hx).mpr g).2)
      · exact no (fun g => c1 ((hok x hx).mpr g).1)
/-- what best answers -/
def pb_Op (L : Nat → Nat → Option Int) (N : Nat) (ok : (Nat → Bool) → Prop) (r : Int32) : Prop :=
  (r = -1 ∧ ∀ t, ok t → pb_ct L t N 0 0 = none) ∨
  ∃ s m, s < 2 ^ (N - 1) ∧ r = nI s ∧ ok s.testBit ∧ pb_ct L s.testBit N 0 0 = some m ∧ ∀ t m', ok t → pb_ct L t N 0 0 = some m' → m ≤ m' ∧ (m' = m → ¬ pb_bf N t s.testBit)
theorem pb_Op_of {L : Nat → Nat → Option Int} {N : Nat} {ok : (Nat → Bool) → Prop} {r least : Int32} (hcg : ∀ t t', (∀ j, j + 1 < N → t j = t' j) → ok t → ok t') (h : pb_Oq L N ok (2 ^ (N - 1)) r least) : pb_Op L N ok r := by
  have num : ∀ t : Nat → Bool, ok t → ∃ s, s < 2 ^ (N - 1) ∧ ok s.testBit ∧ pb_ct L s.testBit N 0 0 = pb_ct L t N 0 0 ∧ ∀ b, pb_bf N t b → pb_bf N s.testBit b := by
    intro t ht
    obtain ⟨s, s1, s2⟩ := pb_bits (N - 1) t
    have e : ∀ j, j + 1 < N → t j = s.testBit j := fun j hj => (s2 j (by omega)).symm
    exact ⟨s, s1, hcg t _ e ht, (pb_ct_cg L N 0 0 (fun j _ a => e j (by omega))).symm, fun b hb => pb_bf_cg e hb⟩
  rcases h with ⟨h1, h2⟩ | ⟨s, h1, h2, h3, h4, h5⟩
  · refine Or.inl ⟨h1, fun t ht => ?_⟩
    obtain ⟨s, a, b, c, _⟩ := num t ht
    rw [← c]
    exact h2 s a b
  · refine Or.inr ⟨s, least.toInt, h1, h2, h3, h4, fun t m' ht hm => ?_⟩
    obtain ⟨s', a, b, c, d⟩ := num t ht
    have k := h5 s' m' a b (by rw [c]; exact hm)
    exact ⟨k.1, fun e f => k.2 e (d _ f)⟩
theorem py_best {post : Int32 → Prop} {w e x1 x2 : Int32} {A B : Nat → Int32} {N : Nat} {ok : (Nat → Bool) → Prop} (hC : pb_C w e N A B) (hok : ∀ s, s < 2 ^ (N - 1) → (((x1 &&& (nI s ^^^ (-1))) = 0 ∧ (x2 &&& nI s) = 0) ↔ ok s.testBit)) (hcg : ∀ t t' : Nat → Bool, (∀ j, j + 1 < N → t j = t' j) → ok t → ok t') (h : ∀ r : Int32, pb_Op (pb_L w e A B N (-1)) N ok r → post r) : wpY_best post (w, e, nI N, A, B) x1 x2 :=
  ⟨2 ^ (N - 1) + 1, py_be_l hC hok (fun r least g => h r (pb_Op_of hcg g)) (2 ^ (N - 1)) 0 _ (-1) 0 (by omega) (by omega) (Or.inl ⟨rfl, fun s a => absurd a (Nat.not_lt_zero s)⟩)⟩
/-- the best of all -/
theorem py_best0 {post : Int32 → Prop} {w e : Int32} {A B : Nat → Int32} {N : Nat} (hC : pb_C w e N A B) (h0 : (∀ t, pb_ct (pb_L w e A B N (-1)) t N 0 0 = none) → post (-1)) (h1 : ∀ s m, s < 2 ^ (N - 1) → pb_Opt (pb_L w e A B N (-1)) N s.testBit m → post (nI s)) : wpY_best post (w, e, nI N, A, B) 0 0 := by
  refine py_best (ok := fun _ => True) hC (fun s _ => ?_) (fun _ _ _ _ => trivial) (fun r hr => ?_)
  · rw [Int32.zero_and, Int32.zero_and]
    exact ⟨fun _ => trivial, fun _ => ⟨rfl, rfl⟩⟩
  · rcases hr with ⟨rfl, g⟩ | ⟨s, m, g1, rfl, _, g2, g3⟩
    · exact h0 (fun t => g t trivial)
    · exact h1 s m g1 ⟨g2, fun t m' a => g3 t m' trivial a⟩
/-! ===== there is a best breaking, and it is one alone ===== -/
theorem pb_Opt_un {L : Nat → Nat → Option Int} {N : Nat} {t t' : Nat → Bool} {m m' : Int} (h : pb_Opt L N t m) (h' : pb_Opt L N t' m') : m = m' ∧ ∀ j, j + 1 < N → t j = t' j := by
  have a := h.2 t' m' h'.1
  have b := h'.2 t m h.1
  have e : m = m' := by omega
  refine ⟨e, ?_⟩
  have a2 := a.2 e.symm
  have b2 := b.2 e
  have hn : pb_nl t N 0 = pb_nl t' N 0 := by
    rcases Nat.lt_trichotomy (pb_nl t N 0) (pb_nl t' N 0) with z | z | z
    · exact absurd (Or.inl z) b2
    · exact z
    · exact absurd (Or.inl z) a2
  by_cases z : ∃ j, j + 1 < N ∧ t j ≠ t' j
  · exfalso
    obtain ⟨j, ⟨j1, j2⟩, j3⟩ := pk_least (fun j => j + 1 < N ∧ t j ≠ t' j) z
    have eq : ∀ i, i < j → t i = t' i := fun i hi => Classical.not_not.mp (fun g => j3 i hi ⟨by omega, g⟩)
    cases hx : t j with
    | true =>
      cases hy : t' j with
      | true => rw [hx, hy] at j2; exact j2 rfl
      | false => exact b2 (Or.inr ⟨hn, j, j1, eq, hx, hy⟩)
    | false =>
      cases hy : t' j with
      | true => exact a2 (Or.inr ⟨hn.symm, j, j1, fun i hi => (eq i hi).symm, hy, hx⟩)
      | false => rw [hx, hy] at j2; exact j2 rfl
  · intro j hj
    exact Classical.not_not.mp (fun g => z ⟨j, hj, g⟩)
theorem pb_Opt_s {L : Nat → Nat → Option Int} {N s s' : Nat} {m m' : Int} (hs : s < 2 ^ (N - 1)) (hs' : s' < 2 ^ (N - 1)) (h : pb_Opt L N s.testBit m) (h' : pb_Opt L N s'.testBit m') : s = s' := by
  refine Nat.eq_of_testBit_eq (fun j => ?_)
  rcases Nat.lt_or_ge (j + 1) N with z | z
  · exact (pb_Opt_un h h').2 j z
  · rw [py_high hs z, py_high hs' z]
theorem pb_Opt_x (L : Nat → Nat → Option Int) (N : Nat) : ∀ x, (∀ s : Nat, s < x → pb_ct L s.testBit N 0 0 = none) ∨ ∃ s m, s < x ∧ pb_ct L s.testBit N 0 0 = some m ∧ ∀ s' m', s' < x → pb_ct L s'.testBit N 0 0 = some m' → m ≤ m' ∧ (m' = m → ¬ pb_bf N s'.testBit s.testBit) := by
  intro x
  induction x with
  | zero => exact Or.inl (fun s a => absurd a (Nat.not_lt_zero s))
  | succ x ih =>
    cases hc : pb_ct L x.testBit N 0 0 with
    | none =>
      rcases ih with h | ⟨s, m, h1, h2, h3⟩
      · refine Or.inl (fun s a => ?_)
        by_cases z : s = x
        · subst z; exact hc
        · exact h s (by omega)
      · refine Or.inr ⟨s, m, by omega, h2, fun s' m' a b => ?_⟩
        by_cases z : s' = x
        · subst z; rw [hc] at b; cases b
        · exact h3 s' m' (by omega) b
    | some c =>
      refine Or.inr ?_
      have take : (∀ s' m', s' < x → pb_ct L s'.testBit N 0 0 = some m' → c ≤ m' ∧ (m' = c → ¬ pb_bf N s'.testBit x.testBit)) → ∃ s m, s < x + 1 ∧ pb_ct L s.testBit N 0 0 = some m ∧ ∀ s' m', s' < x + 1 → pb_ct L s'.testBit N 0 0 = some m' → m ≤ m' ∧ (m' = m → ¬ pb_bf N s'.testBit s.testBit) := by
        intro g
        refine ⟨x, c, by omega, hc, fun s' m' a b => ?_⟩
        by_cases z : s' = x
        · subst z
          rw [hc] at b
          cases b
          exact ⟨Int.le_refl _, fun _ => pb_bf_ir⟩
        · exact g s' m' (by omega) b
      rcases ih with h | ⟨s, m, h1, h2, h3⟩
      · exact take (fun s' m' a b => by rw [h s' a] at b; cases b)
      · have leave : m ≤ c → (c = m → ¬ pb_bf N x.testBit s.testBit) → ∃ s m, s < x + 1 ∧ pb_ct L s.testBit N 0 0 = some m ∧ ∀ s' m', s' < x + 1 → pb_ct L s'.testBit N 0 0 = some m' → m ≤ m' ∧ (m' = m → ¬ pb_bf N s'.testBit s.testBit) := by
          intro g1 g2
          refine ⟨s, m, by omega, h2, fun s' m' a b => ?_⟩
          by_cases z : s' = x
          · subst z
            rw [hc] at b
            cases b
            exact ⟨g1, g2⟩
          · exact h3 s' m' (by omega) b
        by_cases c1 : c < m
        · exact take (fun s' m' a b => by have := (h3 s' m' a b).1; exact ⟨by omega, fun d => by omega⟩)
        · by_cases c2 : pb_bf N x.testBit s.testBit
          · by_cases c3 : c = m
            · refine take (fun s' m' a b => ?_)
              have k := h3 s' m' a b
              exact ⟨by omega, fun d f => k.2 (by omega) (pb_bf_tr f c2)⟩
            · exact leave (by omega) (fun d => absurd d c3)
          · exact leave (by omega) (fun _ => c2)
theorem pb_Opt_ex (L : Nat → Nat → Option Int) (N : Nat) : (∀ t, pb_ct L t N 0 0 = none) ∨ ∃ s m, s < 2 ^ (N - 1) ∧ pb_Opt L N s.testBit m := by
  have num : ∀ t : Nat → Bool, ∃ s, s < 2 ^ (N - 1) ∧ pb_ct L s.testBit N 0 0 = pb_ct L t N 0 0 ∧ ∀ b, pb_bf N t b → pb_bf N s.testBit b := by
    intro t
    obtain ⟨s, s1, s2⟩ := pb_bits (N - 1) t
    have e : ∀ j, j + 1 < N → t j = s.testBit j := fun j hj => (s2 j (by omega)).symm
    exact ⟨s, s1, (pb_ct_cg L N 0 0 (fun j _ a => e j (by omega))).symm, fun b hb => pb_bf_cg e hb⟩
  rcases pb_Opt_x L N (2 ^ (N - 1)) with h | ⟨s, m, h1, h2, h3⟩
  · refine Or.inl (fun t => ?_)
    obtain ⟨s, a, b, _⟩ := num t
    rw [← b]
    exact h s a
  · refine Or.inr ⟨s, m, h1, h2, fun t m' hm => ?_⟩
    obtain ⟨s', a, b, d⟩ := num t
    have k := h3 s' m' a (by rw [b]; exact hm)
    exact ⟨k.1, fun e f => k.2 e (d _ f)⟩
theorem py_best1 {post : Int32 → Prop} {w e : Int32} {A B : Nat → Int32} {N s : Nat} {m : Int} (hC : pb_C w e N A B) (hs : s < 2 ^ (N - 1)) (ho : pb_Opt (pb_L w e A B N (-1)) N s.testBit m) (h : post (nI s)) : wpY_best post (w, e, nI N, A, B) 0 0 :=
  py_best0 hC (fun hi => by have := ho.1; rw [hi] at this; cases this) (fun s' m' hs' ho' => by rw [pb_Opt_s hs' hs ho' ho]; exact h)
theorem py_best_no {post : Int32 → Prop} {w e : Int32} {A B : Nat → Int32} {N : Nat} (hC : pb_C w e N A B) (hi : ∀ t, pb_ct (pb_L w e A B N (-1)) t N 0 0 = none) (h : post (-1)) : wpY_best post (w, e, nI N, A, B) 0 0 :=
  py_best0 hC (fun _ => h) (fun s m _ ho => by have := ho.1; rw [hi] at this; cases this)
end
section
/-! ===== the reference: the least cost with n lines, the number of choices, lines and ends ===== -/
/-- y is the least of S, or NONE if S is empty -/
def pb_My (S : Int → Prop) (y : Int) : Prop := (y = -1000000 ∧ ∀ c, ¬ S c) ∨ (y ≠ -1000000 ∧ S y ∧ ∀ c, S c → y ≤ c)
theorem pb_My_cg {S T : Int → Prop} {m : Int} (h : ∀ c, S c ↔ T c) (a : pb_My S m) : pb_My T m := by
  rcases a with ⟨a, b⟩ | ⟨a, b, c⟩
  · exact Or.inl ⟨a, fun c z => b c ((h c).mpr z)⟩
  · exact Or.inr ⟨a, (h m).mp b, fun d z => c d ((h d).mpr z)⟩
theorem pb_My_skip {F : Nat → Int → Prop} {k : Nat} {x : Int} (h : ∀ c, ¬ F k c) (a : pb_My (pb_UN F k) x) : pb_My (pb_UN F (k + 1)) x :=
  pb_My_cg (fun c => ⟨fun ⟨i, p, q⟩ => ⟨i, by omega, q⟩, fun ⟨i, p, q⟩ => ⟨i, by
    by_cases e : i = k
    · subst e; exact absurd q (h c)
    · omega, q⟩⟩) a
/-- the set x has the cost z -/
theorem pb_My_add {F : Nat → Int → Prop} {k : Nat} {x z : Int} (h : ∀ c, F k c ↔ c = z) (hz : z ≠ -1000000) (a : pb_My (pb_UN F k) x) : pb_My (pb_UN F (k + 1)) (if x = -1000000 then z else if x ≤ z then x else z) := by
  rcases a with ⟨a, b⟩ | ⟨a, b, c⟩
  · rw [if_pos a]
    refine Or.inr ⟨hz, ⟨k, by omega, (h z).mpr rfl⟩, ?_⟩
    rintro c ⟨i, p, q⟩
    by_cases e : i = k
    · subst e; rw [(h c).mp q]; exact Int.le_refl _
    · exact absurd ⟨i, by omega, q⟩ (b c)
  · rw [if_neg a]
    obtain ⟨j, j1, j2⟩ := b
    by_cases l : x ≤ z
    · rw [if_pos l]
      refine Or.inr ⟨a, ⟨j, by omega, j2⟩, ?_⟩
      rintro d ⟨i, p, q⟩
      by_cases e : i = k
      · subst e; rw [(h d).mp q]; exact l
      · exact c d ⟨i, by omega, q⟩
    · rw [if_neg l]
      refine Or.inr ⟨hz, ⟨k, by omega, (h z).mpr rfl⟩, ?_⟩
      rintro d ⟨i, p, q⟩
      by_cases e : i = k
      · subst e; rw [(h d).mp q]; exact Int.le_refl _
      · have := c d ⟨i, by omega, q⟩
        omega
def pb_FW (L : Nat → Nat → Option Int) (N : Nat) (v : Int32) (s : Nat) (c : Int) : Prop := nI (pb_nl s.testBit N 0) = v ∧ pb_ct L s.testBit N 0 0 = some c
theorem py_cw32 {post : Int32 → Prop} {J : Int32 → Int32 → Prop} {w e x1 y z : Int32} {A B : Nat → Int32} {L : Nat → Nat → Option Int} {N x : Nat} {c : Int32} (h : pb_My (pb_UN (pb_FW L N x1) x) y.toInt) (hz : (z = -1000000 ∧ ∀ c, ¬ pb_FW L N x1 x c) ∨ (z ≠ -1000000 ∧ ∀ c, pb_FW L N x1 x c ↔ c = z.toInt)) (hJ : ∀ y' : Int32, pb_My (pb_UN (pb_FW L N x1) (x + 1)) y'.toInt → J y' (nI (x + 1))) : wY_costWith_32 post J x1 y (nI x) z w e c A B := by
  unfold wY_costWith_32
  rcases hz with ⟨hz, hs⟩ | ⟨hz, hs⟩
  · refine br_t hz (fun v ev => ?_)
    rw [ev, nI_1]
    exact hJ _ (pb_My_skip hs h)
  · have hz' : z.toInt ≠ -1000000 := fun a => hz (Int32.toInt_inj.mp (a.trans pi_none.symm))
    have g := pb_My_add hs hz' h
    refine br_f hz (pi_eq rfl pi_none (fun c1 => ?_) (fun c1 => pi_le rfl rfl (fun c2 => ?_) (fun c2 => ?_)))
    · rw [if_pos c1] at g
      intro v ev
      rw [ev, nI_1]
      exact hJ _ g
    · rw [if_neg c1, if_pos c2] at g
      intro v ev
      rw [ev, nI_1]
      exact hJ _ g
    · rw [if_neg c1, if_neg c2] at g
      intro v ev
      rw [ev, nI_1]
      exact hJ _ g
theorem py_ey {w e : Int32} {A B : Nat → Int32} {N : Nat} (hC : pb_C w e N A B) {t : Nat → Bool} {z : Int32} (hz : z.toInt = pb_ey (pb_ct (pb_L w e A B N (-1)) t N 0 0)) : (z = -1000000 ∧ pb_ct (pb_L w e A B N (-1)) t N 0 0 = none) ∨ (z ≠ -1000000 ∧ pb_ct (pb_L w e A B N (-1)) t N 0 0 = some z.toInt) := by
  cases hc : pb_ct (pb_L w e A B N (-1)) t N 0 0 with
  | none =>
    rw [hc] at hz
    exact Or.inl ⟨Int32.toInt_inj.mp (hz.trans pi_none.symm), rfl⟩
  | some c =>
    rw [hc] at hz
    have hz : z.toInt = c := hz
    have bd := pb_cN_bd hC hc
    refine Or.inr ⟨fun a => ?_, by rw [hz]⟩
    rw [a, pi_none] at hz
    omega
theorem py_cw_l {post : Int32 → Prop} {w e v : Int32} {A B : Nat → Int32} {N : Nat} (hC : pb_C w e N A B) (h : ∀ r : Int32, pb_My (pb_UN (pb_FW (pb_L w e A B N (-1)) N v) (2 ^ (N - 1))) r.toInt → post r) : ∀ d x n (y : Int32), x + d = 2 ^ (N - 1) → d < n → pb_My (pb_UN (pb_FW (pb_L w e A B N (-1)) N v) x) y.toInt → wY_costWith_5 post v w e (nI N) A B n y (nI x) := by
  have hN := hC.2.2.1
  have hp := py_pow hN
  intro d
  induction d with
  | zero =>
    intro x n y h1 h2 h3
    cases n with
    | zero => omega
    | succ n =>
      rw [wY_costWith_5]
      refine py_sets hN ?_
      refine br_t (nI_le (by omega) (by omega)) (h y ?_)
      have e : x = 2 ^ (N - 1) := by omega
      rw [← e]
      exact h3
  | succ d ih =>
    intro x n y h1 h2 h3
    cases n with
    | zero => omega
    | succ n =>
      have hx : x < 2 ^ (N - 1) := by omega
      have next : ∀ y' : Int32, pb_My (pb_UN (pb_FW (pb_L w e A B N (-1)) N v) (x + 1)) y'.toInt → wY_costWith_5 post v w e (nI N) A B n y' (nI (x + 1)) := fun y' g => ih (x + 1) n y' (by omega) (by omega) g
      rw [wY_costWith_5]
      refine py_sets hN ?_
      refine br_f (nI_ge hx (by omega)) ?_
      refine py_cnt hN hx ?_
      refine br_c (fun c1 => ?_) (fun c1 => ?_)
      · refine py_co hC (by omega) (fun z hz => py_cw32 h3 ?_ next)
        rcases py_ey hC hz with ⟨a, b⟩ | ⟨a, b⟩
        · refine Or.inl ⟨a, fun c g => ?_⟩
          have := g.2
          rw [b] at this
          cases this
        · refine Or.inr ⟨a, fun c => ⟨fun g => ?_, fun g => ?_⟩⟩
          · have := g.2
            rw [b] at this
            exact (Option.some.inj this).symm
          · exact ⟨c1, by rw [b, g]⟩
      · exact py_cw32 h3 (Or.inl ⟨rfl, fun c g => c1 g.1⟩) next
theorem py_cw {post : Int32 → Prop} {w e v : Int32} {A B : Nat → Int32} {N : Nat} (hC : pb_C w e N A B) (h : ∀ r : Int32, pb_My (fun c => ∃ t : Nat → Bool, nI (pb_nl t N 0) = v ∧ pb_ct (pb_L w e A B N (-1)) t N 0 0 = some c) r.toInt → post r) : wpY_costWith post (w, e, nI N, A, B) v := by
  refine ⟨2 ^ (N - 1) + 1, py_cw_l hC (fun r hr => h r (pb_My_cg (fun c => ?_) hr)) (2 ^ (N - 1)) 0 _ (-1000000) (by omega) (by omega) ?_⟩
  · constructor
    · rintro ⟨s, _, a, b⟩
      exact ⟨s.testBit, a, b⟩
    · rintro ⟨t, a, b⟩
      obtain ⟨s, s1, s2⟩ := pb_bits (N - 1) t
      refine ⟨s, s1, ?_, ?_⟩
      · rw [pb_nl_cg (t := s.testBit) (t' := t) N 0 (fun j _ a => s2 j (by omega))]; exact a
      · rw [pb_ct_cg _ (t := s.testBit) (t' := t) N 0 0 (fun j _ a => s2 j (by omega))]; exact b
  · rw [pi_none]
    exact Or.inl ⟨rfl, fun c ⟨i, a, _⟩ => absurd a (Nat.not_lt_zero i)⟩
theorem py_ch_l {post : Int32 → Prop} {w e v : Int32} {A B : Nat → Int32} {N : Nat} (hC : pb_C w e N A B) (hv : v ≠ -1000000) (h : post (nI (pb_cnt (fun s => decide (pb_ct (pb_L w e A B N (-1)) s.testBit N 0 0 = some v.toInt)) (2 ^ (N - 1))))) : ∀ d x n, x + d = 2 ^ (N - 1) → d < n → wY_choices_9 post v w e (nI N) A B n (nI (pb_cnt (fun s => decide (pb_ct (pb_L w e A B N (-1)) s.testBit N 0 0 = some v.toInt)) x)) (nI x) := by
  have hN := hC.2.2.1
  have hp := py_pow hN
  intro d
  induction d with
  | zero =>
    intro x n h1 h2
    cases n with
    | zero => omega
    | succ n =>
      have e : x = 2 ^ (N - 1) := by omega
      rw [e]
      rw [wY_choices_9]
      refine py_sets hN ?_
      exact br_t (nI_le (Nat.le_refl _) (by omega)) h
  | succ d ih =>
    intro x n h1 h2
    cases n with
    | zero => omega
    | succ n =>
      have hx : x < 2 ^ (N - 1) := by omega
      have g := ih (x + 1) n (by omega) (by omega)
      rw [pb_cnt_s] at g
      rw [wY_choices_9]
      refine py_sets hN ?_
      refine br_f (nI_ge hx (by omega)) (br_f hv ?_)
      refine py_co hC (by omega) (fun z hz => ?_)
      have key : z = v ↔ pb_ct (pb_L w e A B N (-1)) x.testBit N 0 0 = some v.toInt := by
        rcases py_ey hC hz with ⟨a, b⟩ | ⟨a, b⟩
        · rw [b]
          exact ⟨fun c => absurd (c.symm.trans a) hv, fun c => by cases c⟩
        · rw [b]
          exact ⟨fun c => by rw [c], fun c => Int32.toInt_inj.mp (Option.some.inj c)⟩
      refine br_c (fun c => ?_) (fun c => ?_)
      · rw [if_pos (decide_eq_true (key.mp c))] at g
        intro a ea b eb
        rw [ea, eb, nI_1, nI_1]
        exact g
      · rw [if_neg (fun a => c (key.mpr (of_decide_eq_true a))), Nat.add_zero] at g
        intro b eb
        rw [eb, nI_1]
        exact g
theorem py_gc (L : Nat → Nat → Option Int) (N : Nat) (c : Int) : pb_cnt (fun s => decide (pb_ct L s.testBit N 0 0 = some c)) (2 ^ (N - 1)) = pb_gc L N 0 0 c := by
  cases N with
  | zero =>
    rw [pb_gc_z]
    show pb_cnt (fun s => decide (pb_ct L s.testBit 0 0 0 = some c)) 1 = _
    rw [pb_cnt_s, pb_cnt_z, Nat.zero_add, pb_ct_z]
    by_cases z : c = 0
    · subst z; rfl
    · rw [if_neg z, if_neg (fun a => z (Option.some.inj (of_decide_eq_true a)).symm)]
  | succ d => exact (pb_gc_cnt L d 0 0 c).symm
theorem py_lo_l {post : Int32 → Prop} {w e c : Int32} {A B : Nat → Int32} {s i : Nat} (hs : s < 2 ^ 31) (hi : i < 10) (h : post (nI (pb_cnt s.testBit i))) : ∀ d k n, k + d = i → d < n → wY_lineOf_26 post (nI i) (nI s) w e c A B n (nI (pb_cnt s.testBit k)) (nI k) := by
  intro d
  induction d with
  | zero =>
    intro k n h1 h2
    cases n with
    | zero => omega
    | succ n =>
      have e : k = i := by omega
      subst e
      exact br_t (nI_le (Nat.le_refl _) (by omega)) h
  | succ d ih =>
    intro k n h1 h2
    cases n with
    | zero => omega
    | succ n =>
      refine br_f (nI_ge (by omega) (by omega)) ?_
      intro x ex z ez
      rw [ex, ez, py_bitv hs (by omega), nI_add, nI_1]
      have := ih (k + 1) n (by omega) (by omega)
      rw [pb_cnt_s] at this
      exact this
/-- the end of line v of the breaking s: h0, if there is none -/
theorem py_eo_l {post : Int32 → Prop} {w e v : Int32} {A B : Nat → Int32} {N s : Nat} (hN : N ≤ 10) (hs : s < 2 ^ 31) (h1 : ∀ j, j < N → (s.testBit j = true ∨ j + 1 = N) → nI (pb_cnt s.testBit j) = v → post (nI j)) (h0 : (∀ j, j < N → (s.testBit j = true ∨ j + 1 = N) → nI (pb_cnt s.testBit j) ≠ v) → post (-1)) : ∀ d i n, i + d = N → d < n → (∀ j, j < i → (s.testBit j = true ∨ j + 1 = N) → nI (pb_cnt s.testBit j) ≠ v) → ∀ x : Int32, (i < N → x = nI (pb_cnt s.testBit i)) → wY_endOf_12 post v (nI s) w e (nI N) A B n x (nI i) := by
  intro d
  induction d with
  | zero =>
    intro i n g1 g2 g3 x hx
    cases n with
    | zero => omega
    | succ n => exact br_t (nI_le (by omega) (by omega)) (h0 (fun j a => g3 j (by omega)))
  | succ d ih =>
    intro i n g1 g2 g3 x hx
    cases n with
    | zero => omega
    | succ n =>
      have en : nI N - 1 = nI (N - 1) := by
        obtain ⟨k, rfl⟩ : ∃ k, N = k + 1 := ⟨N - 1, by omega⟩
        rw [nI_pred, Nat.add_sub_cancel]
      have hx := hx (by omega)
      have brk : (s.testBit i = true ∨ i + 1 = N) → wY_endOf_46 post (wY_endOf_12 post v (nI s) w e (nI N) A B n) v (nI s) x (nI i) w e (nI N) A B := by
        intro hb
        unfold wY_endOf_46
        refine br_c (fun c => h1 i (by omega) hb (by rw [← hx]; exact c)) (fun c => ?_)
        intro a ea b eb
        rw [ea, eb, nI_1 i]
        refine ih (i + 1) n (by omega) (by omega) (fun j a => ?_) _ (fun a => ?_)
        · by_cases z : j = i
          · subst z
            intro _
            rw [← hx]
            exact c
          · exact g3 j (by omega)
        · have tb : s.testBit i = true := hb.elim id (fun b => by omega)
          rw [hx, nI_1, pb_cnt_on tb]
      refine br_f (nI_ge (by omega) (by omega)) (br_f (nI_pos (by omega)) (py_bit hs (by omega) (fun c => brk (Or.inl c)) (fun c => ?_)))
      rw [en]
      refine pk_eq i (N - 1) (fun c2 => brk (Or.inr (by omega))) (fun c2 => ?_)
      intro b eb
      rw [eb, nI_1]
      refine ih (i + 1) n (by omega) (by omega) (fun j a => ?_) x (fun a => ?_)
      · by_cases z : j = i
        · subst z
          intro hb
          exact absurd hb (fun q => q.elim c (by omega))
        · exact g3 j (by omega)
      · rw [hx, pb_cnt_off (pb_nt c)]
/-- endOf: line k of the best breaking -/
theorem py_eo {post : Int32 → Prop} {w e v : Int32} {A B : Nat → Int32} {N s : Nat} {m : Int} (hC : pb_C w e N A B) (hs : s < 2 ^ (N - 1)) (ho : pb_Opt (pb_L w e A B N (-1)) N s.testBit m) (h1 : ∀ k, k < pb_nl s.testBit N 0 → v = nI k → post (nI (pb_e s.testBit N (k + 1) - 1))) (h2 : (v < 0 ∨ ¬ v < nI (pb_nl s.testBit N 0)) → post (-1)) : wpY_endOf post (w, e, nI N, A, B) v := by
  have hN := hC.2.2.1
  have hp := py_pow hN
  unfold wpY_endOf
  refine py_best1 hC hs ho ?_
  have hnl := pb_nl_le s.testBit N 0
  refine ⟨N + 1, py_eo_l hN (by omega) (fun j j1 j2 j3 => ?_) (fun hj => ?_) N 0 (N + 1) (by omega) (by omega) (fun j a => by omega) 0 (fun _ => rfl)⟩
  · have hlt := pb_cnt_lt s.testBit j1
    have g := h1 (pb_cnt s.testBit j) hlt j3.symm
    obtain ⟨l1, l2, l3, l4, l5⟩ := pb_e_lt _ ho.1 hlt
    have e : pb_e s.testBit N (pb_cnt s.testBit j + 1) - 1 = j := by
      rcases Nat.lt_trichotomy (pb_e s.testBit N (pb_cnt s.testBit j + 1) - 1) j with z | z | z
      · rcases l5 with l5 | l5
        · have a := pb_cnt_on l5
          have b := pb_cnt_mono s.testBit (show pb_e s.testBit N (pb_cnt s.testBit j + 1) - 1 + 1 ≤ j by omega)
          omega
        · omega
      · exact z
      · rcases j2 with j2 | j2
        · have a := pb_cnt_on j2
          have b := pb_cnt_mono s.testBit (show j + 1 ≤ pb_e s.testBit N (pb_cnt s.testBit j + 1) - 1 by omega)
          omega
        · omega
    rw [e] at g
    exact g
  · refine h2 ?_
    by_cases a : v < 0
    · exact Or.inl a
    · refine Or.inr (fun b => ?_)
      obtain ⟨k, hk, rfl⟩ := nI_of a
      rw [nI_ltI hk (by omega)] at b
      obtain ⟨l1, l2, l3, l4, l5⟩ := pb_e_lt _ ho.1 b
      refine hj (pb_e s.testBit N (k + 1) - 1) (by omega) (l5.elim Or.inl (fun c => Or.inr (by omega))) ?_
      rw [l4]
theorem py_eo_no {post : Int32 → Prop} {w e v : Int32} {A B : Nat → Int32} {N : Nat} (hC : pb_C w e N A B) (hi : ∀ t, pb_ct (pb_L w e A B N (-1)) t N 0 0 = none) (h : post (-1)) : wpY_endOf post (w, e, nI N, A, B) v := by
  unfold wpY_endOf
  refine py_best_no hC hi ⟨1, ?_⟩
  exact br_c (fun _ => h) (fun _ => br_t (by decide) h)
/-! ===== masks ===== -/
theorem py_one : ∀ i, i < 32 → ∀ j, j < 32 → bt ((1 : Int32) <<< (nI i &&& 31)) j = decide (i = j) := by decide +kernel
theorem py_bt {s j : Nat} (hj : j < 32) : bt (nI s) j = s.testBit j := by
  show (BitVec.ofNat 32 s).getLsbD j = _
  rw [BitVec.getLsbD_ofNat]
  simp [hj]
theorem py_must {s i : Nat} (hi : i < 32) : (((1 : Int32) <<< (nI i &&& 31)) &&& (nI s ^^^ (-1))) = 0 ↔ s.testBit i = true := by
  constructor
  · intro h
    have g : bt (((1 : Int32) <<< (nI i &&& 31)) &&& (nI s ^^^ (-1))) i = false := by rw [h]; exact b_0 i
    rw [b_and, b_xor, py_one i hi i hi, py_bt hi, b_m1 i hi] at g
    cases hb : s.testBit i with
    | true => rfl
    | false => rw [hb] at g; simp at g
  · intro h
    refine b_ext (fun j hj => ?_)
    rw [b_and, b_xor, py_one i hi j hj, py_bt hj, b_m1 j hj, b_0]
    by_cases e : i = j
    · subst e; rw [h]; simp
    · simp [e]
theorem py_never {s i : Nat} (hi : i < 32) : (((1 : Int32) <<< (nI i &&& 31)) &&& nI s) = 0 ↔ s.testBit i = false := by
  constructor
  · intro h
    have g : bt (((1 : Int32) <<< (nI i &&& 31)) &&& nI s) i = false := by rw [h]; exact b_0 i
    rw [b_and, py_one i hi i hi, py_bt hi] at g
    simpa using g
  · intro h
    refine b_ext (fun j hj => ?_)
    rw [b_and, py_one i hi j hj, py_bt hj, b_0]
    by_cases e : i = j
    · subst e; rw [h]; simp
    · simp [e]
end
section
/-! ===== the answers of both sides as one least cost ===== -/
theorem pb_My_un {S : Int → Prop} {m k : Int} (a : pb_My S m) (b : pb_My S k) : m = k := by
  rcases a with ⟨a, a2⟩ | ⟨a, a2, a3⟩
  · rcases b with ⟨b, b2⟩ | ⟨b, b2, b3⟩
    · omega
    · exact absurd b2 (a2 k)
  · rcases b with ⟨b, b2⟩ | ⟨b, b2, b3⟩
    · exact absurd a2 (b2 m)
    · have := a3 k b2
      have := b3 m a2
      omega
theorem pb_My_far {S : Int → Prop} {m : Int} (a : pb_Mi S m) (h : 1000000 ≤ m) : pb_My S (-1000000 : Int32).toInt := by
  rw [pi_none]
  exact Or.inl ⟨rfl, (pb_Mi_far a h).2⟩
theorem pb_My_in {S : Int → Prop} {m : Int} (a : pb_Mi S m) (h : ¬ 1000000 ≤ m) (hb : ∀ c, S c → -400 ≤ c) : pb_My S m := by
  have b := pb_Mi_in a (by omega)
  have := hb m b.1
  exact Or.inr ⟨by omega, b.1, b.2⟩
/-- the reference's cost of its best set -/
theorem py_bestc {post : Int32 → Prop} {w e x1 x2 : Int32} {A B : Nat → Int32} {N : Nat} {ok : (Nat → Bool) → Prop} (hC : pb_C w e N A B) (hok : ∀ s, s < 2 ^ (N - 1) → (((x1 &&& (nI s ^^^ (-1))) = 0 ∧ (x2 &&& nI s) = 0) ↔ ok s.testBit)) (hcg : ∀ t t' : Nat → Bool, (∀ j, j + 1 < N → t j = t' j) → ok t → ok t') (h : ∀ r : Int32, pb_My (fun c => ∃ t : Nat → Bool, ok t ∧ pb_ct (pb_L w e A B N (-1)) t N 0 0 = some c) r.toInt → post r) : wpY_best (fun r => (0 ≤ r → wpY_costOf post (w, e, nI N, A, B) r) ∧ (¬ 0 ≤ r → post (-1000000))) (w, e, nI N, A, B) x1 x2 := by
  have hp := py_pow hC.2.2.1
  refine py_best hC hok hcg (fun r hr => ?_)
  rcases hr with ⟨rfl, g⟩ | ⟨s, m, g1, rfl, g2, g3, g4⟩
  · refine br_f (by decide) (h _ ?_)
    rw [pi_none]
    exact Or.inl ⟨rfl, fun c ⟨t, a, b⟩ => by rw [g t a] at b; cases b⟩
  · refine br_t (nI_pos' (by omega)) (py_co hC (by omega) (fun z hz => h z ?_))
    rw [g3] at hz
    have hz : z.toInt = m := hz
    have bd := pb_cN_bd hC g3
    rw [hz]
    exact Or.inr ⟨by omega, ⟨_, g2, g3⟩, fun c ⟨t, a, b⟩ => (g4 t c a b).1⟩
theorem py_cost {post : Int32 → Prop} {w e : Int32} {A B : Nat → Int32} {N : Nat} (hC : pb_C w e N A B) (h : ∀ r : Int32, pb_My (fun c => pb_gc (pb_L w e A B N (-1)) (N - 0) 0 0 c ≠ 0) r.toInt → post r) : wpY_cost post (w, e, nI N, A, B) := by
  unfold wpY_cost
  refine py_bestc (ok := fun _ => True) hC (fun s _ => ?_) (fun _ _ _ _ => trivial) (fun r hr => h r (pb_My_cg (fun c => ?_) hr))
  · rw [Int32.zero_and, Int32.zero_and]
    exact ⟨fun _ => trivial, fun _ => ⟨rfl, rfl⟩⟩
  · rw [Nat.sub_zero, pb_gc_ne]
    exact ⟨fun ⟨t, _, a⟩ => ⟨t, a⟩, fun ⟨t, a⟩ => ⟨t, trivial, a⟩⟩
theorem px_cost {post : Int32 → SX → Prop} {w e bar : Int32} {A B o up bs ws : Nat → Int32} {N : Nat} (hC : pb_C w e N A B) (h : ∀ (r : Int32) (o' bs' ws' : Nat → Int32), pb_My (fun c => pb_gc (pb_L w e A B N (-1)) (N - 0) 0 0 c ≠ 0) r.toInt → post r (w, e, nI N, -1, A, B, o', up, bs', ws')) : wpX_cost post (w, e, nI N, bar, A, B, o, up, bs, ws) := by
  unfold wpX_cost
  refine px_start hC (fun o' bs' ws' hE => ?_)
  have hb := (hE.2 0 (Nat.zero_le N)).1
  exact pi_le pi_far rfl (fun c => h _ _ _ _ (pb_My_far hb c)) (fun c => h _ _ _ _ (pb_My_in hb c (fun c hc => (pb_gc_bd hC (Nat.zero_le N) hc).1)))
/-! ===== lines ===== -/
theorem px_lines {post : Int32 → SX → Prop} {w e bar : Int32} {A B o up bs ws : Nat → Int32} {N : Nat} {t : Nat → Bool} {m : Int} (hC : pb_C w e N A B) (ho : pb_Opt (pb_L w e A B N (-1)) N t m) (h : ∀ o' bs' ws' : Nat → Int32, post (nI (pb_nl t N 0)) (w, e, nI N, -1, A, B, o', up, bs', ws')) : wpX_lines post (w, e, nI N, bar, A, B, o, up, bs, ws) := by
  have hN := hC.2.2.1
  have hnl := pb_nl_le t N 0
  have hm := pb_cN_bd hC ho.1
  unfold wpX_lines
  refine px_start hC (fun o' bs' ws' hE => ?_)
  exact px_fl hN hE ho (by omega) (br_t (nI_pos' (by omega)) (h o' bs' ws'))
theorem px_lines_no {post : Int32 → SX → Prop} {w e bar : Int32} {A B o up bs ws : Nat → Int32} {N : Nat} (hC : pb_C w e N A B) (hi : ∀ t, pb_ct (pb_L w e A B N (-1)) t N 0 0 = none) (h : ∀ o' bs' ws' : Nat → Int32, post 0 (w, e, nI N, -1, A, B, o', up, bs', ws')) : wpX_lines post (w, e, nI N, bar, A, B, o, up, bs, ws) := by
  unfold wpX_lines
  refine px_start hC (fun o' bs' ws' hE => ?_)
  exact px_fl_no hE hi (br_f (by decide) (h o' bs' ws'))
theorem px_lineof_l {post : Int32 → SX → Prop} {w e : Int32} {A B up : Nat → Int32} {N i : Nat} {t : Nat → Bool} {m : Int} (hC : pb_C w e N A B) (ho : pb_Opt (pb_L w e A B N (-1)) N t m) (hi : i < N) (h : ∀ o' bs' ws' : Nat → Int32, post (nI (pb_cnt t i)) (w, e, nI N, -1, A, B, o', up, bs', ws')) : ∀ d k f (bar : Int32) (o bs ws : Nat → Int32), k + d = pb_cnt t i → d < f → wX_lineOf_21 post (nI i) (nI (pb_nl t N 0)) f (nI k) w e (nI N) bar A B o up bs ws := by
  have hN := hC.2.2.1
  have hnl := pb_nl_le t N 0
  have hc := pb_cnt_lt t hi
  intro d
  induction d with
  | zero =>
    intro k f bar o bs ws h1 h2
    cases f with
    | zero => omega
    | succ f =>
      have hk : k < pb_nl t N 0 := by omega
      obtain ⟨_, _, l3, _⟩ := pb_e_lt _ ho.1 hk
      refine br_f (nI_ge hk (by omega)) ?_
      refine px_eol hC ho hk (fun o' bs' ws' => ?_)
      have g := (pb_lineof _ ho.1 hi hk).mpr (by omega)
      have e : k = pb_cnt t i := by omega
      subst e
      exact br_f (nI_ge g (by omega)) (h o' bs' ws')
  | succ d ih =>
    intro k f bar o bs ws h1 h2
    cases f with
    | zero => omega
    | succ f =>
      have hk : k < pb_nl t N 0 := by omega
      obtain ⟨_, _, l3, _⟩ := pb_e_lt _ ho.1 hk
      refine br_f (nI_ge hk (by omega)) ?_
      refine px_eol hC ho hk (fun o' bs' ws' => ?_)
      have g : ¬ i < pb_e t N (k + 1) := fun a => by
        have := (pb_lineof _ ho.1 hi hk).mp a
        omega
      refine br_t (nI_le (by omega) (by omega)) (fun x ex => ?_)
      rw [ex, nI_1]
      exact ih (k + 1) f _ _ _ _ (by omega) (by omega)
theorem px_lineof {post : Int32 → SX → Prop} {w e bar : Int32} {A B o up bs ws : Nat → Int32} {N i : Nat} {t : Nat → Bool} {m : Int} (hC : pb_C w e N A B) (ho : pb_Opt (pb_L w e A B N (-1)) N t m) (hi : i < N) (h : ∀ o' bs' ws' : Nat → Int32, post (nI (pb_cnt t i)) (w, e, nI N, -1, A, B, o', up, bs', ws')) : wpX_lineOf post (w, e, nI N, bar, A, B, o, up, bs, ws) (nI i) := by
  have hN := hC.2.2.1
  unfold wpX_lineOf
  refine br_f (nI_pos (by omega)) (br_t (nI_lt hi (by omega)) ?_)
  refine px_lines hC ho (fun o' bs' ws' => ?_)
  exact ⟨pb_cnt t i + 1, px_lineof_l hC ho hi h (pb_cnt t i) 0 _ _ _ _ _ (by omega) (by omega)⟩
theorem px_lineof_no {post : Int32 → SX → Prop} {w e bar : Int32} {A B o up bs ws : Nat → Int32} {N i : Nat} (hC : pb_C w e N A B) (hin : ∀ t, pb_ct (pb_L w e A B N (-1)) t N 0 0 = none) (hi : i < N) (h : ∀ o' bs' ws' : Nat → Int32, post (-1) (w, e, nI N, -1, A, B, o', up, bs', ws')) : wpX_lineOf post (w, e, nI N, bar, A, B, o, up, bs, ws) (nI i) := by
  have hN := hC.2.2.1
  unfold wpX_lineOf
  refine br_f (nI_pos (by omega)) (br_t (nI_lt hi (by omega)) ?_)
  refine px_lines_no hC hin (fun o' bs' ws' => ?_)
  exact ⟨1, br_t (by decide) (h o' bs' ws')⟩
theorem py_is {post : Int32 → Prop} {w e v : Int32} {A B : Nat → Int32} {N : Nat} (hN : N ≤ 10) (h0 : (v < 0 ∨ ¬ v < nI N) → post 0) (h1 : ∀ i, i < N → v = nI i → post 1) : wpY_is post (w, e, nI N, A, B) v := by
  refine br_c (fun a => h0 (Or.inl a)) (fun a => br_c (fun b => h0 (Or.inr (Int32.not_lt.mpr b))) (fun b => ?_))
  obtain ⟨i, hi, rfl⟩ := nI_of a
  rw [nI_leI (by omega) hi] at b
  exact h1 i (by omega) rfl
/-! ===== a range of indices that both sides check ===== -/
theorem pb_rng (v : Int32) {N : Nat} (hN : N ≤ 10) : (v < 0 ∨ ¬ v < nI N - 1) ∨ ∃ i, i + 1 < N ∧ v = nI i := by
  by_cases a : v < 0
  · exact Or.inl (Or.inl a)
  by_cases b : v < nI N - 1
  · refine Or.inr ?_
    obtain ⟨i, hi, rfl⟩ := nI_of a
    refine ⟨i, ?_, rfl⟩
    by_cases z : N = 0
    · subst z
      rw [Int32.lt_iff_toInt_lt, nI_toInt hi] at b
      have : (nI 0 - 1).toInt = -1 := by decide
      omega
    · obtain ⟨k, rfl⟩ : ∃ k, N = k + 1 := ⟨N - 1, by omega⟩
      rw [nI_pred, nI_ltI hi (by omega)] at b
      omega
  · exact Or.inl (Or.inr b)
theorem pb_rng2 (v : Int32) {N : Nat} (hN : N ≤ 10) : (v < 0 ∨ ¬ v < nI N) ∨ ∃ i, i < N ∧ v = nI i := by
  by_cases a : v < 0
  · exact Or.inl (Or.inl a)
  by_cases b : v < nI N
  · refine Or.inr ?_
    obtain ⟨i, hi, rfl⟩ := nI_of a
    rw [nI_ltI hi (by omega)] at b
    exact ⟨i, b, rfl⟩
  · exact Or.inl (Or.inr b)
theorem pb_pred {N : Nat} (h : 0 < N) : nI N - 1 = nI (N - 1) := by
  obtain ⟨k, rfl⟩ : ∃ k, N = k + 1 := ⟨N - 1, by omega⟩
  rw [nI_pred, Nat.add_sub_cancel]
/-! ===== a break behind word i ===== -/
theorem px_cb {post : Int32 → SX → Prop} {w e bar : Int32} {A B o up bs ws : Nat → Int32} {N i : Nat} (hC : pb_C w e N A B) (hi : i + 1 < N) (h : ∀ (r : Int32) (o' up' bs' ws' : Nat → Int32), pb_My (fun c => ∃ t : Nat → Bool, t i = true ∧ pb_ct (pb_L w e A B N (-1)) t N 0 0 = some c) r.toInt → post r (w, e, nI N, -1, A, B, o', up', bs', ws')) : wpX_costBreaking post (w, e, nI N, bar, A, B, o, up, bs, ws) (nI i) := by
  have hN := hC.2.2.1
  have hlt : nI i < nI N - 1 := by
    rw [pb_pred (show 0 < N by omega)]
    exact nI_lt (by omega) (by omega)
  unfold wpX_costBreaking
  refine br_f (nI_pos (by omega)) (br_t hlt ?_)
  refine px_start hC (fun o' bs' ws' hE => ?_)
  refine px_fu (bar := -1) (by rw [pi_m1]) hC (by omega) (fun up' hU => ?_)
  intro x ex
  rw [ex, nI_1, nI_clamp (by omega)]
  have vi : vp_in (nI (i + 1)) 11 := vp_in_nI (by omega) (by omega)
  have hb := (hE.2 (i + 1) (by omega)).1
  have hu := hU (i + 1) (by omega)
  have hS : ∀ c, (∃ a b, pb_SU (pb_L w e A B N (-1)) (i + 1) a ∧ pb_gc (pb_L w e A B N (-1)) (N - (i + 1)) (i + 1) (i + 1) b ≠ 0 ∧ c = a + b) ↔ ∃ t : Nat → Bool, t i = true ∧ pb_ct (pb_L w e A B N (-1)) t N 0 0 = some c := fun c => (pb_brk _ hi c).symm
  refine And.intro vi (pi_le pi_far rfl (fun c1 => h _ _ _ _ _ (pb_My_cg hS ?_)) (fun c1 => And.intro vi (pi_le pi_far rfl (fun c2 => h _ _ _ _ _ (pb_My_cg hS ?_)) (fun c2 => And.intro vi (And.intro vi (h _ _ _ _ _ (pb_My_cg hS ?_)))))))
  · rw [pi_none]
    exact Or.inl ⟨rfl, fun c ⟨a, b, g, _⟩ => (pb_Mi_far hu c1).2 a g⟩
  · rw [pi_none]
    exact Or.inl ⟨rfl, fun c ⟨a, b, _, g, _⟩ => (pb_Mi_far hb c2).2 b g⟩
  · have gu := pb_Mi_in hu (by omega)
    have gb := pb_Mi_in hb (by omega)
    have bu := pb_SU_bd hC (by omega) gu.1
    have bb := pb_gc_bd hC (by omega) gb.1
    rw [pi_add rfl rfl (by omega) (by omega)]
    refine Or.inr ⟨by omega, ⟨_, _, gu.1, gb.1, rfl⟩, ?_⟩
    rintro c ⟨a, b, g1, g2, rfl⟩
    have := gu.2 a g1
    have := gb.2 b g2
    omega
theorem px_cb_out {post : Int32 → SX → Prop} {w e bar v : Int32} {A B o up bs ws : Nat → Int32} {N : Nat} (hv : v < 0 ∨ ¬ v < nI N - 1) (h : post (-1000000) (w, e, nI N, bar, A, B, o, up, bs, ws)) : wpX_costBreaking post (w, e, nI N, bar, A, B, o, up, bs, ws) v := by
  unfold wpX_costBreaking
  refine br_c (fun _ => h) (fun a => br_f ?_ h)
  rcases hv with hv | hv
  · exact absurd hv a
  · exact hv
theorem px_ck_out {post : Int32 → SX → Prop} {w e bar v : Int32} {A B o up bs ws : Nat → Int32} {N : Nat} (hv : v < 0 ∨ ¬ v < nI N - 1) (h : post (-1000000) (w, e, nI N, bar, A, B, o, up, bs, ws)) : wpX_costKeeping post (w, e, nI N, bar, A, B, o, up, bs, ws) v := by
  unfold wpX_costKeeping
  refine br_c (fun _ => h) (fun a => br_f ?_ h)
  rcases hv with hv | hv
  · exact absurd hv a
  · exact hv
theorem pb_L_keep {w e : Int32} {A B : Nat → Int32} {N i : Nat} (hi : i + 1 < N) (hN : N ≤ 10) : ∀ p q, p < q → q ≤ N → pb_L w e A B N (nI i).toInt p q = if q = i + 1 then none else pb_L w e A B N (-1) p q := by
  intro p q h1 h2
  rw [nI_toInt (by omega)]
  unfold pb_L
  by_cases z : q = i + 1
  · rw [if_pos z]
    by_cases c : pb_D w A p q < (p : Int) + 1 - q
    · rw [if_pos c]
    · rw [if_neg c, if_pos (by omega)]
  · rw [if_neg z]
    by_cases c : pb_D w A p q < (p : Int) + 1 - q
    · rw [if_pos c, if_pos c]
    · rw [if_neg c, if_neg c, if_neg (by omega), if_neg (show ¬ (q < N ∧ (q : Int) - 1 = -1) by omega)]
theorem px_ck {post : Int32 → SX → Prop} {w e bar : Int32} {A B o up bs ws : Nat → Int32} {N i : Nat} (hC : pb_C w e N A B) (hi : i + 1 < N) (h : ∀ (r : Int32) (o' bs' ws' : Nat → Int32), pb_My (fun c => ∃ t : Nat → Bool, t i = false ∧ pb_ct (pb_L w e A B N (-1)) t N 0 0 = some c) r.toInt → post r (w, e, nI N, nI i, A, B, o', up, bs', ws')) : wpX_costKeeping post (w, e, nI N, bar, A, B, o, up, bs, ws) (nI i) := by
  have hN := hC.2.2.1
  have hlt : nI i < nI N - 1 := by
    rw [pb_pred (show 0 < N by omega)]
    exact nI_lt (by omega) (by omega)
  unfold wpX_costKeeping
  refine br_f (nI_pos (by omega)) (br_t hlt ?_)
  refine px_learn (bar := nI i) rfl hC (fun o' bs' ws' hE => ?_)
  have hb := (hE.2 0 (Nat.zero_le N)).1
  have hS : ∀ c, pb_gc (pb_L w e A B N (nI i).toInt) (N - 0) 0 0 c ≠ 0 ↔ ∃ t : Nat → Bool, t i = false ∧ pb_ct (pb_L w e A B N (-1)) t N 0 0 = some c := by
    intro c
    rw [Nat.sub_zero, pb_gc_ne]
    constructor
    · rintro ⟨t, g⟩
      have k := (pb_keep hi (pb_L_keep hi hN) t c N 0 0 (Nat.le_refl 0) (by omega)).mp g
      exact ⟨t, k.2 (Nat.zero_le i), k.1⟩
    · rintro ⟨t, g1, g2⟩
      exact ⟨t, (pb_keep hi (pb_L_keep hi hN) t c N 0 0 (Nat.le_refl 0) (by omega)).mpr ⟨g2, fun _ => g1⟩⟩
  exact pi_le pi_far rfl (fun c => h _ _ _ _ (pb_My_cg hS (pb_My_far hb c))) (fun c => h _ _ _ _ (pb_My_cg hS (pb_My_in hb c (fun c hc => (pb_gc_bd hC (Nat.zero_le N) hc).1))))
theorem py_cb {post : Int32 → Prop} {w e : Int32} {A B : Nat → Int32} {N i : Nat} (hC : pb_C w e N A B) (hi : i + 1 < N) (h : ∀ r : Int32, pb_My (fun c => ∃ t : Nat → Bool, t i = true ∧ pb_ct (pb_L w e A B N (-1)) t N 0 0 = some c) r.toInt → post r) : wpY_costBreaking post (w, e, nI N, A, B) (nI i) := by
  have hN := hC.2.2.1
  unfold wpY_costBreaking
  refine py_is hN (fun a => ?_) (fun j _ _ => br_f (by decide) ?_)
  · exfalso
    rcases a with a | a
    · exact nI_pos (by omega) a
    · exact a (nI_lt (by omega) (by omega))
  · rw [pb_pred (show 0 < N by omega)]
    refine br_f (nI_ge (by omega) (by omega)) ?_
    refine py_bestc (ok := fun t => t i = true) hC (fun s _ => ?_) (fun t t' g a => by rw [← g i hi]; exact a) h
    rw [py_must (by omega), Int32.zero_and]
    exact ⟨fun a => a.1, fun a => ⟨a, rfl⟩⟩
theorem py_ck {post : Int32 → Prop} {w e : Int32} {A B : Nat → Int32} {N i : Nat} (hC : pb_C w e N A B) (hi : i + 1 < N) (h : ∀ r : Int32, pb_My (fun c => ∃ t : Nat → Bool, t i = false ∧ pb_ct (pb_L w e A B N (-1)) t N 0 0 = some c) r.toInt → post r) : wpY_costKeeping post (w, e, nI N, A, B) (nI i) := by
  have hN := hC.2.2.1
  unfold wpY_costKeeping
  refine py_is hN (fun a => ?_) (fun j _ _ => br_f (by decide) ?_)
  · exfalso
    rcases a with a | a
    · exact nI_pos (by omega) a
    · exact a (nI_lt (by omega) (by omega))
  · rw [pb_pred (show 0 < N by omega)]
    refine br_f (nI_ge (by omega) (by omega)) ?_
    refine py_bestc (ok := fun t => t i = false) hC (fun s _ => ?_) (fun t t' g a => by rw [← g i hi]; exact a) h
    rw [py_never (by omega), Int32.zero_and]
    exact ⟨fun a => a.2, fun a => ⟨rfl, a⟩⟩
theorem py_cb_out {post : Int32 → Prop} {w e v : Int32} {A B : Nat → Int32} {N : Nat} (hN : N ≤ 10) (hv : v < 0 ∨ ¬ v < nI N - 1) (h : post (-1000000)) : wpY_costBreaking post (w, e, nI N, A, B) v := by
  have h30 : wY_costBreaking_29 post w e (nI N) A B := by
    unfold wY_costBreaking_29 wY_costBreaking_30
    exact br_f (by decide) h
  unfold wpY_costBreaking
  refine py_is hN (fun _ => br_t rfl h30) (fun i hi e => br_f (by decide) (br_t ?_ h30))
  subst e
  rcases hv with hv | hv
  · exact absurd hv (nI_pos (by omega))
  · exact Int32.not_lt.mp hv
theorem py_ck_out {post : Int32 → Prop} {w e v : Int32} {A B : Nat → Int32} {N : Nat} (hN : N ≤ 10) (hv : v < 0 ∨ ¬ v < nI N - 1) (h : post (-1000000)) : wpY_costKeeping post (w, e, nI N, A, B) v := by
  have h30 : wY_costKeeping_29 post w e (nI N) A B := by
    unfold wY_costKeeping_29 wY_costKeeping_30
    exact br_f (by decide) h
  unfold wpY_costKeeping
  refine py_is hN (fun _ => br_t rfl h30) (fun i hi e => br_f (by decide) (br_t ?_ h30))
  subst e
  rcases hv with hv | hv
  · exact absurd hv (nI_pos (by omega))
  · exact Int32.not_lt.mp hv
end
section
/-! ===== what is owed ===== -/
/-- the two objects hold the same words; what the component has learnt is free -/
def i_Rel (_ : Nat) (u : SX) (v : SY) : Prop := ∃ (w e bar : Int32) (A B o up bs ws : Nat → Int32) (N : Nat), pb_C w e N A B ∧ u = (w, e, nI N, bar, A, B, o, up, bs, ws) ∧ v = (w, e, nI N, A, B)
theorem i_up {k : Nat} {u : SX} {v : SY} (h : i_Rel k u v) : i_Rel (k + 4) u v := h
theorem ow_rel {k : Nat} {w e bar : Int32} {A B o up bs ws : Nat → Int32} {N : Nat} (hC : pb_C w e N A B) : i_Rel k (w, e, nI N, bar, A, B, o, up, bs, ws) (w, e, nI N, A, B) := ⟨w, e, bar, A, B, o, up, bs, ws, N, hC, rfl, rfl⟩
theorem ow_e (k1 : Int32) : ∃ e : Int32, (0 ≤ e.toInt ∧ e.toInt ≤ 100) ∧ (∀ (post : SX → Prop) (z w e0 c b : Int32) (A B o up bs ws : Nat → Int32), post (z, e, c, b, A, B, o, up, bs, ws) → wX_init_74 post k1 z w e0 c b A B o up bs ws) ∧ (∀ (post : SY → Prop) (z w e0 c : Int32) (A B : Nat → Int32), post (z, e, c, A, B) → wY_init_42 post k1 z w e0 c A B) := by
  have h100 : (100 : Int32).toInt = 100 := by decide
  by_cases a : 0 ≤ k1
  · by_cases b : k1 ≤ 100
    · refine ⟨k1, ?_, fun _ _ _ _ _ _ _ _ _ _ _ _ h => br_t a (br_t b h), fun _ _ _ _ _ _ _ h => br_t a (br_t b h)⟩
      rw [Int32.le_iff_toInt_le, pi_0] at a
      rw [Int32.le_iff_toInt_le, h100] at b
      exact ⟨a, b⟩
    · exact ⟨100, by rw [h100]; omega, fun _ _ _ _ _ _ _ _ _ _ _ _ h => br_t a (br_f b h), fun _ _ _ _ _ _ _ h => br_t a (br_f b h)⟩
  · exact ⟨0, by rw [pi_0]; omega, fun _ _ _ _ _ _ _ _ _ _ _ _ h => br_f a h, fun _ _ _ _ _ _ _ h => br_f a h⟩
theorem i_vc0 (k0 : Int32) (k1 : Int32) : wpX_init (fun u => wpY_init (fun v => i_Rel 2 u v) k0 k1) k0 k1 := by
  obtain ⟨e, he, hX, hY⟩ := ow_e k1
  have h5 : (5 : Int32).toInt = 5 := by decide
  have h60 : (60 : Int32).toInt = 60 := by decide
  have fin : ∀ w : Int32, 5 ≤ w.toInt ∧ w.toInt ≤ 60 → i_Rel 2 (w, e, 0, 0, fun _ => 0, fun _ => 0, fun _ => 0, fun _ => 0, fun _ => 0, fun _ => 0) (w, e, 0, fun _ => 0, fun _ => 0) := by
    intro w hw
    refine ow_rel (N := 0) ⟨hw, he, by omega, fun i => ?_, fun i => ?_⟩
    · show 0 ≤ (0 : Int32).toInt ∧ (0 : Int32).toInt ≤ 12
      rw [pi_0]; omega
    · show -40 ≤ (0 : Int32).toInt ∧ (0 : Int32).toInt ≤ 40
      rw [pi_0]; omega
  by_cases a : 5 ≤ k0
  · by_cases b : k0 ≤ 60
    · refine br_t a (br_t b (hX _ _ _ _ _ _ _ _ _ _ _ _ (br_t a (br_t b (hY _ _ _ _ _ _ _ (fin k0 ?_))))))
      rw [Int32.le_iff_toInt_le, h5] at a
      rw [Int32.le_iff_toInt_le, h60] at b
      exact ⟨a, b⟩
    · exact br_t a (br_f b (hX _ _ _ _ _ _ _ _ _ _ _ _ (br_t a (br_f b (hY _ _ _ _ _ _ _ (fin 60 (by rw [h60]; omega)))))))
  · exact br_f a (hX _ _ _ _ _ _ _ _ _ _ _ _ (br_f a (hY _ _ _ _ _ _ _ (fin 5 (by rw [h5]; omega)))))
theorem ow_okX {post : Int32 → Prop} {a b : Int32} (h1 : (1 ≤ a.toInt ∧ a.toInt ≤ 12) ∧ (-40 ≤ b.toInt ∧ b.toInt ≤ 40) → post 1) (h0 : ¬ ((1 ≤ a.toInt ∧ a.toInt ≤ 12) ∧ (-40 ≤ b.toInt ∧ b.toInt ≤ 40)) → post 0) : wpX_wordOk post a b := by
  have e1 : (1 : Int32).toInt = 1 := by decide
  have e12 : (12 : Int32).toInt = 12 := by decide
  have em : (-40 : Int32).toInt = -40 := by decide
  have e40 : (40 : Int32).toInt = 40 := by decide
  exact pi_lt rfl e1 (fun c => h0 (by omega)) (fun c1 => pi_lt e12 rfl (fun c => h0 (by omega)) (fun c2 => pi_lt rfl em (fun c => h0 (by omega)) (fun c3 => pi_lt e40 rfl (fun c => h0 (by omega)) (fun c4 => h1 (by omega)))))
theorem ow_okY {post : Int32 → Prop} {w e c a b : Int32} {A B : Nat → Int32} (h1 : (1 ≤ a.toInt ∧ a.toInt ≤ 12) ∧ (-40 ≤ b.toInt ∧ b.toInt ≤ 40) → post 1) (h0 : ¬ ((1 ≤ a.toInt ∧ a.toInt ≤ 12) ∧ (-40 ≤ b.toInt ∧ b.toInt ≤ 40)) → post 0) : wpY_good post (w, e, c, A, B) a b := by
  have e1 : (1 : Int32).toInt = 1 := by decide
  have e12 : (12 : Int32).toInt = 12 := by decide
  have em : (-40 : Int32).toInt = -40 := by decide
  have e40 : (40 : Int32).toInt = 40 := by decide
  exact pi_lt rfl e1 (fun c => h0 (by omega)) (fun c1 => pi_lt e12 rfl (fun c => h0 (by omega)) (fun c2 => pi_lt rfl em (fun c => h0 (by omega)) (fun c3 => pi_lt e40 rfl (fun c => h0 (by omega)) (fun c4 => h1 (by omega)))))
theorem ow_byte {a : Int32} (h1 : -128 ≤ a.toInt) (h2 : a.toInt < 128) : vp_nar .byte a.toInt8.toInt32 = a := by
  rw [pk_vb, lg_i2b_small h1 h2]
theorem ow_upd {A : Nat → Int32} {n : Nat} {x : Int32} {l h : Int} (hA : ∀ i, l ≤ (A i).toInt ∧ (A i).toInt ≤ h) (hx : l ≤ x.toInt ∧ x.toInt ≤ h) : ∀ i, l ≤ (upd A n x i).toInt ∧ (upd A n x i).toInt ≤ h := by
  intro i
  by_cases z : i = n
  · subst z; rw [pk_us]; exact hx
  · rw [pk_un z]; exact hA i
theorem i_vc_word {k : Nat} {u : SX} {v : SY} (I : i_Rel k u v) (hk : k + 4 ≤ 2050) (v1 : Int32) (v2 : Int32) : wpX_word (fun r u' => wpY_word (fun r' v' => r' = r ∧ i_Rel (k + 4) u' v') v v1 v2) u v1 v2 := by
  obtain ⟨w, e, bar, A, B, o, up, bs, ws, N, hC, rfl, rfl⟩ := I
  have hC' := hC
  obtain ⟨hw, he, hN, hA, hB⟩ := hC'
  unfold wpX_word
  refine ow_okX (fun g => br_f (by decide) ?_) (fun g => br_t rfl ?_)
  · refine pk_lt N 10 (fun c => ?_) (fun c => ?_)
    · have vN : vp_in (nI N) 10 := vp_in_nI c (by omega)
      rw [nI_clamp (show N < 2 ^ 31 by omega), ow_byte (by omega) (by omega), ow_byte (by omega) (by omega), nI_1]
      refine And.intro vN (fun A' eA => And.intro vN (fun B' eB n en => ?_))
      unfold wpY_word
      refine ow_okY (fun _ => br_f (by decide) ?_) (fun h => absurd g h)
      refine br_t (nI_lt (b := 10) c (by decide)) ?_
      rw [nI_clamp (show N < 2 ^ 31 by omega), nI_1]
      refine And.intro vN (fun A2 eA2 => And.intro vN (fun B2 eB2 n2 en2 => ?_))
      rw [eA, eB, en, eA2, eB2, en2]
      exact ⟨rfl, ow_rel ⟨hw, he, by omega, ow_upd hA (by omega), ow_upd hB (by omega)⟩⟩
    · unfold wpY_word
      refine ow_okY (fun _ => br_f (by decide) ?_) (fun h => absurd g h)
      exact br_f (nI_nlt (b := 10) c (by omega)) ⟨rfl, ow_rel hC⟩
  · unfold wpY_word
    exact ow_okY (fun h => absurd h g) (fun _ => br_t rfl ⟨rfl, ow_rel hC⟩)
theorem i_vc_back {k : Nat} {u : SX} {v : SY} (I : i_Rel k u v) (hk : k + 4 ≤ 2050) : wpX_back (fun r u' => wpY_back (fun r' v' => r' = r ∧ i_Rel (k + 4) u' v') v) u := by
  obtain ⟨w, e, bar, A, B, o, up, bs, ws, N, hC, rfl, rfl⟩ := I
  have hC' := hC
  obtain ⟨hw, he, hN, hA, hB⟩ := hC'
  refine pk_eq N 0 (fun c => ?_) (fun c => ?_)
  · subst c
    exact br_t rfl ⟨rfl, ow_rel hC⟩
  · rw [pb_pred (show 0 < N by omega)]
    intro n en
    refine br_f (nI_ne0 (by omega) (by omega)) ?_
    rw [pb_pred (show 0 < N by omega)]
    intro n2 en2
    rw [en, en2]
    exact ⟨rfl, ow_rel ⟨hw, he, by omega, hA, hB⟩⟩
theorem i_vc_change {k : Nat} {u : SX} {v : SY} (I : i_Rel k u v) (hk : k + 4 ≤ 2050) (v1 : Int32) (v2 : Int32) (v3 : Int32) : wpX_change (fun r u' => wpY_change (fun r' v' => r' = r ∧ i_Rel (k + 4) u' v') v v1 v2 v3) u v1 v2 v3 := by
  obtain ⟨w, e, bar, A, B, o, up, bs, ws, N, hC, rfl, rfl⟩ := I
  have hC' := hC
  obtain ⟨hw, he, hN, hA, hB⟩ := hC'
  rcases pb_rng2 v1 hN with out | ⟨i, hi, rfl⟩
  · have Y : wpY_change (fun r' v' => r' = 0 ∧ i_Rel (k + 4) (w, e, nI N, bar, A, B, o, up, bs, ws) v') (w, e, nI N, A, B) v1 v2 v3 := by
      unfold wpY_change
      refine py_is hN (fun _ => br_t rfl ⟨rfl, ow_rel hC⟩) (fun i hi ei => ?_)
      subst ei
      exfalso
      rcases out with a | a
      · exact nI_pos (by omega) a
      · exact a (nI_lt (by omega) (by omega))
    unfold wpX_change
    refine br_c (fun _ => Y) (fun a => br_t ?_ Y)
    rcases out with b | b
    · exact absurd b a
    · exact Int32.not_lt.mp b
  · unfold wpX_change
    refine br_f (nI_pos (by omega)) (br_f (nI_ge (by omega) (by omega)) ?_)
    have vi : vp_in (nI i) 10 := vp_in_nI (by omega) (by omega)
    refine ow_okX (fun g => br_f (by decide) ?_) (fun g => br_t rfl ?_)
    · rw [nI_clamp (show i < 2 ^ 31 by omega), ow_byte (by omega) (by omega), ow_byte (by omega) (by omega)]
      refine And.intro vi (fun A' eA => And.intro vi (fun B' eB => ?_))
      unfold wpY_change
      refine py_is hN (fun a => ?_) (fun j _ _ => br_f (by decide) ?_)
      · exfalso
        rcases a with a | a
        · exact nI_pos (by omega) a
        · exact a (nI_lt (by omega) (by omega))
      · refine ow_okY (fun _ => br_f (by decide) ?_) (fun h => absurd g h)
        rw [nI_clamp (show i < 2 ^ 31 by omega)]
        refine And.intro vi (fun A2 eA2 => And.intro vi (fun B2 eB2 => ?_))
        rw [eA, eB, eA2, eB2]
        exact ⟨rfl, ow_rel ⟨hw, he, by omega, ow_upd hA (by omega), ow_upd hB (by omega)⟩⟩
    · unfold wpY_change
      refine py_is hN (fun a => br_t rfl ⟨rfl, ow_rel hC⟩) (fun j _ _ => br_f (by decide) ?_)
      exact ow_okY (fun h => absurd h g) (fun _ => br_t rfl ⟨rfl, ow_rel hC⟩)
theorem i_vc_setWidth {k : Nat} {u : SX} {v : SY} (I : i_Rel k u v) (hk : k + 4 ≤ 2050) (v1 : Int32) : wpX_setWidth (fun r u' => wpY_setWidth (fun r' v' => r' = r ∧ i_Rel (k + 4) u' v') v v1) u v1 := by
  obtain ⟨w, e, bar, A, B, o, up, bs, ws, N, hC, rfl, rfl⟩ := I
  have h5 : (5 : Int32).toInt = 5 := by decide
  have h60 : (60 : Int32).toInt = 60 := by decide
  by_cases a : v1 < 5
  · exact br_t a (br_t a ⟨rfl, ow_rel hC⟩)
  · by_cases b : v1 ≤ 60
    · refine br_f a (br_t b (br_f a (br_t b ⟨rfl, ow_rel ⟨?_, hC.2⟩⟩)))
      rw [Int32.lt_iff_toInt_lt, h5] at a
      rw [Int32.le_iff_toInt_le, h60] at b
      omega
    · exact br_f a (br_f b (br_f a (br_f b ⟨rfl, ow_rel hC⟩)))
theorem i_vc_words {k : Nat} {u : SX} {v : SY} (I : i_Rel k u v) (hk : k + 4 ≤ 2050) : wpX_words (fun r => wpY_words (fun r' => r' = r ∧ i_Rel (k + 4) u v) v) u := by
  have I' : i_Rel (k + 4) u v := i_up I
  obtain ⟨w, e, bar, A, B, o, up, bs, ws, N, hC, rfl, rfl⟩ := I
  exact ⟨rfl, I'⟩
theorem i_vc_cost {k : Nat} {u : SX} {v : SY} (I : i_Rel k u v) (hk : k + 4 ≤ 2050) : wpX_cost (fun r u' => wpY_cost (fun r' => r' = r ∧ i_Rel (k + 4) u' v) v) u := by
  obtain ⟨w, e, bar, A, B, o, up, bs, ws, N, hC, rfl, rfl⟩ := I
  exact px_cost hC (fun r o' bs' ws' g => py_cost hC (fun r' g' => ⟨Int32.toInt_inj.mp (pb_My_un g' g), ow_rel hC⟩))
theorem i_vc_lines {k : Nat} {u : SX} {v : SY} (I : i_Rel k u v) (hk : k + 4 ≤ 2050) : wpX_lines (fun r u' => wpY_lines (fun r' => r' = r ∧ i_Rel (k + 4) u' v) v) u := by
  obtain ⟨w, e, bar, A, B, o, up, bs, ws, N, hC, rfl, rfl⟩ := I
  have hN := hC.2.2.1
  have hp := py_pow hN
  rcases pb_Opt_ex (pb_L w e A B N (-1)) N with hi | ⟨s, m, hs, ho⟩
  · refine px_lines_no hC hi (fun o' bs' ws' => ?_)
    unfold wpY_lines
    exact py_best_no hC hi (br_f (by decide) ⟨rfl, ow_rel hC⟩)
  · refine px_lines hC ho (fun o' bs' ws' => ?_)
    unfold wpY_lines
    refine py_best1 hC hs ho (br_t (nI_pos' (by omega)) ?_)
    exact py_cnt hN hs ⟨rfl, ow_rel hC⟩
theorem i_vc_lineOf {k : Nat} {u : SX} {v : SY} (I : i_Rel k u v) (hk : k + 4 ≤ 2050) (v1 : Int32) : wpX_lineOf (fun r u' => wpY_lineOf (fun r' => r' = r ∧ i_Rel (k + 4) u' v) v v1) u v1 := by
  obtain ⟨w, e, bar, A, B, o, up, bs, ws, N, hC, rfl, rfl⟩ := I
  have hN := hC.2.2.1
  have hp := py_pow hN
  rcases pb_rng2 v1 hN with out | ⟨i, hi, rfl⟩
  · have Y : wpY_lineOf (fun r' => r' = -1 ∧ i_Rel (k + 4) (w, e, nI N, bar, A, B, o, up, bs, ws) (w, e, nI N, A, B)) (w, e, nI N, A, B) v1 := by
      unfold wpY_lineOf
      rcases pb_Opt_ex (pb_L w e A B N (-1)) N with hi | ⟨s, m, hs, ho⟩
      · exact py_best_no hC hi (br_t (by decide) ⟨rfl, ow_rel hC⟩)
      · refine py_best1 hC hs ho (br_f (nI_pos (by omega)) ?_)
        refine py_is hN (fun _ => br_t rfl ⟨rfl, ow_rel hC⟩) (fun i hi ei => ?_)
        subst ei
        exfalso
        rcases out with a | a
        · exact nI_pos (by omega) a
        · exact a (nI_lt (by omega) (by omega))
    unfold wpX_lineOf
    refine br_c (fun _ => Y) (fun a => br_f ?_ Y)
    rcases out with b | b
    · exact absurd b a
    · exact b
  · rcases pb_Opt_ex (pb_L w e A B N (-1)) N with hin | ⟨s, m, hs, ho⟩
    · refine px_lineof_no hC hin hi (fun o' bs' ws' => ?_)
      unfold wpY_lineOf
      exact py_best_no hC hin (br_t (by decide) ⟨rfl, ow_rel hC⟩)
    · refine px_lineof hC ho hi (fun o' bs' ws' => ?_)
      unfold wpY_lineOf
      refine py_best1 hC hs ho (br_f (nI_pos (by omega)) ?_)
      refine py_is hN (fun a => ?_) (fun j _ _ => br_f (by decide) ⟨i + 1, ?_⟩)
      · exfalso
        rcases a with a | a
        · exact nI_pos (by omega) a
        · exact a (nI_lt (by omega) (by omega))
      · exact py_lo_l (by omega) (by omega) ⟨rfl, ow_rel hC⟩ i 0 (i + 1) (by omega) (by omega)
theorem ow_line {N : Nat} {t : Nat → Bool} (v : Int32) (hN : N ≤ 10) : (v < 0 ∨ ¬ v < nI (pb_nl t N 0)) ∨ ∃ k, k < pb_nl t N 0 ∧ v = nI k := by
  have hnl := pb_nl_le t N 0
  exact pb_rng2 v (by omega)
theorem i_vc_endOf {k : Nat} {u : SX} {v : SY} (I : i_Rel k u v) (hk : k + 4 ≤ 2050) (v1 : Int32) : wpX_endOf (fun r u' => wpY_endOf (fun r' => r' = r ∧ i_Rel (k + 4) u' v) v v1) u v1 := by
  obtain ⟨w, e, bar, A, B, o, up, bs, ws, N, hC, rfl, rfl⟩ := I
  have hN := hC.2.2.1
  have hp := py_pow hN
  unfold wpX_endOf
  rcases pb_Opt_ex (pb_L w e A B N (-1)) N with hi | ⟨s, m, hs, ho⟩
  · refine px_eol_no hC hi (fun o' bs' ws' => br_f (by decide) ?_)
    exact py_eo_no hC hi ⟨rfl, ow_rel hC⟩
  · have hnl := pb_nl_le s.testBit N 0
    rcases ow_line (t := s.testBit) v1 hN with out | ⟨j, hj, rfl⟩
    · refine px_eol_out hC ho out (fun o' bs' ws' => br_f (by decide) ?_)
      refine py_eo hC hs ho (fun j hj ej => ?_) (fun _ => ⟨rfl, ow_rel hC⟩)
      subst ej
      exfalso
      rcases out with a | a
      · exact nI_pos (by omega) a
      · exact a (nI_lt (by omega) (by omega))
    · obtain ⟨l1, l2, l3, _⟩ := pb_e_lt _ ho.1 hj
      refine px_eol hC ho hj (fun o' bs' ws' => br_t (nI_pos' (by omega)) ?_)
      refine py_eo hC hs ho (fun j' hj' ej => ?_) (fun a => ?_)
      · rw [nI_eq (by omega) (by omega)] at ej
        subst ej
        exact ⟨(pb_pred (by omega)).symm, ow_rel hC⟩
      · exfalso
        rcases a with a | a
        · exact nI_pos (by omega) a
        · exact a (nI_lt (by omega) (by omega))
theorem i_vc_lengthOf {k : Nat} {u : SX} {v : SY} (I : i_Rel k u v) (hk : k + 4 ≤ 2050) (v1 : Int32) : wpX_lengthOf (fun r u' => wpY_lengthOf (fun r' => r' = r ∧ i_Rel (k + 4) u' v) v v1) u v1 := by
  obtain ⟨w, e, bar, A, B, o, up, bs, ws, N, hC, rfl, rfl⟩ := I
  have hN := hC.2.2.1
  have hA := hC.2.2.2.1
  have hp := py_pow hN
  have y23 : ∀ (post : Int32 → Prop) (z : Int32), post (-1) → wY_lengthOf_23 post (-1) z w e (nI N) A B := fun post z h => br_f (by decide) h
  unfold wpX_lengthOf
  rcases pb_Opt_ex (pb_L w e A B N (-1)) N with hi | ⟨s, m, hs, ho⟩
  · refine px_eol_no hC hi (fun o' bs' ws' => br_f (by decide) ?_)
    unfold wpY_lengthOf
    refine py_eo_no hC hi (br_c (fun _ => y23 _ _ ⟨rfl, ow_rel hC⟩) (fun _ => ?_))
    exact py_eo_no hC hi (y23 _ _ ⟨rfl, ow_rel hC⟩)
  · have hnl := pb_nl_le s.testBit N 0
    rcases ow_line (t := s.testBit) v1 hN with out | ⟨j, hj, rfl⟩
    · refine px_eol_out hC ho out (fun o' bs' ws' => br_f (by decide) ?_)
      unfold wpY_lengthOf
      refine py_eo hC hs ho (fun j hj ej => ?_) (fun _ => br_c (fun _ => y23 _ _ ⟨rfl, ow_rel hC⟩) (fun _ => ?_))
      · subst ej
        exfalso
        rcases out with a | a
        · exact nI_pos (by omega) a
        · exact a (nI_lt (by omega) (by omega))
      · exact py_eo hC hs ho (fun j hj ej => y23 _ _ ⟨rfl, ow_rel hC⟩) (fun _ => y23 _ _ ⟨rfl, ow_rel hC⟩)
    · obtain ⟨l1, l2, l3, _⟩ := pb_e_lt _ ho.1 hj
      have inr : ∀ i, i < pb_nl s.testBit N 0 → ¬ (nI i < 0 ∨ ¬ nI i < nI (pb_nl s.testBit N 0)) := by
        intro i hi a
        rcases a with a | a
        · exact nI_pos (by omega) a
        · exact a (nI_lt (by omega) (by omega))
      have fin : ∀ (bar' : Int32) (o' bs' ws' : Nat → Int32) (p : Nat) (r : Int32), p < pb_e s.testBit N (j + 1) → r.toInt = pb_len A p (pb_e s.testBit N (j + 1)) → wY_lengthOf_23 (fun r' => r' = r ∧ i_Rel (k + 4) (w, e, nI N, bar', A, B, o', up, bs', ws') (w, e, nI N, A, B)) (nI (pb_e s.testBit N (j + 1) - 1)) (nI p) w e (nI N) A B := by
        intro bar' o' bs' ws' p r hp hr
        refine br_t (nI_pos' (by omega)) (py_len hA (by omega) (by omega) (fun r' hr' => ⟨Int32.toInt_inj.mp ?_, ow_rel hC⟩))
        have e1 : pb_e s.testBit N (j + 1) - 1 + 1 = pb_e s.testBit N (j + 1) := by omega
        rw [hr', hr, e1]
      refine px_eol hC ho hj (fun o' bs' ws' => br_t (nI_pos' (by omega)) ?_)
      refine pk_le j 0 (fun c => ?_) (fun c => ?_)
      · have e0 : j = 0 := by omega
        subst e0
        unfold wX_lengthOf_27
        refine px_len (p := 0) hA (by omega) (by omega) (fun r hr => ?_)
        unfold wpY_lengthOf
        refine py_eo hC hs ho (fun j' hj' ej => ?_) (fun a => absurd a (inr 0 hj))
        rw [nI_eq (by omega) (by omega)] at ej
        subst ej
        exact br_t (by decide) (fin _ _ _ _ 0 r (by omega) hr)
      · have hj2 : j - 1 < pb_nl s.testBit N 0 := by omega
        obtain ⟨n1, n2, n3, _⟩ := pb_e_lt _ ho.1 hj2
        have ej1 : j - 1 + 1 = j := by omega
        rw [ej1] at n2 n3
        rw [pb_pred (by omega)]
        refine px_eol hC ho hj2 (fun o2 bs2 ws2 => ?_)
        rw [ej1]
        unfold wX_lengthOf_27
        refine px_len hA l2 (by omega) (fun r hr => ?_)
        unfold wpY_lengthOf
        refine py_eo hC hs ho (fun j' hj' ej => ?_) (fun a => absurd a (inr j hj))
        rw [nI_eq (by omega) (by omega)] at ej
        subst ej
        refine br_f (nI_nle (by omega) (by omega)) ?_
        rw [pb_pred (by omega)]
        refine py_eo hC hs ho (fun j' hj' ej => ?_) (fun a => absurd a (inr (j - 1) hj2))
        rw [nI_eq (by omega) (by omega)] at ej
        subst ej
        rw [ej1, nI_1]
        have e2 : pb_e s.testBit N j - 1 + 1 = pb_e s.testBit N j := by omega
        rw [e2]
        exact fin _ _ _ _ _ r l2 hr
theorem i_vc_costWith {k : Nat} {u : SX} {v : SY} (I : i_Rel k u v) (hk : k + 4 ≤ 2050) (v1 : Int32) : wpX_costWith (fun r u' => wpY_costWith (fun r' => r' = r ∧ i_Rel (k + 4) u' v) v v1) u v1 := by
  obtain ⟨w, e, bar, A, B, o, up, bs, ws, N, hC, rfl, rfl⟩ := I
  have hN := hC.2.2.1
  have out : (∀ n, n ≤ 10 → nI n ≠ v1) → wpY_costWith (fun r' => r' = -1000000 ∧ i_Rel (k + 4) (w, e, nI N, bar, A, B, o, up, bs, ws) (w, e, nI N, A, B)) (w, e, nI N, A, B) v1 := by
    intro hv
    refine py_cw hC (fun r hr => ⟨?_, ow_rel hC⟩)
    rcases hr with ⟨a, _⟩ | ⟨_, ⟨t, a, _⟩, _⟩
    · exact Int32.toInt_inj.mp (a.trans pi_none.symm)
    · have := pb_nl_le t N 0
      exact absurd a (hv _ (by omega))
  unfold wpX_costWith
  refine br_c (fun a => out (fun n hn en => ?_)) (fun a => ?_)
  · subst en
    exact nI_pos (by omega) a
  · obtain ⟨n, hn, rfl⟩ := nI_of a
    refine pk_le n 10 (fun c => ?_) (fun c => out (fun i hi ei => ?_))
    · refine px_start hC (fun o' bs' ws' hE => ?_)
      have vi : vp_in (nI (n * 11)) 121 := vp_in_nI (by omega) (by omega)
      have hO := hE.1 n 0 c (Nat.zero_le N)
      rw [Nat.add_zero] at hO
      have hS : ∀ x, pb_SO (pb_L w e A B N (-1)) N n 0 x ↔ ∃ t : Nat → Bool, nI (pb_nl t N 0) = nI n ∧ pb_ct (pb_L w e A B N (-1)) t N 0 0 = some x := by
        intro x
        unfold pb_SO
        rw [Nat.sub_zero]
        constructor
        · rintro ⟨t, g1, g2⟩
          exact ⟨t, by rw [g1], g2⟩
        · rintro ⟨t, g1, g2⟩
          have := pb_nl_le t N 0
          rw [nI_eq (by omega) (by omega)] at g1
          exact ⟨t, g1, g2⟩
      have fin : ∀ r : Int32, pb_My (pb_SO (pb_L w e A B N (-1)) N n 0) r.toInt → wpY_costWith (fun r' => r' = r ∧ i_Rel (k + 4) (w, e, nI N, -1, A, B, o', up, bs', ws') (w, e, nI N, A, B)) (w, e, nI N, A, B) (nI n) := fun r hr => py_cw hC (fun r' hr' => ⟨Int32.toInt_inj.mp (pb_My_un hr' (pb_My_cg hS hr)), ow_rel hC⟩)
      rw [px_ix3, nI_clamp (by omega)]
      refine And.intro vi (pi_le pi_far rfl (fun c1 => fin _ (pb_My_far hO c1)) (fun c1 => And.intro vi (fin _ (pb_My_in hO c1 (fun x hx => (pb_SO_bd hC (Nat.zero_le N) hx).1)))))
    · rw [nI_eq (by omega) hn] at ei
      omega
theorem i_vc_costBreaking {k : Nat} {u : SX} {v : SY} (I : i_Rel k u v) (hk : k + 4 ≤ 2050) (v1 : Int32) : wpX_costBreaking (fun r u' => wpY_costBreaking (fun r' => r' = r ∧ i_Rel (k + 4) u' v) v v1) u v1 := by
  obtain ⟨w, e, bar, A, B, o, up, bs, ws, N, hC, rfl, rfl⟩ := I
  have hN := hC.2.2.1
  rcases pb_rng v1 hN with out | ⟨i, hi, rfl⟩
  · exact px_cb_out out (py_cb_out hN out ⟨rfl, ow_rel hC⟩)
  · exact px_cb hC hi (fun r o' up' bs' ws' g => py_cb hC hi (fun r' g' => ⟨Int32.toInt_inj.mp (pb_My_un g' g), ow_rel hC⟩))
theorem i_vc_costKeeping {k : Nat} {u : SX} {v : SY} (I : i_Rel k u v) (hk : k + 4 ≤ 2050) (v1 : Int32) : wpX_costKeeping (fun r u' => wpY_costKeeping (fun r' => r' = r ∧ i_Rel (k + 4) u' v) v v1) u v1 := by
  obtain ⟨w, e, bar, A, B, o, up, bs, ws, N, hC, rfl, rfl⟩ := I
  have hN := hC.2.2.1
  rcases pb_rng v1 hN with out | ⟨i, hi, rfl⟩
  · exact px_ck_out out (py_ck_out hN out ⟨rfl, ow_rel hC⟩)
  · exact px_ck hC hi (fun r o' bs' ws' g => py_ck hC hi (fun r' g' => ⟨Int32.toInt_inj.mp (pb_My_un g' g), ow_rel hC⟩))
theorem i_vc_choices {k : Nat} {u : SX} {v : SY} (I : i_Rel k u v) (hk : k + 4 ≤ 2050) : wpX_choices (fun r u' => wpY_choices (fun r' => r' = r ∧ i_Rel (k + 4) u' v) v) u := by
  obtain ⟨w, e, bar, A, B, o, up, bs, ws, N, hC, rfl, rfl⟩ := I
  have hN := hC.2.2.1
  have hp := py_pow hN
  unfold wpX_choices
  refine px_start hC (fun o' bs' ws' hE => ?_)
  have hb := hE.2 0 (Nat.zero_le N)
  unfold wpY_choices
  refine py_cost hC (fun r hr => ?_)
  have hpos : 0 < 2 ^ (N - 1) := Nat.two_pow_pos _
  by_cases z : r = -1000000
  · refine ⟨1, ?_⟩
    rw [wY_choices_9]
    refine py_sets hN ?_
    refine br_f (nI_nle hpos (by omega)) (br_t z ⟨?_, ow_rel hC⟩)
    have hno : ∀ c, ¬ pb_gc (pb_L w e A B N (-1)) (N - 0) 0 0 c ≠ 0 := by
      rcases hr with ⟨_, g⟩ | ⟨g, _⟩
      · exact g
      · exact absurd (by rw [z, pi_none]) g
    rw [hb.2, Classical.not_not.mp (hno _), nI_0]
  · have em : r.toInt = (bs' 0).toInt := by
      rcases hr with ⟨g, _⟩ | ⟨g, g1, g2⟩
      · exact absurd (Int32.toInt_inj.mp (g.trans pi_none.symm)) z
      · rcases hb.1 with ⟨_, f⟩ | ⟨_, f1, f2⟩
        · exact absurd g1 (f _)
        · have := g2 _ f1
          have := f2 _ g1
          omega
    have g := py_ch_l (post := fun r' => r' = ws' 0 ∧ i_Rel (k + 4) (w, e, nI N, -1, A, B, o', up, bs', ws') (w, e, nI N, A, B)) hC z ⟨by rw [py_gc, em, hb.2, Nat.sub_zero], ow_rel hC⟩ (2 ^ (N - 1)) 0 (2 ^ (N - 1) + 1) (by omega) (by omega)
    exact ⟨_, g⟩
end
