section
/-! rows taken out of kit/rows (starting texts) -/
theorem pk_us {f : Nat → Int32} {k : Nat} {x : Int32} : upd f k x k = x := if_pos rfl
theorem pk_un {f : Nat → Int32} {k j : Nat} {x : Int32} (h : j ≠ k) : upd f k x j = f j := if_neg h
theorem pk_sub {a b : Nat} (h : b ≤ a) : nI a - nI b = nI (a - b) := by
  obtain ⟨c, rfl⟩ : ∃ c, a = c + b := ⟨a - b, by omega⟩
  rw [← nI_add, Int32.add_sub_cancel, Nat.add_sub_cancel]
theorem pk_m1 (n : Nat) : nI (n + 1) + (-1) = nI n := by
  rw [← nI_1, Int32.add_assoc, show (1 : Int32) + (-1) = 0 from rfl, Int32.add_zero]
theorem pk_mul (a b : Nat) : nI a * nI b = nI (a * b) := (Int32.ofNat_mul a b).symm
theorem pk_div {a d : Nat} (ha : a < 2 ^ 31) (h0 : 0 < d) (hd : d < 2 ^ 31) : nI a / nI d = nI (a / d) := by
  apply Int32.toInt_inj.mp
  rw [lg_idiv_nonneg (by rw [nI_toInt ha]; omega) (by rw [nI_toInt hd]; omega), nI_toInt ha, nI_toInt hd, nI_toInt (Nat.lt_of_le_of_lt (Nat.div_le_self a d) ha)]
  first | rfl | exact (Int.natCast_ediv _ _).symm
theorem pk_ix (x : Int32) {n : Nat} (hn : n < 2 ^ 31) : x < 0 ∨ nI n ≤ x ∨ ∃ j : Nat, j < n ∧ x = nI j := by
  by_cases h : x < 0
  · exact Or.inl h
  · obtain ⟨j, hj, rfl⟩ := nI_of h
    by_cases h2 : j < n
    · exact Or.inr (Or.inr ⟨j, h2, rfl⟩)
    · exact Or.inr (Or.inl (nI_le (by omega) hj))
theorem pk_le {x y : Int32} {A B : Prop} (a b : Nat) (f : a ≤ b → A) (g : b < a → B) (hx : x = nI a := by rfl) (hy : y = nI b := by rfl) (ha : a < 2 ^ 31 := by omega) (hb : b < 2 ^ 31 := by omega) : (x ≤ y → A) ∧ (¬ x ≤ y → B) := by
  subst hx hy
  rw [nI_leI ha hb]
  exact ⟨f, fun z => g (by omega)⟩
theorem pk_lt {x y : Int32} {A B : Prop} (a b : Nat) (f : a < b → A) (g : b ≤ a → B) (hx : x = nI a := by rfl) (hy : y = nI b := by rfl) (ha : a < 2 ^ 31 := by omega) (hb : b < 2 ^ 31 := by omega) : (x < y → A) ∧ (¬ x < y → B) := by
  subst hx hy
  rw [nI_ltI ha hb]
  exact ⟨f, fun z => g (by omega)⟩
theorem pk_eq {x y : Int32} {A B : Prop} (a b : Nat) (f : a = b → A) (g : a ≠ b → B) (hx : x = nI a := by rfl) (hy : y = nI b := by rfl) (ha : a < 2 ^ 31 := by omega) (hb : b < 2 ^ 31 := by omega) : (x = y → A) ∧ (¬ x = y → B) := by
  subst hx hy
  rw [nI_eq ha hb]
  exact ⟨f, g⟩
theorem pk_in {x : Int32} (n N : Nat) (h : n < N) (hx : x = nI n := by rfl) (hN : N < 2 ^ 31 := by omega) : vp_in x N := by
  subst hx
  exact vp_in_nI h hN
theorem pk_cl {x : Int32} (n : Nat) (hx : x = nI n := by rfl) (h : n < 2 ^ 31 := by omega) : x.toNatClampNeg = n := by
  subst hx
  exact nI_clamp h
theorem pk_tn {n : Nat} (h : n < 2 ^ 32) : (nI n).toBitVec.toNat = n := Nat.mod_eq_of_lt h
theorem pk_ushr (x s : Int32) (k : Nat) (hs : ((s.toUInt32 &&& Int32.toUInt32 31).toBitVec % 32).toNat = k) : (x.toUInt32 >>> (s.toUInt32 &&& Int32.toUInt32 31)).toInt32.toBitVec.toNat = x.toBitVec.toNat / 2 ^ k := by
  have e : (x.toUInt32 >>> (s.toUInt32 &&& Int32.toUInt32 31)).toInt32.toBitVec = x.toBitVec >>> k := by
    rw [← hs]
    exact UInt32.toBitVec_shiftRight _ _
  rw [e, BitVec.toNat_ushiftRight, Nat.shiftRight_eq_div_pow]
theorem pk_ushrN {n : Nat} (hn : n < 2 ^ 32) (s : Int32) (k : Nat) (hs : ((s.toUInt32 &&& Int32.toUInt32 31).toBitVec % 32).toNat = k) : ((nI n).toUInt32 >>> (s.toUInt32 &&& Int32.toUInt32 31)).toInt32 = nI (n / 2 ^ k) := by
  apply Int32.toBitVec_inj.mp
  apply BitVec.eq_of_toNat_eq
  rw [pk_ushr _ s k hs, pk_tn hn, pk_tn (Nat.lt_of_le_of_lt (Nat.div_le_self _ _) hn)]
theorem pk_least (P : Nat → Prop) (h : ∃ k, P k) : ∃ k, P k ∧ ∀ j, j < k → ¬ P j := by
  obtain ⟨k, hk⟩ := h
  induction k using Nat.strongRecOn with
  | ind k ih =>
    by_cases e : ∃ j, j < k ∧ P j
    · obtain ⟨j, hj, pj⟩ := e
      exact ih j hj pj
    · exact ⟨k, hk, fun j hj pj => e ⟨j, hj, pj⟩⟩
def bt (x : Int32) (i : Nat) : Bool := x.toBitVec.getLsbD i
theorem b_ext {x y : Int32} (h : ∀ i, i < 32 → bt x i = bt y i) : x = y := Int32.toBitVec_inj.mp (BitVec.eq_of_getLsbD_eq (fun i hi => h i hi))
theorem b_or (x y : Int32) (i : Nat) : bt (x ||| y) i = (bt x i || bt y i) := by unfold bt; rw [Int32.toBitVec_or, BitVec.getLsbD_or]
theorem b_and (x y : Int32) (i : Nat) : bt (x &&& y) i = (bt x i && bt y i) := by unfold bt; rw [Int32.toBitVec_and, BitVec.getLsbD_and]
theorem b_xor (x y : Int32) (i : Nat) : bt (x ^^^ y) i = (bt x i ^^ bt y i) := by unfold bt; rw [Int32.toBitVec_xor, BitVec.getLsbD_xor]
theorem b_big {x : Int32} {i : Nat} (h : 32 ≤ i) : bt x i = false := BitVec.getLsbD_of_ge _ _ h
theorem b_m1 : ∀ i, i < 32 → bt (-1) i = true := by decide +kernel
theorem b_0 (i : Nat) : bt 0 i = false := BitVec.getLsbD_zero
theorem s_l : ∀ n, n < 32 → ((nI n &&& 31).toBitVec.smod 32).toNat = n := by decide +kernel
theorem s_u : ∀ n, n < 32 → (((nI n).toUInt32 &&& Int32.toUInt32 31).toBitVec % 32).toNat = n := by decide +kernel
theorem b_shl (n : Nat) (hn : n < 32) (x : Int32) {i : Nat} (hi : i < 32) : bt (x <<< (nI n &&& 31)) i = (decide (n ≤ i) && bt x (i - n)) := by
  unfold bt
  rw [Int32.toBitVec_shiftLeft]
  show (x.toBitVec <<< ((nI n &&& 31).toBitVec.smod 32).toNat).getLsbD i = _
  rw [s_l n hn, BitVec.getLsbD_shiftLeft]
  rcases Nat.lt_or_ge i n with h | h
  · simp [h, Nat.not_le.mpr h]
  · simp [hi, h, Nat.not_lt.mpr h]
theorem b_ushr (n : Nat) (hn : n < 32) (x : Int32) (i : Nat) : bt ((x.toUInt32 >>> ((nI n).toUInt32 &&& Int32.toUInt32 31)).toInt32) i = bt x (n + i) := by
  show (x.toUInt32 >>> ((nI n).toUInt32 &&& Int32.toUInt32 31)).toBitVec.getLsbD i = x.toUInt32.toBitVec.getLsbD (n + i)
  rw [UInt32.toBitVec_shiftRight]
  show (x.toUInt32.toBitVec >>> (((nI n).toUInt32 &&& Int32.toUInt32 31).toBitVec % 32).toNat).getLsbD i = _
  rw [s_u n hn, BitVec.getLsbD_ushiftRight]
theorem b_sshr (n : Nat) (hn : n < 32) (x : Int32) {i : Nat} (hi : i < 32) : bt (x >>> (nI n &&& 31)) i = if n + i < 32 then bt x (n + i) else bt x 31 := by
  unfold bt
  rw [Int32.toBitVec_shiftRight]
  show (x.toBitVec.sshiftRight ((nI n &&& 31).toBitVec.smod 32).toNat).getLsbD i = _
  rw [s_l n hn, BitVec.getLsbD_sshiftRight, BitVec.msb_eq_getLsbD_last]
  simp [hi]
theorem nx_and (a b : Nat) : nI a &&& nI b = nI (a &&& b) := by
  apply Int32.toBitVec_inj.1
  show BitVec.ofNat 32 a &&& BitVec.ofNat 32 b = BitVec.ofNat 32 (a &&& b)
  apply BitVec.eq_of_getLsbD_eq
  intro i hi
  simp [hi]
theorem wb_of32 (x : Int32) : ∃ n, n < 2 ^ 32 ∧ x = nI n := ⟨x.toBitVec.toNat, x.toBitVec.isLt, Int32.toBitVec_inj.mp (by show _ = BitVec.ofNat 32 _; simp)⟩
end
section
/-! counting: sj_cn n p is the number of i below n with p i -/
def sj_cn : Nat → (Nat → Bool) → Nat
  | 0, _ => 0
  | n + 1, p => sj_cn n p + (if p n = true then 1 else 0)
theorem sj_cn0 (p : Nat → Bool) : sj_cn 0 p = 0 := rfl
theorem sj_cnS (n : Nat) (p : Nat → Bool) : sj_cn (n + 1) p = sj_cn n p + (if p n = true then 1 else 0) := rfl
theorem sj_cnT {n : Nat} {p : Nat → Bool} (h : p n = true) : sj_cn (n + 1) p = sj_cn n p + 1 := by rw [sj_cnS, if_pos h]
theorem sj_cnF {n : Nat} {p : Nat → Bool} (h : p n = false) : sj_cn (n + 1) p = sj_cn n p := by rw [sj_cnS, h]; rfl
theorem sj_cn_le (n : Nat) (p : Nat → Bool) : sj_cn n p ≤ n := by
  induction n with
  | zero => exact Nat.le_refl 0
  | succ n ih => rw [sj_cnS]; split <;> omega
theorem sj_cn_congr {n : Nat} {p q : Nat → Bool} (h : ∀ i, i < n → p i = q i) : sj_cn n p = sj_cn n q := by
  induction n with
  | zero => rfl
  | succ n ih => rw [sj_cnS, sj_cnS, ih (fun i hi => h i (by omega)), h n (by omega)]
theorem sj_cn_diff {z m : Nat} {p q : Nat → Bool} (hzm : z ≤ m) (h : ∀ i, z ≤ i → i < m → p i = true → q i = true) : sj_cn m p + sj_cn z q ≤ sj_cn m q + sj_cn z p := by
  induction m with
  | zero =>
    have e : z = 0 := by omega
    subst e
    exact Nat.le_refl _
  | succ m ih =>
    by_cases e : z = m + 1
    · subst e; omega
    · have hi := ih (by omega) (fun i a b => h i a (by omega))
      have hm := h m (by omega) (by omega)
      rw [sj_cnS m p, sj_cnS m q]
      cases hp : p m with
      | false => rw [if_neg (by decide)]; omega
      | true => rw [if_pos rfl, if_pos (hm hp)]; omega
theorem sj_cn_mono {z m : Nat} {p : Nat → Bool} (h : z ≤ m) : sj_cn z p ≤ sj_cn m p := by
  induction m with
  | zero =>
    have e : z = 0 := by omega
    subst e
    exact Nat.le_refl _
  | succ m ih =>
    by_cases e : z = m + 1
    · subst e; exact Nat.le_refl _
    · have := ih (by omega)
      rw [sj_cnS]; omega
theorem sj_cn_imp {n : Nat} {p q : Nat → Bool} (h : ∀ i, i < n → p i = true → q i = true) : sj_cn n p ≤ sj_cn n q := by
  have := sj_cn_diff (z := 0) (m := n) (p := p) (q := q) (Nat.zero_le n) (fun i _ b => h i b)
  rw [sj_cn0, sj_cn0] at this
  omega
theorem sj_cn_add (n m : Nat) (p : Nat → Bool) : sj_cn (n + m) p = sj_cn n p + sj_cn m (fun i => p (n + i)) := by
  induction m with
  | zero => rfl
  | succ m ih => rw [← Nat.add_assoc, sj_cnS, sj_cnS, ih]; omega
theorem sj_cn_lt {z m : Nat} {p : Nat → Bool} (h : z < m) (hz : p z = true) : sj_cn z p < sj_cn m p := by
  have a : sj_cn (z + 1) p ≤ sj_cn m p := sj_cn_mono (by omega)
  rw [sj_cnT hz] at a
  omega
theorem sj_cn_pos {n : Nat} {p : Nat → Bool} (h : 0 < sj_cn n p) : ∃ i, i < n ∧ p i = true := by
  induction n with
  | zero => exact absurd h (Nat.lt_irrefl 0)
  | succ n ih =>
    cases hp : p n with
    | true => exact ⟨n, by omega, hp⟩
    | false =>
      rw [sj_cnF hp] at h
      obtain ⟨i, hi, pi⟩ := ih h
      exact ⟨i, by omega, pi⟩
theorem sj_cn_none {n : Nat} {p : Nat → Bool} (h : ∀ i, i < n → p i = false) : sj_cn n p = 0 := by
  induction n with
  | zero => rfl
  | succ n ih => rw [sj_cnF (h n (by omega)), ih (fun i hi => h i (by omega))]
theorem sj_cn_all {n : Nat} {p : Nat → Bool} (h : ∀ i, i < n → p i = true) : sj_cn n p = n := by
  induction n with
  | zero => rfl
  | succ n ih => rw [sj_cnT (h n (by omega)), ih (fun i hi => h i (by omega))]
theorem sj_cn_full {n : Nat} {p : Nat → Bool} (h : n ≤ sj_cn n p) : ∀ i, i < n → p i = true := by
  induction n with
  | zero => intro i hi; omega
  | succ n ih =>
    have hl := sj_cn_le n p
    cases hp : p n with
    | false => rw [sj_cnF hp] at h; omega
    | true =>
      rw [sj_cnT hp] at h
      intro i hi
      by_cases e : i = n
      · subst e; exact hp
      · exact ih (by omega) i (by omega)
theorem sj_cn_rem {m x : Nat} {p : Nat → Bool} (hx : x < m) (px : p x = true) : sj_cn m p = sj_cn m (fun y => p y && !(decide (y = x))) + 1 := by
  induction m with
  | zero => omega
  | succ m ih =>
    by_cases e : x = m
    · subst e
      rw [sj_cnT px, sj_cnF (p := fun y => p y && !(decide (y = x))) (by simp)]
      congr 1
      apply sj_cn_congr
      intro i hi
      have : ¬ i = x := by omega
      simp [this]
    · rw [sj_cnS, sj_cnS, ih (by omega)]
      have : ¬ m = x := by omega
      simp [this]
      omega
theorem sj_cn_inj : ∀ (n m : Nat) (p : Nat → Bool) (f : Nat → Nat), (∀ i, i < n → f i < m) → (∀ i j, i < n → j < n → f i = f j → i = j) → sj_cn n (fun i => p (f i)) ≤ sj_cn m p := by
  intro n
  induction n with
  | zero => intro m p f _ _; exact Nat.zero_le _
  | succ n ih =>
    intro m p f hf hi
    cases hp : p (f n) with
    | false =>
      rw [sj_cnF (p := fun i => p (f i)) hp]
      exact ih m p f (fun i h => hf i (by omega)) (fun i j a b => hi i j (by omega) (by omega))
    | true =>
      rw [sj_cnT (p := fun i => p (f i)) hp, sj_cn_rem (hf n (by omega)) hp]
      have h1 := ih m (fun y => p y && !(decide (y = f n))) f (fun i h => hf i (by omega)) (fun i j a b => hi i j (by omega) (by omega))
      have h2 : sj_cn n (fun i => p (f i)) = sj_cn n (fun i => (fun y => p y && !(decide (y = f n))) (f i)) := by
        apply sj_cn_congr
        intro i h
        have : ¬ f i = f n := fun e => by have := hi i n (by omega) (by omega) e; omega
        simp [this]
      exact Nat.succ_le_succ (h2 ▸ h1)
theorem sj_cn_ie (n : Nat) (p q : Nat → Bool) : sj_cn n (fun i => p i || q i) + sj_cn n (fun i => p i && q i) = sj_cn n p + sj_cn n q := by
  induction n with
  | zero => rfl
  | succ n ih =>
    rw [sj_cnS, sj_cnS, sj_cnS, sj_cnS]
    cases p n <;> cases q n <;> simp <;> omega
theorem sj_cn_slt {n x : Nat} {p q : Nat → Bool} (hx : x < n) (h : ∀ i, i < n → p i = true → q i = true) (px : p x = false) (qx : q x = true) : sj_cn n p < sj_cn n q := by
  rw [sj_cn_rem hx qx]
  have : sj_cn n p ≤ sj_cn n (fun y => q y && !(decide (y = x))) := by
    apply sj_cn_imp
    intro i hi pi
    have : ¬ i = x := fun e => by rw [e, px] at pi; exact Bool.noConfusion pi
    simp [h i hi pi, this]
  omega
/-! a rank for each of the 30 tokens, and its inverse -/
def sj_Perm (rk tk : Nat → Nat) : Prop := (∀ x, x < 30 → rk x < 30 ∧ tk (rk x) = x) ∧ (∀ v, v < 30 → tk v < 30 ∧ rk (tk v) = v)
theorem sj_perm_cn {rk tk : Nat → Nat} (h : sj_Perm rk tk) (p : Nat → Bool) : sj_cn 30 (fun v => p (tk v)) = sj_cn 30 p := by
  apply Nat.le_antisymm
  · apply sj_cn_inj 30 30 p tk (fun v hv => (h.2 v hv).1)
    intro i j hi hj e
    rw [← (h.2 i hi).2, ← (h.2 j hj).2, e]
  · have e : sj_cn 30 p = sj_cn 30 (fun x => (fun v => p (tk v)) (rk x)) := by
      apply sj_cn_congr
      intro i hi
      show p i = p (tk (rk i))
      rw [(h.1 i hi).2]
    rw [e]
    apply sj_cn_inj 30 30 (fun v => p (tk v)) rk (fun v hv => (h.1 v hv).1)
    intro i j hi hj e
    rw [← (h.1 i hi).2, ← (h.1 j hj).2, e]
theorem sj_perm_of {rk : Nat → Nat} (h1 : ∀ x, x < 30 → rk x < 30) (h2 : ∀ x y, x < 30 → y < 30 → rk x = rk y → x = y) : ∃ tk, sj_Perm rk tk := by
  have H : ∀ v : Nat, ∃ x : Nat, v < 30 → x < 30 ∧ rk x = v := by
    intro v
    by_cases hv : v < 30
    · by_cases hx : ∃ x, x < 30 ∧ rk x = v
      · obtain ⟨x, hx⟩ := hx
        exact ⟨x, fun _ => hx⟩
      · exfalso
        have a := sj_cn_inj 30 30 (fun y => !(decide (y = v))) rk h1 h2
        rw [sj_cn_all (n := 30) (p := fun i => !(decide (rk i = v))) (by
          intro i hi
          have : ¬ rk i = v := fun e => hx ⟨i, hi, e⟩
          simp [this])] at a
        have b := sj_cn_slt (n := 30) (x := v) (p := fun y => !(decide (y = v))) (q := fun _ => true) hv (fun _ _ _ => rfl) (by simp) rfl
        have c := sj_cn_le 30 (fun _ => true)
        omega
    · exact ⟨0, fun h => absurd h hv⟩
  obtain ⟨tk, ht⟩ := Classical.axiomOfChoice H
  refine ⟨tk, fun x hx => ⟨h1 x hx, ?_⟩, ht⟩
  have := ht (rk x) (h1 x hx)
  exact h2 _ _ this.1 hx this.2
def sj_ltc (k : Nat → Nat) (s t : Nat) : Bool := decide (k s < k t) || (decide (k s = k t) && decide (s < t))
def sj_rk (k : Nat → Nat) (t : Nat) : Nat := sj_cn 30 (fun s => sj_ltc k s t)
theorem sj_ltc_iff {k : Nat → Nat} {s t : Nat} : sj_ltc k s t = true ↔ (k s < k t ∨ (k s = k t ∧ s < t)) := by
  unfold sj_ltc
  simp
theorem sj_ltc_irr (k : Nat → Nat) (t : Nat) : sj_ltc k t t = false := by
  unfold sj_ltc
  simp
theorem sj_rk_lt {k : Nat → Nat} {t : Nat} (h : t < 30) : sj_rk k t < 30 := by
  have b := sj_cn_slt (n := 30) (x := t) (p := fun s => sj_ltc k s t) (q := fun _ => true) h (fun _ _ _ => rfl) (sj_ltc_irr k t) rfl
  have c := sj_cn_le 30 (fun _ => true)
  unfold sj_rk
  omega
theorem sj_rk_mono {k : Nat → Nat} {s t : Nat} (hs : s < 30) (h : sj_ltc k s t = true) : sj_rk k s < sj_rk k t := by
  refine sj_cn_slt (p := fun i => sj_ltc k i s) (q := fun i => sj_ltc k i t) hs ?_ (sj_ltc_irr k s) h
  intro i _ hi
  rw [sj_ltc_iff] at hi h ⊢
  omega
theorem sj_rk_inj {k : Nat → Nat} {s t : Nat} (hs : s < 30) (ht : t < 30) (h : sj_rk k s = sj_rk k t) : s = t := by
  by_cases a : sj_ltc k s t = true
  · have := sj_rk_mono hs a; omega
  · by_cases b : sj_ltc k t s = true
    · have := sj_rk_mono ht b; omega
    · rw [sj_ltc_iff] at a b
      omega
theorem sj_rk_perm (k : Nat → Nat) : ∃ tk, sj_Perm (sj_rk k) tk := sj_perm_of (fun _ h => sj_rk_lt h) (fun _ _ a b e => sj_rk_inj a b e)
end
section
/-! bits of an int, and the count of ones -/
def sj_pc (d : Int32) : Nat := sj_cn 30 (bt d)
def sj_ok (d : Int32) : Prop := ∀ i, 30 ≤ i → bt d i = false
def sj_bI (b : Bool) : Int32 := if b = true then 1 else 0
theorem sj_bI0 (b : Bool) : sj_bI b = 0 ↔ b = false := by cases b <;> decide
theorem sj_bI1 (b : Bool) : sj_bI b = 1 ↔ b = true := by cases b <;> decide
theorem sj_b1 (i : Nat) : bt 1 i = decide (i = 0) := by
  rcases Nat.lt_or_ge i 32 with h | h
  · exact (by decide +kernel : ∀ i, i < 32 → bt 1 i = decide (i = 0)) i h
  · rw [b_big h, decide_eq_false (by omega)]
theorem sj_bbI (b : Bool) (i : Nat) : bt (sj_bI b) i = (b && decide (i = 0)) := by
  cases b
  · exact b_0 i
  · exact (sj_b1 i).trans (by simp)
theorem sj_bit (x : Int32) {k : Nat} (hk : k < 32) : (x >>> (nI k &&& 31)) &&& 1 = sj_bI (bt x k) := by
  apply b_ext
  intro i hi
  rw [b_and, b_sshr k hk x hi, sj_b1, sj_bbI]
  by_cases h : i = 0
  · subst h; simp [hk]
  · simp [h]
theorem sj_bit1 (x : Int32) {k : Nat} (hk : k < 32) : (x >>> (nI k &&& 31)) &&& 1 = 1 ↔ bt x k = true := by
  rw [sj_bit x hk, sj_bI1]
theorem sj_one {k : Nat} (hk : k < 32) {i : Nat} (hi : i < 32) : bt ((1 : Int32) <<< (nI k &&& 31)) i = decide (i = k) := by
  rw [b_shl k hk 1 hi, sj_b1]
  by_cases h : i = k
  · subst h; simp
  · by_cases h2 : k ≤ i
    · have : ¬ i - k = 0 := by omega
      simp [h, this]
    · simp [h, h2]
theorem sj_tst (x : Int32) {k : Nat} (hk : k < 32) : (x &&& ((1 : Int32) <<< (nI k &&& 31))) = 0 ↔ bt x k = false := by
  constructor
  · intro h
    have e : bt (x &&& ((1 : Int32) <<< (nI k &&& 31))) k = bt 0 k := by rw [h]
    rw [b_and, sj_one hk hk, b_0] at e
    simpa using e
  · intro h
    apply b_ext
    intro i hi
    rw [b_and, sj_one hk hi, b_0]
    by_cases e : i = k
    · subst e; simp [h]
    · simp [e]
theorem sj_not (x : Int32) {i : Nat} (hi : i < 32) : bt (x ^^^ (-1)) i = !(bt x i) := by
  rw [b_xor, b_m1 i hi]
  cases bt x i <;> rfl
theorem sj_cn32 {d : Int32} (h : sj_ok d) : sj_cn 32 (bt d) = sj_pc d := by
  rw [sj_cnF (n := 31) (h 31 (by omega)), sj_cnF (n := 30) (h 30 (by omega))]
  rfl
theorem sj_and8 (a b m M : Nat) (ha : a < 256) (hm : m < 256) : (a + 256 * b) &&& (m + 256 * M) = (a &&& m) + 256 * (b &&& M) := by
  have h1 : ((a + 256 * b) &&& (m + 256 * M)) % 2 ^ 8 = a &&& m := by
    rw [Nat.and_mod_two_pow, show (a + 256 * b) % 2 ^ 8 = a by omega, show (m + 256 * M) % 2 ^ 8 = m by omega]
  have h2 : ((a + 256 * b) &&& (m + 256 * M)) / 2 ^ 8 = b &&& M := by
    rw [Nat.and_div_two_pow, show (a + 256 * b) / 2 ^ 8 = b by omega, show (m + 256 * M) / 2 ^ 8 = M by omega]
  rw [← h1, ← h2]
  generalize (a + 256 * b) &&& (m + 256 * M) = X
  omega
theorem sj_and32 (a b c d m : Nat) (ha : a < 256) (hb : b < 256) (hc : c < 256) (hm : m < 256) : (a + 256 * (b + 256 * (c + 256 * d))) &&& (m + 256 * (m + 256 * (m + 256 * m))) = (a &&& m) + 256 * ((b &&& m) + 256 * ((c &&& m) + 256 * (d &&& m))) := by
  rw [sj_and8 a _ m _ ha hm, sj_and8 b _ m _ hb hm, sj_and8 c _ m _ hc hm]
def sj_e (a : Nat) : Nat := (a / 2) &&& 85
def sj_f (a : Nat) : Nat := a - sj_e a
def sj_G (v : Nat) : Nat := (v &&& 51) + ((v / 4) &&& 51)
def sj_g (a : Nat) : Nat := sj_G (sj_f a)
def sj_p (a : Nat) : Nat := sj_cn 8 (fun i => a.testBit i)
theorem sj_t1 : ∀ a, a < 256 → ∀ b, b < 2 → (a / 2 + 128 * b) &&& 85 = sj_e a := by decide +kernel
theorem sj_t1b : ∀ a, a < 256 → sj_e a ≤ a ∧ sj_f a < 256 := by decide +kernel
theorem sj_t2 : ∀ v, v < 256 → ∀ w, w < 4 → (v / 4 + 64 * w) &&& 51 = (v / 4) &&& 51 := by decide +kernel
theorem sj_t3 : ∀ a, a < 256 → sj_g a ≤ 68 ∧ sj_g a % 16 ≤ 4 ∧ (sj_g a + sj_g a / 16) % 16 = sj_p a ∧ sj_p a ≤ 8 := by decide +kernel
theorem sj_k85 : (1431655765 : Nat) = 85 + 256 * (85 + 256 * (85 + 256 * 85)) := by decide +kernel
theorem sj_k51 : (858993459 : Nat) = 51 + 256 * (51 + 256 * (51 + 256 * 51)) := by decide +kernel
theorem sj_k15 : (252645135 : Nat) = 15 + 256 * (15 + 256 * (15 + 256 * 15)) := by decide +kernel
theorem sj_s1 (a b c d : Nat) (ha : a < 256) (hb : b < 256) (hc : c < 256) (hd : d < 256) : (a + 256 * (b + 256 * (c + 256 * d))) - ((a + 256 * (b + 256 * (c + 256 * d))) / 2 ^ 1 &&& 1431655765) = sj_f a + 256 * (sj_f b + 256 * (sj_f c + 256 * sj_f d)) := by
  have e : (a + 256 * (b + 256 * (c + 256 * d))) / 2 ^ 1 = (a / 2 + 128 * (b % 2)) + 256 * ((b / 2 + 128 * (c % 2)) + 256 * ((c / 2 + 128 * (d % 2)) + 256 * (d / 2 + 128 * 0))) := by omega
  rw [e, sj_k85, sj_and32 _ _ _ _ 85 (by omega) (by omega) (by omega) (by omega), sj_t1 a ha _ (by omega), sj_t1 b hb _ (by omega), sj_t1 c hc _ (by omega), sj_t1 d hd 0 (by omega)]
  have h1 := (sj_t1b a ha).1
  have h2 := (sj_t1b b hb).1
  have h3 := (sj_t1b c hc).1
  have h4 := (sj_t1b d hd).1
  unfold sj_f
  omega
theorem sj_s2 (a b c d : Nat) (ha : a < 256) (hb : b < 256) (hc : c < 256) (hd : d < 256) : ((a + 256 * (b + 256 * (c + 256 * d))) &&& 858993459) + ((a + 256 * (b + 256 * (c + 256 * d))) / 2 ^ 2 &&& 858993459) = sj_G a + 256 * (sj_G b + 256 * (sj_G c + 256 * sj_G d)) := by
  have e : (a + 256 * (b + 256 * (c + 256 * d))) / 2 ^ 2 = (a / 4 + 64 * (b % 4)) + 256 * ((b / 4 + 64 * (c % 4)) + 256 * ((c / 4 + 64 * (d % 4)) + 256 * (d / 4 + 64 * 0))) := by omega
  rw [e, sj_k51, sj_and32 a b c d 51 ha hb hc (by omega), sj_and32 _ _ _ _ 51 (by omega) (by omega) (by omega) (by omega), sj_t2 a ha _ (by omega), sj_t2 b hb _ (by omega), sj_t2 c hc _ (by omega), sj_t2 d hd 0 (by omega)]
  unfold sj_G
  omega
theorem sj_a15 (x : Nat) : x &&& 15 = x % 16 := Nat.and_two_pow_sub_one_eq_mod x 4
theorem sj_s3 (a b c d : Nat) (ha : a ≤ 68) (hb : b ≤ 68) (hc : c ≤ 68) (hd : d ≤ 68) (hb' : b % 16 ≤ 4) (hc' : c % 16 ≤ 4) (hd' : d % 16 ≤ 4) : ((a + 256 * (b + 256 * (c + 256 * d))) + (a + 256 * (b + 256 * (c + 256 * d))) / 2 ^ 4) &&& 252645135 = (a + a / 16) % 16 + 256 * ((b + b / 16) % 16 + 256 * ((c + c / 16) % 16 + 256 * ((d + d / 16) % 16))) := by
  have e : (a + 256 * (b + 256 * (c + 256 * d))) + (a + 256 * (b + 256 * (c + 256 * d))) / 2 ^ 4 = (a + a / 16 + 16 * (b % 16)) + 256 * ((b + b / 16 + 16 * (c % 16)) + 256 * ((c + c / 16 + 16 * (d % 16)) + 256 * (d + d / 16))) := by omega
  rw [e, sj_k15, sj_and32 _ _ _ _ 15 (by omega) (by omega) (by omega) (by omega), sj_a15, sj_a15, sj_a15, sj_a15]
  have r : ∀ x y : Nat, (x + 16 * y) % 16 = x % 16 := fun x y => by omega
  rw [r, r, r]
theorem sj_s4 (a b c d : Nat) (ha : a ≤ 8) (hb : b ≤ 8) (hc : c ≤ 8) (hd : d ≤ 8) : ((a + 256 * (b + 256 * (c + 256 * d))) * 16843009) % 2 ^ 32 / 2 ^ 24 = a + b + c + d := by
  have e : (a + 256 * (b + 256 * (c + 256 * d))) * 16843009 = (a + 256 * (a + b) + 65536 * (a + b + c) + 16777216 * (a + b + c + d)) + 2 ^ 32 * (b + c + d + 256 * (c + d) + 65536 * d) := by omega
  rw [e, Nat.add_mul_mod_self_left, Nat.mod_eq_of_lt (by omega)]
  omega
theorem sj_nmod (n : Nat) : nI n = nI (n % 2 ^ 32) := by
  apply Int32.toBitVec_inj.mp
  apply BitVec.eq_of_toNat_eq
  show (BitVec.ofNat 32 n).toNat = (BitVec.ofNat 32 (n % 2 ^ 32)).toNat
  rw [BitVec.toNat_ofNat, BitVec.toNat_ofNat, Nat.mod_mod]
theorem sj_btn {n : Nat} (h : n < 2 ^ 32) (i : Nat) : bt (nI n) i = n.testBit i := by
  show (nI n).toBitVec.toNat.testBit i = n.testBit i
  rw [pk_tn h]
theorem sj_cn8 (n k : Nat) : sj_cn 8 (fun i => n.testBit (k + i)) = sj_p (n / 2 ^ k % 2 ^ 8) := by
  apply sj_cn_congr
  intro i hi
  rw [Nat.testBit_mod_two_pow, Nat.testBit_div_two_pow, decide_eq_true hi, Bool.true_and, Nat.add_comm]
theorem sj_cnb (n : Nat) (h : n < 2 ^ 32) : sj_cn 32 (bt (nI n)) = sj_p (n % 256) + sj_p (n / 256 % 256) + sj_p (n / 65536 % 256) + sj_p (n / 16777216 % 256) := by
  have e : sj_cn 32 (bt (nI n)) = sj_cn (0 + 8 + 8 + 8 + 8) (fun i => n.testBit i) := sj_cn_congr (fun i _ => sj_btn h i)
  rw [e, sj_cn_add, sj_cn_add, sj_cn_add, sj_cn_add, sj_cn8, sj_cn8, sj_cn8, sj_cn8]
  show sj_cn 0 _ + _ + _ + _ + _ = _
  rw [sj_cn0, Nat.zero_add, show n / 2 ^ 0 % 2 ^ 8 = n % 256 by omega]
theorem sj_ones {post : Int32 → Prop} (p : Int32) (h : post (nI (sj_cn 32 (bt p)))) : wpX_ones post p := by
  obtain ⟨n, hn, rfl⟩ := wb_of32 p
  rw [sj_cnb n hn] at h
  obtain ⟨a, b, c, d, ha, hb, hc, hd, en⟩ : ∃ a b c d : Nat, a < 256 ∧ b < 256 ∧ c < 256 ∧ d < 256 ∧ n = a + 256 * (b + 256 * (c + 256 * d)) := ⟨n % 256, n / 256 % 256, n / 65536 % 256, n / 16777216, by omega, by omega, by omega, by omega, by omega⟩
  rw [show n % 256 = a by omega, show n / 256 % 256 = b by omega, show n / 65536 % 256 = c by omega, show n / 16777216 % 256 = d by omega] at h
  have ga := sj_t3 a ha
  have gb := sj_t3 b hb
  have gc := sj_t3 c hc
  have gd := sj_t3 d hd
  have fa := (sj_t1b a ha).2
  have fb := (sj_t1b b hb).2
  have fc := (sj_t1b c hc).2
  have fd := (sj_t1b d hd).2
  intro x1 e1 x2 e2 x3 e3
  have E1 : x1 = nI (sj_f a + 256 * (sj_f b + 256 * (sj_f c + 256 * sj_f d))) := by
    rw [e1, pk_ushrN hn 1 1 (by decide), show (1431655765 : Int32) = nI 1431655765 from rfl, nx_and, pk_sub (Nat.le_trans Nat.and_le_left (Nat.div_le_self _ _)), en, sj_s1 a b c d ha hb hc hd]
  have E2 : x2 = nI (sj_g a + 256 * (sj_g b + 256 * (sj_g c + 256 * sj_g d))) := by
    rw [e2, E1, pk_ushrN (by omega) 2 2 (by decide), show (858993459 : Int32) = nI 858993459 from rfl, nx_and, nx_and, nI_add, sj_s2 _ _ _ _ fa fb fc fd]
    rfl
  have E3 : x3 = nI (sj_p a + 256 * (sj_p b + 256 * (sj_p c + 256 * sj_p d))) := by
    rw [e3, E2, pk_ushrN (by omega) 4 4 (by decide), nI_add, show (252645135 : Int32) = nI 252645135 from rfl, nx_and, sj_s3 _ _ _ _ ga.1 gb.1 gc.1 gd.1 gb.2.1 gc.2.1 gd.2.1, ga.2.2.1, gb.2.2.1, gc.2.2.1, gd.2.2.1]
  rw [E3, show (16843009 : Int32) = nI 16843009 from rfl, pk_mul, sj_nmod, pk_ushrN (Nat.mod_lt _ (by decide)) 24 24 (by decide), sj_s4 _ _ _ _ ga.2.2.2 gb.2.2.2 gc.2.2.2 gd.2.2.2]
  exact h
end
section
/-! the plain law: similarity by counts; the first ranks suffice; merging -/
def sj_both (A B : Int32) : Nat := sj_cn 30 (fun x => bt A x && bt B x)
def sj_eith (A B : Int32) : Nat := sj_cn 30 (fun x => bt A x || bt B x)
def sj_sim (t q : Nat) (A B : Int32) : Bool := decide (t * sj_eith A B ≤ q * sj_both A B)
theorem sj_both_comm (A B : Int32) : sj_both A B = sj_both B A := sj_cn_congr (fun i _ => Bool.and_comm _ _)
theorem sj_eith_comm (A B : Int32) : sj_eith A B = sj_eith B A := sj_cn_congr (fun i _ => Bool.or_comm _ _)
theorem sj_sim_comm (t q : Nat) (A B : Int32) : sj_sim t q A B = sj_sim t q B A := by
  unfold sj_sim
  rw [sj_both_comm, sj_eith_comm]
theorem sj_ie (A B : Int32) : sj_eith A B + sj_both A B = sj_pc A + sj_pc B := sj_cn_ie 30 (bt A) (bt B)
theorem sj_both_le (A B : Int32) : sj_both A B ≤ sj_pc A := sj_cn_imp (fun i _ h => by
  try dsimp only at h
  cases e : bt A i
  · rw [e] at h; exact absurd h (by simp)
  · rfl)
theorem sj_both_self (A : Int32) : sj_both A A = sj_pc A := sj_cn_congr (fun i _ => Bool.and_self _)
theorem sj_eith_self (A : Int32) : sj_eith A A = sj_pc A := sj_cn_congr (fun i _ => Bool.or_self _)
theorem sj_pc_le (A : Int32) : sj_pc A ≤ 30 := sj_cn_le 30 _
theorem sj_sim_self {t q : Nat} (h : t ≤ q) (A : Int32) : sj_sim t q A A = true := by
  unfold sj_sim
  rw [sj_both_self, sj_eith_self, decide_eq_true_iff]
  exact Nat.mul_le_mul_right _ h
theorem sj_ceil {n q k : Nat} (hq : 0 < q) : (n + q - 1) / q ≤ k ↔ n ≤ q * k := by
  have h := Nat.div_lt_iff_lt_mul (x := n + q - 1) (y := k + 1) hq
  rw [Nat.add_mul, Nat.one_mul, Nat.mul_comm k q] at h
  omega
/-- how many of the first ranks are looked at -/
def sj_pl (t q s : Nat) : Nat := s + 1 - (t * s + q - 1) / q
/-- how many common ones are needed, s being the sum of both sizes -/
def sj_nd (t q s : Nat) : Nat := (t * s + (t + q) - 1) / (t + q)
theorem sj_ndp {t q s : Nat} (ht : 1 ≤ t) (hq : t ≤ q) (hs : 1 ≤ s) : 1 ≤ (t * s + q - 1) / q ∧ (t * s + q - 1) / q ≤ s := by
  constructor
  · rcases Nat.lt_or_ge 0 ((t * s + q - 1) / q) with h | h
    · exact h
    · have h := (sj_ceil (n := t * s) (q := q) (k := 0) (by omega)).mp h
      have : 1 * 1 ≤ t * s := Nat.mul_le_mul ht hs
      omega
  · rw [sj_ceil (by omega)]
    exact Nat.mul_le_mul_right _ hq
theorem sj_sim_nd {t q : Nat} (ht : 1 ≤ t) (A B : Int32) : sj_sim t q A B = decide (sj_nd t q (sj_pc A + sj_pc B) ≤ sj_both A B) := by
  unfold sj_sim sj_nd
  apply decide_eq_decide.mpr
  rw [sj_ceil (by omega), ← sj_ie, Nat.mul_add, Nat.add_mul]
  omega
theorem sj_near {t q : Nat} {A B : Int32} (h : sj_sim t q A B = true) : t * sj_pc A ≤ q * sj_pc B ∧ t * sj_pc B ≤ q * sj_pc A := by
  unfold sj_sim at h
  rw [decide_eq_true_iff] at h
  have e := sj_ie A B
  have h1 := sj_both_le A B
  have h2 := sj_both_le B A
  rw [sj_both_comm] at h2
  have a1 : t * sj_pc A ≤ t * sj_eith A B := Nat.mul_le_mul_left _ (by omega)
  have a2 : t * sj_pc B ≤ t * sj_eith A B := Nat.mul_le_mul_left _ (by omega)
  have b1 : q * sj_both A B ≤ q * sj_pc A := Nat.mul_le_mul_left _ h1
  have b2 : q * sj_both A B ≤ q * sj_pc B := Nat.mul_le_mul_left _ h2
  omega
/-- a set by ranks -/
def sj_rp (tk : Nat → Nat) (A : Int32) : Nat → Bool := fun v => bt A (tk v)
theorem sj_rp_cn {rk tk : Nat → Nat} (h : sj_Perm rk tk) (A : Int32) : sj_cn 30 (sj_rp tk A) = sj_pc A := sj_perm_cn h (bt A)
theorem sj_rp_both {rk tk : Nat → Nat} (h : sj_Perm rk tk) (A B : Int32) : sj_cn 30 (fun v => sj_rp tk A v && sj_rp tk B v) = sj_both A B := sj_perm_cn h (fun x => bt A x && bt B x)
theorem sj_first {a b : Nat → Bool} (h : 1 ≤ sj_cn 30 (fun v => a v && b v)) : ∃ w, w < 30 ∧ a w = true ∧ b w = true ∧ sj_cn w a + sj_cn 30 (fun v => a v && b v) ≤ sj_cn 30 a ∧ sj_cn w b + sj_cn 30 (fun v => a v && b v) ≤ sj_cn 30 b := by
  obtain ⟨i, hi, pi⟩ := sj_cn_pos (n := 30) (p := fun v => a v && b v) h
  obtain ⟨w, ⟨hw, pw⟩, hl⟩ := pk_least (fun w => w < 30 ∧ (a w && b w) = true) ⟨i, hi, pi⟩
  have z : sj_cn w (fun v => a v && b v) = 0 := sj_cn_none (fun j hj => by
    cases e : (a j && b j)
    · rfl
    · exact absurd ⟨by omega, e⟩ (hl j hj))
  have d1 := sj_cn_diff (z := w) (m := 30) (p := fun v => a v && b v) (q := a) (by omega) (fun j _ _ e => by
    try dsimp only at e
    cases e2 : a j
    · rw [e2] at e; exact absurd e (by simp)
    · rfl)
  have d2 := sj_cn_diff (z := w) (m := 30) (p := fun v => a v && b v) (q := b) (by omega) (fun j _ _ e => by
    try dsimp only at e
    cases e2 : b j
    · rw [e2] at e; exact absurd e (by simp)
    · rfl)
  rw [Bool.and_eq_true] at pw
  exact ⟨w, hw, pw.1, pw.2, by omega, by omega⟩
theorem sj_pref {t q : Nat} {A B : Int32} {rk tk : Nat → Nat} (hp : sj_Perm rk tk) (ht : 1 ≤ t) (hq : t ≤ q) (hA : 1 ≤ sj_pc A) (h : sj_sim t q A B = true) : ∃ w, w < 30 ∧ bt A (tk w) = true ∧ bt B (tk w) = true ∧ sj_cn w (sj_rp tk A) < sj_pl t q (sj_pc A) ∧ sj_cn w (sj_rp tk B) < sj_pl t q (sj_pc B) := by
  unfold sj_sim at h
  rw [decide_eq_true_iff] at h
  have e := sj_ie A B
  have h1 := sj_both_le A B
  have h2 := sj_both_le B A
  rw [sj_both_comm] at h2
  have a1 : t * sj_pc A ≤ t * sj_eith A B := Nat.mul_le_mul_left _ (by omega)
  have a2 : t * sj_pc B ≤ t * sj_eith A B := Nat.mul_le_mul_left _ (by omega)
  have n1 : (t * sj_pc A + q - 1) / q ≤ sj_both A B := (sj_ceil (by omega)).mpr (by omega)
  have n2 : (t * sj_pc B + q - 1) / q ≤ sj_both A B := (sj_ceil (by omega)).mpr (by omega)
  have m1 := (sj_ndp ht hq hA).1
  have hK : 1 ≤ sj_cn 30 (fun v => sj_rp tk A v && sj_rp tk B v) := by rw [sj_rp_both hp]; omega
  obtain ⟨w, hw, wa, wb, ca, cb⟩ := sj_first hK
  rw [sj_rp_both hp, sj_rp_cn hp] at ca cb
  unfold sj_pl
  exact ⟨w, hw, wa, wb, by omega, by omega⟩
/-! merging: below the border z lie i of a, j of b, k of both -/
theorem sj_elt {a : Nat → Bool} {z v i : Nat} (hi : i = sj_cn z a) (hv : a v = true) (hc : sj_cn v a = i) : z ≤ v := by
  rcases Nat.lt_or_ge v z with h | h
  · have := sj_cn_lt h hv
    omega
  · exact h
theorem sj_andl {a b : Nat → Bool} {z m : Nat} (h : z ≤ m) : sj_cn m (fun v => a v && b v) + sj_cn z a ≤ sj_cn m a + sj_cn z (fun v => a v && b v) := sj_cn_diff h (fun j _ _ e => by
    try dsimp only at e
    cases e2 : a j
    · rw [e2] at e; exact absurd e (by simp)
    · rfl)
theorem sj_andr {a b : Nat → Bool} {z m : Nat} (h : z ≤ m) : sj_cn m (fun v => a v && b v) + sj_cn z b ≤ sj_cn m b + sj_cn z (fun v => a v && b v) := sj_cn_diff h (fun j _ _ e => by
    try dsimp only at e
    cases e2 : b j
    · rw [e2] at e; exact absurd e (by simp)
    · rfl)
theorem sj_m_eq {a b : Nat → Bool} {z v : Nat} (hv : a v = true) (hw : b v = true) (hi : sj_cn v a = sj_cn z a) (hj : sj_cn v b = sj_cn z b) : sj_cn (v + 1) a = sj_cn z a + 1 ∧ sj_cn (v + 1) b = sj_cn z b + 1 ∧ sj_cn (v + 1) (fun v => a v && b v) = sj_cn z (fun v => a v && b v) + 1 := by
  have hz : z ≤ v := sj_elt rfl hv hi
  rw [sj_cnT hv, sj_cnT hw, sj_cnT (p := fun v => a v && b v) (by rw [hv, hw]; rfl)]
  have h1 := sj_andl (a := a) (b := b) hz
  have h2 := sj_cn_mono (p := fun v => a v && b v) hz
  omega
theorem sj_m_lt {a b : Nat → Bool} {z v w : Nat} (hv : a v = true) (hw : b w = true) (h : v < w) (hi : sj_cn v a = sj_cn z a) (hj : sj_cn w b = sj_cn z b) : sj_cn (v + 1) a = sj_cn z a + 1 ∧ sj_cn (v + 1) b = sj_cn z b ∧ sj_cn (v + 1) (fun v => a v && b v) = sj_cn z (fun v => a v && b v) := by
  have hz : z ≤ v := sj_elt rfl hv hi
  have hb1 : sj_cn z b ≤ sj_cn (v + 1) b := sj_cn_mono (by omega)
  have hb2 : sj_cn (v + 1) b ≤ sj_cn w b := sj_cn_mono (by omega)
  have h1 := sj_andr (a := a) (b := b) (z := z) (m := v + 1) (by omega)
  have h2 := sj_cn_mono (p := fun v => a v && b v) (z := z) (m := v + 1) (by omega)
  rw [sj_cnT hv]
  omega
theorem sj_m_gt {a b : Nat → Bool} {z v w : Nat} (hv : a v = true) (hw : b w = true) (h : w < v) (hi : sj_cn v a = sj_cn z a) (hj : sj_cn w b = sj_cn z b) : sj_cn (w + 1) a = sj_cn z a ∧ sj_cn (w + 1) b = sj_cn z b + 1 ∧ sj_cn (w + 1) (fun v => a v && b v) = sj_cn z (fun v => a v && b v) := by
  have hz : z ≤ w := sj_elt rfl hw hj
  have hb1 : sj_cn z a ≤ sj_cn (w + 1) a := sj_cn_mono (by omega)
  have hb2 : sj_cn (w + 1) a ≤ sj_cn v a := sj_cn_mono (by omega)
  have h1 := sj_andl (a := a) (b := b) (z := z) (m := w + 1) (by omega)
  have h2 := sj_cn_mono (p := fun v => a v && b v) (z := z) (m := w + 1) (by omega)
  rw [sj_cnT hw]
  omega
/-! labels: what is joined by the edges below c -/
def sj_Con (c : Nat) (E : Nat → Nat → Bool) (a b : Nat) : Prop := ∀ S : Nat → Nat, (∀ x y, x < c → y < c → E x y = true → S x = S y) → S a = S b
def sj_Min (c : Nat) (E : Nat → Nat → Bool) (R : Nat → Nat) : Prop := (∀ a, a < c → R a ≤ a ∧ sj_Con c E a (R a)) ∧ (∀ x y, x < c → y < c → E x y = true → R x = R y)
theorem sj_con_rf (c : Nat) (E : Nat → Nat → Bool) (a : Nat) : sj_Con c E a a := fun _ _ => rfl
theorem sj_con_tr {c : Nat} {E : Nat → Nat → Bool} {a b d : Nat} (h : sj_Con c E a b) (g : sj_Con c E b d) : sj_Con c E a d := fun S hS => (h S hS).trans (g S hS)
theorem sj_con_sy {c : Nat} {E : Nat → Nat → Bool} {a b : Nat} (h : sj_Con c E a b) : sj_Con c E b a := fun S hS => (h S hS).symm
theorem sj_con_ed {c : Nat} {E : Nat → Nat → Bool} {a b : Nat} (ha : a < c) (hb : b < c) (h : E a b = true) : sj_Con c E a b := fun _ hS => hS a b ha hb h
theorem sj_min_le {c : Nat} {E : Nat → Nat → Bool} {R : Nat → Nat} (h : sj_Min c E R) {a b : Nat} (hb : b < c) (hab : sj_Con c E a b) : R a ≤ b := by
  rw [hab R h.2]
  exact (h.1 b hb).1
theorem sj_min_R {c : Nat} {E : Nat → Nat → Bool} {R : Nat → Nat} (h : sj_Min c E R) {a : Nat} (ha : a < c) : R (R a) = R a := ((h.1 a ha).2 R h.2).symm
theorem sj_min_un {c : Nat} {E : Nat → Nat → Bool} {R Q : Nat → Nat} (h : sj_Min c E R) (g : sj_Min c E Q) {a : Nat} (ha : a < c) : R a = Q a := by
  have h1 := h.1 a ha
  have g1 := g.1 a ha
  have := sj_min_le h (a := a) (b := Q a) (by omega) g1.2
  have := sj_min_le g (a := a) (b := R a) (by omega) h1.2
  omega
/-- labels on the way: never above, always joined -/
def sj_Lab (c : Nat) (E : Nat → Nat → Bool) (l : Nat → Nat) : Prop := ∀ a, a < c → l a ≤ a ∧ sj_Con c E a (l a)
theorem sj_lab_ge {c : Nat} {E : Nat → Nat → Bool} {R l : Nat → Nat} (h : sj_Min c E R) (g : sj_Lab c E l) {a : Nat} (ha : a < c) : R a ≤ l a := by
  have := g a ha
  exact sj_min_le h (by omega) this.2
/-- a round: whoever has a final neighbour is final behind it; then one more is final, or all were -/
theorem sj_round {c : Nat} {E : Nat → Nat → Bool} {R l l' : Nat → Nat} (hE : ∀ x y, E x y = E y x) (h : sj_Min c E R) (g : sj_Lab c E l) (m : ∀ a, a < c → l a = R a → l' a = R a) (s : ∀ a b, a < c → b < c → E a b = true → l b = R b → l' a = R a) : (∀ a, a < c → l a = R a) ∨ sj_cn c (fun a => decide (l a = R a)) < sj_cn c (fun a => decide (l' a = R a)) := by
  by_cases hall : ∀ a, a < c → l a = R a
  · exact Or.inl hall
  · right
    obtain ⟨v, hv⟩ : ∃ v, ¬ (v < c → l v = R v) := by
      apply Classical.byContradiction
      intro hn
      exact hall (fun a ha => Classical.byContradiction (fun hna => hn ⟨a, fun hx => hna (hx ha)⟩))
    have hvc : v < c := Classical.byContradiction (fun hn => hv (fun hx => absurd hx hn))
    have hvn : ¬ l v = R v := fun e => hv (fun _ => e)
    by_cases hed : ∃ a b, a < c ∧ b < c ∧ E a b = true ∧ l b = R b ∧ ¬ l a = R a
    · obtain ⟨a, b, ha, hb, hab, fb, fa⟩ := hed
      apply sj_cn_slt ha
      · intro i hi e
        rw [decide_eq_true_iff] at e ⊢
        exact m i hi e
      · exact decide_eq_false fa
      · exact decide_eq_true (s a b ha hb hab fb)
    · exfalso
      have key := (h.1 v hvc).2 (fun x => if l x = R x then 2 * R x else 2 * R x + 1) (by
        intro x y hx hy hxy
        have e := h.2 x y hx hy hxy
        try dsimp only
        by_cases fx : l x = R x
        · by_cases fy : l y = R y
          · rw [if_pos fx, if_pos fy, e]
          · exact absurd ⟨y, x, hy, hx, by rw [hE]; exact hxy, fx, fy⟩ hed
        · by_cases fy : l y = R y
          · exact absurd ⟨x, y, hx, hy, hxy, fy, fx⟩ hed
          · rw [if_neg fx, if_neg fy, e])
      have hr := h.1 v hvc
      have hrc : R v < c := by omega
      have e1 := sj_min_R h hvc
      have e2 := sj_lab_ge h g hrc
      have e3 := (g (R v) hrc).1
      have f : l (R v) = R (R v) := by omega
      try dsimp only at key
      rw [if_neg hvn, if_pos f] at key
      omega
end
section
/-! the reference's private methods -/
/-- the live sets, as masks: those below c, and the draft at 20 -/
def sj_YI (S : Nat → Int32) (c : Nat) (yi : Nat → Int32) : Prop := ∀ s, (s < c ∨ s = 20) → ∀ x, x < 30 → yi (30 * s + x) = sj_bI (bt (S s) x)
theorem sj_y30 (s k : Nat) : (30 : Int32) * nI s + nI k = nI (30 * s + k) := by
  rw [show (30 : Int32) = nI 30 from rfl, pk_mul, nI_add]
theorem sj_narb (b : Bool) : vp_nar .boolean (sj_bI b) = sj_bI b := by cases b <;> rfl
theorem sj_bIf : sj_bI false = 0 := rfl
theorem sj_bIt : ¬ sj_bI true = 0 := by decide
section
variable {yc yt yu : Int32} {yi yl : Nat → Int32} {S : Nat → Int32} {c : Nat}
theorem sj_ycell (hY : sj_YI S c yi) (hc : c ≤ 20) {s k : Nat} (hs : s < c ∨ s = 20) (hk : k < 30) : yi ((30 : Int32) * nI s + nI k).toNatClampNeg = sj_bI (bt (S s) k) := by
  rw [pk_cl (30 * s + k) (sj_y30 s k)]
  exact hY s hs k hk
theorem sj_ysz_l (hY : sj_YI S c yi) (hc : c ≤ 20) {post : Int32 → Prop} {s : Nat} (hs : s < c ∨ s = 20) (h : post (nI (sj_pc (S s)))) : ∀ d k : Nat, k + d = 30 → wY_sizeOf_4 post (nI s) yc yt yu yi yl (d + 1) (nI (sj_cn k (bt (S s)))) (nI k) := by
  intro d
  induction d with
  | zero =>
    intro k hk
    have e : k = 30 := by omega
    subst e
    exact pk_le 30 30 (fun _ => h) (fun z => absurd z (by omega))
  | succ d ih =>
    intro k hk
    have ec := sj_ycell (k := k) hY hc hs (by omega)
    have i := ih (k + 1) (by omega)
    cases hb : bt (S s) k with
    | false =>
      rw [sj_cnF hb] at i
      exact pk_le 30 k (fun z => absurd z (by omega)) (fun _ => ⟨pk_in (30 * s + k) 630 (by omega) (sj_y30 s k), br_t (by rw [ec, hb]; rfl) (nm_r (nI_1 k) i)⟩)
    | true =>
      rw [sj_cnT hb] at i
      exact pk_le 30 k (fun z => absurd z (by omega)) (fun _ => ⟨pk_in (30 * s + k) 630 (by omega) (sj_y30 s k), br_f (by rw [ec, hb]; exact sj_bIt) (nm_r (nI_1 _) (nm_r (nI_1 k) i))⟩)
theorem sj_ysz (hY : sj_YI S c yi) (hc : c ≤ 20) {post : Int32 → Prop} {s : Nat} (hs : s < c ∨ s = 20) (h : post (nI (sj_pc (S s)))) : wpY_sizeOf post (yc, yt, yu, yi, yl) (nI s) := ⟨30 + 1, sj_ysz_l hY hc hs h 30 0 rfl⟩
theorem sj_ybo_l (hY : sj_YI S c yi) (hc : c ≤ 20) {post : Int32 → Prop} {a b : Nat} (ha : a < c ∨ a = 20) (hb : b < c ∨ b = 20) (h : post (nI (sj_both (S a) (S b)))) : ∀ d k : Nat, k + d = 30 → wY_both_5 post (nI a) (nI b) yc yt yu yi yl (d + 1) (nI (sj_cn k (fun x => bt (S a) x && bt (S b) x))) (nI k) := by
  intro d
  induction d with
  | zero =>
    intro k hk
    have e : k = 30 := by omega
    subst e
    exact pk_le 30 30 (fun _ => h) (fun z => absurd z (by omega))
  | succ d ih =>
    intro k hk
    have ea := sj_ycell (k := k) hY hc ha (by omega)
    have eb := sj_ycell (k := k) hY hc hb (by omega)
    have i := ih (k + 1) (by omega)
    cases hA : bt (S a) k with
    | false =>
      rw [sj_cnF (p := fun x => bt (S a) x && bt (S b) x) (by rw [hA]; rfl)] at i
      exact pk_le 30 k (fun z => absurd z (by omega)) (fun _ => ⟨pk_in (30 * a + k) 630 (by omega) (sj_y30 a k), br_t (by rw [ea, hA]; rfl) (nm_r (nI_1 k) i)⟩)
    | true =>
      cases hB : bt (S b) k with
      | false =>
        rw [sj_cnF (p := fun x => bt (S a) x && bt (S b) x) (by rw [hA, hB]; rfl)] at i
        exact pk_le 30 k (fun z => absurd z (by omega)) (fun _ => ⟨pk_in (30 * a + k) 630 (by omega) (sj_y30 a k), br_f (by rw [ea, hA]; exact sj_bIt) ⟨pk_in (30 * b + k) 630 (by omega) (sj_y30 b k), br_t (by rw [eb, hB]; rfl) (nm_r (nI_1 k) i)⟩⟩)
      | true =>
        rw [sj_cnT (p := fun x => bt (S a) x && bt (S b) x) (by rw [hA, hB]; rfl)] at i
        exact pk_le 30 k (fun z => absurd z (by omega)) (fun _ => ⟨pk_in (30 * a + k) 630 (by omega) (sj_y30 a k), br_f (by rw [ea, hA]; exact sj_bIt) ⟨pk_in (30 * b + k) 630 (by omega) (sj_y30 b k), br_f (by rw [eb, hB]; exact sj_bIt) (nm_r (nI_1 _) (nm_r (nI_1 k) i))⟩⟩)
theorem sj_ybo (hY : sj_YI S c yi) (hc : c ≤ 20) {post : Int32 → Prop} {a b : Nat} (ha : a < c ∨ a = 20) (hb : b < c ∨ b = 20) (h : post (nI (sj_both (S a) (S b)))) : wpY_both post (yc, yt, yu, yi, yl) (nI a) (nI b) := ⟨30 + 1, sj_ybo_l hY hc ha hb h 30 0 rfl⟩
theorem sj_yei_l (hY : sj_YI S c yi) (hc : c ≤ 20) {post : Int32 → Prop} {a b : Nat} (ha : a < c ∨ a = 20) (hb : b < c ∨ b = 20) (h : post (nI (sj_eith (S a) (S b)))) : ∀ d k : Nat, k + d = 30 → wY_either_5 post (nI a) (nI b) yc yt yu yi yl (d + 1) (nI (sj_cn k (fun x => bt (S a) x || bt (S b) x))) (nI k) := by
  intro d
  induction d with
  | zero =>
    intro k hk
    have e : k = 30 := by omega
    subst e
    exact pk_le 30 30 (fun _ => h) (fun z => absurd z (by omega))
  | succ d ih =>
    intro k hk
    have ea := sj_ycell (k := k) hY hc ha (by omega)
    have eb := sj_ycell (k := k) hY hc hb (by omega)
    have i := ih (k + 1) (by omega)
    cases hA : bt (S a) k with
    | true =>
      rw [sj_cnT (p := fun x => bt (S a) x || bt (S b) x) (by rw [hA]; rfl)] at i
      exact pk_le 30 k (fun z => absurd z (by omega)) (fun _ => ⟨pk_in (30 * a + k) 630 (by omega) (sj_y30 a k), br_f (by rw [ea, hA]; exact sj_bIt) (nm_r (nI_1 _) (nm_r (nI_1 k) i))⟩)
    | false =>
      cases hB : bt (S b) k with
      | false =>
        rw [sj_cnF (p := fun x => bt (S a) x || bt (S b) x) (by rw [hA, hB]; rfl)] at i
        exact pk_le 30 k (fun z => absurd z (by omega)) (fun _ => ⟨pk_in (30 * a + k) 630 (by omega) (sj_y30 a k), br_t (by rw [ea, hA]; rfl) ⟨pk_in (30 * b + k) 630 (by omega) (sj_y30 b k), br_t (by rw [eb, hB]; rfl) (nm_r (nI_1 k) i)⟩⟩)
      | true =>
        rw [sj_cnT (p := fun x => bt (S a) x || bt (S b) x) (by rw [hA, hB]; rfl)] at i
        exact pk_le 30 k (fun z => absurd z (by omega)) (fun _ => ⟨pk_in (30 * a + k) 630 (by omega) (sj_y30 a k), br_t (by rw [ea, hA]; rfl) ⟨pk_in (30 * b + k) 630 (by omega) (sj_y30 b k), br_f (by rw [eb, hB]; exact sj_bIt) (nm_r (nI_1 _) (nm_r (nI_1 k) i))⟩⟩)
theorem sj_yei (hY : sj_YI S c yi) (hc : c ≤ 20) {post : Int32 → Prop} {a b : Nat} (ha : a < c ∨ a = 20) (hb : b < c ∨ b = 20) (h : post (nI (sj_eith (S a) (S b)))) : wpY_either post (yc, yt, yu, yi, yl) (nI a) (nI b) := ⟨30 + 1, sj_yei_l hY hc ha hb h 30 0 rfl⟩
theorem sj_sml {t n : Nat} (ht : t ≤ 12) (hn : n ≤ 30) : t * n < 2 ^ 31 := Nat.lt_of_le_of_lt (Nat.mul_le_mul ht hn) (by decide)
theorem sj_yal (hY : sj_YI S c yi) (hc : c ≤ 20) {post : Int32 → Prop} {a b t q : Nat} (ht : t ≤ 12) (hq : q ≤ 12) (ha : a < c ∨ a = 20) (hb : b < c ∨ b = 20) (h : post (sj_bI (sj_sim t q (S a) (S b)))) : wpY_alike post (yc, nI t, nI q, yi, yl) (nI a) (nI b) := by
  unfold wpY_alike
  try dsimp only
  refine sj_ybo hY hc ha hb (sj_yei hY hc ha hb ?_)
  have b1 := sj_sml hq (n := sj_both (S a) (S b)) (sj_cn_le 30 _)
  have b2 := sj_sml ht (n := sj_eith (S a) (S b)) (sj_cn_le 30 _)
  unfold sj_sim at h
  refine pk_lt (q * sj_both (S a) (S b)) (t * sj_eith (S a) (S b)) (fun z => ?_) (fun z => ?_) (pk_mul _ _) (pk_mul _ _) b1 b2
  · rw [decide_eq_false (by omega)] at h; exact h
  · rw [decide_eq_true z] at h; exact h
theorem sj_ycp_l {post : SY → Prop} {a b : Nat} (f : Nat → Bool) (hab : a ≠ b) (ha : a ≤ 20) (hb : b ≤ 20) (hf : ∀ x, x < 30 → yi (30 * a + x) = sj_bI (f x)) (h : ∀ yj : Nat → Int32, (∀ x, x < 30 → yj (30 * b + x) = sj_bI (f x)) → (∀ j, (j < 30 * b ∨ 30 * b + 30 ≤ j) → yj j = yi j) → post (yc, yt, yu, yj, yl)) : ∀ (d k : Nat) (yj : Nat → Int32), k + d = 30 → (∀ x, x < k → yj (30 * b + x) = sj_bI (f x)) → (∀ j, (j < 30 * b ∨ 30 * b + 30 ≤ j) → yj j = yi j) → wY_copy_2 post (nI a) (nI b) yc yt yu (d + 1) (nI k) yj yl := by
  intro d
  induction d with
  | zero =>
    intro k yj hk h1 h2
    have e : k = 30 := by omega
    subst e
    exact pk_le 30 30 (fun _ => h yj h1 h2) (fun z => absurd z (by omega))
  | succ d ih =>
    intro k yj hk h1 h2
    have ec : yj (30 * a + k) = sj_bI (f k) := by
      rw [h2 (30 * a + k) (by omega)]
      exact hf k (by omega)
    have i := ih (k + 1) (upd yj (30 * b + k) (sj_bI (f k))) (by omega) (by
      intro x hx
      by_cases e : x = k
      · subst e; exact pk_us
      · rw [pk_un (by omega)]; exact h1 x (by omega)) (by
      intro j hj
      rw [pk_un (by omega)]; exact h2 j hj)
    exact pk_le 30 k (fun z => absurd z (by omega)) (fun _ => ⟨pk_in (30 * a + k) 630 (by omega) (sj_y30 a k), pk_in (30 * b + k) 630 (by omega) (sj_y30 b k), nm_r (by rw [pk_cl (30 * a + k) (sj_y30 a k), pk_cl (30 * b + k) (sj_y30 b k), ec, sj_narb]) (nm_r (nI_1 k) i)⟩)
theorem sj_ycp {post : SY → Prop} {a b : Nat} (f : Nat → Bool) (hab : a ≠ b) (ha : a ≤ 20) (hb : b ≤ 20) (hf : ∀ x, x < 30 → yi (30 * a + x) = sj_bI (f x)) (h : ∀ yj : Nat → Int32, (∀ x, x < 30 → yj (30 * b + x) = sj_bI (f x)) → (∀ j, (j < 30 * b ∨ 30 * b + 30 ≤ j) → yj j = yi j) → post (yc, yt, yu, yj, yl)) : wpY_copy post (yc, yt, yu, yi, yl) (nI a) (nI b) := ⟨30 + 1, sj_ycp_l f hab ha hb hf h 30 0 yi rfl (fun x hx => absurd hx (by omega)) (fun _ _ => rfl)⟩
theorem sj_ycl_l {post : Int32 → SY → Prop} {r : Int32} (h : ∀ yj : Nat → Int32, (∀ x, x < 30 → yj (600 + x) = 0) → (∀ j, (j < 600 ∨ 630 ≤ j) → yj j = yi j) → post r (yc, yt, yu, yj, yl)) : ∀ (d k : Nat) (yj : Nat → Int32), k + d = 30 → (∀ x, x < k → yj (600 + x) = 0) → (∀ j, (j < 600 ∨ 630 ≤ j) → yj j = yi j) → wY_clear_9 post r yc yt yu (d + 1) (nI k) yj yl := by
  intro d
  induction d with
  | zero =>
    intro k yj hk h1 h2
    have e : k = 30 := by omega
    subst e
    exact pk_le 30 30 (fun _ => h yj h1 h2) (fun z => absurd z (by omega))
  | succ d ih =>
    intro k yj hk h1 h2
    have ex : (600 : Int32) + nI k = nI (600 + k) := by rw [show (600 : Int32) = nI 600 from rfl, nI_add]
    have i := ih (k + 1) (upd yj (600 + k) 0) (by omega) (by
      intro x hx
      by_cases e : x = k
      · subst e; exact pk_us
      · rw [pk_un (by omega)]; exact h1 x (by omega)) (by
      intro j hj
      rw [pk_un (by omega)]; exact h2 j hj)
    exact pk_le 30 k (fun z => absurd z (by omega)) (fun _ => ⟨pk_in (600 + k) 630 (by omega) ex, nm_r (by rw [pk_cl (600 + k) ex]; rfl) (nm_r (nI_1 k) i)⟩)
end
/-! rounds of lowering -/
def sj_RI (c : Nat) (E : Nat → Nat → Bool) (R m : Nat → Nat) (a b : Nat) (l : Nat → Nat) (fl : Int32) : Prop :=
  sj_Lab c E l ∧ (∀ x, x < c → m x = R x → l x = R x) ∧ ((fl = 0 ∧ ∀ x, x < c → l x = m x) ∨ fl = 1) ∧ (∀ x y, x < c → y < c → (x < a ∨ (x = a ∧ y < b)) → E x y = true → m y = R y → l x = R x)
def sj_un (l : Nat → Nat) (a v : Nat) : Nat → Nat := fun x => if x = a then v else l x
theorem sj_uns (l : Nat → Nat) (a v : Nat) : sj_un l a v a = v := if_pos rfl
theorem sj_unn {l : Nat → Nat} {a v x : Nat} (h : x ≠ a) : sj_un l a v x = l x := if_neg h
theorem sj_ri_keep {c : Nat} {E : Nat → Nat → Bool} {R m l : Nat → Nat} {a b : Nat} {fl : Int32} (hM : sj_Min c E R) (ha : a < c) (hb : b < c) (h : sj_RI c E R m a b l fl) (hk : E a b = true → l a ≤ l b) : sj_RI c E R m a (b + 1) l fl := by
  refine ⟨h.1, h.2.1, h.2.2.1, ?_⟩
  intro x y hx hy hxy e f
  by_cases w : x < a ∨ (x = a ∧ y < b)
  · exact h.2.2.2 x y hx hy w e f
  · have ex : x = a := by omega
    have ey : y = b := by omega
    subst ex ey
    have g := hk e
    have g1 := h.2.1 y hy f
    have g2 := hM.2 x y hx hy e
    have g3 := sj_lab_ge hM h.1 hx
    omega
theorem sj_ri_put {c : Nat} {E : Nat → Nat → Bool} {R m l : Nat → Nat} {a b : Nat} {fl : Int32} (hM : sj_Min c E R) (ha : a < c) (hb : b < c) (h : sj_RI c E R m a b l fl) (hk : E a b = true) (hl : l b < l a) : sj_RI c E R m a (b + 1) (sj_un l a (l b)) 1 := by
  have g2 := hM.2 a b ha hb hk
  have g3 := sj_lab_ge hM h.1 hb
  have g4 : ¬ l a = R a := by omega
  refine ⟨?_, ?_, Or.inr rfl, ?_⟩
  · intro x hx
    by_cases e : x = a
    · subst e
      rw [sj_uns]
      have := h.1 x hx
      exact ⟨by omega, sj_con_tr (sj_con_ed hx hb hk) (h.1 b hb).2⟩
    · rw [sj_unn e]; exact h.1 x hx
  · intro x hx f
    have := h.2.1 x hx f
    by_cases e : x = a
    · subst e; exact absurd this g4
    · rw [sj_unn e]; exact this
  · intro x y hx hy hxy e f
    by_cases w : x < a ∨ (x = a ∧ y < b)
    · have := h.2.2.2 x y hx hy w e f
      by_cases ex : x = a
      · subst ex; exact absurd this g4
      · rw [sj_unn ex]; exact this
    · have ex : x = a := by omega
      have ey : y = b := by omega
      subst ex ey
      rw [sj_uns]
      have g1 := h.2.1 y hy f
      omega
theorem sj_ri_next {c : Nat} {E : Nat → Nat → Bool} {R m l : Nat → Nat} {a : Nat} {fl : Int32} (h : sj_RI c E R m a c l fl) : sj_RI c E R m (a + 1) 0 l fl := ⟨h.1, h.2.1, h.2.2.1, fun x y hx hy _ e f => h.2.2.2 x y hx hy (by omega) e f⟩
section
variable {yi : Nat → Int32} {S : Nat → Int32} {c t q : Nat} {R m : Nat → Nat}
theorem sj_ylo_in (hY : sj_YI S c yi) (hc : c ≤ 20) (ht : t ≤ 12) (hq : q ≤ 12) (hM : sj_Min c (fun a b => sj_sim t q (S a) (S b)) R) {post : Int32 → SY → Prop} {J : Int32 → Int32 → (Nat → Int32) → (Nat → Int32) → Prop} {a : Nat} (ha : a < c) (h : ∀ (l : Nat → Nat) (fl : Int32) (yl : Nat → Int32), (∀ x, x < c → yl x = nI (l x)) → sj_RI c (fun a b => sj_sim t q (S a) (S b)) R m (a + 1) 0 l fl → J fl (nI (a + 1)) yi yl) : ∀ (d b : Nat) (l : Nat → Nat) (fl : Int32) (yl : Nat → Int32), b + d = c → (∀ x, x < c → yl x = nI (l x)) → sj_RI c (fun a b => sj_sim t q (S a) (S b)) R m a b l fl → wY_lower_20 post J (nI a) (nI c) (nI t) (nI q) (d + 1) fl (nI b) yi yl := by
  intro d
  induction d with
  | zero =>
    intro b l fl yl hb h1 h2
    have e : b = c := by omega
    subst e
    exact pk_le b b (fun _ => nm_r (nI_1 a) (h l fl yl h1 (sj_ri_next h2))) (fun z => absurd z (by omega))
  | succ d ih =>
    intro b l fl yl hb h1 h2
    have hbc : b < c := by omega
    have ea : yl (nI a).toNatClampNeg = nI (l a) := by rw [nI_clamp (by omega)]; exact h1 a ha
    have eb : yl (nI b).toNatClampNeg = nI (l b) := by rw [nI_clamp (by omega)]; exact h1 b hbc
    have la := (h2.1 a ha).1
    have lb := (h2.1 b hbc).1
    refine pk_le c b (fun z => absurd z (by omega)) (fun _ => pk_le 20 b (fun z => absurd z (by omega)) (fun _ => ⟨pk_in b 20 (by omega), pk_in a 20 (by omega), pk_le (l a) (l b) (fun z => nm_r (nI_1 b) ?_) (fun z => ?_) ea eb⟩))
    · exact ih (b + 1) l fl yl (by omega) h1 (sj_ri_keep hM ha hbc h2 (fun _ => z))
    · refine sj_yal hY hc ht hq (Or.inl ha) (Or.inl hbc) ?_
      cases hE : sj_sim t q (S a) (S b) with
      | false =>
        exact br_t rfl (nm_r (nI_1 b) (ih (b + 1) l fl yl (by omega) h1 (sj_ri_keep hM ha hbc h2 (fun e => by rw [hE] at e; exact Bool.noConfusion e))))
      | true =>
        refine br_f sj_bIt ⟨pk_in b 20 (by omega), pk_in a 20 (by omega), nm_r (e' := upd yl a (nI (l b))) (by rw [eb, nI_clamp (by omega)]) (nm_r (nI_1 b) ?_)⟩
        refine ih (b + 1) (sj_un l a (l b)) 1 _ (by omega) ?_ (sj_ri_put hM ha hbc h2 hE z)
        intro x hx
        by_cases e : x = a
        · subst e; rw [pk_us, sj_uns]
        · rw [pk_un e, sj_unn e]; exact h1 x hx
theorem sj_ylo_out (hY : sj_YI S c yi) (hc : c ≤ 20) (ht : t ≤ 12) (hq : q ≤ 12) (hM : sj_Min c (fun a b => sj_sim t q (S a) (S b)) R) {post : Int32 → SY → Prop} (h : ∀ (l : Nat → Nat) (fl : Int32) (yl : Nat → Int32), (∀ x, x < c → yl x = nI (l x)) → sj_RI c (fun a b => sj_sim t q (S a) (S b)) R m c 0 l fl → post fl (nI c, nI t, nI q, yi, yl)) : ∀ (d a : Nat) (l : Nat → Nat) (fl : Int32) (yl : Nat → Int32), a + d = c → (∀ x, x < c → yl x = nI (l x)) → sj_RI c (fun a b => sj_sim t q (S a) (S b)) R m a 0 l fl → wY_lower_4 post (nI c) (nI t) (nI q) (d + 1) fl (nI a) yi yl := by
  intro d
  induction d with
  | zero =>
    intro a l fl yl ha h1 h2
    have e : a = c := by omega
    subst e
    refine pk_le a a (fun _ => And.intro ?_ (h l fl yl h1 h2)) (fun z => absurd z (by omega))
    rcases h2.2.2.1 with e | e
    · rw [e.1]; rfl
    · rw [e]; rfl
  | succ d ih =>
    intro a l fl yl ha h1 h2
    refine pk_le c a (fun z => absurd z (by omega)) (fun _ => pk_le 20 a (fun z => absurd z (by omega)) (fun _ => ⟨c + 1, ?_⟩))
    exact sj_ylo_in hY hc ht hq hM (by omega) (fun l' fl' yl' g1 g2 => ih (a + 1) l' fl' yl' (by omega) g1 g2) c 0 l fl yl (by omega) h1 h2
theorem sj_ylo (hY : sj_YI S c yi) (hc : c ≤ 20) (ht : t ≤ 12) (hq : q ≤ 12) (hM : sj_Min c (fun a b => sj_sim t q (S a) (S b)) R) {post : Int32 → SY → Prop} {l : Nat → Nat} {yl : Nat → Int32} (h1 : ∀ x, x < c → yl x = nI (l x)) (hl : sj_Lab c (fun a b => sj_sim t q (S a) (S b)) l) (h : ∀ (l' : Nat → Nat) (fl : Int32) (yl' : Nat → Int32), (∀ x, x < c → yl' x = nI (l' x)) → sj_RI c (fun a b => sj_sim t q (S a) (S b)) R l c 0 l' fl → post fl (nI c, nI t, nI q, yi, yl')) : wpY_lower post (nI c, nI t, nI q, yi, yl) :=
  ⟨c + 1, sj_ylo_out hY hc ht hq hM h c 0 l 0 yl (by omega) h1 ⟨hl, fun _ _ e => e, Or.inl ⟨rfl, fun _ _ => rfl⟩, fun x y _ _ w => absurd w (by omega)⟩⟩
theorem sj_yjo_l (hY : sj_YI S c yi) (hc : c ≤ 20) (ht : t ≤ 12) (hq : q ≤ 12) (hM : sj_Min c (fun a b => sj_sim t q (S a) (S b)) R) {post : SY → Prop} (h : ∀ yl : Nat → Int32, (∀ x, x < c → yl x = nI (R x)) → post (nI c, nI t, nI q, yi, yl)) : ∀ (d k : Nat) (l : Nat → Nat) (fl : Int32) (yl : Nat → Int32), k + d = 20 → (∀ x, x < c → yl x = nI (l x)) → sj_Lab c (fun a b => sj_sim t q (S a) (S b)) l → (fl = 0 → ∀ x, x < c → l x = R x) → ((∀ x, x < c → l x = R x) ∨ k ≤ sj_cn c (fun x => decide (l x = R x))) → wY_join_25 post (d + 1) fl (nI k) (nI c) (nI t) (nI q) yi yl := by
  intro d
  induction d with
  | zero =>
    intro k l fl yl hk h1 hl hf hp
    have e : k = 20 := by omega
    subst e
    refine pk_le 20 20 (fun _ => h yl ?_) (fun z => absurd z (by omega))
    intro x hx
    rw [h1 x hx]
    rcases hp with p | p
    · rw [p x hx]
    · have := sj_cn_full (n := c) (p := fun x => decide (l x = R x)) (by omega) x hx
      rw [decide_eq_true_iff] at this
      rw [this]
  | succ d ih =>
    intro k l fl yl hk h1 hl hf hp
    refine pk_le 20 k (fun z => absurd z (by omega)) (fun _ => br_c (fun z => h yl ?_) (fun _ => ?_))
    · intro x hx
      rw [h1 x hx, hf z x hx]
    · refine sj_ylo hY hc ht hq hM h1 hl ?_
      intro l' fl' yl' g1 g2
      have rd := sj_round (l' := l') (fun x y => sj_sim_comm t q (S x) (S y)) hM hl g2.2.1 (fun a b ha hb e f => g2.2.2.2 a b ha hb (Or.inl ha) e f)
      refine nm_r (nI_1 k) (ih (k + 1) l' fl' yl' (by omega) g1 g2.1 ?_ ?_)
      · intro z x hx
        rcases g2.2.2.1 with e | e
        · rcases rd with p | p
          · rw [e.2 x hx]; exact p x hx
          · rw [sj_cn_congr (n := c) (p := fun a => decide (l' a = R a)) (q := fun a => decide (l a = R a)) (fun i hi => by (try dsimp only); rw [e.2 i hi])] at p
            omega
        · rw [e] at z; exact absurd z (by decide)
      · rcases rd with p | p
        · exact Or.inl (fun x hx => g2.2.1 x hx (p x hx))
        · rcases hp with w | w
          · exact Or.inl (fun x hx => g2.2.1 x hx (w x hx))
          · exact Or.inr (by omega)
theorem sj_yjo_i (hY : sj_YI S c yi) (hc : c ≤ 20) (ht : t ≤ 12) (hq : q ≤ 12) (hM : sj_Min c (fun a b => sj_sim t q (S a) (S b)) R) {post : SY → Prop} (h : ∀ yl : Nat → Int32, (∀ x, x < c → yl x = nI (R x)) → post (nI c, nI t, nI q, yi, yl)) : ∀ (d k : Nat) (yl : Nat → Int32), k + d = 20 → (∀ x, x < k → yl x = nI x) → wY_join_2 post (nI c) (nI t) (nI q) (d + 1) (nI k) yi yl := by
  intro d
  induction d with
  | zero =>
    intro k yl hk h1
    have e : k = 20 := by omega
    subst e
    refine pk_le 20 20 (fun _ => ⟨20 + 1, ?_⟩) (fun z => absurd z (by omega))
    exact sj_yjo_l hY hc ht hq hM h 20 0 (fun x => x) 1 yl rfl (fun x hx => h1 x (by omega)) (fun a _ => ⟨Nat.le_refl a, sj_con_rf _ _ _⟩) (fun z => absurd z (by decide)) (Or.inr (Nat.zero_le _))
  | succ d ih =>
    intro k yl hk h1
    refine pk_le 20 k (fun z => absurd z (by omega)) (fun _ => ⟨pk_in k 20 (by omega), nm_r (e' := upd yl k (nI k)) (by rw [nI_clamp (by omega)]) (nm_r (nI_1 k) (ih (k + 1) _ (by omega) ?_))⟩)
    intro x hx
    by_cases e : x = k
    · subst e; exact pk_us
    · rw [pk_un e]; exact h1 x (by omega)
theorem sj_yjo (hY : sj_YI S c yi) (hc : c ≤ 20) (ht : t ≤ 12) (hq : q ≤ 12) (hM : sj_Min c (fun a b => sj_sim t q (S a) (S b)) R) {post : SY → Prop} {yl : Nat → Int32} (h : ∀ yl : Nat → Int32, (∀ x, x < c → yl x = nI (R x)) → post (nI c, nI t, nI q, yi, yl)) : wpY_join post (nI c, nI t, nI q, yi, yl) :=
  ⟨20 + 1, sj_yjo_i hY hc ht hq hM h 20 0 yl rfl (fun x hx => absurd hx (by omega))⟩
end
end
section
/-! the component: ranks of tokens -/
theorem sj_addb (n : Nat) (b : Bool) : nI n + sj_bI b = nI (n + (if b = true then 1 else 0)) := by
  cases b
  · exact Int32.add_zero _
  · exact nI_1 n
section
variable {gd gs gt gb gk : Int32} {xm xz xr xo xc xi xw xp : Nat → Int32} {c : Nat}
theorem sj_x17 (hc : c ≤ 20) {post : SX → Prop} {J : Int32 → (Nat → Int32) → (Nat → Int32) → (Nat → Int32) → (Nat → Int32) → (Nat → Int32) → (Nat → Int32) → (Nat → Int32) → (Nat → Int32) → Prop} {t : Nat} (ht : t < 30) (h : ∀ xd : Nat → Int32, xd t = nI (sj_cn c (fun r => bt (xm r) t)) → (∀ j, j ≠ t → xd j = xc j) → J (nI (t + 1)) xm xz xr xo xd xi xw xp) : ∀ (d r : Nat) (xd : Nat → Int32), r + d = c → xd t = nI (sj_cn r (fun r => bt (xm r) t)) → (∀ j, j ≠ t → xd j = xc j) → wX_rankTokens_17 post J (nI t) gd gs (nI c) gt gb gk (d + 1) (nI r) xm xz xr xo xd xi xw xp := by
  intro d
  induction d with
  | zero =>
    intro r xd hr h1 h2
    have e : r = c := by omega
    subst e
    exact pk_le r r (fun _ => nm_r (nI_1 t) (h xd h1 h2)) (fun z => absurd z (by omega))
  | succ d ih =>
    intro r xd hr h1 h2
    refine pk_le c r (fun z => absurd z (by omega)) (fun _ => ⟨pk_in t 30 ht, pk_in r 20 (by omega), pk_in t 30 ht, nm_r (e' := upd xd t (nI (sj_cn (r + 1) (fun r => bt (xm r) t)))) ?_ (nm_r (nI_1 r) (ih (r + 1) _ (by omega) pk_us ?_))⟩)
    · rw [nI_clamp (n := t) (by omega), nI_clamp (n := r) (by omega), sj_bit _ (by omega), h1, sj_addb]
      rfl
    · intro j hj
      rw [pk_un hj]; exact h2 j hj
theorem sj_x2 (hc : c ≤ 20) {post : SX → Prop} (h : ∀ xd : Nat → Int32, (∀ t, t < 30 → xd t = nI (sj_cn c (fun r => bt (xm r) t))) → ∃ n : Nat, wX_rankTokens_58 post gd gs (nI c) gt gb gk n 0 xm xz xr xo xd xi xw xp) : ∀ (d t : Nat) (xd : Nat → Int32), t + d = 30 → (∀ s, s < t → xd s = nI (sj_cn c (fun r => bt (xm r) s))) → wX_rankTokens_2 post gd gs (nI c) gt gb gk (d + 1) (nI t) xm xz xr xo xd xi xw xp := by
  intro d
  induction d with
  | zero =>
    intro t xd ht h1
    have e : t = 30 := by omega
    subst e
    exact pk_le 30 30 (fun _ => h xd h1) (fun z => absurd z (by omega))
  | succ d ih =>
    intro t xd ht h1
    refine pk_le 30 t (fun z => absurd z (by omega)) (fun _ => ⟨pk_in t 30 (by omega), nm_r (e' := upd xd t 0) (by rw [nI_clamp (by omega)]) ⟨c + 1, ?_⟩⟩)
    refine sj_x17 (xc := upd xd t 0) hc (by omega) ?_ c 0 _ (by omega) pk_us (fun _ _ => rfl)
    intro xd' g1 g2
    refine ih (t + 1) xd' (by omega) ?_
    intro s hs
    by_cases e : s = t
    · subst e; exact g1
    · rw [g2 s e, pk_un e]; exact h1 s (by omega)
theorem sj_x68 {k : Nat → Nat} (hk : ∀ s, s < 30 → xc s = nI (k s) ∧ k s ≤ 20) {post : SX → Prop} {J : Int32 → (Nat → Int32) → (Nat → Int32) → (Nat → Int32) → (Nat → Int32) → (Nat → Int32) → (Nat → Int32) → (Nat → Int32) → (Nat → Int32) → Prop} {t : Nat} (ht : t < 30) (h : J (nI (t + 1)) xm xz xr (upd xo t (nI (sj_rk k t))) xc xi xw xp) : ∀ (d s : Nat), s + d = 30 → wX_rankTokens_68 post J (nI t) gd gs (nI c) gt gb gk xm xz xr xo xc xi xw xp (d + 1) (nI (sj_cn s (fun s => sj_ltc k s t))) (nI s) := by
  intro d
  induction d with
  | zero =>
    intro s hs
    have e : s = 30 := by omega
    subst e
    exact pk_le 30 30 (fun _ => ⟨pk_in t 30 ht, nm_r (by rw [nI_clamp (by omega)]; rfl) (nm_r (nI_1 t) h)⟩) (fun z => absurd z (by omega))
  | succ d ih =>
    intro s hs
    have i := ih (s + 1) (by omega)
    have es : xc (nI s).toNatClampNeg = nI (k s) := by rw [nI_clamp (by omega)]; exact (hk s (by omega)).1
    have et : xc (nI t).toNatClampNeg = nI (k t) := by rw [nI_clamp (by omega)]; exact (hk t ht).1
    have bs := (hk s (by omega)).2
    have bt' := (hk t ht).2
    cases hl : sj_ltc k s t with
    | true =>
      rw [sj_cnT (p := fun s => sj_ltc k s t) hl] at i
      rw [sj_ltc_iff] at hl
      exact pk_le 30 s (fun z => absurd z (by omega)) (fun _ => ⟨pk_in s 30 (by omega), pk_in t 30 ht, pk_lt (k s) (k t) (fun _ => nm_r (nI_1 _) (nm_r (nI_1 s) i)) (fun _ => ⟨pk_in s 30 (by omega), pk_in t 30 ht, pk_eq (k s) (k t) (fun _ => pk_le t s (fun z => absurd z (by omega)) (fun _ => nm_r (nI_1 _) (nm_r (nI_1 s) i))) (fun z => absurd z (by omega)) es et⟩) es et⟩)
    | false =>
      rw [sj_cnF (p := fun s => sj_ltc k s t) hl] at i
      have hn : ¬ (k s < k t ∨ (k s = k t ∧ s < t)) := fun z => by
        rw [sj_ltc_iff.mpr z] at hl
        exact Bool.noConfusion hl
      exact pk_le 30 s (fun z => absurd z (by omega)) (fun _ => ⟨pk_in s 30 (by omega), pk_in t 30 ht, pk_lt (k s) (k t) (fun z => absurd z (by omega)) (fun _ => ⟨pk_in s 30 (by omega), pk_in t 30 ht, pk_eq (k s) (k t) (fun _ => pk_le t s (fun _ => nm_r (nI_1 s) i) (fun z => absurd z (by omega))) (fun _ => nm_r (nI_1 s) i) es et⟩) es et⟩)
theorem sj_x58 {k : Nat → Nat} (hk : ∀ s, s < 30 → xc s = nI (k s) ∧ k s ≤ 20) {post : SX → Prop} (h : ∀ xq : Nat → Int32, (∀ t, t < 30 → xq t = nI (sj_rk k t)) → post (gd, gs, nI c, gt, gb, gk, xm, xz, xr, xq, xc, xi, xw, xp)) : ∀ (d t : Nat) (xq : Nat → Int32), t + d = 30 → (∀ s, s < t → xq s = nI (sj_rk k s)) → wX_rankTokens_58 post gd gs (nI c) gt gb gk (d + 1) (nI t) xm xz xr xq xc xi xw xp := by
  intro d
  induction d with
  | zero =>
    intro t xq ht h1
    have e : t = 30 := by omega
    subst e
    exact pk_le 30 30 (fun _ => h xq h1) (fun z => absurd z (by omega))
  | succ d ih =>
    intro t xq ht h1
    refine pk_le 30 t (fun z => absurd z (by omega)) (fun _ => ⟨30 + 1, ?_⟩)
    refine sj_x68 hk (by omega) ?_ 30 0 rfl
    refine ih (t + 1) _ (by omega) ?_
    intro s hs
    by_cases e : s = t
    · subst e; exact pk_us
    · rw [pk_un e]; exact h1 s (by omega)
theorem sj_xrank (hc : c ≤ 20) {post : SX → Prop} (h : ∀ xq xd : Nat → Int32, (∀ t, t < 30 → xd t = nI (sj_cn c (fun r => bt (xm r) t))) → (∀ t, t < 30 → xq t = nI (sj_rk (fun t => sj_cn c (fun r => bt (xm r) t)) t)) → post (gd, gs, nI c, gt, gb, gk, xm, xz, xr, xq, xd, xi, xw, xp)) : wpX_rankTokens post (gd, gs, nI c, gt, gb, gk, xm, xz, xr, xo, xc, xi, xw, xp) := by
  refine ⟨30 + 1, sj_x2 hc ?_ 30 0 xc rfl (fun s hs => absurd hs (by omega))⟩
  intro xd h1
  refine ⟨30 + 1, sj_x58 (k := fun t => sj_cn c (fun r => bt (xm r) t)) ?_ (fun xq h2 => h xq xd h1 h2) 30 0 xo rfl (fun s hs => absurd hs (by omega))⟩
  intro s hs
  exact ⟨h1 s hs, Nat.le_trans (sj_cn_le c _) hc⟩
end
end
section
/-! the component: a line of ranks in rising order -/
def sj_Ln (xr : Nat → Int32) (l : Nat) (a : Nat → Bool) (k : Nat) (g : Nat → Nat) : Prop := ∀ i, i < k → g i < 30 ∧ xr (12 * l + i) = nI (g i) ∧ a (g i) = true ∧ sj_cn (g i) a = i
def sj_Line (xr : Nat → Int32) (l : Nat) (a : Nat → Bool) (k : Nat) : Prop := ∃ g, sj_Ln xr l a k g
theorem sj_cn_un {a : Nat → Bool} {v w : Nat} (hv : a v = true) (hw : a w = true) (h : sj_cn v a = sj_cn w a) : v = w := by
  rcases Nat.lt_trichotomy v w with e | e | e
  · have := sj_cn_lt e hv; omega
  · exact e
  · have := sj_cn_lt e hw; omega
theorem sj_ln_mem {xr : Nat → Int32} {l k m : Nat} {a : Nat → Bool} {g : Nat → Nat} (h : sj_Ln xr l a k g) (hm : m ≤ k) {v : Nat} : (∃ i, i < m ∧ g i = v) ↔ (a v = true ∧ sj_cn v a < m) := by
  constructor
  · rintro ⟨i, hi, rfl⟩
    have := h i (by omega)
    exact ⟨this.2.2.1, by omega⟩
  · rintro ⟨av, cv⟩
    have := h (sj_cn v a) (by omega)
    exact ⟨sj_cn v a, cv, sj_cn_un this.2.2.1 av this.2.2.2⟩
theorem sj_line_fr {xr xs : Nat → Int32} {l k : Nat} {a : Nat → Bool} (hk : k ≤ 12) (h : sj_Line xr l a k) (f : ∀ i, i < 12 → xs (12 * l + i) = xr (12 * l + i)) : sj_Line xs l a k := by
  obtain ⟨g, hg⟩ := h
  refine ⟨g, fun i hi => ?_⟩
  rw [f i (by omega)]
  exact hg i hi
theorem sj_line_cg {xr : Nat → Int32} {l k : Nat} {a b : Nat → Bool} (h : sj_Line xr l a k) (f : ∀ v, v < 30 → a v = b v) : sj_Line xr l b k := by
  obtain ⟨g, hg⟩ := h
  refine ⟨g, fun i hi => ?_⟩
  have := hg i hi
  rw [← f _ this.1, ← sj_cn_congr (n := g i) (fun j hj => f j (by omega))]
  exact this
def sj_ins (a : Nat → Bool) (w : Nat) : Nat → Bool := fun v => a v || decide (v = w)
theorem sj_ins_cn {a : Nat → Bool} {w : Nat} (h : a w = false) (m : Nat) : sj_cn m (sj_ins a w) = sj_cn m a + (if w < m then 1 else 0) := by
  induction m with
  | zero => rfl
  | succ m ih =>
    rw [sj_cnS, sj_cnS, ih]
    by_cases e : m = w
    · subst e
      have : sj_ins a m m = true := by simp [sj_ins]
      simp [this, h]
    · have : sj_ins a w m = a m := by simp [sj_ins, e]
      rw [this]
      by_cases e2 : w < m
      · rw [if_pos e2, if_pos (show w < m + 1 by omega)]; omega
      · rw [if_neg e2, if_neg (show ¬ w < m + 1 by omega)]; omega
theorem sj_ins_w (a : Nat → Bool) (w : Nat) : sj_ins a w w = true := by simp [sj_ins]
theorem sj_ins_o {a : Nat → Bool} {v : Nat} (w : Nat) (h : a v = true) : sj_ins a w v = true := by simp [sj_ins, h]
/-- the new rank w comes to place p: those ahead are less, those behind are greater and one place on -/
theorem sj_line_ins {xr xs : Nat → Int32} {l k p w : Nat} {a : Nat → Bool} {g : Nat → Nat} (hg : sj_Ln xr l a k g) (hk : k = sj_cn 30 a) (hw : w < 30) (aw : a w = false) (hp : p ≤ k) (h1 : ∀ i, i < p → xs (12 * l + i) = xr (12 * l + i)) (h2 : xs (12 * l + p) = nI w) (h3 : ∀ i, p ≤ i → i < k → xs (12 * l + (i + 1)) = xr (12 * l + i) ∧ w < g i) (h4 : 0 < p → g (p - 1) ≤ w) : sj_Line xs l (sj_ins a w) (k + 1) := by
  have hne : ∀ i, i < k → g i ≠ w := fun i hi e => by
    have := (hg i hi).2.2.1
    rw [e, aw] at this
    exact Bool.noConfusion this
  have hlt : ∀ i, i < p → g i < w := by
    intro i hi
    have a1 := hg i (by omega)
    have a2 := hg (p - 1) (by omega)
    have a3 := h4 (by omega)
    have a4 := hne (p - 1) (by omega)
    rcases Nat.lt_or_ge (g i) w with e | e
    · exact e
    · have := sj_cn_lt (z := g (p - 1)) (m := g i) (by omega) a2.2.2.1
      omega
  have hcw : sj_cn w a = p := by
    apply Nat.le_antisymm
    · by_cases e : p < k
      · have a1 := hg p e
        have a2 := h3 p (by omega) e
        have := sj_cn_mono (p := a) (z := w) (m := g p) (by omega)
        omega
      · have := sj_cn_mono (p := a) (z := w) (m := 30) (by omega)
        omega
    · by_cases e : p = 0
      · omega
      · have a1 := hg (p - 1) (by omega)
        have := sj_cn_lt (hlt (p - 1) (by omega)) a1.2.2.1
        omega
  refine ⟨fun i => if i < p then g i else if i = p then w else g (i - 1), ?_⟩
  intro i hi
  try dsimp only
  by_cases e1 : i < p
  · rw [if_pos e1]
    have a1 := hg i (by omega)
    refine ⟨a1.1, by rw [h1 i e1]; exact a1.2.1, sj_ins_o w a1.2.2.1, ?_⟩
    rw [sj_ins_cn aw, if_neg (by have := hlt i e1; omega)]
    exact a1.2.2.2
  · rw [if_neg e1]
    by_cases e2 : i = p
    · rw [if_pos e2]
      subst e2
      refine ⟨hw, h2, sj_ins_w a w, ?_⟩
      rw [sj_ins_cn aw, if_neg (Nat.lt_irrefl w)]
      exact hcw
    · rw [if_neg e2]
      obtain ⟨j, rfl⟩ : ∃ j, i = j + 1 := ⟨i - 1, by omega⟩
      rw [Nat.add_sub_cancel]
      have a1 := hg j (by omega)
      have a2 := h3 j (by omega) (by omega)
      refine ⟨a1.1, by rw [a2.1]; exact a1.2.1, sj_ins_o w a1.2.2.1, ?_⟩
      rw [sj_ins_cn aw, if_pos a2.2, a1.2.2.2]
theorem sj_x12 (l i : Nat) : (12 : Int32) * nI l + nI i = nI (12 * l + i) := by
  rw [show (12 : Int32) = nI 12 from rfl, pk_mul, nI_add]
theorem sj_x12p (l i : Nat) : (12 : Int32) * nI l + nI (i + 1) - 1 = nI (12 * l + i) := by
  rw [sj_x12, ← Nat.add_assoc, nI_pred]
/-- the set's ranks whose token is below t -/
def sj_rt (tk : Nat → Nat) (A : Int32) (t : Nat) : Nat → Bool := fun v => bt A (tk v) && decide (tk v < t)
theorem sj_rt_no {rk tk : Nat → Nat} {A : Int32} {t : Nat} (h : bt A t = false) : ∀ v, v < 30 → sj_rt tk A t v = sj_rt tk A (t + 1) v := by
  intro v _
  unfold sj_rt
  by_cases e : tk v = t
  · rw [e, h]; rfl
  · by_cases e2 : tk v < t
    · have : tk v < t + 1 := by omega
      simp [e2, this]
    · have : ¬ tk v < t + 1 := by omega
      simp [e2, this]
theorem sj_rt_yes {rk tk : Nat → Nat} (hp : sj_Perm rk tk) {A : Int32} {t : Nat} (ht : t < 30) (h : bt A t = true) : ∀ v, v < 30 → sj_ins (sj_rt tk A t) (rk t) v = sj_rt tk A (t + 1) v := by
  intro v hv
  unfold sj_ins sj_rt
  by_cases e : v = rk t
  · subst e
    rw [(hp.1 t ht).2, h]
    simp
  · have e3 : tk v ≠ t := fun z => e (by rw [← z]; exact (hp.2 v hv).2.symm)
    by_cases e2 : tk v < t
    · have : tk v < t + 1 := by omega
      simp [e, e2, this]
    · have : ¬ tk v < t + 1 := by omega
      simp [e, e2, this]
theorem sj_rt_end {rk tk : Nat → Nat} (hp : sj_Perm rk tk) (A : Int32) : ∀ v, v < 30 → sj_rt tk A 30 v = sj_rp tk A v := by
  intro v hv
  unfold sj_rt sj_rp
  rw [decide_eq_true (hp.2 v hv).1, Bool.and_true]
theorem sj_rt_le {rk tk : Nat → Nat} (hp : sj_Perm rk tk) (A : Int32) (t : Nat) : sj_cn 30 (sj_rt tk A t) ≤ sj_pc A := by
  rw [← sj_rp_cn hp A]
  apply sj_cn_imp
  intro i _ e
  unfold sj_rt at e
  rw [Bool.and_eq_true] at e
  exact e.1
theorem sj_rt_0 (tk : Nat → Nat) (A : Int32) : sj_cn 30 (sj_rt tk A 0) = 0 := sj_cn_none (fun i _ => by unfold sj_rt; simp)
section
variable {gd gs gc gt gb gk : Int32} {xm xz xr xo xc xi xw xp : Nat → Int32} {rk tk : Nat → Nat} {A : Int32} {l : Nat}
theorem sj_x31 {a : Nat → Bool} {k w t : Nat} {g : Nat → Nat} (hl : l ≤ 20) (hk : k = sj_cn 30 a) (hk12 : k < 12) (ht : t < 30) (hw : w < 30) (aw : a w = false) (ew : xo t = nI w) (hg : sj_Ln xr l a k g) {post : SX → Prop} {J : Int32 → Int32 → (Nat → Int32) → (Nat → Int32) → (Nat → Int32) → (Nat → Int32) → (Nat → Int32) → (Nat → Int32) → (Nat → Int32) → (Nat → Int32) → Prop} (h : ∀ xs : Nat → Int32, sj_Line xs l (sj_ins a w) (k + 1) → (∀ j, (j < 12 * l ∨ 12 * l + 12 ≤ j) → xs j = xr j) → J (nI (k + 1)) (nI (t + 1)) xm xz xs xo xc xi xw xp) : ∀ (p : Nat) (xs : Nat → Int32), p ≤ k → (∀ i, i < p → xs (12 * l + i) = xr (12 * l + i)) → (∀ i, p ≤ i → i < k → xs (12 * l + (i + 1)) = xr (12 * l + i) ∧ w < g i) → (∀ j, (j < 12 * l ∨ 12 * l + 12 ≤ j) → xs j = xr j) → wX_spell_31 post J (nI l) A (nI k) (nI t) gd gs gc gt gb gk (p + 1) (nI p) xm xz xs xo xc xi xw xp := by
  have fin : ∀ (p : Nat) (xs : Nat → Int32), p ≤ k → (∀ i, i < p → xs (12 * l + i) = xr (12 * l + i)) → (∀ i, p ≤ i → i < k → xs (12 * l + (i + 1)) = xr (12 * l + i) ∧ w < g i) → (∀ j, (j < 12 * l ∨ 12 * l + 12 ≤ j) → xs j = xr j) → (0 < p → g (p - 1) ≤ w) → wX_spell_92 post J (nI l) A (nI k) (nI t) (nI p) gd gs gc gt gb gk xm xz xs xo xc xi xw xp := by
    intro p xs hp h1 h3 h5 h4
    refine And.intro (pk_in t 30 ht) (And.intro (pk_in (12 * l + p) 252 (by omega) (sj_x12 l p)) (nm_r (e' := upd xs (12 * l + p) (nI w)) ?_ (nm_r (nI_1 k) (nm_r (nI_1 t) (h _ ?_ ?_)))))
    · rw [pk_cl (12 * l + p) (sj_x12 l p), nI_clamp (n := t) (by omega), ew]
    · refine sj_line_ins hg hk hw aw hp ?_ pk_us ?_ h4
      · intro i hi
        rw [pk_un (by omega)]; exact h1 i hi
      · intro i hi hik
        rw [pk_un (by omega)]; exact h3 i hi hik
    · intro j hj
      rw [pk_un (by omega)]; exact h5 j hj
  intro p
  induction p with
  | zero =>
    intro xs hp h1 h3 h5
    exact pk_le 0 0 (fun _ => fin 0 xs hp h1 h3 h5 (fun z => absurd z (by omega))) (fun z => absurd z (by omega))
  | succ p ih =>
    intro xs hp h1 h3 h5
    have gp := hg p (by omega)
    have ec : xs ((12 : Int32) * nI l + nI (p + 1) - 1).toNatClampNeg = nI (g p) := by
      rw [pk_cl (12 * l + p) (sj_x12p l p), h1 p (by omega)]
      exact gp.2.1
    have et : xo (nI t).toNatClampNeg = nI w := by rw [nI_clamp (by omega)]; exact ew
    refine pk_le (p + 1) 0 (fun z => absurd z (by omega)) (fun _ => ⟨pk_in (12 * l + p) 252 (by omega) (sj_x12p l p), pk_in t 30 ht, pk_le (g p) w (fun z => fin (p + 1) xs hp h1 h3 h5 (fun _ => z)) (fun z => ⟨pk_in (12 * l + p) 252 (by omega) (sj_x12p l p), pk_in (12 * l + (p + 1)) 252 (by omega) (sj_x12 l (p + 1)), nm_r (e' := upd xs (12 * l + (p + 1)) (nI (g p))) ?_ (nm_r (pk_m1 p) (ih _ (by omega) ?_ ?_ ?_))⟩) ec et⟩)
    · rw [ec, pk_cl (12 * l + (p + 1)) (sj_x12 l (p + 1))]
    · intro i hi
      rw [pk_un (by omega)]; exact h1 i (by omega)
    · intro i hi hik
      by_cases e : i = p
      · subst e
        rw [pk_us]
        exact ⟨gp.2.1.symm, z⟩
      · rw [pk_un (by omega)]; exact h3 i (by omega) hik
    · intro j hj
      rw [pk_un (by omega)]; exact h5 j hj
theorem sj_x5 (hp : sj_Perm rk tk) (ho : ∀ x, x < 30 → xo x = nI (rk x)) (hl : l ≤ 20) (hA : sj_pc A ≤ 12) {post : SX → Prop} (h : ∀ xs : Nat → Int32, sj_Line xs l (sj_rp tk A) (sj_pc A) → (∀ j, (j < 12 * l ∨ 12 * l + 12 ≤ j) → xs j = xr j) → post (gd, gs, gc, gt, gb, gk, xm, xz, xs, xo, xc, xi, xw, xp)) : ∀ (d t : Nat) (xs : Nat → Int32), t + d = 30 → sj_Line xs l (sj_rt tk A t) (sj_cn 30 (sj_rt tk A t)) → (∀ j, (j < 12 * l ∨ 12 * l + 12 ≤ j) → xs j = xr j) → wX_spell_5 post (nI l) A gd gs gc gt gb gk (d + 1) (nI (sj_cn 30 (sj_rt tk A t))) (nI t) xm xz xs xo xc xi xw xp := by
  intro d
  induction d with
  | zero =>
    intro t xs ht h1 h2
    have e : t = 30 := by omega
    subst e
    refine pk_le 30 30 (fun _ => h xs ?_ h2) (fun z => absurd z (by omega))
    rw [sj_cn_congr (sj_rt_end hp A), sj_rp_cn hp] at h1
    exact sj_line_cg h1 (sj_rt_end hp A)
  | succ d ih =>
    intro t xs ht h1 h2
    have ht' : t < 30 := by omega
    have hle := sj_rt_le hp A (t + 1)
    cases hb : bt A t with
    | false =>
      have i := ih (t + 1) xs (by omega) (by
        rw [← sj_cn_congr (sj_rt_no (rk := rk) hb)]
        exact sj_line_cg h1 (sj_rt_no (rk := rk) hb)) h2
      rw [← sj_cn_congr (sj_rt_no (rk := rk) hb)] at i
      exact pk_le 30 t (fun z => absurd z (by omega)) (fun _ => br_f (fun z => by
        rw [sj_bit1 A (by omega), hb] at z
        exact Bool.noConfusion z) (nm_r (nI_1 t) i))
    | true =>
      have aw : sj_rt tk A t (rk t) = false := by
        unfold sj_rt
        rw [(hp.1 t ht').2]
        simp
      have ecn : sj_cn 30 (sj_rt tk A (t + 1)) = sj_cn 30 (sj_rt tk A t) + 1 := by
        rw [← sj_cn_congr (sj_rt_yes hp ht' hb), sj_ins_cn aw, if_pos (hp.1 t ht').1]
      obtain ⟨g, hg⟩ := h1
      refine pk_le 30 t (fun z => absurd z (by omega)) (fun _ => br_t ((sj_bit1 A (by omega)).mpr hb) (pk_le 12 (sj_cn 30 (sj_rt tk A t)) (fun z => absurd z (by omega)) (fun _ => ⟨_, sj_x31 hl rfl (by omega) ht' (hp.1 t ht').1 aw (ho t ht') hg ?_ (sj_cn 30 (sj_rt tk A t)) xs (Nat.le_refl _) (fun _ _ => rfl) (fun i a b => absurd b (by omega)) (fun _ _ => rfl)⟩)))
      intro ys g1 g2
      have i := ih (t + 1) ys (by omega) (by
        rw [ecn]
        exact sj_line_cg g1 (sj_rt_yes hp ht' hb)) (fun j hj => by rw [g2 j hj]; exact h2 j hj)
      rw [ecn] at i
      exact i
theorem sj_xspell (hp : sj_Perm rk tk) (ho : ∀ x, x < 30 → xo x = nI (rk x)) (hl : l ≤ 20) (hA : sj_pc A ≤ 12) {post : SX → Prop} (h : ∀ xs : Nat → Int32, sj_Line xs l (sj_rp tk A) (sj_pc A) → (∀ j, (j < 12 * l ∨ 12 * l + 12 ≤ j) → xs j = xr j) → post (gd, gs, gc, gt, gb, gk, xm, xz, xs, xo, xc, xi, xw, xp)) : wpX_spell post (gd, gs, gc, gt, gb, gk, xm, xz, xr, xo, xc, xi, xw, xp) (nI l) A := by
  have i := sj_x5 (gd := gd) (gs := gs) (gc := gc) (gt := gt) (gb := gb) (gk := gk) (xm := xm) (xz := xz) (xc := xc) (xi := xi) (xw := xw) (xp := xp) hp ho hl hA h 30 0 xr rfl (by
    rw [sj_rt_0]
    exact ⟨fun _ => 0, fun i hi => absurd hi (by omega)⟩) (fun _ _ => rfl)
  rw [sj_rt_0] at i
  exact ⟨30 + 1, i⟩
end
end
section
/-! the component: how far to look, merging two lines, probing -/
section
variable {gd gs gc gk : Int32} {xm xz xr xo xc xi xw xp : Nat → Int32} {rk tk : Nat → Nat} {t q c : Nat}
theorem sj_sm2 {t s : Nat} (ht : t ≤ 12) (hs : s ≤ 24) : t * s ≤ 288 := Nat.mul_le_mul ht hs
theorem sj_xpl (ht : 1 ≤ t) (hq : t ≤ q) (hq2 : q ≤ 12) {post : Int32 → Prop} {s : Nat} (hs : 1 ≤ s) (hs2 : s ≤ 12) (h : post (nI (sj_pl t q s))) : wpX_prefixLength post (gd, gs, gc, nI t, nI q, gk, xm, xz, xr, xo, xc, xi, xw, xp) (nI s) := by
  have b := sj_sm2 (t := t) (s := s) (by omega) (by omega)
  have nd := sj_ndp ht hq hs
  have e1 : nI t * nI s + nI q - 1 = nI (t * s + q - 1) := by
    rw [pk_mul, nI_add, show (1 : Int32) = nI 1 from rfl, pk_sub (by omega)]
  refine pk_le q 0 (fun z => absurd z (by omega)) (fun _ => ?_)
  refine And.intro (nI_ne0 (by omega) (by omega)) (nm_r (e' := nI ((t * s + q - 1) / q)) ?_ ?_)
  · rw [e1, pk_div (by omega) (by omega) (by omega)]
  · rw [pk_sub nd.2, nI_1]
    unfold sj_pl at h
    rw [show s + 1 - (t * s + q - 1) / q = s - (t * s + q - 1) / q + 1 by omega] at h
    exact h
theorem sj_xv203 {post : Int32 → Prop} {gt gb : Int32} {n k : Nat} (hn : n ≤ 1000) (hk : k ≤ 1000) (h : post (sj_bI (decide (n ≤ k)))) : wX_verify_203 post (nI n) (nI k) gd gs gc gt gb gk xm xz xr xo xc xi xw xp := by
  refine pk_lt k n (fun z => ?_) (fun z => ?_)
  · rw [decide_eq_false (by omega)] at h; exact h
  · rw [decide_eq_true z] at h; exact h
theorem sj_xv55 {post : Int32 → Prop} {gt gb : Int32} {l bb sa sb nd : Nat} {a b : Nat → Bool} {ga gq : Nat → Nat} (hl : l ≤ 20) (hb : bb < 20) (hA : sj_Ln xr l a sa ga) (hB : sj_Ln xr bb b sb gq) (hsa : sa = sj_cn 30 a) (hsb : sb = sj_cn 30 b) (ha12 : sa ≤ 12) (hb12 : sb ≤ 12) (hz : xz bb = nI sb) (hnd : nd ≤ 1000) (h : post (sj_bI (decide (nd ≤ sj_cn 30 (fun v => a v && b v))))) : ∀ (n z i j k st : Nat), z ≤ 30 → i = sj_cn z a → j = sj_cn z b → k = sj_cn z (fun v => a v && b v) → st ≤ i + j → sa + sb < n + (i + j) → wX_verify_55 post (nI l) (nI sa) (nI bb) (nI nd) gd gs gc gt gb gk xm xz xr xo xc xi xw xp n (nI i) (nI j) (nI k) (nI st) := by
  intro n
  induction n with
  | zero =>
    intro z i j k st hz30 hi hj hk hst hn
    exfalso
    have := sj_cn_mono (p := a) hz30
    have := sj_cn_mono (p := b) hz30
    omega
  | succ n ih =>
    intro z i j k st hz30 hi hj hk hst hn
    have mi := sj_cn_mono (p := a) hz30
    have mj := sj_cn_mono (p := b) hz30
    have mk := sj_cn_mono (p := fun v => a v && b v) hz30
    have dl := sj_andl (a := a) (b := b) hz30
    have dr := sj_andr (a := a) (b := b) hz30
    have k30 : k ≤ 30 := by rw [hk]; exact Nat.le_trans (sj_cn_le z _) hz30
    have K30 : sj_cn 30 (fun v => a v && b v) ≤ 30 := sj_cn_le 30 _
    have F : ¬ (i < sa ∧ j < sb) → wX_verify_203 post (nI nd) (nI k) gd gs gc gt gb gk xm xz xr xo xc xi xw xp := by
      intro w
      refine sj_xv203 hnd (by omega) ?_
      rw [show k = sj_cn 30 (fun v => a v && b v) by omega]
      exact h
    have ez : xz (nI bb).toNatClampNeg = nI sb := by rw [nI_clamp (by omega)]; exact hz
    have M : i < sa → j < sb → ∀ (z0 : Int32) (L : Nat), z0 = nI L → L ≤ 12 → sj_cn 30 (fun v => a v && b v) ≤ k + L → wX_verify_111 post (wX_verify_55 post (nI l) (nI sa) (nI bb) (nI nd) gd gs gc gt gb gk xm xz xr xo xc xi xw xp n) (nI l) (nI sa) (nI bb) (nI nd) (nI i) (nI j) (nI k) (nI st) z0 gd gs gc gt gb gk xm xz xr xo xc xi xw xp := by
      intro hia hjb z0 L ez0 hL hKL
      have A1 := hA i hia
      have B1 := hB j hjb
      have c1 : xr ((12 : Int32) * nI l + nI i).toNatClampNeg = nI (ga i) := by
        rw [pk_cl (12 * l + i) (sj_x12 l i)]; exact A1.2.1
      have c2 : xr ((12 : Int32) * nI bb + nI j).toNatClampNeg = nI (gq j) := by
        rw [pk_cl (12 * bb + j) (sj_x12 bb j)]; exact B1.2.1
      have i1 : sj_cn (ga i) a = sj_cn z a := by rw [A1.2.2.2, hi]
      have j1 : sj_cn (gq j) b = sj_cn z b := by rw [B1.2.2.2, hj]
      refine pk_le nd (k + L) (fun _ => And.intro (pk_in (12 * l + i) 252 (by omega) (sj_x12 l i)) (nm_r c1 (And.intro (pk_in (12 * bb + j) 252 (by omega) (sj_x12 bb j)) (nm_r c2 ?_)))) (fun w => ?_) rfl (by rw [ez0, nI_add]) (by omega) (by omega)
      · refine pk_eq (ga i) (gq j) (fun w => nm_r (nI_1 k) ?_) (fun w => ?_)
        · have s := sj_m_eq (a := a) (b := b) (z := z) (v := ga i) A1.2.2.1 (by rw [w]; exact B1.2.2.1) i1 (by rw [w]; exact j1)
          have r := ih (ga i + 1) (i + 1) (j + 1) (k + 1) (st + 1) (by omega) (by omega) (by omega) (by omega) (by omega) (by omega)
          exact pk_lt (gq j) (ga i) (fun v => absurd v (by omega)) (fun _ => nm_r (nI_1 i) (pk_lt (ga i) (gq j) (fun v => absurd v (by omega)) (fun _ => nm_r (nI_1 j) (nm_r (nI_1 st) r))))
        · rcases Nat.lt_or_ge (ga i) (gq j) with v | v
          · have s := sj_m_lt (a := a) (b := b) (z := z) (v := ga i) (w := gq j) A1.2.2.1 B1.2.2.1 v i1 j1
            have r := ih (ga i + 1) (i + 1) j k (st + 1) (by omega) (by omega) (by omega) (by omega) (by omega) (by omega)
            exact pk_lt (gq j) (ga i) (fun v => absurd v (by omega)) (fun _ => nm_r (nI_1 i) (pk_lt (ga i) (gq j) (fun _ => nm_r (Int32.add_zero _) (nm_r (nI_1 st) r)) (fun v => absurd v (by omega))))
          · have s := sj_m_gt (a := a) (b := b) (z := z) (v := ga i) (w := gq j) A1.2.2.1 B1.2.2.1 (by omega) i1 j1
            have r := ih (gq j + 1) i (j + 1) k (st + 1) (by omega) (by omega) (by omega) (by omega) (by omega) (by omega)
            exact pk_lt (gq j) (ga i) (fun _ => nm_r (Int32.add_zero _) (pk_lt (ga i) (gq j) (fun v => absurd v (by omega)) (fun _ => nm_r (nI_1 j) (nm_r (nI_1 st) r)))) (fun v => absurd v (by omega))
      · rw [decide_eq_false (by omega)] at h
        exact h
    refine pk_le 24 st (fun _ => F (by omega)) (fun _ => pk_le sa i (fun _ => F (by omega)) (fun _ => ⟨pk_in bb 20 hb, pk_le sb j (fun _ => F (by omega)) (fun _ => ⟨pk_in bb 20 hb, pk_le (sb - j) (sa - i) (fun _ => ⟨pk_in bb 20 hb, M (by omega) (by omega) _ (sb - j) ?_ (by omega) (by omega)⟩) (fun _ => M (by omega) (by omega) _ (sa - i) ?_ (by omega) (by omega)) ?_ ?_⟩) ez⟩))
    · rw [ez, pk_sub (by omega)]
    · rw [pk_sub (by omega)]
    · rw [ez, pk_sub (by omega)]
    · rw [pk_sub (by omega)]
theorem sj_xver (hp : sj_Perm rk tk) (ht : 1 ≤ t) (hq : t ≤ q) (hq2 : q ≤ 12) {post : Int32 → Prop} {l bb : Nat} {A : Int32} (hl : l ≤ 20) (hb : bb < 20) (hA : sj_Line xr l (sj_rp tk A) (sj_pc A)) (hB : sj_Line xr bb (sj_rp tk (xm bb)) (sj_pc (xm bb))) (ha12 : sj_pc A ≤ 12) (hb12 : sj_pc (xm bb) ≤ 12) (hz : xz bb = nI (sj_pc (xm bb))) (h : post (sj_bI (sj_sim t q A (xm bb)))) : wpX_verify post (gd, gs, gc, nI t, nI q, gk, xm, xz, xr, xo, xc, xi, xw, xp) (nI l) (nI (sj_pc A)) (nI bb) := by
  obtain ⟨ga, hga⟩ := hA
  obtain ⟨gq, hgq⟩ := hB
  have b := sj_sm2 (t := t) (s := sj_pc A + sj_pc (xm bb)) (by omega) (by omega)
  have ez : xz (nI bb).toNatClampNeg = nI (sj_pc (xm bb)) := by rw [nI_clamp (by omega)]; exact hz
  have nd288 : sj_nd t q (sj_pc A + sj_pc (xm bb)) ≤ 1000 := by
    unfold sj_nd
    exact Nat.le_trans (Nat.div_le_self _ _) (by omega)
  rw [sj_sim_nd ht, ← sj_rp_both hp] at h
  refine nm_r (nI_add t q) (And.intro (pk_in bb 20 hb) (pk_le (t + q) 0 (fun z => absurd z (by omega)) (fun _ => ?_)))
  refine And.intro (nI_ne0 (by omega) (by omega)) (nm_r (e' := nI (sj_nd t q (sj_pc A + sj_pc (xm bb)))) ?_ ⟨24 + 1, ?_⟩)
  · rw [ez, nI_add, pk_mul, nI_add, show (1 : Int32) = nI 1 from rfl, pk_sub (by omega), pk_div (by omega) (by omega) (by omega)]
    rfl
  · exact sj_xv55 hl hb hga hgq (sj_rp_cn hp A).symm (sj_rp_cn hp (xm bb)).symm ha12 hb12 hz nd288 h (24 + 1) 0 0 0 0 0 (by omega) rfl rfl rfl (by omega) (by omega)
/-- what probing rests on -/
def sj_PH (t q c : Nat) (tk : Nat → Nat) (xm xz xr xi : Nat → Int32) : Prop :=
  (∀ s, s < c → xz s = nI (sj_pc (xm s)) ∧ 1 ≤ sj_pc (xm s) ∧ sj_pc (xm s) ≤ 12) ∧ (∀ r, r < c → sj_Line xr r (sj_rp tk (xm r)) (sj_pc (xm r))) ∧ (∀ v, v < 30 → ∀ r, r < 32 → bt (xi v) r = (decide (r < c) && (bt (xm r) (tk v) && decide (sj_cn v (sj_rp tk (xm r)) < sj_pl t q (sj_pc (xm r))))))
theorem sj_xp57 (hp : sj_Perm rk tk) (ht : 1 ≤ t) (hq : t ≤ q) (hq2 : q ≤ 12) (hc : c ≤ 20) (H : sj_PH t q c tk xm xz xr xi) {post : Int32 → Prop} {l : Nat} {A cd : Int32} (hl : l ≤ 20) (hA : sj_Line xr l (sj_rp tk A) (sj_pc A)) (ha12 : sj_pc A ≤ 12) (hcd : ∀ b, b < c → sj_sim t q A (xm b) = true → bt cd b = true) (h : ∀ f : Int32, (∀ b, b < 32 → bt f b = (decide (b < c) && sj_sim t q A (xm b))) → post f) : ∀ (d b : Nat) (f : Int32), b + d = c → (∀ i, i < 32 → bt f i = (decide (i < b) && sj_sim t q A (xm i))) → wX_probe_57 post (nI l) (nI (sj_pc A)) cd gd gs (nI c) (nI t) (nI q) gk xm xz xr xo xc xi xw xp (d + 1) f (nI b) := by
  intro d
  induction d with
  | zero =>
    intro b f hb h1
    have e : b = c := by omega
    subst e
    exact pk_le b b (fun _ => h f h1) (fun z => absurd z (by omega))
  | succ d ih =>
    intro b f hb h1
    have hbc : b < c := by omega
    have hz := H.1 b hbc
    have ez : xz (nI b).toNatClampNeg = nI (sj_pc (xm b)) := by rw [nI_clamp (by omega)]; exact hz.1
    have m1 := sj_sm2 (t := q) (s := sj_pc (xm b)) (by omega) (by omega)
    have m2 := sj_sm2 (t := t) (s := sj_pc A) (by omega) (by omega)
    have m3 := sj_sm2 (t := q) (s := sj_pc A) (by omega) (by omega)
    have m4 := sj_sm2 (t := t) (s := sj_pc (xm b)) (by omega) (by omega)
    cases hs : sj_sim t q A (xm b) with
    | false =>
      have i := ih (b + 1) f (by omega) (by
        intro i hi
        rw [h1 i hi]
        by_cases e : i = b
        · subst e; rw [hs, Bool.and_false, Bool.and_false]
        · have : decide (i < b) = decide (i < b + 1) := decide_eq_decide.mpr (by omega)
          rw [this])
      have P : ∀ z0 : Int32, wX_probe_113 post (wX_probe_57 post (nI l) (nI (sj_pc A)) cd gd gs (nI c) (nI t) (nI q) gk xm xz xr xo xc xi xw xp (d + 1)) (nI l) (nI (sj_pc A)) cd f (nI b) z0 gd gs (nI c) (nI t) (nI q) gk xm xz xr xo xc xi xw xp := by
        intro z0
        refine br_c (fun _ => br_c (fun _ => nm_r (nI_1 b) i) (fun _ => ?_)) (fun _ => nm_r (nI_1 b) i)
        refine sj_xver hp ht hq hq2 hl (by omega) hA (H.2.1 b hbc) ha12 hz.2.2 hz.1 ?_
        rw [hs]
        exact br_t rfl (nm_r (nI_1 b) i)
      exact pk_le c b (fun z => absurd z (by omega)) (fun _ => ⟨pk_in b 20 (by omega), br_c (fun _ => P 0) (fun _ => ⟨pk_in b 20 (by omega), br_c (fun _ => P 0) (fun _ => P 1)⟩)⟩)
    | true =>
      have i := ih (b + 1) (f ||| ((1 : Int32) <<< (nI b &&& 31))) (by omega) (by
        intro i hi
        rw [b_or, h1 i hi, sj_one (by omega) hi]
        by_cases e : i = b
        · subst e
          rw [hs, decide_eq_true (show i = i from rfl), decide_eq_true (show i < i + 1 by omega)]
          simp
        · have : decide (i < b) = decide (i < b + 1) := decide_eq_decide.mpr (by omega)
          rw [this, decide_eq_false e, Bool.or_false])
      have nr := sj_near hs
      have P : wX_probe_113 post (wX_probe_57 post (nI l) (nI (sj_pc A)) cd gd gs (nI c) (nI t) (nI q) gk xm xz xr xo xc xi xw xp (d + 1)) (nI l) (nI (sj_pc A)) cd f (nI b) 1 gd gs (nI c) (nI t) (nI q) gk xm xz xr xo xc xi xw xp := by
        refine br_t ((sj_bit1 cd (by omega)).mpr (hcd b hbc hs)) (br_f (by decide) ?_)
        refine sj_xver hp ht hq hq2 hl (by omega) hA (H.2.1 b hbc) ha12 hz.2.2 hz.1 ?_
        rw [hs]
        exact br_f sj_bIt (nm_e (nm_r (nI_1 b) i))
      exact pk_le c b (fun z => absurd z (by omega)) (fun _ => ⟨pk_in b 20 (by omega), pk_lt (q * sj_pc (xm b)) (t * sj_pc A) (fun z => absurd z (by omega)) (fun _ => ⟨pk_in b 20 (by omega), pk_lt (q * sj_pc A) (t * sj_pc (xm b)) (fun z => absurd z (by omega)) (fun _ => P) (pk_mul _ _) (by rw [ez, pk_mul])⟩) (by rw [ez, pk_mul]) (pk_mul _ _)⟩)
theorem sj_xp18 (hp : sj_Perm rk tk) (ht : 1 ≤ t) (hq : t ≤ q) (hq2 : q ≤ 12) (hc : c ≤ 20) (H : sj_PH t q c tk xm xz xr xi) {post : Int32 → Prop} {l m : Nat} {A : Int32} {g : Nat → Nat} (hl : l ≤ 20) (hg : sj_Ln xr l (sj_rp tk A) (sj_pc A) g) (ha12 : sj_pc A ≤ 12) (hm : m ≤ sj_pc A) (hcd : ∀ cd : Int32, (∀ b, b < 32 → (bt cd b = true ↔ ∃ i, i < m ∧ bt (xi (g i)) b = true)) → ∀ b, b < c → sj_sim t q A (xm b) = true → bt cd b = true) (h : ∀ f : Int32, (∀ b, b < 32 → bt f b = (decide (b < c) && sj_sim t q A (xm b))) → post f) : ∀ (d k : Nat) (cd : Int32), k + d = m → (∀ b, b < 32 → (bt cd b = true ↔ ∃ i, i < k ∧ bt (xi (g i)) b = true)) → wX_probe_18 post (nI l) (nI (sj_pc A)) (nI m) gd gs (nI c) (nI t) (nI q) gk xm xz xr xo xc xi xw xp (d + 1) cd (nI k) := by
  intro d
  induction d with
  | zero =>
    intro k cd hk h1
    have e : k = m := by omega
    subst e
    refine pk_le k k (fun _ => ⟨c + 1, ?_⟩) (fun z => absurd z (by omega))
    exact sj_xp57 hp ht hq hq2 hc H hl ⟨g, hg⟩ ha12 (hcd cd h1) h c 0 0 (by omega) (fun i _ => by rw [b_0, decide_eq_false (Nat.not_lt_zero i), Bool.false_and])
  | succ d ih =>
    intro k cd hk h1
    have G := hg k (by omega)
    have e1 : xr ((12 : Int32) * nI l + nI k).toNatClampNeg = nI (g k) := by
      rw [pk_cl (12 * l + k) (sj_x12 l k)]; exact G.2.1
    refine pk_le m k (fun z => absurd z (by omega)) (fun _ => ⟨pk_in (12 * l + k) 252 (by omega) (sj_x12 l k), pk_in (g k) 30 G.1 e1, nm_r (e' := cd ||| xi (g k)) (by rw [e1, nI_clamp (by omega)]) (nm_r (nI_1 k) (ih (k + 1) _ (by omega) ?_))⟩)
    intro b hb
    rw [b_or, Bool.or_eq_true, h1 b hb]
    constructor
    · rintro (⟨i, hi, e⟩ | e)
      · exact ⟨i, by omega, e⟩
      · exact ⟨k, by omega, e⟩
    · rintro ⟨i, hi, e⟩
      by_cases w : i = k
      · subst w; exact Or.inr e
      · exact Or.inl ⟨i, by omega, e⟩
theorem sj_sim0 {A B : Int32} (ht : 1 ≤ t) (hA : sj_pc A = 0) (hB : 1 ≤ sj_pc B) : sj_sim t q A B = false := by
  have e := sj_ie A B
  have b := sj_both_le A B
  have z : sj_both A B = 0 := by omega
  unfold sj_sim
  apply decide_eq_false
  rw [z, Nat.mul_zero]
  have : 1 * 1 ≤ t * sj_eith A B := Nat.mul_le_mul ht (by omega)
  omega
theorem sj_xprobe (hp : sj_Perm rk tk) (ht : 1 ≤ t) (hq : t ≤ q) (hq2 : q ≤ 12) (hc : c ≤ 20) (H : sj_PH t q c tk xm xz xr xi) {post : Int32 → Prop} {l : Nat} {A : Int32} (hl : l ≤ 20) (hA : sj_Line xr l (sj_rp tk A) (sj_pc A)) (ha12 : sj_pc A ≤ 12) (h : ∀ f : Int32, (∀ b, b < 32 → bt f b = (decide (b < c) && sj_sim t q A (xm b))) → post f) : wpX_probe post (gd, gs, nI c, nI t, nI q, gk, xm, xz, xr, xo, xc, xi, xw, xp) (nI l) (nI (sj_pc A)) := by
  obtain ⟨g, hg⟩ := hA
  refine pk_eq (sj_pc A) 0 (fun z => h 0 ?_) (fun z => ?_)
  · intro b hb
    rw [b_0]
    by_cases e : b < c
    · rw [sj_sim0 ht z (H.1 b e).2.1, Bool.and_false]
    · rw [decide_eq_false e, Bool.false_and]
  · have nd := sj_ndp ht hq (s := sj_pc A) (by omega)
    have hm : sj_pl t q (sj_pc A) ≤ sj_pc A := by unfold sj_pl; omega
    refine sj_xpl ht hq hq2 (by omega) ha12 ?_
    refine ⟨sj_pl t q (sj_pc A) + 1, sj_xp18 hp ht hq hq2 hc H hl hg ha12 hm ?_ h (sj_pl t q (sj_pc A)) 0 0 (by omega) ?_⟩
    · intro cd hcd b hb hs
      obtain ⟨w, hw, wa, wb, ca, cb⟩ := sj_pref hp ht hq (by omega) hs
      obtain ⟨i, hi, e⟩ := (sj_ln_mem hg hm (v := w)).mpr ⟨wa, ca⟩
      refine (hcd b (by omega)).mpr ⟨i, hi, ?_⟩
      rw [e, H.2.2 w hw b (by omega), decide_eq_true hb, wb, decide_eq_true cb]
      rfl
    · intro b _
      rw [b_0]
      constructor
      · intro e; exact Bool.noConfusion e
      · rintro ⟨i, hi, _⟩; omega
end
end
section
/-! the component: groups by links to less entries -/
def sj_Par (c : Nat) (xp : Nat → Int32) (p R : Nat → Nat) : Prop := ∀ x, x < c → xp x = nI (p x) ∧ p x ≤ x ∧ R (p x) = R x ∧ (p x = x → R x = x)
section
variable {gd gs gt gb gk : Int32} {xm xz xr xo xc xi xw : Nat → Int32} {c : Nat}
theorem sj_xro (hc : c ≤ 20) {R : Nat → Nat} {r : Nat} {post : Int32 → SX → Prop} (h : ∀ (p : Nat → Nat) (xp : Nat → Int32), sj_Par c xp p R → post (nI (R r)) (gd, gs, nI c, gt, gb, gk, xm, xz, xr, xo, xc, xi, xw, xp)) : ∀ (n v k : Nat) (p : Nat → Nat) (xp : Nat → Int32), v < n → v < c → v + k < 20 → sj_Par c xp p R → R v = R r → wX_root_4 post gd gs (nI c) gt gb gk n (nI v) (nI k) xm xz xr xo xc xi xw xp := by
  intro n
  induction n with
  | zero => intro v k p xp hv; omega
  | succ n ih =>
    intro v k p xp hv hvc hk hP hR
    have P1 := hP v hvc
    have P2 := hP (p v) (by omega)
    have ev : xp (nI v).toNatClampNeg = nI (p v) := by rw [nI_clamp (by omega)]; exact P1.1
    refine pk_le 20 k (fun z => absurd z (by omega)) (fun _ => ⟨pk_in v 20 (by omega), pk_eq (p v) v (fun z => ?_) (fun z => ⟨pk_in v 20 (by omega), pk_in (p v) 20 (by omega) ev, pk_in v 20 (by omega), nm_r (e' := upd xp v (nI (p (p v)))) ?_ ⟨pk_in v 20 (by omega), nm_r (e' := nI (p (p v))) ?_ (nm_r (nI_1 k) (ih (p (p v)) (k + 1) (sj_un p v (p (p v))) _ (by omega) (by omega) (by omega) ?_ ?_))⟩⟩) ev⟩)
    · have e := P1.2.2.2 z
      rw [hR] at e
      have w := h p xp hP
      rw [e] at w
      exact w
    · rw [ev, nI_clamp (n := v) (by omega), nI_clamp (n := p v) (by omega), P2.1]
    · rw [nI_clamp (by omega), pk_us]
    · intro x hx
      by_cases e : x = v
      · subst e
        rw [pk_us, sj_uns]
        exact ⟨rfl, by omega, by rw [P2.2.2.1, P1.2.2.1], fun w => by omega⟩
      · rw [pk_un e, sj_unn e]
        exact hP x hx
    · rw [P2.2.2.1, P1.2.2.1]; exact hR
theorem sj_xroot (hc : c ≤ 20) {R p : Nat → Nat} {xp : Nat → Int32} {r : Nat} (hr : r < c) (hP : sj_Par c xp p R) {post : Int32 → SX → Prop} (h : ∀ (p : Nat → Nat) (xp : Nat → Int32), sj_Par c xp p R → post (nI (R r)) (gd, gs, nI c, gt, gb, gk, xm, xz, xr, xo, xc, xi, xw, xp)) : wpX_root post (gd, gs, nI c, gt, gb, gk, xm, xz, xr, xo, xc, xi, xw, xp) (nI r) :=
  ⟨r + 1, sj_xro hc h (r + 1) r 0 p xp (by omega) hr (by omega) hP rfl⟩
end
/-- joined so far: the edges (x, y), x below y, ahead of (a, b) -/
def sj_UF (c : Nat) (E : Nat → Nat → Bool) (xp : Nat → Int32) (a b : Nat) : Prop := ∃ p R, sj_Par c xp p R ∧ (∀ x, x < c → R x ≤ x ∧ sj_Con c E x (R x)) ∧ (∀ x y, x < y → y < c → (x < a ∨ (x = a ∧ y < b)) → E x y = true → R x = R y)
theorem sj_par_R {c : Nat} {xp : Nat → Int32} {p R : Nat → Nat} (h : sj_Par c xp p R) : ∀ n x, x < n → x < c → R (R x) = R x ∧ R x < c ∧ p (R x) = R x := by
  intro n
  induction n with
  | zero => intro x hx; omega
  | succ n ih =>
    intro x hx hc
    have P := h x hc
    by_cases e : p x = x
    · have e2 := P.2.2.2 e
      rw [e2, e2]
      exact ⟨rfl, hc, e⟩
    · have := ih (p x) (by omega) (by omega)
      rw [P.2.2.1] at this
      exact this
theorem sj_union {c : Nat} {E : Nat → Nat → Bool} {xp : Nat → Int32} {p R : Nat → Nat} {r b L : Nat} (hr : r < b) (hb : b < c) (hE : E r b = true) (hP : sj_Par c xp p R) (hR : ∀ x, x < c → R x ≤ x ∧ sj_Con c E x (R x)) (hU : ∀ x y, x < y → y < c → (x < r ∨ (x = r ∧ y < b)) → E x y = true → R x = R y) (hL : (L = R r ∧ R r ≤ R b) ∨ (L = R b ∧ R b ≤ R r)) : sj_UF c E (upd (upd xp (R r) (nI L)) (R b) (nI L)) r (b + 1) := by
  have r1 := sj_par_R hP (r + 1) r (by omega) (by omega)
  have b1 := sj_par_R hP (b + 1) b (by omega) (by omega)
  have hLR : R L = L := by
    rcases hL with e | e
    · rw [e.1]; exact r1.1
    · rw [e.1]; exact b1.1
  have cr := (hR r (by omega)).2
  have cb := (hR b hb).2
  have ce : sj_Con c E r b := sj_con_ed (by omega) hb hE
  have conL : sj_Con c E r L := by
    rcases hL with e | e
    · rw [e.1]; exact cr
    · rw [e.1]; exact sj_con_tr ce cb
  have hcong : ∀ x y : Nat, R x = R y → (if R x = R r ∨ R x = R b then L else R x) = (if R y = R r ∨ R y = R b then L else R y) := fun x y e => by rw [e]
  refine ⟨fun x => if x = R b then L else if x = R r then L else p x, fun x => if R x = R r ∨ R x = R b then L else R x, ?_, ?_, ?_⟩
  · intro x hx
    have P := hP x hx
    have PR := sj_par_R hP (x + 1) x (by omega) hx
    have hRL : (if R L = R r ∨ R L = R b then L else R L) = L := by
      rw [hLR]; split <;> rfl
    try dsimp only
    by_cases e1 : x = R b
    · rw [if_pos e1, e1, pk_us, hRL, b1.1, if_pos (Or.inr rfl)]
      refine ⟨rfl, ?_, rfl, fun w => w⟩
      rcases hL with e | e <;> omega
    · rw [if_neg e1, pk_un e1]
      by_cases e2 : x = R r
      · rw [if_pos e2, e2, pk_us, hRL, r1.1, if_pos (Or.inl rfl)]
        refine ⟨rfl, ?_, rfl, fun w => w⟩
        rcases hL with e | e <;> omega
      · rw [if_neg e2, pk_un e2]
        refine ⟨P.1, P.2.1, hcong _ _ P.2.2.1, fun w => ?_⟩
        have e3 := P.2.2.2 w
        rw [e3, if_neg (by omega)]
  · intro x hx
    have H := hR x hx
    try dsimp only
    by_cases e1 : R x = R r
    · rw [if_pos (Or.inl e1)]
      refine ⟨?_, ?_⟩
      · rcases hL with e | e <;> omega
      · have a1 := H.2
        rw [e1] at a1
        exact sj_con_tr a1 (sj_con_tr (sj_con_sy cr) conL)
    · by_cases e2 : R x = R b
      · rw [if_pos (Or.inr e2)]
        refine ⟨?_, ?_⟩
        · rcases hL with e | e <;> omega
        · have a1 := H.2
          rw [e2] at a1
          exact sj_con_tr a1 (sj_con_tr (sj_con_sy cb) (sj_con_tr (sj_con_sy ce) conL))
      · rw [if_neg (by omega)]
        exact H
  · intro x y hxy hy hw he
    try dsimp only
    by_cases w : x < r ∨ (x = r ∧ y < b)
    · exact hcong _ _ (hU x y hxy hy w he)
    · have ex : x = r := by omega
      have ey : y = b := by omega
      rw [ex, ey, if_pos (Or.inl rfl), if_pos (Or.inr rfl)]
section
variable {gd gs gt gb gk : Int32} {xm xz xr xo xc xi xw : Nat → Int32} {c : Nat} {E : Nat → Nat → Bool}
theorem sj_xj4 (hc : c ≤ 20) (hw : ∀ r, r < c → ∀ b, b < 32 → bt (xw r) b = (decide (b < c) && E r b)) {r : Nat} (hr : r < c) {post : SX → Prop} (h : ∀ xp : Nat → Int32, sj_UF c E xp (r + 1) 0 → post (gd, gs, nI c, gt, gb, gk, xm, xz, xr, xo, xc, xi, xw, xp)) : ∀ (d b : Nat) (xp : Nat → Int32), b + d = c → r < b → sj_UF c E xp r b → wX_joinRow_4 post (nI r) (d + 1) (nI b) gd gs (nI c) gt gb gk xm xz xr xo xc xi xw xp := by
  intro d
  induction d with
  | zero =>
    intro b xp hb hrb h1
    have e : b = c := by omega
    subst e
    refine pk_le b b (fun _ => h xp ?_) (fun z => absurd z (by omega))
    obtain ⟨p, R, g1, g2, g3⟩ := h1
    exact ⟨p, R, g1, g2, fun x y hxy hy _ e => g3 x y hxy hy (by omega) e⟩
  | succ d ih =>
    intro b xp hb hrb h1
    have hbc : b < c := by omega
    have eb : ((xw (nI r).toNatClampNeg >>> (nI b &&& 31)) &&& 1 = 1) ↔ E r b = true := by
      rw [nI_clamp (by omega), sj_bit1 _ (by omega), hw r hr b (by omega), decide_eq_true hbc, Bool.true_and]
    cases hE : E r b with
    | false =>
      refine pk_le c b (fun z => absurd z (by omega)) (fun _ => ⟨pk_in r 20 (by omega), br_f (fun z => ?_) (nm_r (nI_1 b) (ih (b + 1) xp (by omega) (by omega) ?_))⟩)
      · rw [eb, hE] at z
        exact Bool.noConfusion z
      · obtain ⟨p, R, g1, g2, g3⟩ := h1
        refine ⟨p, R, g1, g2, fun x y hxy hy hw e => ?_⟩
        by_cases w : x < r ∨ (x = r ∧ y < b)
        · exact g3 x y hxy hy w e
        · have ex : x = r := by omega
          have ey : y = b := by omega
          rw [ex, ey, hE] at e
          exact Bool.noConfusion e
    | true =>
      obtain ⟨p, R, g1, g2, g3⟩ := h1
      refine pk_le c b (fun z => absurd z (by omega)) (fun _ => ⟨pk_in r 20 (by omega), br_t (eb.mpr hE) ?_⟩)
      refine sj_xroot hc hr g1 ?_
      intro p1 xp1 k1
      refine sj_xroot hc hbc k1 ?_
      intro p2 xp2 k2
      have br1 := g2 r hr
      have bb1 := g2 b hbc
      have fin : ∀ L : Nat, ((L = R r ∧ R r ≤ R b) ∨ (L = R b ∧ R b ≤ R r)) → wX_joinRow_51 post (wX_joinRow_4 post (nI r) (d + 1)) (nI r) (nI b) (nI (R r)) (nI (R b)) (nI L) gd gs (nI c) gt gb gk xm xz xr xo xc xi xw xp2 := by
        intro L hL
        refine And.intro (pk_in (R r) 20 (by omega)) (nm_r (e' := upd xp2 (R r) (nI L)) (by rw [nI_clamp (by omega)]) (And.intro (pk_in (R b) 20 (by omega)) (nm_r (e' := upd (upd xp2 (R r) (nI L)) (R b) (nI L)) (by rw [nI_clamp (by omega)]) (nm_r (nI_1 b) ?_))))
        exact ih (b + 1) _ (by omega) (by omega) (sj_union hrb hbc hE k2 g2 g3 hL)
      exact pk_le (R b) (R r) (fun z => fin (R b) (Or.inr ⟨rfl, z⟩)) (fun z => fin (R r) (Or.inl ⟨rfl, by omega⟩))
theorem sj_xj162 (hc : c ≤ 20) (hw : ∀ r, r < c → ∀ b, b < 32 → bt (xw r) b = (decide (b < c) && E r b)) {post : SX → Prop} (h : ∀ xp : Nat → Int32, sj_UF c E xp c 0 → post (gd, gs, nI c, gt, gb, gk, xm, xz, xr, xo, xc, xi, xw, xp)) : ∀ (d r : Nat) (xp : Nat → Int32), r + d = c → sj_UF c E xp r 0 → wX_refresh_162 post (d + 1) (nI r) gd gs (nI c) gt gb gk xm xz xr xo xc xi xw xp := by
  intro d
  induction d with
  | zero =>
    intro r xp hr h1
    have e : r = c := by omega
    subst e
    exact pk_le r r (fun _ => h xp h1) (fun z => absurd z (by omega))
  | succ d ih =>
    intro r xp hr h1
    refine pk_le c r (fun z => absurd z (by omega)) (fun _ => ?_)
    refine nm_r (nI_1 r) ⟨c - (r + 1) + 1, ?_⟩
    refine sj_xj4 hc hw (by omega) ?_ (c - (r + 1)) (r + 1) xp (by omega) (by omega) ?_
    · intro xp1 k1
      exact nm_r (nI_1 r) (ih (r + 1) xp1 (by omega) k1)
    · obtain ⟨p, R, g1, g2, g3⟩ := h1
      exact ⟨p, R, g1, g2, fun x y hxy hy _ e => g3 x y hxy hy (by omega) e⟩
end
end
section
/-! the component: refresh -/
/-- what holds while nothing has been stored, removed or set since the last refresh -/
def sj_Cache (c t q : Nat) (xm xz xr xo xc xi xw xp : Nat → Int32) : Prop :=
  (∀ x, x < 30 → xc x = nI (sj_cn c (fun r => bt (xm r) x))) ∧ (∃ rk tk : Nat → Nat, sj_Perm rk tk ∧ (∀ x, x < 30 → xo x = nI (rk x)) ∧ sj_PH t q c tk xm xz xr xi) ∧ (∀ r, r < c → ∀ b, b < 32 → bt (xw r) b = (decide (b < c) && sj_sim t q (xm r) (xm b))) ∧ (∃ p R : Nat → Nat, sj_Par c xp p R ∧ sj_Min c (fun a b => sj_sim t q (xm a) (xm b)) R)
theorem sj_uf_min {c : Nat} {E : Nat → Nat → Bool} (hE : ∀ x y, E x y = E y x) {xp : Nat → Int32} (h : sj_UF c E xp c 0) : ∃ p R : Nat → Nat, sj_Par c xp p R ∧ sj_Min c E R := by
  obtain ⟨p, R, g1, g2, g3⟩ := h
  refine ⟨p, R, g1, g2, fun x y hx hy e => ?_⟩
  rcases Nat.lt_trichotomy x y with w | w | w
  · exact g3 x y w hy (Or.inl hx) e
  · rw [w]
  · rw [hE] at e
    exact (g3 y x w hx (Or.inl hy) e).symm
section
variable {gd gs gk : Int32} {xm xz xo xc : Nat → Int32} {rk tk : Nat → Nat} {t q c : Nat}
theorem sj_xf122 {xr xi : Nat → Int32} (hp : sj_Perm rk tk) (ht : 1 ≤ t) (hq : t ≤ q) (hq2 : q ≤ 12) (hc : c ≤ 20) (H : sj_PH t q c tk xm xz xr xi) {post : SX → Prop} (h : ∀ xw xp : Nat → Int32, (∀ r, r < c → ∀ b, b < 32 → bt (xw r) b = (decide (b < c) && sj_sim t q (xm r) (xm b))) → (∃ p R : Nat → Nat, sj_Par c xp p R ∧ sj_Min c (fun a b => sj_sim t q (xm a) (xm b)) R) → post (gd, gs, nI c, nI t, nI q, gk, xm, xz, xr, xo, xc, xi, xw, xp)) : ∀ (d r : Nat) (xw xp : Nat → Int32), r + d = c → (∀ s, s < r → ∀ b, b < 32 → bt (xw s) b = (decide (b < c) && sj_sim t q (xm s) (xm b))) → (∀ s, s < r → xp s = nI s) → wX_refresh_122 post gd gs (nI c) (nI t) (nI q) gk (d + 1) (nI r) xm xz xr xo xc xi xw xp := by
  intro d
  induction d with
  | zero =>
    intro r xw xp hr h1 h2
    have e : r = c := by omega
    subst e
    refine pk_le r r (fun _ => ⟨r + 1, ?_⟩) (fun z => absurd z (by omega))
    refine sj_xj162 (E := fun a b => sj_sim t q (xm a) (xm b)) hc h1 ?_ r 0 xp (by omega) ?_
    · intro xp1 k1
      exact h xw xp1 h1 (sj_uf_min (fun x y => sj_sim_comm t q (xm x) (xm y)) k1)
    · exact ⟨fun x => x, fun x => x, fun x hx => ⟨h2 x hx, Nat.le_refl x, rfl, fun _ => rfl⟩, fun x _ => ⟨Nat.le_refl x, sj_con_rf _ _ _⟩, fun x y _ _ w => absurd w (by omega)⟩
  | succ d ih =>
    intro r xw xp hr h1 h2
    have hrc : r < c := by omega
    have hz := H.1 r hrc
    refine pk_le c r (fun z => absurd z (by omega)) (fun _ => And.intro (pk_in r 20 (by omega)) ?_)
    rw [nI_clamp (n := r) (by omega), hz.1]
    refine sj_xprobe hp ht hq hq2 hc H (by omega) (H.2.1 r hrc) hz.2.2 ?_
    intro f hf
    refine And.intro (pk_in r 20 (by omega)) (nm_e (And.intro (pk_in r 20 (by omega)) (nm_r (e' := upd xp r (nI r)) rfl (nm_r (nI_1 r) (ih (r + 1) _ _ (by omega) ?_ ?_)))))
    · intro s hs
      by_cases e : s = r
      · subst e
        rw [pk_us]; exact hf
      · rw [pk_un e]; exact h1 s (by omega)
    · intro s hs
      by_cases e : s = r
      · subst e; exact pk_us
      · rw [pk_un e]; exact h2 s (by omega)
theorem sj_xf72 {xr xw xp : Nat → Int32} {post : SX → Prop} {J : Int32 → Int32 → Int32 → Int32 → Int32 → Int32 → Int32 → (Nat → Int32) → (Nat → Int32) → (Nat → Int32) → (Nat → Int32) → (Nat → Int32) → (Nat → Int32) → (Nat → Int32) → (Nat → Int32) → Prop} {r m k12 : Nat} {a : Nat → Bool} {g : Nat → Nat} {xi : Nat → Int32} (hr : r < 20) (hg : sj_Ln xr r a k12 g) (hk : k12 ≤ 12) (hm : m ≤ k12) (h : ∀ xj : Nat → Int32, (∀ v, v < 30 → ∀ b, b < 32 → (bt (xj v) b = true ↔ (bt (xi v) b = true ∨ (b = r ∧ ∃ i, i < m ∧ g i = v)))) → J (nI (r + 1)) gd gs (nI c) (nI t) (nI q) gk xm xz xr xo xc xj xw xp) : ∀ (d k : Nat) (xj : Nat → Int32), k + d = m → (∀ v, v < 30 → ∀ b, b < 32 → (bt (xj v) b = true ↔ (bt (xi v) b = true ∨ (b = r ∧ ∃ i, i < k ∧ g i = v)))) → wX_refresh_72 post J (nI r) (nI m) gd gs (nI c) (nI t) (nI q) gk (d + 1) (nI k) xm xz xr xo xc xj xw xp := by
  intro d
  induction d with
  | zero =>
    intro k xj hkd h1
    have e : k = m := by omega
    subst e
    exact pk_le k k (fun _ => nm_r (nI_1 r) (h xj h1)) (fun z => absurd z (by omega))
  | succ d ih =>
    intro k xj hkd h1
    have G := hg k (by omega)
    have e1 : xr ((12 : Int32) * nI r + nI k).toNatClampNeg = nI (g k) := by
      rw [pk_cl (12 * r + k) (sj_x12 r k)]; exact G.2.1
    refine pk_le m k (fun z => absurd z (by omega)) (fun _ => ⟨pk_in (12 * r + k) 252 (by omega) (sj_x12 r k), nm_r e1 ⟨pk_in (g k) 30 G.1, pk_in (g k) 30 G.1, nm_r (e' := upd xj (g k) (xj (g k) ||| ((1 : Int32) <<< (nI r &&& 31)))) (by rw [nI_clamp (by omega)]) (nm_r (nI_1 k) (ih (k + 1) _ (by omega) ?_))⟩⟩)
    intro v hv b hb
    by_cases e : v = g k
    · subst e
      rw [pk_us, b_or, sj_one (by omega) hb, Bool.or_eq_true, h1 _ hv b hb, decide_eq_true_iff]
      constructor
      · rintro ((w | ⟨w, i, hi, ei⟩) | w)
        · exact Or.inl w
        · exact Or.inr ⟨w, i, by omega, ei⟩
        · exact Or.inr ⟨w, k, by omega, rfl⟩
      · rintro (w | ⟨w, i, hi, ei⟩)
        · exact Or.inl (Or.inl w)
        · exact Or.inr w
    · rw [pk_un e, h1 v hv b hb]
      constructor
      · rintro (w | ⟨w, i, hi, ei⟩)
        · exact Or.inl w
        · exact Or.inr ⟨w, i, by omega, ei⟩
      · rintro (w | ⟨w, i, hi, ei⟩)
        · exact Or.inl w
        · have : i ≠ k := fun z => e (by rw [← ei, z])
          exact Or.inr ⟨w, i, by omega, ei⟩
/-- the lines and the index of the records below r -/
def sj_PR (t q r : Nat) (tk : Nat → Nat) (xm xr xi : Nat → Int32) : Prop :=
  (∀ s, s < r → sj_Line xr s (sj_rp tk (xm s)) (sj_pc (xm s))) ∧ (∀ v, v < 30 → ∀ s, s < 32 → bt (xi v) s = (decide (s < r) && (bt (xm s) (tk v) && decide (sj_cn v (sj_rp tk (xm s)) < sj_pl t q (sj_pc (xm s))))))
theorem sj_xf40 {xw xp : Nat → Int32} (hp : sj_Perm rk tk) (ht : 1 ≤ t) (hq : t ≤ q) (hq2 : q ≤ 12) (hc : c ≤ 20) (ho : ∀ x, x < 30 → xo x = nI (rk x)) (hZ : ∀ s, s < c → xz s = nI (sj_pc (xm s)) ∧ 1 ≤ sj_pc (xm s) ∧ sj_pc (xm s) ≤ 12) {post : SX → Prop} (h : ∀ xr xi : Nat → Int32, sj_PH t q c tk xm xz xr xi → ∃ n : Nat, wX_refresh_122 post gd gs (nI c) (nI t) (nI q) gk n 0 xm xz xr xo xc xi xw xp) : ∀ (d r : Nat) (xr xi : Nat → Int32), r + d = c → sj_PR t q r tk xm xr xi → wX_refresh_40 post (d + 1) (nI r) gd gs (nI c) (nI t) (nI q) gk xm xz xr xo xc xi xw xp := by
  intro d
  induction d with
  | zero =>
    intro r xr xi hr h1
    have e : r = c := by omega
    subst e
    exact pk_le r r (fun _ => h xr xi ⟨hZ, h1.1, h1.2⟩) (fun z => absurd z (by omega))
  | succ d ih =>
    intro r xr xi hr h1
    have hrc : r < c := by omega
    have hz := hZ r hrc
    refine pk_le c r (fun z => absurd z (by omega)) (fun _ => And.intro (pk_in r 20 (by omega)) ?_)
    rw [nI_clamp (n := r) (by omega)]
    refine sj_xspell hp ho (by omega) hz.2.2 ?_
    intro xs g1 g2
    refine And.intro (pk_in r 20 (by omega)) ?_
    rw [hz.1]
    refine sj_xpl ht hq hq2 hz.2.1 hz.2.2 ?_
    obtain ⟨g, hg⟩ := g1
    have nd := sj_ndp ht hq hz.2.1
    have hm : sj_pl t q (sj_pc (xm r)) ≤ sj_pc (xm r) := by unfold sj_pl; omega
    refine ⟨sj_pl t q (sj_pc (xm r)) + 1, sj_xf72 (xi := xi) (by omega) hg hz.2.2 hm ?_ (sj_pl t q (sj_pc (xm r))) 0 xi (by omega) ?_⟩
    · intro xj k1
      refine ih (r + 1) xs xj (by omega) ⟨?_, ?_⟩
      · intro s hs
        by_cases e : s = r
        · subst e; exact ⟨g, hg⟩
        · exact sj_line_fr (hZ s (by omega)).2.2 (h1.1 s (by omega)) (fun i hi => g2 _ (by omega))
      · intro v hv s hs
        apply Bool.eq_iff_iff.mpr
        rw [k1 v hv s hs, h1.2 v hv s hs, sj_ln_mem hg hm]
        simp only [Bool.and_eq_true, decide_eq_true_iff]
        constructor
        · rintro (w | ⟨w1, w2, w3⟩)
          · exact ⟨by omega, w.2⟩
          · subst w1
            exact ⟨by omega, w2, w3⟩
        · rintro ⟨w1, w2, w3⟩
          by_cases e : s = r
          · subst e
            exact Or.inr ⟨rfl, w2, w3⟩
          · exact Or.inl ⟨by omega, w2, w3⟩
    · intro v hv b hb
      constructor
      · exact fun w => Or.inl w
      · rintro (w | ⟨_, i, hi, _⟩)
        · exact w
        · exact absurd hi (by omega)
theorem sj_xf19 {xr xw xp : Nat → Int32} {post : SX → Prop} (h : ∀ xi : Nat → Int32, (∀ v, v < 30 → xi v = 0) → ∃ n : Nat, wX_refresh_40 post n 0 gd gs (nI c) (nI t) (nI q) gk xm xz xr xo xc xi xw xp) : ∀ (d v : Nat) (xi : Nat → Int32), v + d = 30 → (∀ w, w < v → xi w = 0) → wX_refresh_19 post gd gs (nI c) (nI t) (nI q) gk (d + 1) (nI v) xm xz xr xo xc xi xw xp := by
  intro d
  induction d with
  | zero =>
    intro v xi hv h1
    have e : v = 30 := by omega
    subst e
    exact pk_le 30 30 (fun _ => h xi h1) (fun z => absurd z (by omega))
  | succ d ih =>
    intro v xi hv h1
    refine pk_le 30 v (fun z => absurd z (by omega)) (fun _ => ⟨pk_in v 30 (by omega), nm_r (e' := upd xi v 0) (by rw [nI_clamp (by omega)]) (nm_r (nI_1 v) (ih (v + 1) _ (by omega) ?_))⟩)
    intro w hw
    by_cases e : w = v
    · subst e; exact pk_us
    · rw [pk_un e]; exact h1 w (by omega)
theorem sj_xref {xr xi xw xp : Nat → Int32} (ht : 1 ≤ t) (hq : t ≤ q) (hq2 : q ≤ 12) (hc : c ≤ 20) (hZ : ∀ s, s < c → xz s = nI (sj_pc (xm s)) ∧ 1 ≤ sj_pc (xm s) ∧ sj_pc (xm s) ≤ 12) (hK : gk = 0 ∨ sj_Cache c t q xm xz xr xo xc xi xw xp) {post : SX → Prop} (h : ∀ (ck : Int32) (ur uo uc ui uw up : Nat → Int32), sj_Cache c t q xm xz ur uo uc ui uw up → post (gd, gs, nI c, nI t, nI q, ck, xm, xz, ur, uo, uc, ui, uw, up)) : wpX_refresh post (gd, gs, nI c, nI t, nI q, gk, xm, xz, xr, xo, xc, xi, xw, xp) := by
  by_cases z : gk = 0
  · refine br_t z ?_
    refine sj_xrank hc ?_
    intro xq xd h1 h2
    refine Exists.intro (30 + 1) (sj_xf19 ?_ 30 0 xi rfl (fun w hw => absurd hw (by omega)))
    intro xj h3
    obtain ⟨tk, hp⟩ := sj_rk_perm (fun t => sj_cn c (fun r => bt (xm r) t))
    refine ⟨c + 1, sj_xf40 hp ht hq hq2 hc h2 hZ ?_ c 0 xr xj (by omega) ⟨fun s hs => absurd hs (by omega), fun v hv s _ => ?_⟩⟩
    · intro ur ui H
      refine ⟨c + 1, sj_xf122 hp ht hq hq2 hc H ?_ c 0 xw xp (by omega) (fun s hs => absurd hs (by omega)) (fun s hs => absurd hs (by omega))⟩
      intro uw up h4 h5
      exact h 1 ur xq xd ui uw up ⟨h1, ⟨_, tk, hp, h2, H⟩, h4, h5⟩
    · rw [h3 v hv, b_0, decide_eq_false (Nat.not_lt_zero s), Bool.false_and]
  · rcases hK with e | e
    · exact absurd e z
    · exact br_f z (h gk xr xo xc xi xw xp e)
end
end
section
/-! the relation -/
def sj_S (gd : Int32) (xm : Nat → Int32) : Nat → Int32 := fun s => if s = 20 then gd else xm s
theorem sj_S20 (gd : Int32) (xm : Nat → Int32) : sj_S gd xm 20 = gd := if_pos rfl
theorem sj_Slt {gd : Int32} {xm : Nat → Int32} {s : Nat} (h : s < 20) : sj_S gd xm s = xm s := if_neg (by omega)
def sj_Core (c t q : Nat) (gd gs : Int32) (xm xz yi : Nat → Int32) : Prop :=
  (c ≤ 20 ∧ 1 ≤ t ∧ t ≤ q ∧ q ≤ 12) ∧ (sj_ok gd ∧ gs = nI (sj_pc gd) ∧ sj_pc gd ≤ 12) ∧ (∀ s, s < c → sj_ok (xm s) ∧ xz s = nI (sj_pc (xm s)) ∧ 1 ≤ sj_pc (xm s) ∧ sj_pc (xm s) ≤ 12) ∧ sj_YI (sj_S gd xm) c yi
/-- both keep the same sets, count and threshold; the component's tables are right unless they are marked as old -/
def i_Rel (_ : Nat) (u : SX) (v : SY) : Prop := ∃ (c t q : Nat) (gd gs gk : Int32) (xm xz xr xo xc xi xw xp yi yl : Nat → Int32), u = (gd, gs, nI c, nI t, nI q, gk, xm, xz, xr, xo, xc, xi, xw, xp) ∧ v = (nI c, nI t, nI q, yi, yl) ∧ sj_Core c t q gd gs xm xz yi ∧ (gk = 0 ∨ sj_Cache c t q xm xz xr xo xc xi xw xp)
theorem sj_in {k c t q : Nat} {gd gs gk : Int32} {xm xz xr xo xc xi xw xp yi yl : Nat → Int32} (C : sj_Core c t q gd gs xm xz yi) (K : gk = 0 ∨ sj_Cache c t q xm xz xr xo xc xi xw xp) : i_Rel k (gd, gs, nI c, nI t, nI q, gk, xm, xz, xr, xo, xc, xi, xw, xp) (nI c, nI t, nI q, yi, yl) := ⟨c, t, q, gd, gs, gk, xm, xz, xr, xo, xc, xi, xw, xp, yi, yl, rfl, rfl, C, K⟩
theorem sj_el {k : Nat} {u : SX} {v : SY} {P : SX → SY → Prop} (I : i_Rel k u v) (h : ∀ (c t q : Nat) (gd gs gk : Int32) (xm xz xr xo xc xi xw xp yi yl : Nat → Int32), sj_Core c t q gd gs xm xz yi → (gk = 0 ∨ sj_Cache c t q xm xz xr xo xc xi xw xp) → P (gd, gs, nI c, nI t, nI q, gk, xm, xz, xr, xo, xc, xi, xw, xp) (nI c, nI t, nI q, yi, yl)) : P u v := by
  obtain ⟨c, t, q, gd, gs, gk, xm, xz, xr, xo, xc, xi, xw, xp, yi, yl, rfl, rfl, C, K⟩ := I
  exact h c t q gd gs gk xm xz xr xo xc xi xw xp yi yl C K
theorem i_up {k : Nat} {u : SX} {v : SY} (h : i_Rel k u v) : i_Rel (k + 3) u v := h
theorem sj_ok0 : sj_ok 0 := fun i _ => b_0 i
theorem sj_pc0 : sj_pc 0 = 0 := sj_cn_none (fun i _ => b_0 i)
theorem i_vc0 : wpX_init (fun u => wpY_init (fun v => i_Rel 0 u v)) := by
  refine ⟨0, 1, 2, 0, 0, 0, fun _ => 0, fun _ => 0, fun _ => 0, fun _ => 0, fun _ => 0, fun _ => 0, fun _ => 0, fun _ => 0, fun _ => 0, fun _ => 0, rfl, rfl, ⟨by omega, ⟨sj_ok0, by rw [sj_pc0]; rfl, by rw [sj_pc0]; omega⟩, fun s hs => absurd hs (by omega), ?_⟩, Or.inl rfl⟩
  intro s hs x _
  have e : s = 20 := by omega
  subst e
  rw [sj_S20, b_0]
  rfl
/-! the checks of arguments -/
section
variable {gd gs gt gb gk : Int32} {xm xz xr xo xc xi xw xp : Nat → Int32} {yt yu : Int32} {yi yl : Nat → Int32} {c : Nat}
theorem sj_ge {p : Int32} {n : Nat} (hn : n < 2 ^ 31) (h : nI n ≤ p) : ∃ j : Nat, n ≤ j ∧ j < 2 ^ 31 ∧ p = nI j := by
  have h0 : ¬ p < 0 := by
    rw [Int32.le_iff_toInt_le, nI_toInt hn] at h
    rw [Int32.lt_iff_toInt_lt, show (0 : Int32).toInt = 0 from by decide]
    omega
  obtain ⟨j, hj, rfl⟩ := nI_of h0
  rw [nI_leI hn hj] at h
  exact ⟨j, h, hj, rfl⟩
theorem sj_xtok_bad {post : Int32 → Prop} {p : Int32} (h : p < 0 ∨ nI 30 ≤ p) (hp : post 0) : wpX_isToken post p := by
  by_cases z : p < 0
  · exact br_t z hp
  · exact br_f z (br_t (h.resolve_left z) hp)
theorem sj_xtok {post : Int32 → Prop} {k : Nat} (h : k < 30) (hp : post 1) : wpX_isToken post (nI k) := pk_lt k 0 (fun z => absurd z (by omega)) (fun _ => pk_le 30 k (fun z => absurd z (by omega)) (fun _ => hp))
theorem sj_ytok_bad {post : Int32 → Prop} {yc : Int32} {p : Int32} (h : p < 0 ∨ nI 30 ≤ p) (hp : post 1) : wpY_badToken post (yc, yt, yu, yi, yl) p := by
  by_cases z : p < 0
  · exact br_t z hp
  · obtain ⟨j, h1, h2, rfl⟩ := sj_ge (by decide) (h.resolve_left z)
    exact br_f z (pk_le j 29 (fun w => absurd w (by omega)) (fun _ => hp))
theorem sj_ytok {post : Int32 → Prop} {yc : Int32} {k : Nat} (h : k < 30) (hp : post 0) : wpY_badToken post (yc, yt, yu, yi, yl) (nI k) := pk_lt k 0 (fun z => absurd z (by omega)) (fun _ => pk_le k 29 (fun _ => hp) (fun z => absurd z (by omega)))
theorem sj_xrec_bad {post : Int32 → Prop} {p : Int32} (h : p < 0 ∨ nI c ≤ p) (hp : post 0) : wpX_isRecord post (gd, gs, nI c, gt, gb, gk, xm, xz, xr, xo, xc, xi, xw, xp) p := by
  by_cases z : p < 0
  · exact br_t z hp
  · exact br_f z (br_t (h.resolve_left z) hp)
theorem sj_xrec {post : Int32 → Prop} {k : Nat} (hc : c ≤ 20) (h : k < c) (hp : post 1) : wpX_isRecord post (gd, gs, nI c, gt, gb, gk, xm, xz, xr, xo, xc, xi, xw, xp) (nI k) := pk_lt k 0 (fun z => absurd z (by omega)) (fun _ => pk_le c k (fun z => absurd z (by omega)) (fun _ => hp))
theorem sj_yrec_bad {post : Int32 → Prop} {p : Int32} (h : p < 0 ∨ nI c ≤ p) (hp : post 1) : wpY_bad post (nI c, yt, yu, yi, yl) p := by
  by_cases z : p < 0
  · exact br_t z hp
  · exact br_f z (br_t (h.resolve_left z) hp)
theorem sj_yrec {post : Int32 → Prop} {k : Nat} (hc : c ≤ 20) (h : k < c) (hp : post 0) : wpY_bad post (nI c, yt, yu, yi, yl) (nI k) := pk_lt k 0 (fun z => absurd z (by omega)) (fun _ => pk_le c k (fun z => absurd z (by omega)) (fun _ => pk_lt k 20 (fun _ => hp) (fun z => absurd z (by omega))))
end
theorem sj_ix2 (p : Int32) {n : Nat} (hn : n < 2 ^ 31) : (p < 0 ∨ nI n ≤ p) ∨ ∃ j : Nat, j < n ∧ p = nI j := by
  rcases pk_ix p hn with h | h | h
  · exact Or.inl (Or.inl h)
  · exact Or.inl (Or.inr h)
  · exact Or.inr h
/-! the draft changes in one token -/
theorem sj_YI_dr {gd ge : Int32} {xm yi : Nat → Int32} {c j : Nat} {b : Bool} (hc : c ≤ 20) (h : sj_YI (sj_S gd xm) c yi) (hj : j < 30) (he : ∀ x, x < 30 → bt ge x = if x = j then b else bt gd x) : sj_YI (sj_S ge xm) c (upd yi (600 + j) (sj_bI b)) := by
  intro s hs x hx
  by_cases e : s = 20
  · subst e
    rw [sj_S20, he x hx]
    by_cases e2 : x = j
    · subst e2
      rw [if_pos rfl, show 30 * 20 + x = 600 + x from rfl, pk_us]
    · rw [if_neg e2, pk_un (by omega), h 20 (Or.inr rfl) x hx, sj_S20]
  · rw [pk_un (by omega), h s hs x hx, sj_Slt (by omega), sj_Slt (by omega)]
theorem sj_y600 (j : Nat) : (600 : Int32) + nI j = nI (600 + j) := by rw [show (600 : Int32) = nI 600 from rfl, nI_add]
end
section
/-! methods on the draft: token, drop, clear, recall -/
theorem sj_ytok37 {yc yt yu : Int32} {yi yl S : Nat → Int32} {c j : Nat} (hc : c ≤ 20) (hj : j < 30) (hY : sj_YI S c (upd yi (600 + j) (sj_bI true))) {post : Int32 → SY → Prop} (h : post (nI (sj_pc (S 20))) (yc, yt, yu, upd yi (600 + j) (sj_bI true), yl)) : wY_token_37 post (nI j) yc yt yu yi yl := by
  refine And.intro (pk_in (600 + j) 630 (by omega) (sj_y600 j)) (nm_r (e' := upd yi (600 + j) (sj_bI true)) (by rw [pk_cl (600 + j) (sj_y600 j)]; rfl) ?_)
  exact sj_ysz (s := 20) hY hc (Or.inr rfl) h
theorem sj_core_dr {c t q : Nat} {gd gs ge gr : Int32} {xm xz yi yj : Nat → Int32} (C : sj_Core c t q gd gs xm xz yi) (h1 : sj_ok ge) (h2 : gr = nI (sj_pc ge)) (h3 : sj_pc ge ≤ 12) (h4 : sj_YI (sj_S ge xm) c yj) : sj_Core c t q ge gr xm xz yj := ⟨C.1, ⟨h1, h2, h3⟩, C.2.2.1, h4⟩
theorem i_vc_token {k : Nat} {u : SX} {v : SY} (I : i_Rel k u v) (hk : k + 3 ≤ 1536) (v1 : Int32) : wpX_token (fun r u' => wpY_token (fun r' v' => r' = r ∧ i_Rel (k + 3) u' v') v v1) u v1 := by
  refine sj_el (P := fun u v => wpX_token (fun r u' => wpY_token (fun r' v' => r' = r ∧ i_Rel (k + 3) u' v') v v1) u v1) I ?_
  intro c t q gd gs gk xm xz xr xo xc xi xw xp yi yl C K
  unfold wpX_token
  try dsimp only
  rcases sj_ix2 v1 (n := 30) (by decide) with h | ⟨j, hj, rfl⟩
  · refine sj_xtok_bad h (br_t rfl ?_)
    unfold wpY_token
    try dsimp only
    exact sj_ytok_bad h (br_f (by decide) ⟨rfl, sj_in C K⟩)
  · have hc := C.1.1
    have hY := C.2.2.2
    have cell : yi ((600 : Int32) + nI j).toNatClampNeg = sj_bI (bt gd j) := by
      rw [pk_cl (600 + j) (sj_y600 j)]
      have := hY 20 (Or.inr rfl) j hj
      rw [sj_S20] at this
      exact this
    have p12 := C.2.1.2.2
    have es : sj_pc (sj_S gd xm 20) = sj_pc gd := by rw [sj_S20]
    refine sj_xtok hj (br_f (by decide) (nm_e ?_))
    cases hb : bt gd j with
    | false =>
      refine br_t ((sj_tst gd (by omega)).mpr hb) ?_
      refine pk_eq (sj_pc gd) 12 (fun z => ?_) (fun z => ?_) C.2.1.2.1
      · unfold wpY_token
        try dsimp only
        refine sj_ytok hj (br_t rfl (sj_ysz (s := 20) hY hc (Or.inr rfl) ?_))
        rw [es]
        exact pk_eq (sj_pc gd) 12 (fun _ => And.intro (pk_in (600 + j) 630 (by omega) (sj_y600 j)) (br_t (by rw [cell, hb]; rfl) ⟨rfl, sj_in C K⟩)) (fun w => absurd z w)
      · have hbit : ∀ x, x < 32 → bt (gd ||| ((1 : Int32) <<< (nI j &&& 31))) x = sj_ins (bt gd) j x := by
          intro x hx
          rw [b_or, sj_one (by omega) hx]
          rfl
        have epc : sj_pc (gd ||| ((1 : Int32) <<< (nI j &&& 31))) = sj_pc gd + 1 := by
          unfold sj_pc
          rw [sj_cn_congr (n := 30) (fun x hx => hbit x (by omega)), sj_ins_cn hb, if_pos hj]
        have hY2 : sj_YI (sj_S (gd ||| ((1 : Int32) <<< (nI j &&& 31))) xm) c (upd yi (600 + j) (sj_bI true)) := by
          refine sj_YI_dr hc hY hj ?_
          intro x hx
          rw [hbit x (by omega)]
          by_cases e : x = j
          · subst e; rw [if_pos rfl, sj_ins_w]
          · rw [if_neg e]; unfold sj_ins; rw [decide_eq_false e, Bool.or_false]
        have C2 : sj_Core c t q (gd ||| ((1 : Int32) <<< (nI j &&& 31))) (nI (sj_pc gd + 1)) xm xz (upd yi (600 + j) (sj_bI true)) := by
          refine sj_core_dr C ?_ (by rw [epc]) (by omega) hY2
          intro i hi
          rcases Nat.lt_or_ge i 32 with w | w
          · rw [hbit i w]
            unfold sj_ins
            rw [C.2.1.1 i hi, decide_eq_false (by omega)]
            rfl
          · exact b_big w
        refine nm_e (nm_r (e' := nI (sj_pc gd + 1)) (by rw [C.2.1.2.1, nI_1]) ?_)
        unfold wpY_token
        try dsimp only
        refine sj_ytok hj (br_t rfl (sj_ysz (s := 20) hY hc (Or.inr rfl) ?_))
        rw [es]
        refine pk_eq (sj_pc gd) 12 (fun w => absurd w z) (fun _ => sj_ytok37 hc hj hY2 ?_)
        rw [sj_S20, epc]
        exact ⟨rfl, sj_in C2 K⟩
    | true =>
      have hY2 : sj_YI (sj_S gd xm) c (upd yi (600 + j) (sj_bI true)) := by
        refine sj_YI_dr hc hY hj ?_
        intro x hx
        by_cases e : x = j
        · subst e; rw [if_pos rfl, hb]
        · rw [if_neg e]
      have C2 := sj_core_dr C C.2.1.1 C.2.1.2.1 C.2.1.2.2 hY2
      refine br_f (fun z => by rw [sj_tst gd (by omega), hb] at z; exact Bool.noConfusion z) ?_
      have fin : wY_token_37 (fun r' v' => r' = gs ∧ i_Rel (k + 3) (gd, gs, nI c, nI t, nI q, gk, xm, xz, xr, xo, xc, xi, xw, xp) v') (nI j) (nI c) (nI t) (nI q) yi yl := by
        refine sj_ytok37 hc hj hY2 ?_
        rw [sj_S20]
        exact ⟨C.2.1.2.1.symm, sj_in C2 K⟩
      unfold wpY_token
      try dsimp only
      refine sj_ytok hj (br_t rfl (sj_ysz (s := 20) hY hc (Or.inr rfl) ?_))
      rw [es]
      exact br_c (fun _ => And.intro (pk_in (600 + j) 630 (by omega) (sj_y600 j)) (br_f (by rw [cell, hb]; exact sj_bIt) fin)) (fun _ => fin)
theorem i_vc_drop {k : Nat} {u : SX} {v : SY} (I : i_Rel k u v) (hk : k + 3 ≤ 1536) (v1 : Int32) : wpX_drop (fun r u' => wpY_drop (fun r' v' => r' = r ∧ i_Rel (k + 3) u' v') v v1) u v1 := by
  refine sj_el (P := fun u v => wpX_drop (fun r u' => wpY_drop (fun r' v' => r' = r ∧ i_Rel (k + 3) u' v') v v1) u v1) I ?_
  intro c t q gd gs gk xm xz xr xo xc xi xw xp yi yl C K
  unfold wpX_drop
  try dsimp only
  rcases sj_ix2 v1 (n := 30) (by decide) with h | ⟨j, hj, rfl⟩
  · refine sj_xtok_bad h (br_t rfl ?_)
    unfold wpY_drop
    try dsimp only
    exact sj_ytok_bad h (br_f (by decide) ⟨rfl, sj_in C K⟩)
  · have hc := C.1.1
    have hY := C.2.2.2
    have p12 := C.2.1.2.2
    refine sj_xtok hj (br_f (by decide) (nm_e ?_))
    cases hb : bt gd j with
    | false =>
      refine br_t ((sj_tst gd (by omega)).mpr hb) ?_
      have hY2 : sj_YI (sj_S gd xm) c (upd yi (600 + j) (sj_bI false)) := by
        refine sj_YI_dr hc hY hj ?_
        intro x hx
        by_cases e : x = j
        · subst e; rw [if_pos rfl, hb]
        · rw [if_neg e]
      have C2 := sj_core_dr C C.2.1.1 C.2.1.2.1 C.2.1.2.2 hY2
      unfold wpY_drop
      try dsimp only
      refine sj_ytok hj (br_t rfl (And.intro (pk_in (600 + j) 630 (by omega) (sj_y600 j)) (nm_r (e' := upd yi (600 + j) (sj_bI false)) (by rw [pk_cl (600 + j) (sj_y600 j)]; rfl) (sj_ysz (s := 20) hY2 hc (Or.inr rfl) ?_))))
      rw [sj_S20]
      exact ⟨C.2.1.2.1.symm, sj_in C2 K⟩
    | true =>
      have hbit : ∀ x, x < 32 → bt (gd &&& (((1 : Int32) <<< (nI j &&& 31)) ^^^ (-1))) x = (bt gd x && !(decide (x = j))) := by
        intro x hx
        rw [b_and, sj_not _ hx, sj_one (by omega) hx]
      have epc : sj_pc gd = sj_pc (gd &&& (((1 : Int32) <<< (nI j &&& 31)) ^^^ (-1))) + 1 := by
        unfold sj_pc
        rw [sj_cn_congr (n := 30) (fun x hx => hbit x (by omega))]
        exact sj_cn_rem hj hb
      have hY2 : sj_YI (sj_S (gd &&& (((1 : Int32) <<< (nI j &&& 31)) ^^^ (-1))) xm) c (upd yi (600 + j) (sj_bI false)) := by
        refine sj_YI_dr hc hY hj ?_
        intro x hx
        rw [hbit x (by omega)]
        by_cases e : x = j
        · subst e; rw [if_pos rfl]; simp
        · rw [if_neg e, decide_eq_false e]; simp
      have C2 : sj_Core c t q (gd &&& (((1 : Int32) <<< (nI j &&& 31)) ^^^ (-1))) (nI (sj_pc (gd &&& (((1 : Int32) <<< (nI j &&& 31)) ^^^ (-1))))) xm xz (upd yi (600 + j) (sj_bI false)) := by
        refine sj_core_dr C ?_ rfl (by omega) hY2
        intro i hi
        rcases Nat.lt_or_ge i 32 with w | w
        · rw [hbit i w, C.2.1.1 i hi]
          rfl
        · exact b_big w
      refine br_f (fun z => by rw [sj_tst gd (by omega), hb] at z; exact Bool.noConfusion z) (nm_e (nm_r (e' := nI (sj_pc (gd &&& (((1 : Int32) <<< (nI j &&& 31)) ^^^ (-1))))) (by rw [C.2.1.2.1, epc, nI_pred]) ?_))
      unfold wpY_drop
      try dsimp only
      refine sj_ytok hj (br_t rfl (And.intro (pk_in (600 + j) 630 (by omega) (sj_y600 j)) (nm_r (e' := upd yi (600 + j) (sj_bI false)) (by rw [pk_cl (600 + j) (sj_y600 j)]; rfl) (sj_ysz (s := 20) hY2 hc (Or.inr rfl) ?_))))
      rw [sj_S20]
      exact ⟨rfl, sj_in C2 K⟩
theorem i_vc_clear {k : Nat} {u : SX} {v : SY} (I : i_Rel k u v) (hk : k + 3 ≤ 1536) : wpX_clear (fun r u' => wpY_clear (fun r' v' => r' = r ∧ i_Rel (k + 3) u' v') v) u := by
  refine sj_el (P := fun u v => wpX_clear (fun r u' => wpY_clear (fun r' v' => r' = r ∧ i_Rel (k + 3) u' v') v) u) I ?_
  intro c t q gd gs gk xm xz xr xo xc xi xw xp yi yl C K
  unfold wpX_clear wpY_clear
  try dsimp only
  have hc := C.1.1
  have hY := C.2.2.2
  refine sj_ysz (s := 20) hY hc (Or.inr rfl) ?_
  rw [sj_S20]
  refine ⟨30 + 1, sj_ycl_l (yi := yi) ?_ 30 0 yi rfl (fun x hx => absurd hx (by omega)) (fun _ _ => rfl)⟩
  intro yj h1 h2
  refine ⟨C.2.1.2.1.symm, sj_in (sj_core_dr C sj_ok0 (by rw [sj_pc0]; rfl) (by rw [sj_pc0]; omega) ?_) K⟩
  intro s hs x hx
  by_cases e : s = 20
  · subst e
    rw [sj_S20, b_0]
    exact h1 x hx
  · rw [h2 _ (by omega), hY s hs x hx, sj_Slt (by omega), sj_Slt (by omega)]
theorem i_vc_recall {k : Nat} {u : SX} {v : SY} (I : i_Rel k u v) (hk : k + 3 ≤ 1536) (v1 : Int32) : wpX_recall (fun r u' => wpY_recall (fun r' v' => r' = r ∧ i_Rel (k + 3) u' v') v v1) u v1 := by
  refine sj_el (P := fun u v => wpX_recall (fun r u' => wpY_recall (fun r' v' => r' = r ∧ i_Rel (k + 3) u' v') v v1) u v1) I ?_
  intro c t q gd gs gk xm xz xr xo xc xi xw xp yi yl C K
  unfold wpX_recall
  try dsimp only
  have hc := C.1.1
  have hY := C.2.2.2
  rcases sj_ix2 v1 (n := c) (by omega) with h | ⟨j, hj, rfl⟩
  · refine sj_xrec_bad h (br_t rfl ?_)
    unfold wpY_recall
    try dsimp only
    exact sj_yrec_bad h (br_f (by decide) ⟨rfl, sj_in C K⟩)
  · have J := C.2.2.1 j hj
    refine sj_xrec hc hj (br_f (by decide) (And.intro (pk_in j 20 (by omega)) (nm_r (e' := xm j) (by rw [nI_clamp (by omega)]) (And.intro (pk_in j 20 (by omega)) (nm_r (e' := nI (sj_pc (xm j))) (by rw [nI_clamp (by omega)]; exact J.2.1) ?_)))))
    unfold wpY_recall
    try dsimp only
    refine sj_yrec hc hj (br_t rfl ?_)
    refine sj_ycp (a := j) (b := 20) (bt (xm j)) (by omega) (by omega) (by omega) (fun x hx => by rw [hY j (Or.inl hj) x hx, sj_Slt (by omega)]) ?_
    intro yj h1 h2
    have hY2 : sj_YI (sj_S (xm j) xm) c yj := by
      intro s hs x hx
      by_cases e : s = 20
      · subst e
        rw [sj_S20]
        exact h1 x hx
      · rw [h2 _ (by omega), hY s hs x hx, sj_Slt (by omega), sj_Slt (by omega)]
    refine sj_ysz (s := 20) hY2 hc (Or.inr rfl) ?_
    rw [sj_S20]
    exact ⟨rfl, sj_in (sj_core_dr C J.1 rfl J.2.2.2 hY2) K⟩
end
section
/-! methods on the records: store, remove, threshold, records, size, has -/
theorem i_vc_store {k : Nat} {u : SX} {v : SY} (I : i_Rel k u v) (hk : k + 3 ≤ 1536) : wpX_store (fun r u' => wpY_store (fun r' v' => r' = r ∧ i_Rel (k + 3) u' v') v) u := by
  refine sj_el (P := fun u v => wpX_store (fun r u' => wpY_store (fun r' v' => r' = r ∧ i_Rel (k + 3) u' v') v) u) I ?_
  intro c t q gd gs gk xm xz xr xo xc xi xw xp yi yl C K
  unfold wpX_store
  try dsimp only
  have hc := C.1.1
  have hY := C.2.2.2
  have p12 := C.2.1.2.2
  have es : sj_pc (sj_S gd xm 20) = sj_pc gd := by rw [sj_S20]
  refine pk_eq (sj_pc gd) 0 (fun z => ?_) (fun z => pk_eq c 20 (fun w => ?_) (fun w => And.intro (pk_in c 20 (by omega)) (nm_r (e' := upd xm c gd) (by rw [nI_clamp (by omega)]) (And.intro (pk_in c 20 (by omega)) (nm_r (e' := upd xz c gs) (by rw [nI_clamp (by omega)]) (nm_r (nI_1 c) ?_)))))) C.2.1.2.1
  · unfold wpY_store
    try dsimp only
    refine sj_ysz (s := 20) hY hc (Or.inr rfl) ?_
    rw [es]
    exact pk_eq (sj_pc gd) 0 (fun _ => ⟨rfl, sj_in C K⟩) (fun w => absurd z w)
  · unfold wpY_store
    try dsimp only
    refine sj_ysz (s := 20) hY hc (Or.inr rfl) ?_
    rw [es]
    exact pk_eq (sj_pc gd) 0 (fun w => absurd w z) (fun _ => pk_lt c 20 (fun w => absurd w (by omega)) (fun _ => ⟨rfl, sj_in C K⟩))
  · rw [nI_pred]
    unfold wpY_store
    try dsimp only
    refine sj_ysz (s := 20) hY hc (Or.inr rfl) ?_
    rw [es]
    refine pk_eq (sj_pc gd) 0 (fun w => absurd w z) (fun _ => pk_lt c 20 (fun _ => ?_) (fun w => absurd w (by omega)))
    refine sj_ycp (a := 20) (b := c) (bt gd) (by omega) (by omega) (by omega) (fun x hx => by rw [hY 20 (Or.inr rfl) x hx, sj_S20]) ?_
    intro yj h1 h2
    refine nm_r (nI_1 c) ⟨rfl, sj_in ⟨⟨by omega, C.1.2⟩, C.2.1, ?_, ?_⟩ (Or.inl rfl)⟩
    · intro s hs
      by_cases e : s = c
      · subst e
        rw [pk_us, pk_us]
        exact ⟨C.2.1.1, C.2.1.2.1, by omega, p12⟩
      · rw [pk_un e, pk_un e]
        exact C.2.2.1 s (by omega)
    · intro s hs x hx
      try dsimp only
      by_cases e : s = c
      · subst e
        rw [sj_Slt (by omega), pk_us]
        exact h1 x hx
      · rw [h2 _ (by omega)]
        by_cases e2 : s = 20
        · subst e2
          rw [hY 20 (Or.inr rfl) x hx, sj_S20, sj_S20]
        · rw [hY s (by omega) x hx, sj_Slt (by omega), sj_Slt (by omega), pk_un e]
section
variable {gd gs gt gb gk : Int32} {xm xz xr xo xc xi xw xp : Nat → Int32} {c : Nat}
theorem sj_xrm {j : Nat} (hc : c ≤ 20) (hj : j < c) {post : Int32 → SX → Prop} (h : ∀ vm vz : Nat → Int32, (∀ s, j ≤ s → s + 1 < c → vm s = xm (s + 1) ∧ vz s = xz (s + 1)) → (∀ s, s < j → vm s = xm s ∧ vz s = xz s) → post (nI (c - 1)) (gd, gs, nI (c - 1), gt, gb, 0, vm, vz, xr, xo, xc, xi, xw, xp)) : ∀ (d i : Nat) (vm vz : Nat → Int32), i + d = c → j < i → (∀ s, j ≤ s → s + 1 < i → vm s = xm (s + 1) ∧ vz s = xz (s + 1)) → (∀ s, (s < j ∨ i ≤ s + 1) → vm s = xm s ∧ vz s = xz s) → wX_remove_14 post gd gs (nI c) gt gb gk (d + 1) (nI i) vm vz xr xo xc xi xw xp := by
  intro d
  induction d with
  | zero =>
    intro i vm vz hi hji h1 h2
    have e : i = c := by omega
    subst e
    refine pk_le i i (fun _ => nm_r (e' := nI (i - 1)) ?_ (h vm vz h1 (fun s hs => h2 s (Or.inl hs)))) (fun z => absurd z (by omega))
    rw [show (1 : Int32) = nI 1 from rfl, pk_sub (by omega)]
  | succ d ih =>
    intro i vm vz hi hji h1 h2
    obtain ⟨p, rfl⟩ : ∃ p, i = p + 1 := ⟨i - 1, by omega⟩
    have ep : nI (p + 1) - 1 = nI p := nI_pred p
    have v1 := h2 (p + 1) (by omega)
    refine pk_le c (p + 1) (fun z => absurd z (by omega)) (fun _ => ⟨pk_in (p + 1) 20 (by omega), pk_in p 20 (by omega) ep, nm_r (e' := upd vm p (xm (p + 1))) ?_ ⟨pk_in (p + 1) 20 (by omega), pk_in p 20 (by omega) ep, nm_r (e' := upd vz p (xz (p + 1))) ?_ (nm_r (nI_1 (p + 1)) (ih (p + 1 + 1) _ _ (by omega) (by omega) ?_ ?_))⟩⟩)
    · rw [ep, nI_clamp (n := p) (by omega), nI_clamp (n := p + 1) (by omega), v1.1]
    · rw [ep, nI_clamp (n := p) (by omega), nI_clamp (n := p + 1) (by omega), v1.2]
    · intro s hs hs2
      by_cases e : s = p
      · subst e
        rw [pk_us, pk_us]
        exact ⟨rfl, rfl⟩
      · rw [pk_un e, pk_un e]
        exact h1 s hs (by omega)
    · intro s hs
      rw [pk_un (by omega), pk_un (by omega)]
      exact h2 s (by omega)
end
section
variable {yt yu : Int32} {yi yl S : Nat → Int32} {c : Nat}
theorem sj_yrm {j : Nat} (hc : c ≤ 20) (hj : j < c) (hY : sj_YI S c yi) {post : Int32 → SY → Prop} (h : ∀ yj : Nat → Int32, (∀ s, j ≤ s → s + 1 < c → ∀ x, x < 30 → yj (30 * s + x) = sj_bI (bt (S (s + 1)) x)) → (∀ s, (s < j ∨ s = 20) → ∀ x, x < 30 → yj (30 * s + x) = sj_bI (bt (S s) x)) → post (nI (c - 1)) (nI (c - 1), yt, yu, yj, yl)) : ∀ (d i : Nat) (yj : Nat → Int32), i + 1 + d = c → j ≤ i → (∀ s, j ≤ s → s < i → ∀ x, x < 30 → yj (30 * s + x) = sj_bI (bt (S (s + 1)) x)) → (∀ s, (s < j ∨ s = 20 ∨ (i ≤ s ∧ s < c)) → ∀ x, x < 30 → yj (30 * s + x) = sj_bI (bt (S s) x)) → wY_remove_12 post (d + 1) (nI i) (nI c) yt yu yj yl := by
  have ec : nI c - 1 = nI (c - 1) := by rw [show (1 : Int32) = nI 1 from rfl, pk_sub (by omega)]
  intro d
  induction d with
  | zero =>
    intro i yj hi hji h1 h2
    refine pk_le (c - 1) i (fun _ => nm_r ec (h yj (fun s a b => h1 s a (by omega)) (fun s hs => h2 s (by omega)))) (fun z => absurd z (by omega)) ec
  | succ d ih =>
    intro i yj hi hji h1 h2
    refine pk_le (c - 1) i (fun z => absurd z (by omega)) (fun _ => pk_le 19 i (fun z => absurd z (by omega)) (fun _ => ?_)) ec
    rw [nI_1]
    refine sj_ycp (a := i + 1) (b := i) (bt (S (i + 1))) (by omega) (by omega) (by omega) (h2 (i + 1) (by omega)) ?_
    intro yk g1 g2
    refine nm_e (ih (i + 1) yk (by omega) (by omega) ?_ ?_)
    · intro s a b x hx
      by_cases e : s = i
      · subst e; exact g1 x hx
      · rw [g2 _ (by omega)]; exact h1 s a (by omega) x hx
    · intro s hs x hx
      rw [g2 _ (by omega)]; exact h2 s (by omega) x hx
end
theorem i_vc_remove {k : Nat} {u : SX} {v : SY} (I : i_Rel k u v) (hk : k + 3 ≤ 1536) (v1 : Int32) : wpX_remove (fun r u' => wpY_remove (fun r' v' => r' = r ∧ i_Rel (k + 3) u' v') v v1) u v1 := by
  refine sj_el (P := fun u v => wpX_remove (fun r u' => wpY_remove (fun r' v' => r' = r ∧ i_Rel (k + 3) u' v') v v1) u v1) I ?_
  intro c t q gd gs gk xm xz xr xo xc xi xw xp yi yl C K
  unfold wpX_remove
  try dsimp only
  have hc := C.1.1
  have hY := C.2.2.2
  rcases sj_ix2 v1 (n := c) (by omega) with h | ⟨j, hj, rfl⟩
  · refine sj_xrec_bad h (br_t rfl ?_)
    unfold wpY_remove
    try dsimp only
    exact sj_yrec_bad h (br_f (by decide) ⟨rfl, sj_in C K⟩)
  · refine sj_xrec hc hj (br_f (by decide) (nm_r (nI_1 j) ⟨c - (j + 1) + 1, ?_⟩))
    refine sj_xrm (xm := xm) (xz := xz) hc hj ?_ (c - (j + 1)) (j + 1) xm xz (by omega) (by omega) (fun s a b => absurd b (by omega)) (fun _ _ => ⟨rfl, rfl⟩)
    intro vm vz h1 h2
    unfold wpY_remove
    try dsimp only
    refine sj_yrec hc hj (br_t rfl ⟨c - (j + 1) + 1, ?_⟩)
    refine sj_yrm hc hj hY ?_ (c - (j + 1)) j yi (by omega) (by omega) (fun s a b => absurd b (by omega)) (fun s hs => hY s (by omega))
    intro yj g1 g2
    refine ⟨rfl, sj_in ⟨⟨by omega, C.1.2⟩, C.2.1, ?_, ?_⟩ (Or.inl rfl)⟩
    · intro s hs
      by_cases e : s < j
      · have := h2 s e
        rw [this.1, this.2]
        exact C.2.2.1 s (by omega)
      · have := h1 s (by omega) (by omega)
        rw [this.1, this.2]
        exact C.2.2.1 (s + 1) (by omega)
    · intro s hs x hx
      by_cases e : s = 20
      · rw [g2 s (by omega) x hx, e, sj_S20, sj_S20]
      · rw [sj_Slt (by omega)]
        by_cases e2 : s < j
        · rw [g2 s (by omega) x hx, sj_Slt (by omega), (h2 s e2).1]
        · rw [g1 s (by omega) (by omega) x hx, sj_Slt (by omega), (h1 s (by omega) (by omega)).1]
theorem i_vc_threshold {k : Nat} {u : SX} {v : SY} (I : i_Rel k u v) (hk : k + 3 ≤ 1536) (v1 : Int32) (v2 : Int32) : wpX_threshold (fun r u' => wpY_threshold (fun r' v' => r' = r ∧ i_Rel (k + 3) u' v') v v1 v2) u v1 v2 := by
  refine sj_el (P := fun u v => wpX_threshold (fun r u' => wpY_threshold (fun r' v' => r' = r ∧ i_Rel (k + 3) u' v') v v1 v2) u v1 v2) I ?_
  intro c t q gd gs gk xm xz xr xo xc xi xw xp yi yl C K
  by_cases a1 : v1 < 1
  · exact br_t a1 (br_t a1 ⟨rfl, sj_in C K⟩)
  · refine br_f a1 ?_
    by_cases a2 : 12 < v1
    · exact br_t a2 (br_f a1 (br_t a2 ⟨rfl, sj_in C K⟩))
    · refine br_f a2 ?_
      by_cases a3 : v2 < 1
      · exact br_t a3 (br_f a1 (br_f a2 (br_t a3 ⟨rfl, sj_in C K⟩)))
      · refine br_f a3 ?_
        by_cases a4 : v2 ≤ 12
        · refine br_t a4 ?_
          by_cases a5 : v1 ≤ v2
          · refine br_t a5 (br_f a1 (br_f a2 (br_f a3 (br_t a4 (br_t a5 ⟨rfl, ?_⟩)))))
            have z1 : ¬ v1 < 0 := fun z => a1 (Int32.lt_trans z (by decide))
            have z2 : ¬ v2 < 0 := fun z => a3 (Int32.lt_trans z (by decide))
            obtain ⟨t', ht', rfl⟩ := nI_of2 (x := v1) (M := 12) (n := 12) (by decide) z1 (Int32.not_lt.mp a2)
            obtain ⟨q', hq', rfl⟩ := nI_of2 (x := v2) (M := 12) (n := 12) (by decide) z2 a4
            have b1 : ¬ t' < 1 := fun z => a1 (nI_lt (b := 1) z (by decide))
            have b5 := (nI_leI (by omega) (by omega)).mp a5
            exact sj_in ⟨⟨C.1.1, by omega, b5, hq'⟩, C.2⟩ (Or.inl rfl)
          · exact br_f a5 (br_f a1 (br_f a2 (br_f a3 (br_t a4 (br_f a5 ⟨rfl, sj_in C K⟩)))))
        · exact br_f a4 (br_f a1 (br_f a2 (br_f a3 (br_f a4 ⟨rfl, sj_in C K⟩))))
theorem i_vc_size {k : Nat} {u : SX} {v : SY} (I : i_Rel k u v) (hk : k + 3 ≤ 1536) (v1 : Int32) : wpX_size (fun r => wpY_size (fun r' => r' = r ∧ i_Rel (k + 3) u v) v v1) u v1 := by
  refine sj_el (P := fun u v => wpX_size (fun r => wpY_size (fun r' => r' = r ∧ i_Rel (k + 3) u v) v v1) u v1) I ?_
  intro c t q gd gs gk xm xz xr xo xc xi xw xp yi yl C K
  unfold wpX_size wpY_size
  try dsimp only
  have hc := C.1.1
  have hY := C.2.2.2
  rcases sj_ix2 v1 (n := c) (by omega) with h | ⟨j, hj, rfl⟩
  · exact sj_xrec_bad h (br_t rfl (sj_yrec_bad h (br_f (by decide) ⟨rfl, sj_in C K⟩)))
  · have J := C.2.2.1 j hj
    refine sj_xrec hc hj (br_f (by decide) (And.intro (pk_in j 20 (by omega)) ?_))
    rw [nI_clamp (by omega), J.2.1]
    refine sj_yrec hc hj (br_t rfl (sj_ysz hY hc (Or.inl hj) ?_))
    rw [sj_Slt (by omega)]
    exact ⟨rfl, sj_in C K⟩
theorem i_vc_has {k : Nat} {u : SX} {v : SY} (I : i_Rel k u v) (hk : k + 3 ≤ 1536) (v1 : Int32) (v2 : Int32) : wpX_has (fun r => wpY_has (fun r' => r' = r ∧ i_Rel (k + 3) u v) v v1 v2) u v1 v2 := by
  refine sj_el (P := fun u v => wpX_has (fun r => wpY_has (fun r' => r' = r ∧ i_Rel (k + 3) u v) v v1 v2) u v1 v2) I ?_
  intro c t q gd gs gk xm xz xr xo xc xi xw xp yi yl C K
  unfold wpX_has wpY_has
  try dsimp only
  have hc := C.1.1
  have hY := C.2.2.2
  rcases sj_ix2 v1 (n := c) (by omega) with h | ⟨j, hj, rfl⟩
  · exact sj_xrec_bad h (br_t rfl (sj_yrec_bad h (br_f (by decide) ⟨rfl, sj_in C K⟩)))
  · refine sj_xrec hc hj (br_f (by decide) ?_)
    rcases sj_ix2 v2 (n := 30) (by decide) with h | ⟨x, hx, rfl⟩
    · exact sj_xtok_bad h (br_t rfl (sj_yrec hc hj (br_t rfl (sj_ytok_bad h (br_f (by decide) ⟨rfl, sj_in C K⟩)))))
    · refine sj_xtok hx (br_f (by decide) (And.intro (pk_in j 20 (by omega)) ?_))
      rw [nI_clamp (n := j) (by omega), sj_bit _ (by omega)]
      refine sj_yrec hc hj (br_t rfl (sj_ytok hx (br_t rfl (And.intro (pk_in (30 * j + x) 630 (by omega) (sj_y30 j x)) ?_))))
      rw [sj_ycell hY hc (Or.inl hj) hx, sj_Slt (by omega)]
      cases hb : bt (xm j) x with
      | false => exact br_t rfl ⟨rfl, sj_in C K⟩
      | true => exact br_f sj_bIt ⟨rfl, sj_in C K⟩
end
section
/-! methods that ask: frequency, common, similar, pairs, degree -/
theorem sj_cn_cut {c n : Nat} (p : Nat → Bool) (h : c ≤ n) : sj_cn n (fun b => decide (b < c) && p b) = sj_cn c p := by
  obtain ⟨d, rfl⟩ : ∃ d, n = c + d := ⟨n - c, by omega⟩
  rw [sj_cn_add, sj_cn_none (n := d) (p := fun i => (fun b => decide (b < c) && p b) (c + i)) (fun i _ => by
    try dsimp only
    rw [decide_eq_false (by omega), Bool.false_and]), Nat.add_zero]
  exact sj_cn_congr (fun i hi => by rw [decide_eq_true hi, Bool.true_and])
theorem sj_cref {c t q : Nat} {gd gs gk : Int32} {xm xz xr xo xc xi xw xp yi : Nat → Int32} (C : sj_Core c t q gd gs xm xz yi) (K : gk = 0 ∨ sj_Cache c t q xm xz xr xo xc xi xw xp) {post : SX → Prop} (h : ∀ (ck : Int32) (ur uo uc ui uw up : Nat → Int32), sj_Cache c t q xm xz ur uo uc ui uw up → post (gd, gs, nI c, nI t, nI q, ck, xm, xz, ur, uo, uc, ui, uw, up)) : wpX_refresh post (gd, gs, nI c, nI t, nI q, gk, xm, xz, xr, xo, xc, xi, xw, xp) := sj_xref C.1.2.1 C.1.2.2.1 C.1.2.2.2 C.1.1 (fun s hs => (C.2.2.1 s hs).2) K h
section
variable {yt yu : Int32} {yi yl S : Nat → Int32} {c : Nat}
theorem sj_yfr (hY : sj_YI S c yi) (hc : c ≤ 20) {x : Nat} (hx : x < 30) {post : Int32 → Prop} (h : post (nI (sj_cn c (fun s => bt (S s) x)))) : ∀ d s : Nat, s + d = c → wY_frequency_14 post (nI x) (nI c) yt yu yi yl (d + 1) (nI (sj_cn s (fun s => bt (S s) x))) (nI s) := by
  intro d
  induction d with
  | zero =>
    intro s hs
    have e : s = c := by omega
    subst e
    exact pk_le s s (fun _ => h) (fun z => absurd z (by omega))
  | succ d ih =>
    intro s hs
    have i := ih (s + 1) (by omega)
    have ec := sj_ycell (s := s) (k := x) hY hc (by omega) hx
    cases hb : bt (S s) x with
    | false =>
      rw [sj_cnF (p := fun s => bt (S s) x) hb] at i
      exact pk_le c s (fun z => absurd z (by omega)) (fun _ => pk_le 20 s (fun z => absurd z (by omega)) (fun _ => ⟨pk_in (30 * s + x) 630 (by omega) (sj_y30 s x), br_t (by rw [ec, hb]; rfl) (nm_r (nI_1 s) i)⟩))
    | true =>
      rw [sj_cnT (p := fun s => bt (S s) x) hb] at i
      exact pk_le c s (fun z => absurd z (by omega)) (fun _ => pk_le 20 s (fun z => absurd z (by omega)) (fun _ => ⟨pk_in (30 * s + x) 630 (by omega) (sj_y30 s x), br_f (by rw [ec, hb]; exact sj_bIt) (nm_r (nI_1 _) (nm_r (nI_1 s) i))⟩))
end
theorem i_vc_frequency {k : Nat} {u : SX} {v : SY} (I : i_Rel k u v) (hk : k + 3 ≤ 1536) (v1 : Int32) : wpX_frequency (fun r u' => wpY_frequency (fun r' => r' = r ∧ i_Rel (k + 3) u' v) v v1) u v1 := by
  refine sj_el (P := fun u v => wpX_frequency (fun r u' => wpY_frequency (fun r' => r' = r ∧ i_Rel (k + 3) u' v) v v1) u v1) I ?_
  intro c t q gd gs gk xm xz xr xo xc xi xw xp yi yl C K
  unfold wpX_frequency
  try dsimp only
  have hc := C.1.1
  have ht12 : t ≤ 12 := Nat.le_trans C.1.2.2.1 C.1.2.2.2
  have hq12 := C.1.2.2.2
  have hY := C.2.2.2
  rcases sj_ix2 v1 (n := 30) (by decide) with h | ⟨x, hx, rfl⟩
  · refine sj_xtok_bad h (br_t rfl ?_)
    unfold wpY_frequency
    try dsimp only
    exact sj_ytok_bad h (br_f (by decide) ⟨rfl, sj_in C K⟩)
  · refine sj_xtok hx (br_f (by decide) (sj_cref C K ?_))
    intro ck ur uo uc ui uw up H
    refine And.intro (pk_in x 30 hx) ?_
    try dsimp only
    rw [nI_clamp (by omega), H.1 x hx]
    unfold wpY_frequency
    try dsimp only
    refine sj_ytok hx (br_t rfl ⟨c + 1, sj_yfr hY hc hx ?_ c 0 (by omega)⟩)
    rw [sj_cn_congr (n := c) (p := fun s => bt (sj_S gd xm s) x) (q := fun r => bt (xm r) x) (fun i hi => by (try dsimp only); rw [sj_Slt (by omega)])]
    exact ⟨rfl, sj_in C (Or.inr H)⟩
theorem sj_xand {post : Int32 → Prop} {A B : Int32} (hA : sj_ok A) (h : post (nI (sj_both A B))) : wpX_ones post (A &&& B) := by
  apply sj_ones
  have e : sj_cn 32 (bt (A &&& B)) = sj_both A B := by
    rw [sj_cn32 (fun i hi => by rw [b_and, hA i hi, Bool.false_and])]
    exact sj_cn_congr (fun i _ => b_and A B i)
  rw [e]
  exact h
theorem i_vc_common {k : Nat} {u : SX} {v : SY} (I : i_Rel k u v) (hk : k + 3 ≤ 1536) (v1 : Int32) (v2 : Int32) : wpX_common (fun r => wpY_common (fun r' => r' = r ∧ i_Rel (k + 3) u v) v v1 v2) u v1 v2 := by
  refine sj_el (P := fun u v => wpX_common (fun r => wpY_common (fun r' => r' = r ∧ i_Rel (k + 3) u v) v v1 v2) u v1 v2) I ?_
  intro c t q gd gs gk xm xz xr xo xc xi xw xp yi yl C K
  unfold wpX_common wpY_common
  try dsimp only
  have hc := C.1.1
  have ht12 : t ≤ 12 := Nat.le_trans C.1.2.2.1 C.1.2.2.2
  have hq12 := C.1.2.2.2
  have hY := C.2.2.2
  rcases sj_ix2 v1 (n := c) (by omega) with h | ⟨a, ha, rfl⟩
  · exact sj_xrec_bad h (br_t rfl (sj_yrec_bad h (br_f (by decide) ⟨rfl, sj_in C K⟩)))
  · refine sj_xrec hc ha (br_f (by decide) ?_)
    rcases sj_ix2 v2 (n := c) (by omega) with h | ⟨b, hb, rfl⟩
    · exact sj_xrec_bad h (br_t rfl (sj_yrec hc ha (br_t rfl (sj_yrec_bad h (br_f (by decide) ⟨rfl, sj_in C K⟩)))))
    · refine sj_xrec hc hb (br_f (by decide) (And.intro (pk_in a 20 (by omega)) (And.intro (pk_in b 20 (by omega)) ?_)))
      rw [nI_clamp (n := a) (by omega), nI_clamp (n := b) (by omega)]
      refine sj_xand (C.2.2.1 a ha).1 ?_
      refine sj_yrec hc ha (br_t rfl (sj_yrec hc hb (br_t rfl (sj_ybo hY hc (Or.inl ha) (Or.inl hb) ?_))))
      rw [sj_Slt (by omega), sj_Slt (by omega)]
      exact ⟨rfl, sj_in C K⟩
theorem i_vc_similar {k : Nat} {u : SX} {v : SY} (I : i_Rel k u v) (hk : k + 3 ≤ 1536) (v1 : Int32) (v2 : Int32) : wpX_similar (fun r u' => wpY_similar (fun r' => r' = r ∧ i_Rel (k + 3) u' v) v v1 v2) u v1 v2 := by
  refine sj_el (P := fun u v => wpX_similar (fun r u' => wpY_similar (fun r' => r' = r ∧ i_Rel (k + 3) u' v) v v1 v2) u v1 v2) I ?_
  intro c t q gd gs gk xm xz xr xo xc xi xw xp yi yl C K
  unfold wpX_similar
  try dsimp only
  have hc := C.1.1
  have ht12 : t ≤ 12 := Nat.le_trans C.1.2.2.1 C.1.2.2.2
  have hq12 := C.1.2.2.2
  have hY := C.2.2.2
  rcases sj_ix2 v1 (n := c) (by omega) with h | ⟨a, ha, rfl⟩
  · refine sj_xrec_bad h (br_t rfl ?_)
    unfold wpY_similar
    try dsimp only
    exact sj_yrec_bad h (br_f (by decide) ⟨rfl, sj_in C K⟩)
  · refine sj_xrec hc ha (br_f (by decide) ?_)
    rcases sj_ix2 v2 (n := c) (by omega) with h | ⟨b, hb, rfl⟩
    · refine sj_xrec_bad h (br_t rfl ?_)
      unfold wpY_similar
      try dsimp only
      exact sj_yrec hc ha (br_t rfl (sj_yrec_bad h (br_f (by decide) ⟨rfl, sj_in C K⟩)))
    · refine sj_xrec hc hb (br_f (by decide) (sj_cref C K ?_))
      intro ck ur uo uc ui uw up H
      refine And.intro (pk_in a 20 (by omega)) ?_
      try dsimp only
      rw [nI_clamp (n := a) (by omega), sj_bit _ (by omega), H.2.2.1 a ha b (by omega), decide_eq_true hb, Bool.true_and]
      unfold wpY_similar
      try dsimp only
      refine sj_yrec hc ha (br_t rfl (sj_yrec hc hb (br_t rfl (sj_yal hY hc (by omega) (by omega) (Or.inl ha) (Or.inl hb) ?_))))
      rw [sj_Slt (by omega), sj_Slt (by omega)]
      cases sj_sim t q (xm a) (xm b) with
      | false => exact br_t rfl ⟨rfl, sj_in C (Or.inr H)⟩
      | true => exact br_f sj_bIt ⟨rfl, sj_in C (Or.inr H)⟩
def sj_sum : Nat → (Nat → Nat) → Nat
  | 0, _ => 0
  | n + 1, f => sj_sum n f + f n
/-- the entries behind a that are alike -/
def sj_pa (c : Nat) (E : Nat → Nat → Bool) (a : Nat) : Nat := sj_cn c (fun b => decide (a < b) && E a b)
theorem sj_pa_ones {c a : Nat} {E : Nat → Nat → Bool} {w : Int32} (hc : c ≤ 20) (ha : a < c) (hw : ∀ b, b < 32 → bt w b = (decide (b < c) && E a b)) : sj_cn 32 (bt ((w.toUInt32 >>> ((nI (a + 1)).toUInt32 &&& Int32.toUInt32 31)).toInt32)) = sj_pa c E a := by
  have e1 : sj_cn 32 (bt ((w.toUInt32 >>> ((nI (a + 1)).toUInt32 &&& Int32.toUInt32 31)).toInt32)) = sj_cn 32 (fun i => (fun b => decide (a < b) && bt w b) (a + 1 + i)) := by
    apply sj_cn_congr
    intro i _
    try dsimp only
    rw [b_ushr (a + 1) (by omega), decide_eq_true (by omega), Bool.true_and]
  have e2 := sj_cn_add (a + 1) 32 (fun b => decide (a < b) && bt w b)
  rw [sj_cn_none (n := a + 1) (p := fun b => decide (a < b) && bt w b) (fun i hi => by rw [decide_eq_false (by omega), Bool.false_and]), Nat.zero_add, ← e1] at e2
  rw [← e2]
  unfold sj_pa
  rw [← sj_cn_cut (n := a + 1 + 32) (fun b => decide (a < b) && E a b) (by omega)]
  apply sj_cn_congr
  intro i _
  try dsimp only
  rcases Nat.lt_or_ge i 32 with h | h
  · rw [hw i h]
    cases decide (a < i) <;> cases decide (i < c) <;> rfl
  · rw [b_big h, decide_eq_false (show ¬ i < c by omega), Bool.and_false, Bool.false_and]
section
variable {gd gs gt gb gk : Int32} {xm xz xr xo xc xi xw xp : Nat → Int32} {c : Nat} {E : Nat → Nat → Bool}
theorem sj_xpa (hc : c ≤ 20) (hw : ∀ r, r < c → ∀ b, b < 32 → bt (xw r) b = (decide (b < c) && E r b)) {post : Int32 → SX → Prop} (h : post (nI (sj_sum c (sj_pa c E))) (gd, gs, nI c, gt, gb, gk, xm, xz, xr, xo, xc, xi, xw, xp)) : ∀ d a : Nat, a + d = c → wX_pairs_8 post gd gs (nI c) gt gb gk xm xz xr xo xc xi xw xp (d + 1) (nI (sj_sum a (sj_pa c E))) (nI a) := by
  intro d
  induction d with
  | zero =>
    intro a ha
    have e : a = c := by omega
    subst e
    exact pk_le a a (fun _ => h) (fun z => absurd z (by omega))
  | succ d ih =>
    intro a ha
    refine pk_le c a (fun z => absurd z (by omega)) (fun _ => ⟨pk_in a 20 (by omega), ?_⟩)
    rw [nI_clamp (by omega), nI_1]
    apply sj_ones
    rw [sj_pa_ones hc (by omega) (hw a (by omega))]
    exact nm_r (nI_add _ _) (nm_e (ih (a + 1) (by omega)))
end
section
variable {yi yl S : Nat → Int32} {c t q : Nat}
theorem sj_ypa_in (hY : sj_YI S c yi) (hc : c ≤ 20) (ht : t ≤ 12) (hq : q ≤ 12) {post : Int32 → Prop} {J : Int32 → Int32 → Prop} {a m : Nat} (ha : a < c) (h : J (nI (m + sj_pa c (fun a b => sj_sim t q (S a) (S b)) a)) (nI (a + 1))) : ∀ d b : Nat, b + d = c → a < b → wY_pairs_22 post J (nI a) (nI c) (nI t) (nI q) yi yl (d + 1) (nI (m + sj_cn b (fun b => decide (a < b) && sj_sim t q (S a) (S b)))) (nI b) := by
  intro d
  induction d with
  | zero =>
    intro b hb hab
    have e : b = c := by omega
    subst e
    exact pk_le b b (fun _ => nm_r (nI_1 a) h) (fun z => absurd z (by omega))
  | succ d ih =>
    intro b hb hab
    have i := ih (b + 1) (by omega) (by omega)
    refine pk_le c b (fun z => absurd z (by omega)) (fun _ => pk_le 20 b (fun z => absurd z (by omega)) (fun _ => ?_))
    refine sj_yal hY hc ht hq (Or.inl ha) (Or.inl (by omega)) ?_
    cases hs : sj_sim t q (S a) (S b) with
    | false =>
      rw [sj_cnF (p := fun b => decide (a < b) && sj_sim t q (S a) (S b)) (by rw [hs, Bool.and_false])] at i
      exact br_t rfl (nm_r (nI_1 b) i)
    | true =>
      rw [sj_cnT (p := fun b => decide (a < b) && sj_sim t q (S a) (S b)) (by rw [hs, decide_eq_true hab]; rfl)] at i
      exact br_f sj_bIt (nm_r (nI_1 _) (nm_r (nI_1 b) i))
theorem sj_ypa (hY : sj_YI S c yi) (hc : c ≤ 20) (ht : t ≤ 12) (hq : q ≤ 12) {post : Int32 → Prop} (h : post (nI (sj_sum c (sj_pa c (fun a b => sj_sim t q (S a) (S b)))))) : ∀ d a : Nat, a + d = c → wY_pairs_4 post (nI c) (nI t) (nI q) yi yl (d + 1) (nI (sj_sum a (sj_pa c (fun a b => sj_sim t q (S a) (S b))))) (nI a) := by
  intro d
  induction d with
  | zero =>
    intro a ha
    have e : a = c := by omega
    subst e
    exact pk_le a a (fun _ => h) (fun z => absurd z (by omega))
  | succ d ih =>
    intro a ha
    have i := ih (a + 1) (by omega)
    have z0 : sj_cn (a + 1) (fun b => decide (a < b) && sj_sim t q (S a) (S b)) = 0 := sj_cn_none (fun i hi => by rw [decide_eq_false (by omega), Bool.false_and])
    have w := sj_ypa_in (post := post) (m := sj_sum a (sj_pa c (fun a b => sj_sim t q (S a) (S b)))) (yl := yl) hY hc ht hq (by omega) i (c - (a + 1)) (a + 1) (by omega) (by omega)
    rw [z0, Nat.add_zero] at w
    exact pk_le c a (fun z => absurd z (by omega)) (fun _ => pk_le 20 a (fun z => absurd z (by omega)) (fun _ => nm_r (nI_1 a) ⟨_, w⟩))
end
theorem sj_sum_congr {n : Nat} {f g : Nat → Nat} (h : ∀ i, i < n → f i = g i) : sj_sum n f = sj_sum n g := by
  induction n with
  | zero => rfl
  | succ n ih =>
    show sj_sum n f + f n = sj_sum n g + g n
    rw [ih (fun i hi => h i (by omega)), h n (by omega)]
theorem sj_pairs_S {c t q : Nat} {gd : Int32} {xm : Nat → Int32} (hc : c ≤ 20) : sj_sum c (sj_pa c (fun a b => sj_sim t q (sj_S gd xm a) (sj_S gd xm b))) = sj_sum c (sj_pa c (fun a b => sj_sim t q (xm a) (xm b))) := by
  apply sj_sum_congr
  intro a ha
  apply sj_cn_congr
  intro b hb
  try dsimp only
  rw [sj_Slt (by omega), sj_Slt (by omega)]
theorem i_vc_pairs {k : Nat} {u : SX} {v : SY} (I : i_Rel k u v) (hk : k + 3 ≤ 1536) : wpX_pairs (fun r u' => wpY_pairs (fun r' => r' = r ∧ i_Rel (k + 3) u' v) v) u := by
  refine sj_el (P := fun u v => wpX_pairs (fun r u' => wpY_pairs (fun r' => r' = r ∧ i_Rel (k + 3) u' v) v) u) I ?_
  intro c t q gd gs gk xm xz xr xo xc xi xw xp yi yl C K
  unfold wpX_pairs
  try dsimp only
  have hc := C.1.1
  have ht12 : t ≤ 12 := Nat.le_trans C.1.2.2.1 C.1.2.2.2
  have hq12 := C.1.2.2.2
  have hY := C.2.2.2
  refine sj_cref C K ?_
  intro ck ur uo uc ui uw up H
  refine Exists.intro (c + 1) (sj_xpa (E := fun a b => sj_sim t q (xm a) (xm b)) hc H.2.2.1 ?_ c 0 (by omega))
  unfold wpY_pairs
  try dsimp only
  refine ⟨c + 1, sj_ypa hY hc (by omega) (by omega) ?_ c 0 (by omega)⟩
  rw [sj_pairs_S hc]
  exact ⟨rfl, sj_in C (Or.inr H)⟩
section
variable {yi yl S : Nat → Int32} {c t q : Nat}
theorem sj_yde (hY : sj_YI S c yi) (hc : c ≤ 20) (ht : t ≤ 12) (hq : q ≤ 12) {post : Int32 → Prop} {w : Nat} (hw : w < c) (h : post (nI (sj_cn c (fun s => !(decide (s = w)) && sj_sim t q (S s) (S w))))) : ∀ d s : Nat, s + d = c → wY_degree_14 post (nI w) (nI c) (nI t) (nI q) yi yl (d + 1) (nI (sj_cn s (fun s => !(decide (s = w)) && sj_sim t q (S s) (S w)))) (nI s) := by
  intro d
  induction d with
  | zero =>
    intro s hs
    have e : s = c := by omega
    subst e
    exact pk_le s s (fun _ => h) (fun z => absurd z (by omega))
  | succ d ih =>
    intro s hs
    have i := ih (s + 1) (by omega)
    refine pk_le c s (fun z => absurd z (by omega)) (fun _ => pk_le 20 s (fun z => absurd z (by omega)) (fun _ => pk_eq s w (fun z => ?_) (fun z => ?_)))
    · rw [sj_cnF (p := fun s => !(decide (s = w)) && sj_sim t q (S s) (S w)) (by rw [decide_eq_true z]; rfl)] at i
      exact nm_r (nI_1 s) i
    · refine sj_yal hY hc ht hq (Or.inl (by omega)) (Or.inl hw) ?_
      cases he : sj_sim t q (S s) (S w) with
      | false =>
        rw [sj_cnF (p := fun s => !(decide (s = w)) && sj_sim t q (S s) (S w)) (by rw [he, Bool.and_false])] at i
        exact br_t rfl (nm_r (nI_1 s) i)
      | true =>
        rw [sj_cnT (p := fun s => !(decide (s = w)) && sj_sim t q (S s) (S w)) (by rw [he, decide_eq_false z]; rfl)] at i
        exact br_f sj_bIt (nm_r (nI_1 _) (nm_r (nI_1 s) i))
end
theorem i_vc_degree {k : Nat} {u : SX} {v : SY} (I : i_Rel k u v) (hk : k + 3 ≤ 1536) (v1 : Int32) : wpX_degree (fun r u' => wpY_degree (fun r' => r' = r ∧ i_Rel (k + 3) u' v) v v1) u v1 := by
  refine sj_el (P := fun u v => wpX_degree (fun r u' => wpY_degree (fun r' => r' = r ∧ i_Rel (k + 3) u' v) v v1) u v1) I ?_
  intro c t q gd gs gk xm xz xr xo xc xi xw xp yi yl C K
  unfold wpX_degree
  try dsimp only
  have hc := C.1.1
  have ht12 : t ≤ 12 := Nat.le_trans C.1.2.2.1 C.1.2.2.2
  have hq12 := C.1.2.2.2
  have hY := C.2.2.2
  rcases sj_ix2 v1 (n := c) (by omega) with h | ⟨w, hw, rfl⟩
  · refine sj_xrec_bad h (br_t rfl ?_)
    unfold wpY_degree
    try dsimp only
    exact sj_yrec_bad h (br_f (by decide) ⟨rfl, sj_in C K⟩)
  · refine sj_xrec hc hw (br_f (by decide) (sj_cref C K ?_))
    intro ck ur uo uc ui uw up H
    refine And.intro (pk_in w 20 (by omega)) ?_
    try dsimp only
    rw [nI_clamp (by omega)]
    apply sj_ones
    have e : sj_cn 32 (bt (uw w)) = sj_cn c (fun s => !(decide (s = w)) && sj_sim t q (sj_S gd xm s) (sj_S gd xm w)) + 1 := by
      rw [sj_cn_congr (n := 32) (H.2.2.1 w hw), sj_cn_cut (fun b => sj_sim t q (xm w) (xm b)) (by omega), sj_cn_rem hw (sj_sim_self C.1.2.2.1 (xm w))]
      congr 1
      apply sj_cn_congr
      intro i hi
      try dsimp only
      rw [sj_Slt (by omega), sj_Slt (by omega), sj_sim_comm, Bool.and_comm]
    rw [e, nI_pred]
    unfold wpY_degree
    try dsimp only
    refine sj_yrec hc hw (br_t rfl ⟨c + 1, sj_yde hY hc (by omega) (by omega) hw ?_ c 0 (by omega)⟩)
    exact ⟨rfl, sj_in C (Or.inr H)⟩
end
section
/-! methods that scan: partner, nearest, matches, match, containing -/
theorem sj_subn (p : Int32) (n : Nat) : p - nI n + (-1) = p - nI (n + 1) := by
  rw [← nI_1]
  grind
theorem sj_sub0 (p : Int32) (n : Nat) : p - nI n = 0 ↔ nI n = p := by
  constructor <;> intro h <;> grind
section
variable {gd gs gt gb gk : Int32} {xm xz xr xo xc xi xw xp : Nat → Int32} {yi yl : Nat → Int32} {c t q : Nat}
theorem sj_part (hY : sj_YI (sj_S gd xm) c yi) (hc : c ≤ 20) (ht : t ≤ 12) (hq : q ≤ 12) {w : Nat} (hw : w < c) (hW : ∀ b, b < 32 → bt (xw w) b = (decide (b < c) && sj_sim t q (xm w) (xm b))) (p : Int32) : ∀ d b n : Nat, b + d = c → ∃ r : Int32, (∀ post : Int32 → SX → Prop, post r (gd, gs, nI c, gt, gb, gk, xm, xz, xr, xo, xc, xi, xw, xp) → wX_partner_19 post (nI w) gd gs (nI c) gt gb gk xm xz xr xo xc xi xw xp (d + 1) (p - nI n) (nI b)) ∧ (∀ post : Int32 → Prop, post r → wY_partner_15 post (nI w) p (nI c) (nI t) (nI q) yi yl (d + 1) (nI n) (nI b)) := by
  intro d
  induction d with
  | zero =>
    intro b n hb
    have e : b = c := by omega
    subst e
    exact ⟨-2, fun post h => pk_le b b (fun _ => h) (fun z => absurd z (by omega)), fun post h => pk_le b b (fun _ => h) (fun z => absurd z (by omega))⟩
  | succ d ih =>
    intro b n hb
    have hbc : b < c := by omega
    have eb : ((xw (nI w).toNatClampNeg >>> (nI b &&& 31)) &&& 1 = 1) ↔ sj_sim t q (xm w) (xm b) = true := by
      rw [nI_clamp (by omega), sj_bit1 _ (by omega), hW b (by omega), decide_eq_true hbc, Bool.true_and]
    have eS : sj_sim t q (sj_S gd xm b) (sj_S gd xm w) = sj_sim t q (xm w) (xm b) := by
      rw [sj_Slt (by omega), sj_Slt (by omega), sj_sim_comm]
    obtain ⟨r0, hX0, hY0⟩ := ih (b + 1) n (by omega)
    by_cases ew : b = w
    · refine ⟨r0, fun post h => ?_, fun post h => ?_⟩
      · exact pk_le c b (fun z => absurd z (by omega)) (fun _ => pk_eq b w (fun _ => nm_r (nI_1 b) (hX0 post h)) (fun z => absurd ew z))
      · exact pk_le c b (fun z => absurd z (by omega)) (fun _ => pk_le 20 b (fun z => absurd z (by omega)) (fun _ => pk_eq b w (fun _ => nm_r (nI_1 b) (hY0 post h)) (fun z => absurd ew z)))
    · cases hs : sj_sim t q (xm w) (xm b) with
      | false =>
        rw [hs] at eS eb
        refine ⟨r0, fun post h => ?_, fun post h => ?_⟩
        · exact pk_le c b (fun z => absurd z (by omega)) (fun _ => pk_eq b w (fun z => absurd z ew) (fun _ => ⟨pk_in w 20 (by omega), br_f (fun z => Bool.noConfusion (eb.mp z)) (nm_r (nI_1 b) (hX0 post h))⟩))
        · refine pk_le c b (fun z => absurd z (by omega)) (fun _ => pk_le 20 b (fun z => absurd z (by omega)) (fun _ => pk_eq b w (fun z => absurd z ew) (fun _ => ?_)))
          refine sj_yal hY hc ht hq (Or.inl hbc) (Or.inl hw) ?_
          rw [eS]
          exact br_t rfl (nm_r (nI_1 b) (hY0 post h))
      | true =>
        rw [hs] at eS eb
        by_cases en : nI n = p
        · refine ⟨nI b, fun post h => ?_, fun post h => ?_⟩
          · exact pk_le c b (fun z => absurd z (by omega)) (fun _ => pk_eq b w (fun z => absurd z ew) (fun _ => ⟨pk_in w 20 (by omega), br_t (eb.mpr rfl) (br_t ((sj_sub0 p n).mpr en) h)⟩))
          · refine pk_le c b (fun z => absurd z (by omega)) (fun _ => pk_le 20 b (fun z => absurd z (by omega)) (fun _ => pk_eq b w (fun z => absurd z ew) (fun _ => ?_)))
            refine sj_yal hY hc ht hq (Or.inl hbc) (Or.inl hw) ?_
            rw [eS]
            exact br_f sj_bIt (br_t en h)
        · obtain ⟨r1, hX1, hY1⟩ := ih (b + 1) (n + 1) (by omega)
          refine ⟨r1, fun post h => ?_, fun post h => ?_⟩
          · exact pk_le c b (fun z => absurd z (by omega)) (fun _ => pk_eq b w (fun z => absurd z ew) (fun _ => ⟨pk_in w 20 (by omega), br_t (eb.mpr rfl) (br_f (fun z => en ((sj_sub0 p n).mp z)) (nm_r (sj_subn p n) (nm_r (nI_1 b) (hX1 post h))))⟩))
          · refine pk_le c b (fun z => absurd z (by omega)) (fun _ => pk_le 20 b (fun z => absurd z (by omega)) (fun _ => pk_eq b w (fun z => absurd z ew) (fun _ => ?_)))
            refine sj_yal hY hc ht hq (Or.inl hbc) (Or.inl hw) ?_
            rw [eS]
            exact br_f sj_bIt (br_f en (nm_r (nI_1 n) (nm_r (nI_1 b) (hY1 post h))))
theorem sj_near_l (hY : sj_YI (sj_S gd xm) c yi) (hc : c ≤ 20) {yt yu : Int32} (hZ : ∀ s, s < c → sj_ok (xm s) ∧ xz s = nI (sj_pc (xm s)) ∧ 1 ≤ sj_pc (xm s) ∧ sj_pc (xm s) ≤ 12) {w : Nat} (hw : w < c) : ∀ (d b : Nat) (x2 x3 x4 : Int32), b + d = c → ∃ r : Int32, (∀ post : Int32 → Prop, post r → wX_nearest_21 post (nI w) gd gs (nI c) gt gb gk xm xz xr xo xc xi xw xp (d + 1) x2 x3 x4 (nI b)) ∧ (∀ post : Int32 → Prop, post r → wY_nearest_21 post (nI w) (nI c) yt yu yi yl (d + 1) x2 x3 x4 (nI b)) := by
  intro d
  induction d with
  | zero =>
    intro b x2 x3 x4 hb
    have e : b = c := by omega
    subst e
    exact ⟨x2, fun post h => pk_le b b (fun _ => h) (fun z => absurd z (by omega)), fun post h => pk_le b b (fun _ => h) (fun z => absurd z (by omega))⟩
  | succ d ih =>
    intro b x2 x3 x4 hb
    have hbc : b < c := by omega
    obtain ⟨r0, hX0, hY0⟩ := ih (b + 1) x2 x3 x4 (by omega)
    by_cases ew : b = w
    · refine ⟨r0, fun post h => ?_, fun post h => ?_⟩
      · exact pk_le c b (fun z => absurd z (by omega)) (fun _ => pk_eq b w (fun _ => nm_r (nI_1 b) (hX0 post h)) (fun z => absurd ew z))
      · exact pk_le c b (fun z => absurd z (by omega)) (fun _ => pk_le 20 b (fun z => absurd z (by omega)) (fun _ => pk_eq b w (fun _ => nm_r (nI_1 b) (hY0 post h)) (fun z => absurd ew z)))
    · obtain ⟨r1, hX1, hY1⟩ := ih (b + 1) (nI b) (nI (sj_both (xm w) (xm b))) (nI (sj_eith (xm w) (xm b))) (by omega)
      have ie := sj_ie (xm w) (xm b)
      have ez : xz (nI w).toNatClampNeg + xz (nI b).toNatClampNeg - nI (sj_both (xm w) (xm b)) = nI (sj_eith (xm w) (xm b)) := by
        rw [nI_clamp (n := w) (by omega), nI_clamp (n := b) (by omega), (hZ w hw).2.1, (hZ b hbc).2.1, nI_add, pk_sub (by omega), ← ie, Nat.add_sub_cancel]
      have s1 : sj_both (sj_S gd xm b) (sj_S gd xm w) = sj_both (xm w) (xm b) := by
        rw [sj_Slt (by omega), sj_Slt (by omega), sj_both_comm]
      have s2 : sj_eith (sj_S gd xm b) (sj_S gd xm w) = sj_eith (xm w) (xm b) := by
        rw [sj_Slt (by omega), sj_Slt (by omega), sj_eith_comm]
      have X : ∀ post : Int32 → Prop, ((x2 < 0 → wX_nearest_90 post (wX_nearest_21 post (nI w) gd gs (nI c) gt gb gk xm xz xr xo xc xi xw xp (d + 1)) (nI w) (nI b) (nI (sj_both (xm w) (xm b))) (nI (sj_eith (xm w) (xm b))) gd gs (nI c) gt gb gk xm xz xr xo xc xi xw xp) ∧ (¬ x2 < 0 → ((nI (sj_both (xm w) (xm b)) * x4 ≤ x3 * nI (sj_eith (xm w) (xm b)) → (∀ y : Int32, y = nI b + 1 → wX_nearest_21 post (nI w) gd gs (nI c) gt gb gk xm xz xr xo xc xi xw xp (d + 1) x2 x3 x4 y)) ∧ (¬ nI (sj_both (xm w) (xm b)) * x4 ≤ x3 * nI (sj_eith (xm w) (xm b)) → wX_nearest_90 post (wX_nearest_21 post (nI w) gd gs (nI c) gt gb gk xm xz xr xo xc xi xw xp (d + 1)) (nI w) (nI b) (nI (sj_both (xm w) (xm b))) (nI (sj_eith (xm w) (xm b))) gd gs (nI c) gt gb gk xm xz xr xo xc xi xw xp)))) → wX_nearest_21 post (nI w) gd gs (nI c) gt gb gk xm xz xr xo xc xi xw xp (d + 1 + 1) x2 x3 x4 (nI b) := by
        intro post h
        refine pk_le c b (fun z => absurd z (by omega)) (fun _ => pk_eq b w (fun z => absurd z ew) (fun _ => ⟨pk_in w 20 (by omega), pk_in b 20 (by omega), ?_⟩))
        have em : xm (nI w).toNatClampNeg &&& xm (nI b).toNatClampNeg = xm w &&& xm b := by
          rw [nI_clamp (n := w) (by omega), nI_clamp (n := b) (by omega)]
        rw [em]
        exact sj_xand (hZ w hw).1 ⟨pk_in w 20 (by omega), pk_in b 20 (by omega), nm_r ez h⟩
      have Y : ∀ post : Int32 → Prop, ((x2 < 0 → wY_nearest_77 post (wY_nearest_21 post (nI w) (nI c) yt yu yi yl (d + 1)) (nI w) (nI b) (nI (sj_both (xm w) (xm b))) (nI (sj_eith (xm w) (xm b))) (nI c) yt yu yi yl) ∧ (¬ x2 < 0 → ((nI (sj_both (xm w) (xm b)) * x4 ≤ x3 * nI (sj_eith (xm w) (xm b)) → (∀ y : Int32, y = nI b + 1 → wY_nearest_21 post (nI w) (nI c) yt yu yi yl (d + 1) x2 x3 x4 y)) ∧ (¬ nI (sj_both (xm w) (xm b)) * x4 ≤ x3 * nI (sj_eith (xm w) (xm b)) → wY_nearest_77 post (wY_nearest_21 post (nI w) (nI c) yt yu yi yl (d + 1)) (nI w) (nI b) (nI (sj_both (xm w) (xm b))) (nI (sj_eith (xm w) (xm b))) (nI c) yt yu yi yl)))) → wY_nearest_21 post (nI w) (nI c) yt yu yi yl (d + 1 + 1) x2 x3 x4 (nI b) := by
        intro post h
        refine pk_le c b (fun z => absurd z (by omega)) (fun _ => pk_le 20 b (fun z => absurd z (by omega)) (fun _ => pk_eq b w (fun z => absurd z ew) (fun _ => ?_)))
        refine sj_ybo hY hc (Or.inl hbc) (Or.inl hw) (sj_yei hY hc (Or.inl hbc) (Or.inl hw) ?_)
        rw [s1, s2]
        exact h
      by_cases h2 : x2 < 0
      · exact ⟨r1, fun post h => X post (br_t h2 (nm_r (nI_1 b) (hX1 post h))), fun post h => Y post (br_t h2 (nm_r (nI_1 b) (hY1 post h)))⟩
      · by_cases h3 : nI (sj_both (xm w) (xm b)) * x4 ≤ x3 * nI (sj_eith (xm w) (xm b))
        · exact ⟨r0, fun post h => X post (br_f h2 (br_t h3 (nm_r (nI_1 b) (hX0 post h)))), fun post h => Y post (br_f h2 (br_t h3 (nm_r (nI_1 b) (hY0 post h))))⟩
        · exact ⟨r1, fun post h => X post (br_f h2 (br_f h3 (nm_r (nI_1 b) (hX1 post h)))), fun post h => Y post (br_f h2 (br_f h3 (nm_r (nI_1 b) (hY1 post h))))⟩
theorem sj_mt (hY : sj_YI (sj_S gd xm) c yi) (hc : c ≤ 20) (ht : t ≤ 12) (hq : q ≤ 12) {f : Int32} (hf : ∀ b, b < 32 → bt f b = (decide (b < c) && sj_sim t q gd (xm b))) : ∀ d b : Nat, b + d = c → ∃ r : Int32, (∀ post : Int32 → SX → Prop, post r (gd, gs, nI c, gt, gb, gk, xm, xz, xr, xo, xc, xi, xw, xp) → wX_match_19 post f gd gs (nI c) gt gb gk xm xz xr xo xc xi xw xp (d + 1) (nI b)) ∧ (∀ post : Int32 → Prop, post r → wY_match_14 post (nI c) (nI t) (nI q) yi yl (d + 1) (nI b)) := by
  intro d
  induction d with
  | zero =>
    intro b hb
    have e : b = c := by omega
    subst e
    exact ⟨-2, fun post h => pk_le b b (fun _ => h) (fun z => absurd z (by omega)), fun post h => pk_le b b (fun _ => h) (fun z => absurd z (by omega))⟩
  | succ d ih =>
    intro b hb
    have hbc : b < c := by omega
    have eb : ((f >>> (nI b &&& 31)) &&& 1 = 1) ↔ sj_sim t q gd (xm b) = true := by
      rw [sj_bit1 _ (by omega), hf b (by omega), decide_eq_true hbc, Bool.true_and]
    have eS : sj_sim t q (sj_S gd xm b) (sj_S gd xm 20) = sj_sim t q gd (xm b) := by
      rw [sj_Slt (by omega), sj_S20, sj_sim_comm]
    obtain ⟨r0, hX0, hY0⟩ := ih (b + 1) (by omega)
    cases hs : sj_sim t q gd (xm b) with
    | false =>
      rw [hs] at eS eb
      refine ⟨r0, fun post h => ?_, fun post h => ?_⟩
      · exact pk_le c b (fun z => absurd z (by omega)) (fun _ => br_f (fun z => Bool.noConfusion (eb.mp z)) (nm_r (nI_1 b) (hX0 post h)))
      · refine pk_le c b (fun z => absurd z (by omega)) (fun _ => pk_le 20 b (fun z => absurd z (by omega)) (fun _ => ?_))
        refine sj_yal (b := 20) hY hc ht hq (Or.inl hbc) (Or.inr rfl) ?_
        rw [eS]
        exact br_t rfl (nm_r (nI_1 b) (hY0 post h))
    | true =>
      rw [hs] at eS eb
      refine ⟨nI b, fun post h => ?_, fun post h => ?_⟩
      · exact pk_le c b (fun z => absurd z (by omega)) (fun _ => br_t (eb.mpr rfl) h)
      · refine pk_le c b (fun z => absurd z (by omega)) (fun _ => pk_le 20 b (fun z => absurd z (by omega)) (fun _ => ?_))
        refine sj_yal (b := 20) hY hc ht hq (Or.inl hbc) (Or.inr rfl) ?_
        rw [eS]
        exact br_f sj_bIt h
theorem sj_yma {S : Nat → Int32} (hY : sj_YI S c yi) (hc : c ≤ 20) (ht : t ≤ 12) (hq : q ≤ 12) {post : Int32 → Prop} (h : post (nI (sj_cn c (fun s => sj_sim t q (S s) (S 20))))) : ∀ d s : Nat, s + d = c → wY_matches_4 post (nI c) (nI t) (nI q) yi yl (d + 1) (nI (sj_cn s (fun s => sj_sim t q (S s) (S 20)))) (nI s) := by
  intro d
  induction d with
  | zero =>
    intro s hs
    have e : s = c := by omega
    subst e
    exact pk_le s s (fun _ => h) (fun z => absurd z (by omega))
  | succ d ih =>
    intro s hs
    have i := ih (s + 1) (by omega)
    refine pk_le c s (fun z => absurd z (by omega)) (fun _ => pk_le 20 s (fun z => absurd z (by omega)) (fun _ => ?_))
    refine sj_yal (b := 20) hY hc ht hq (Or.inl (by omega)) (Or.inr rfl) ?_
    cases he : sj_sim t q (S s) (S 20) with
    | false =>
      rw [sj_cnF (p := fun s => sj_sim t q (S s) (S 20)) he] at i
      exact br_t rfl (nm_r (nI_1 s) i)
    | true =>
      rw [sj_cnT (p := fun s => sj_sim t q (S s) (S 20)) he] at i
      exact br_f sj_bIt (nm_r (nI_1 _) (nm_r (nI_1 s) i))
theorem sj_xpd (C : sj_Core c t q gd gs xm xz yi) (K : gk = 0 ∨ sj_Cache c t q xm xz xr xo xc xi xw xp) {post : Int32 → SX → Prop} (h : ∀ (f ck : Int32) (ur uo uc ui uw up : Nat → Int32), (∀ b, b < 32 → bt f b = (decide (b < c) && sj_sim t q gd (xm b))) → sj_Cache c t q xm xz ur uo uc ui uw up → post f (gd, gs, nI c, nI t, nI q, ck, xm, xz, ur, uo, uc, ui, uw, up)) : wpX_probeDraft post (gd, gs, nI c, nI t, nI q, gk, xm, xz, xr, xo, xc, xi, xw, xp) := by
  unfold wpX_probeDraft
  try dsimp only
  refine sj_cref C K ?_
  intro ck ur uo uc ui uw up H
  obtain ⟨rk, tk, hp, ho, hP⟩ := H.2.1
  have hc := C.1.1
  refine sj_xspell (l := 20) hp ho (by omega) C.2.1.2.2 ?_
  intro us g1 g2
  have hP2 : sj_PH t q c tk xm xz us ui := ⟨hP.1, fun r hr => sj_line_fr (hP.1 r hr).2.2 (hP.2.1 r hr) (fun i hi => g2 _ (by omega)), hP.2.2⟩
  try dsimp only
  rw [C.2.1.2.1]
  refine sj_xprobe (l := 20) hp C.1.2.1 C.1.2.2.1 C.1.2.2.2 hc hP2 (by omega) g1 C.2.1.2.2 ?_
  intro f hf
  have w := h f ck us uo uc ui uw up hf ⟨H.1, ⟨rk, tk, hp, ho, hP2⟩, H.2.2⟩
  rw [C.2.1.2.1] at w
  exact w
end
theorem i_vc_partner {k : Nat} {u : SX} {v : SY} (I : i_Rel k u v) (hk : k + 3 ≤ 1536) (v1 : Int32) (v2 : Int32) : wpX_partner (fun r u' => wpY_partner (fun r' => r' = r ∧ i_Rel (k + 3) u' v) v v1 v2) u v1 v2 := by
  refine sj_el (P := fun u v => wpX_partner (fun r u' => wpY_partner (fun r' => r' = r ∧ i_Rel (k + 3) u' v) v v1 v2) u v1 v2) I ?_
  intro c t q gd gs gk xm xz xr xo xc xi xw xp yi yl C K
  unfold wpX_partner
  try dsimp only
  have hc := C.1.1
  have ht12 : t ≤ 12 := Nat.le_trans C.1.2.2.1 C.1.2.2.2
  have hq12 := C.1.2.2.2
  have hY := C.2.2.2
  rcases sj_ix2 v1 (n := c) (by omega) with h | ⟨w, hw, rfl⟩
  · refine sj_xrec_bad h (br_t rfl ?_)
    unfold wpY_partner
    try dsimp only
    exact sj_yrec_bad h (br_f (by decide) ⟨rfl, sj_in C K⟩)
  · refine sj_xrec hc hw (br_f (by decide) (sj_cref C K ?_))
    intro ck ur uo uc ui uw up H
    obtain ⟨r, hX, hYr⟩ := sj_part (gs := gs) (gt := nI t) (gb := nI q) (gk := ck) (xz := xz) (xr := ur) (xo := uo) (xc := uc) (xi := ui) (xw := uw) (xp := up) (yl := yl) hY hc ht12 hq12 hw (H.2.2.1 w hw) v2 c 0 0 (by omega)
    rw [nI_0, Int32.sub_zero] at hX
    refine Exists.intro (c + 1) (hX _ ?_)
    unfold wpY_partner
    try dsimp only
    exact sj_yrec hc hw (br_t rfl ⟨c + 1, hYr _ ⟨rfl, sj_in C (Or.inr H)⟩⟩)
theorem i_vc_nearest {k : Nat} {u : SX} {v : SY} (I : i_Rel k u v) (hk : k + 3 ≤ 1536) (v1 : Int32) : wpX_nearest (fun r => wpY_nearest (fun r' => r' = r ∧ i_Rel (k + 3) u v) v v1) u v1 := by
  refine sj_el (P := fun u v => wpX_nearest (fun r => wpY_nearest (fun r' => r' = r ∧ i_Rel (k + 3) u v) v v1) u v1) I ?_
  intro c t q gd gs gk xm xz xr xo xc xi xw xp yi yl C K
  unfold wpX_nearest wpY_nearest
  try dsimp only
  have hc := C.1.1
  have hY := C.2.2.2
  rcases sj_ix2 v1 (n := c) (by omega) with h | ⟨w, hw, rfl⟩
  · exact sj_xrec_bad h (br_t rfl (sj_yrec_bad h (br_f (by decide) ⟨rfl, sj_in C K⟩)))
  · obtain ⟨r, hX, hYr⟩ := sj_near_l (gs := gs) (gt := nI t) (gb := nI q) (gk := gk) (xz := xz) (xr := xr) (xo := xo) (xc := xc) (xi := xi) (xw := xw) (xp := xp) (yl := yl) (yt := nI t) (yu := nI q) hY hc C.2.2.1 hw c 0 (-2) 0 1 (by omega)
    exact sj_xrec hc hw (br_f (by decide) ⟨c + 1, hX _ (sj_yrec hc hw (br_t rfl ⟨c + 1, hYr _ ⟨rfl, sj_in C K⟩⟩))⟩)
theorem i_vc_matches {k : Nat} {u : SX} {v : SY} (I : i_Rel k u v) (hk : k + 3 ≤ 1536) : wpX_matches (fun r u' => wpY_matches (fun r' => r' = r ∧ i_Rel (k + 3) u' v) v) u := by
  refine sj_el (P := fun u v => wpX_matches (fun r u' => wpY_matches (fun r' => r' = r ∧ i_Rel (k + 3) u' v) v) u) I ?_
  intro c t q gd gs gk xm xz xr xo xc xi xw xp yi yl C K
  unfold wpX_matches
  try dsimp only
  have hc := C.1.1
  have ht12 : t ≤ 12 := Nat.le_trans C.1.2.2.1 C.1.2.2.2
  have hq12 := C.1.2.2.2
  have hY := C.2.2.2
  refine sj_xpd C K ?_
  intro f ck ur uo uc ui uw up hf H
  refine sj_ones f ?_
  have e : sj_cn 32 (bt f) = sj_cn c (fun s => sj_sim t q (sj_S gd xm s) (sj_S gd xm 20)) := by
    rw [sj_cn_congr (n := 32) hf, sj_cn_cut (fun b => sj_sim t q gd (xm b)) (by omega)]
    apply sj_cn_congr
    intro i hi
    try dsimp only
    rw [sj_Slt (by omega), sj_S20, sj_sim_comm]
  rw [e]
  unfold wpY_matches
  try dsimp only
  exact ⟨c + 1, sj_yma hY hc ht12 hq12 ⟨rfl, sj_in C (Or.inr H)⟩ c 0 (by omega)⟩
theorem i_vc_match {k : Nat} {u : SX} {v : SY} (I : i_Rel k u v) (hk : k + 3 ≤ 1536) (v1 : Int32) : wpX_match (fun r u' => wpY_match (fun r' => r' = r ∧ i_Rel (k + 3) u' v) v v1) u v1 := by
  refine sj_el (P := fun u v => wpX_match (fun r u' => wpY_match (fun r' => r' = r ∧ i_Rel (k + 3) u' v) v v1) u v1) I ?_
  intro c t q gd gs gk xm xz xr xo xc xi xw xp yi yl C K
  unfold wpX_match
  try dsimp only
  have hc := C.1.1
  have ht12 : t ≤ 12 := Nat.le_trans C.1.2.2.1 C.1.2.2.2
  have hq12 := C.1.2.2.2
  have hY := C.2.2.2
  by_cases h0 : v1 < 0
  · refine br_t h0 ?_
    unfold wpY_match
    try dsimp only
    exact br_t h0 ⟨rfl, sj_in C K⟩
  · refine br_f h0 ?_
    obtain ⟨j, hj, rfl⟩ := nI_of h0
    refine pk_lt j 20 (fun z => ?_) (fun z => ?_)
    · refine sj_xpd C K ?_
      intro f ck ur uo uc ui uw up hf H
      rcases Nat.lt_or_ge c j with hcj | hcj
      · refine Exists.intro (0 + 1) (pk_le c j (fun _ => ?_) (fun w => absurd w (by omega)))
        unfold wpY_match
        try dsimp only
        exact br_f h0 (pk_le j 19 (fun _ => ⟨0 + 1, pk_le c j (fun _ => ⟨rfl, sj_in C (Or.inr H)⟩) (fun w => absurd w (by omega))⟩) (fun w => absurd w (by omega)))
      · obtain ⟨r, hX, hYr⟩ := sj_mt (gs := gs) (gt := nI t) (gb := nI q) (gk := ck) (xz := xz) (xr := ur) (xo := uo) (xc := uc) (xi := ui) (xw := uw) (xp := up) (yl := yl) hY hc ht12 hq12 hf (c - j) j (by omega)
        refine Exists.intro (c - j + 1) (hX _ ?_)
        unfold wpY_match
        try dsimp only
        exact br_f h0 (pk_le j 19 (fun _ => ⟨c - j + 1, hYr _ ⟨rfl, sj_in C (Or.inr H)⟩⟩) (fun w => absurd w (by omega)))
    · unfold wpY_match
      try dsimp only
      exact br_f h0 (pk_le j 19 (fun w => absurd w (by omega)) (fun _ => ⟨rfl, sj_in C K⟩))
theorem sj_sub {A B : Int32} (hA : sj_ok A) : (A &&& (B ^^^ (-1))) = 0 ↔ sj_both B A = sj_pc A := by
  constructor
  · intro h
    apply sj_cn_congr
    intro i hi
    have e : bt (A &&& (B ^^^ (-1))) i = bt 0 i := by rw [h]
    rw [b_and, sj_not B (by omega), b_0] at e
    revert e
    cases bt A i <;> cases bt B i <;> decide
  · intro h
    apply b_ext
    intro i hi
    rw [b_and, sj_not B hi, b_0]
    cases ha : bt A i with
    | false => rfl
    | true =>
      cases hb : bt B i with
      | true => rfl
      | false =>
        exfalso
        have hi30 : i < 30 := by
          rcases Nat.lt_or_ge i 30 with w | w
          · exact w
          · rw [hA i w] at ha; exact Bool.noConfusion ha
        have := sj_cn_slt (n := 30) (x := i) (p := fun x => bt B x && bt A x) (q := bt A) hi30 (fun j _ e => by
          rw [Bool.and_eq_true] at e
          exact e.2) (by rw [hb]; rfl) ha
        unfold sj_both sj_pc at h
        omega
section
variable {gd gs gt gb gk : Int32} {xm xz xr xo xc xi xw xp : Nat → Int32} {yt yu : Int32} {yi yl : Nat → Int32} {c : Nat}
theorem sj_xco (hc : c ≤ 20) (hd : sj_ok gd) {post : Int32 → Prop} (h : post (nI (sj_cn c (fun s => decide (sj_both (xm s) gd = sj_pc gd))))) : ∀ d s : Nat, s + d = c → wX_containing_4 post gd gs (nI c) gt gb gk xm xz xr xo xc xi xw xp (d + 1) (nI (sj_cn s (fun s => decide (sj_both (xm s) gd = sj_pc gd)))) (nI s) := by
  intro d
  induction d with
  | zero =>
    intro s hs
    have e : s = c := by omega
    subst e
    exact pk_le s s (fun _ => h) (fun z => absurd z (by omega))
  | succ d ih =>
    intro s hs
    have i := ih (s + 1) (by omega)
    have ec : xm (nI s).toNatClampNeg = xm s := by rw [nI_clamp (by omega)]
    by_cases e : sj_both (xm s) gd = sj_pc gd
    · rw [sj_cnT (p := fun s => decide (sj_both (xm s) gd = sj_pc gd)) (decide_eq_true e)] at i
      exact pk_le c s (fun z => absurd z (by omega)) (fun _ => ⟨pk_in s 20 (by omega), br_t (by rw [ec]; exact (sj_sub hd).mpr e) (nm_r (nI_1 _) (nm_r (nI_1 s) i))⟩)
    · rw [sj_cnF (p := fun s => decide (sj_both (xm s) gd = sj_pc gd)) (decide_eq_false e)] at i
      exact pk_le c s (fun z => absurd z (by omega)) (fun _ => ⟨pk_in s 20 (by omega), br_f (fun z => by rw [ec] at z; exact e ((sj_sub hd).mp z)) (nm_r (nI_1 s) i)⟩)
theorem sj_yco (hY : sj_YI (sj_S gd xm) c yi) (hc : c ≤ 20) {post : Int32 → Prop} (h : post (nI (sj_cn c (fun s => decide (sj_both (xm s) gd = sj_pc gd))))) : ∀ d s : Nat, s + d = c → wY_containing_11 post (nI (sj_pc gd)) (nI c) yt yu yi yl (d + 1) (nI (sj_cn s (fun s => decide (sj_both (xm s) gd = sj_pc gd)))) (nI s) := by
  intro d
  induction d with
  | zero =>
    intro s hs
    have e : s = c := by omega
    subst e
    exact pk_le s s (fun _ => h) (fun z => absurd z (by omega))
  | succ d ih =>
    intro s hs
    have i := ih (s + 1) (by omega)
    refine pk_le c s (fun z => absurd z (by omega)) (fun _ => pk_le 20 s (fun z => absurd z (by omega)) (fun _ => ?_))
    refine sj_ybo (b := 20) hY hc (Or.inl (by omega)) (Or.inr rfl) ?_
    rw [sj_Slt (by omega), sj_S20]
    have b1 := sj_cn_le 30 (fun x => bt (xm s) x && bt gd x)
    have b2 := sj_pc_le gd
    refine pk_eq (sj_both (xm s) gd) (sj_pc gd) (fun e => ?_) (fun e => ?_) rfl rfl (Nat.lt_of_le_of_lt b1 (by decide)) (by omega)
    · rw [sj_cnT (p := fun s => decide (sj_both (xm s) gd = sj_pc gd)) (decide_eq_true e)] at i
      exact nm_r (nI_1 _) (nm_r (nI_1 s) i)
    · rw [sj_cnF (p := fun s => decide (sj_both (xm s) gd = sj_pc gd)) (decide_eq_false e)] at i
      exact nm_r (nI_1 s) i
end
theorem i_vc_containing {k : Nat} {u : SX} {v : SY} (I : i_Rel k u v) (hk : k + 3 ≤ 1536) : wpX_containing (fun r => wpY_containing (fun r' => r' = r ∧ i_Rel (k + 3) u v) v) u := by
  refine sj_el (P := fun u v => wpX_containing (fun r => wpY_containing (fun r' => r' = r ∧ i_Rel (k + 3) u v) v) u) I ?_
  intro c t q gd gs gk xm xz xr xo xc xi xw xp yi yl C K
  unfold wpX_containing wpY_containing
  try dsimp only
  have hc := C.1.1
  have hY := C.2.2.2
  refine ⟨c + 1, sj_xco hc C.2.1.1 ?_ c 0 (by omega)⟩
  refine sj_ysz (s := 20) hY hc (Or.inr rfl) ?_
  rw [sj_S20]
  exact ⟨c + 1, sj_yco hY hc ⟨rfl, sj_in C K⟩ c 0 (by omega)⟩
end
section
/-! methods on groups: groups, groupOf, groupSize -/
theorem sj_min_cg {c : Nat} {E F : Nat → Nat → Bool} {R : Nat → Nat} (h : sj_Min c E R) (e : ∀ a b, a < c → b < c → E a b = F a b) : sj_Min c F R := by
  refine ⟨fun a ha => ⟨(h.1 a ha).1, fun S hS => (h.1 a ha).2 S (fun x y hx hy w => hS x y hx hy (by rw [← e x y hx hy]; exact w))⟩, fun x y hx hy w => h.2 x y hx hy (by rw [e x y hx hy]; exact w)⟩
theorem sj_min_S {c t q : Nat} {gd : Int32} {xm : Nat → Int32} {R : Nat → Nat} (hc : c ≤ 20) (h : sj_Min c (fun a b => sj_sim t q (xm a) (xm b)) R) : sj_Min c (fun a b => sj_sim t q (sj_S gd xm a) (sj_S gd xm b)) R := sj_min_cg h (fun a b ha hb => by
  try dsimp only
  rw [sj_Slt (by omega), sj_Slt (by omega)])
theorem sj_par_iff {c : Nat} {xp : Nat → Int32} {p R : Nat → Nat} (h : sj_Par c xp p R) {x : Nat} (hx : x < c) : p x = x ↔ R x = x := by
  constructor
  · exact (h x hx).2.2.2
  · intro e
    have := (sj_par_R h (x + 1) x (by omega) hx).2.2
    rw [e] at this
    exact this
section
variable {gd gs gt gb gk : Int32} {xm xz xr xo xc xi xw xp : Nat → Int32} {yt yu : Int32} {yi yl : Nat → Int32} {c : Nat} {p R : Nat → Nat}
theorem sj_xgr (hc : c ≤ 20) (hR : ∀ x, x < c → R x ≤ x) (hP : sj_Par c xp p R) {post : Int32 → SX → Prop} (h : post (nI (sj_cn c (fun s => decide (R s = s)))) (gd, gs, nI c, gt, gb, gk, xm, xz, xr, xo, xc, xi, xw, xp)) : ∀ d s : Nat, s + d = c → wX_groups_8 post gd gs (nI c) gt gb gk xm xz xr xo xc xi xw xp (d + 1) (nI (sj_cn s (fun s => decide (R s = s)))) (nI s) := by
  intro d
  induction d with
  | zero =>
    intro s hs
    have e : s = c := by omega
    subst e
    exact pk_le s s (fun _ => h) (fun z => absurd z (by omega))
  | succ d ih =>
    intro s hs
    have i := ih (s + 1) (by omega)
    have P := hP s (by omega)
    have ec : xp (nI s).toNatClampNeg = nI (p s) := by rw [nI_clamp (by omega)]; exact P.1
    have iff := sj_par_iff hP (x := s) (by omega)
    refine pk_le c s (fun z => absurd z (by omega)) (fun _ => ⟨pk_in s 20 (by omega), pk_eq (p s) s (fun e => ?_) (fun e => ?_) ec⟩)
    · rw [sj_cnT (p := fun s => decide (R s = s)) (decide_eq_true (iff.mp e))] at i
      exact nm_r (nI_1 _) (nm_r (nI_1 s) i)
    · rw [sj_cnF (p := fun s => decide (R s = s)) (decide_eq_false (fun z => e (iff.mpr z)))] at i
      exact nm_r (nI_1 s) i
theorem sj_ygr (hc : c ≤ 20) (hR : ∀ x, x < c → R x ≤ x) (hl : ∀ x, x < c → yl x = nI (R x)) {post : Int32 → SY → Prop} (h : post (nI (sj_cn c (fun s => decide (R s = s)))) (nI c, yt, yu, yi, yl)) : ∀ d s : Nat, s + d = c → wY_groups_8 post (nI c) yt yu yi yl (d + 1) (nI (sj_cn s (fun s => decide (R s = s)))) (nI s) := by
  intro d
  induction d with
  | zero =>
    intro s hs
    have e : s = c := by omega
    subst e
    exact pk_le s s (fun _ => h) (fun z => absurd z (by omega))
  | succ d ih =>
    intro s hs
    have i := ih (s + 1) (by omega)
    have b := hR s (by omega)
    have ec : yl (nI s).toNatClampNeg = nI (R s) := by rw [nI_clamp (by omega)]; exact hl s (by omega)
    refine pk_le c s (fun z => absurd z (by omega)) (fun _ => pk_le 20 s (fun z => absurd z (by omega)) (fun _ => ⟨pk_in s 20 (by omega), pk_eq (R s) s (fun e => ?_) (fun e => ?_) ec⟩))
    · rw [sj_cnT (p := fun s => decide (R s = s)) (decide_eq_true e)] at i
      exact nm_r (nI_1 _) (nm_r (nI_1 s) i)
    · rw [sj_cnF (p := fun s => decide (R s = s)) (decide_eq_false e)] at i
      exact nm_r (nI_1 s) i
theorem sj_ygs (hc : c ≤ 20) (hR : ∀ x, x < c → R x ≤ x) (hl : ∀ x, x < c → yl x = nI (R x)) {w : Nat} (hw : w < c) {post : Int32 → SY → Prop} (h : post (nI (sj_cn c (fun s => decide (R s = R w)))) (nI c, yt, yu, yi, yl)) : ∀ d s : Nat, s + d = c → wY_groupSize_18 post (nI w) (nI c) yt yu yi yl (d + 1) (nI (sj_cn s (fun s => decide (R s = R w)))) (nI s) := by
  intro d
  induction d with
  | zero =>
    intro s hs
    have e : s = c := by omega
    subst e
    exact pk_le s s (fun _ => h) (fun z => absurd z (by omega))
  | succ d ih =>
    intro s hs
    have i := ih (s + 1) (by omega)
    have b := hR s (by omega)
    have bw := hR w hw
    have ec : yl (nI s).toNatClampNeg = nI (R s) := by rw [nI_clamp (by omega)]; exact hl s (by omega)
    have ew : yl (nI w).toNatClampNeg = nI (R w) := by rw [nI_clamp (by omega)]; exact hl w hw
    refine pk_le c s (fun z => absurd z (by omega)) (fun _ => pk_le 20 s (fun z => absurd z (by omega)) (fun _ => ⟨pk_in s 20 (by omega), pk_in w 20 (by omega), pk_eq (R s) (R w) (fun e => ?_) (fun e => ?_) ec ew⟩))
    · rw [sj_cnT (p := fun s => decide (R s = R w)) (decide_eq_true e)] at i
      exact nm_r (nI_1 _) (nm_r (nI_1 s) i)
    · rw [sj_cnF (p := fun s => decide (R s = R w)) (decide_eq_false e)] at i
      exact nm_r (nI_1 s) i
theorem sj_xgs (hc : c ≤ 20) (hR : ∀ x, x < c → R x ≤ x) {w : Nat} (hw : w < c) {post : Int32 → SX → Prop} (h : ∀ (p : Nat → Nat) (xp : Nat → Int32), sj_Par c xp p R → post (nI (sj_cn c (fun s => decide (R s = R w)))) (gd, gs, nI c, gt, gb, gk, xm, xz, xr, xo, xc, xi, xw, xp)) : ∀ (d s : Nat) (p : Nat → Nat) (xp : Nat → Int32), s + d = c → sj_Par c xp p R → wX_groupSize_25 post (nI (R w)) (d + 1) (nI (sj_cn s (fun s => decide (R s = R w)))) (nI s) gd gs (nI c) gt gb gk xm xz xr xo xc xi xw xp := by
  intro d
  induction d with
  | zero =>
    intro s p xp hs hP
    have e : s = c := by omega
    subst e
    exact pk_le s s (fun _ => h p xp hP) (fun z => absurd z (by omega))
  | succ d ih =>
    intro s p xp hs hP
    have b := hR s (by omega)
    have bw := hR w hw
    refine pk_le c s (fun z => absurd z (by omega)) (fun _ => ?_)
    refine sj_xroot hc (by omega) hP ?_
    intro p1 xp1 hP1
    have i := ih (s + 1) p1 xp1 (by omega) hP1
    refine pk_eq (R s) (R w) (fun e => ?_) (fun e => ?_)
    · rw [sj_cnT (p := fun s => decide (R s = R w)) (decide_eq_true e)] at i
      exact nm_r (nI_1 _) (nm_r (nI_1 s) i)
    · rw [sj_cnF (p := fun s => decide (R s = R w)) (decide_eq_false e)] at i
      exact nm_r (nI_1 s) i
end
theorem i_vc_groups {k : Nat} {u : SX} {v : SY} (I : i_Rel k u v) (hk : k + 3 ≤ 1536) : wpX_groups (fun r u' => wpY_groups (fun r' v' => r' = r ∧ i_Rel (k + 3) u' v') v) u := by
  refine sj_el (P := fun u v => wpX_groups (fun r u' => wpY_groups (fun r' v' => r' = r ∧ i_Rel (k + 3) u' v') v) u) I ?_
  intro c t q gd gs gk xm xz xr xo xc xi xw xp yi yl C K
  unfold wpX_groups
  try dsimp only
  have hc := C.1.1
  have ht12 : t ≤ 12 := Nat.le_trans C.1.2.2.1 C.1.2.2.2
  have hq12 := C.1.2.2.2
  have hY := C.2.2.2
  refine sj_cref C K ?_
  intro ck ur uo uc ui uw up H
  obtain ⟨p, R, hP, hM⟩ := H.2.2.2
  refine Exists.intro (c + 1) (sj_xgr hc (fun x hx => (hM.1 x hx).1) hP ?_ c 0 (by omega))
  unfold wpY_groups
  try dsimp only
  refine sj_yjo hY hc ht12 hq12 (sj_min_S hc hM) ?_
  intro yk hl
  exact Exists.intro (c + 1) (sj_ygr hc (fun x hx => (hM.1 x hx).1) hl ⟨rfl, sj_in C (Or.inr H)⟩ c 0 (by omega))
theorem i_vc_groupOf {k : Nat} {u : SX} {v : SY} (I : i_Rel k u v) (hk : k + 3 ≤ 1536) (v1 : Int32) : wpX_groupOf (fun r u' => wpY_groupOf (fun r' v' => r' = r ∧ i_Rel (k + 3) u' v') v v1) u v1 := by
  refine sj_el (P := fun u v => wpX_groupOf (fun r u' => wpY_groupOf (fun r' v' => r' = r ∧ i_Rel (k + 3) u' v') v v1) u v1) I ?_
  intro c t q gd gs gk xm xz xr xo xc xi xw xp yi yl C K
  unfold wpX_groupOf
  try dsimp only
  have hc := C.1.1
  have ht12 : t ≤ 12 := Nat.le_trans C.1.2.2.1 C.1.2.2.2
  have hq12 := C.1.2.2.2
  have hY := C.2.2.2
  rcases sj_ix2 v1 (n := c) (by omega) with h | ⟨w, hw, rfl⟩
  · refine sj_xrec_bad h (br_t rfl ?_)
    unfold wpY_groupOf
    try dsimp only
    exact sj_yrec_bad h (br_f (by decide) ⟨rfl, sj_in C K⟩)
  · refine sj_xrec hc hw (br_f (by decide) (sj_cref C K ?_))
    intro ck ur uo uc ui uw up H
    obtain ⟨p, R, hP, hM⟩ := H.2.2.2
    refine sj_xroot hc hw hP ?_
    intro p1 up1 hP1
    have C1 : sj_Cache c t q xm xz ur uo uc ui uw up1 := ⟨H.1, H.2.1, H.2.2.1, p1, R, hP1, hM⟩
    unfold wpY_groupOf
    try dsimp only
    refine sj_yrec hc hw (br_t rfl (sj_yjo hY hc ht12 hq12 (sj_min_S hc hM) ?_))
    intro yk hl
    refine And.intro (pk_in w 20 (by omega)) ?_
    try dsimp only
    rw [nI_clamp (by omega), hl w hw]
    exact ⟨rfl, sj_in C (Or.inr C1)⟩
theorem i_vc_groupSize {k : Nat} {u : SX} {v : SY} (I : i_Rel k u v) (hk : k + 3 ≤ 1536) (v1 : Int32) : wpX_groupSize (fun r u' => wpY_groupSize (fun r' v' => r' = r ∧ i_Rel (k + 3) u' v') v v1) u v1 := by
  refine sj_el (P := fun u v => wpX_groupSize (fun r u' => wpY_groupSize (fun r' v' => r' = r ∧ i_Rel (k + 3) u' v') v v1) u v1) I ?_
  intro c t q gd gs gk xm xz xr xo xc xi xw xp yi yl C K
  unfold wpX_groupSize
  try dsimp only
  have hc := C.1.1
  have ht12 : t ≤ 12 := Nat.le_trans C.1.2.2.1 C.1.2.2.2
  have hq12 := C.1.2.2.2
  have hY := C.2.2.2
  rcases sj_ix2 v1 (n := c) (by omega) with h | ⟨w, hw, rfl⟩
  · refine sj_xrec_bad h (br_t rfl ?_)
    unfold wpY_groupSize
    try dsimp only
    exact sj_yrec_bad h (br_f (by decide) ⟨rfl, sj_in C K⟩)
  · refine sj_xrec hc hw (br_f (by decide) (sj_cref C K ?_))
    intro ck ur uo uc ui uw up H
    obtain ⟨p, R, hP, hM⟩ := H.2.2.2
    refine sj_xroot hc hw hP ?_
    intro p1 up1 hP1
    refine Exists.intro (c + 1) (sj_xgs hc (fun x hx => (hM.1 x hx).1) hw ?_ c 0 p1 up1 (by omega) hP1)
    intro p2 up2 hP2
    have C1 : sj_Cache c t q xm xz ur uo uc ui uw up2 := ⟨H.1, H.2.1, H.2.2.1, p2, R, hP2, hM⟩
    unfold wpY_groupSize
    try dsimp only
    refine sj_yrec hc hw (br_t rfl (sj_yjo hY hc ht12 hq12 (sj_min_S hc hM) ?_))
    intro yk hl
    exact Exists.intro (c + 1) (sj_ygs hc (fun x hx => (hM.1 x hx).1) hl hw ⟨rfl, sj_in C (Or.inr C1)⟩ c 0 (by omega))
end
section
/-! the count of records -/
theorem i_vc_records {k : Nat} {u : SX} {v : SY} (I : i_Rel k u v) (hk : k + 3 ≤ 1536) : wpX_records (fun r => wpY_records (fun r' => r' = r ∧ i_Rel (k + 3) u v) v) u := by
  refine sj_el (P := fun u v => wpX_records (fun r => wpY_records (fun r' => r' = r ∧ i_Rel (k + 3) u v) v) u) I ?_
  intro c t q gd gs gk xm xz xr xo xc xi xw xp yi yl C K
  exact ⟨rfl, sj_in C K⟩
end
