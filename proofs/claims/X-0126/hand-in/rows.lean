section
/-! rows taken from the kit's rows to paste (PURE-ROWS, BITS) -/
theorem pk_us {f : Nat → Int32} {k : Nat} {x : Int32} : upd f k x k = x := if_pos rfl
theorem pk_un {f : Nat → Int32} {k j : Nat} {x : Int32} (h : j ≠ k) : upd f k x j = f j := if_neg h
theorem pk_sub {a b : Nat} (h : b ≤ a) : nI a - nI b = nI (a - b) := by
  obtain ⟨c, rfl⟩ : ∃ c, a = c + b := ⟨a - b, by omega⟩
  rw [← nI_add, Int32.add_sub_cancel, Nat.add_sub_cancel]
theorem pk_m1 (n : Nat) : nI (n + 1) + (-1) = nI n := by
  rw [← nI_1, Int32.add_assoc, show (1 : Int32) + (-1) = 0 from rfl, Int32.add_zero]
theorem pk_mul (a b : Nat) : nI a * nI b = nI (a * b) := (Int32.ofNat_mul a b).symm
theorem pk_div {a d : Nat} (ha : a < 2 ^ 31) (h0 : 0 < d) (hd : d < 2 ^ 31) : nI a / nI d = nI (a / d) := by
  apply Int32.toInt_inj.mp
  rw [lg_idiv_nonneg (by rw [nI_toInt ha]; omega) (by rw [nI_toInt hd]; omega), nI_toInt ha, nI_toInt hd, nI_toInt (Nat.lt_of_le_of_lt (Nat.div_le_self a d) ha)]
  first | rfl | exact (Int.natCast_ediv _ _).symm
theorem pk_rem {a d : Nat} (ha : a < 2 ^ 31) (h0 : 0 < d) (hd : d < 2 ^ 31) : nI a - nI a / nI d * nI d = nI (a % d) := by
  rw [pk_div ha h0 hd, pk_mul, pk_sub (Nat.div_mul_le_self a d)]
  exact congrArg nI (by have := Nat.div_add_mod' a d; omega)
theorem pk_ix (x : Int32) {n : Nat} (hn : n < 2 ^ 31) : x < 0 ∨ nI n ≤ x ∨ ∃ j : Nat, j < n ∧ x = nI j := by
  by_cases h : x < 0
  · exact Or.inl h
  · obtain ⟨j, hj, rfl⟩ := nI_of h
    by_cases h2 : j < n
    · exact Or.inr (Or.inr ⟨j, h2, rfl⟩)
    · exact Or.inr (Or.inl (nI_le (by omega) hj))
theorem pk_le {x y : Int32} {A B : Prop} (a b : Nat) (f : a ≤ b → A) (g : b < a → B) (hx : x = nI a := by rfl) (hy : y = nI b := by rfl) (ha : a < 2 ^ 31 := by omega) (hb : b < 2 ^ 31 := by omega) : (x ≤ y → A) ∧ (¬ x ≤ y → B) := by
  subst hx hy
  rw [nI_leI ha hb]
  exact ⟨f, fun z => g (by omega)⟩
theorem pk_lt {x y : Int32} {A B : Prop} (a b : Nat) (f : a < b → A) (g : b ≤ a → B) (hx : x = nI a := by rfl) (hy : y = nI b := by rfl) (ha : a < 2 ^ 31 := by omega) (hb : b < 2 ^ 31 := by omega) : (x < y → A) ∧ (¬ x < y → B) := by
  subst hx hy
  rw [nI_ltI ha hb]
  exact ⟨f, fun z => g (by omega)⟩
theorem pk_eq {x y : Int32} {A B : Prop} (a b : Nat) (f : a = b → A) (g : a ≠ b → B) (hx : x = nI a := by rfl) (hy : y = nI b := by rfl) (ha : a < 2 ^ 31 := by omega) (hb : b < 2 ^ 31 := by omega) : (x = y → A) ∧ (¬ x = y → B) := by
  subst hx hy
  rw [nI_eq ha hb]
  exact ⟨f, g⟩
theorem pk_in {x : Int32} (n N : Nat) (h : n < N) (hx : x = nI n := by rfl) (hN : N < 2 ^ 31 := by omega) : vp_in x N := by
  subst hx
  exact vp_in_nI h hN
theorem pk_cl {x : Int32} (n : Nat) (hx : x = nI n := by rfl) (h : n < 2 ^ 31 := by omega) : x.toNatClampNeg = n := by
  subst hx
  exact nI_clamp h
def bt (x : Int32) (i : Nat) : Bool := x.toBitVec.getLsbD i
theorem b_ext {x y : Int32} (h : ∀ i, i < 32 → bt x i = bt y i) : x = y := Int32.toBitVec_inj.mp (BitVec.eq_of_getLsbD_eq (fun i hi => h i hi))
theorem b_or (x y : Int32) (i : Nat) : bt (x ||| y) i = (bt x i || bt y i) := by unfold bt; rw [Int32.toBitVec_or, BitVec.getLsbD_or]
theorem b_and (x y : Int32) (i : Nat) : bt (x &&& y) i = (bt x i && bt y i) := by unfold bt; rw [Int32.toBitVec_and, BitVec.getLsbD_and]
theorem b_xor (x y : Int32) (i : Nat) : bt (x ^^^ y) i = (bt x i ^^ bt y i) := by unfold bt; rw [Int32.toBitVec_xor, BitVec.getLsbD_xor]
theorem b_big {x : Int32} {i : Nat} (h : 32 ≤ i) : bt x i = false := BitVec.getLsbD_of_ge _ _ h
theorem b_m1 : ∀ i, i < 32 → bt (-1) i = true := by decide +kernel
theorem b_0 (i : Nat) : bt 0 i = false := BitVec.getLsbD_zero
theorem s_l : ∀ n, n < 32 → ((nI n &&& 31).toBitVec.smod 32).toNat = n := by decide +kernel
theorem b_shl (n : Nat) (hn : n < 32) (x : Int32) {i : Nat} (hi : i < 32) : bt (x <<< (nI n &&& 31)) i = (decide (n ≤ i) && bt x (i - n)) := by
  unfold bt
  rw [Int32.toBitVec_shiftLeft]
  show (x.toBitVec <<< ((nI n &&& 31).toBitVec.smod 32).toNat).getLsbD i = _
  rw [s_l n hn, BitVec.getLsbD_shiftLeft]
  rcases Nat.lt_or_ge i n with h | h
  · simp [h, Nat.not_le.mpr h]
  · simp [hi, h, Nat.not_lt.mpr h]
theorem b_sshr (n : Nat) (hn : n < 32) (x : Int32) {i : Nat} (hi : i < 32) : bt (x >>> (nI n &&& 31)) i = if n + i < 32 then bt x (n + i) else bt x 31 := by
  unfold bt
  rw [Int32.toBitVec_shiftRight]
  show (x.toBitVec.sshiftRight ((nI n &&& 31).toBitVec.smod 32).toNat).getLsbD i = _
  rw [s_l n hn, BitVec.getLsbD_sshiftRight, BitVec.msb_eq_getLsbD_last]
  simp [hi]
end
section
/-! booleans as ints, bits, bounded search, counts, rounds of growth -/
def pu_bI (b : Bool) : Int32 := if b = true then 1 else 0
theorem pu_bI0 : pu_bI false = 0 := by decide
theorem pu_bI1 : pu_bI true = 1 := by decide
theorem pu_bIn1 : ¬ pu_bI true = 0 := by decide
theorem pu_nar (b : Bool) : narrow .boolean (.int (pu_bI b)) = .int (pu_bI b) := by
  cases b
  · exact narrow_b0
  · exact narrow_b1
theorem pu_vn0 : vp_nar .boolean 0 = 0 := by rfl
theorem pu_vn1 : vp_nar .boolean 1 = 1 := by rfl
theorem pu_vnb (b : Bool) : vp_nar .boolean (pu_bI b) = pu_bI b := by
  cases b
  · exact pu_vn0
  · exact pu_vn1
theorem pu_br {b : Bool} {A B : Prop} (f : b = false → A) (g : b = true → B) : (pu_bI b = 0 → A) ∧ (¬ pu_bI b = 0 → B) := by
  cases b
  · exact ⟨fun _ => f rfl, fun h => absurd pu_bI0 h⟩
  · exact ⟨fun h => absurd h pu_bIn1, fun _ => g rfl⟩
/-- a branch on a cell that holds a boolean -/
theorem pu_brc {x : Int32} {b : Bool} {A B : Prop} (hx : x = pu_bI b) (f : b = false → A) (g : b = true → B) : (x = 0 → A) ∧ (¬ x = 0 → B) := by
  subst hx
  exact pu_br f g
theorem pu_b1 {i b : Nat} (hi : i < 32) (hb : b < 32) : bt ((1 : Int32) <<< (nI i &&& 31)) b = decide (b = i) := by
  rw [b_shl i hi 1 hb]
  have h1 : ∀ k, k < 32 → bt 1 k = decide (k = 0) := by decide +kernel
  rw [h1 _ (by omega)]
  by_cases h : b = i
  · subst h; simp
  · rw [decide_eq_false h]
    by_cases h2 : i ≤ b
    · rw [decide_eq_true h2, decide_eq_false (by omega)]; rfl
    · rw [decide_eq_false h2]; rfl
theorem pu_bn (x y : Int32) {i : Nat} (hi : i < 32) : bt (x &&& (y ^^^ (-1))) i = (bt x i && !bt y i) := by
  rw [b_and, b_xor, b_m1 i hi]
  cases bt x i <;> cases bt y i <;> rfl
theorem pu_b0 {x : Int32} : x = 0 ↔ ∀ i, i < 32 → bt x i = false :=
  ⟨fun h i _ => by rw [h, b_0], fun h => b_ext (fun i hi => by rw [h i hi, b_0])⟩
theorem pu_hasb {s : Int32} {i : Nat} (hi : i < 32) : ((s >>> (nI i &&& 31)) &&& 1) = 0 ↔ bt s i = false := by
  have h1 : ∀ k, k < 32 → bt 1 k = decide (k = 0) := by decide +kernel
  rw [pu_b0]
  constructor
  · intro h
    have := h 0 (by omega)
    rw [b_and, b_sshr i hi s (by omega), h1 0 (by omega), if_pos (by omega)] at this
    simpa using this
  · intro h k hk
    rw [b_and, h1 k hk]
    by_cases k0 : k = 0
    · subst k0
      rw [b_sshr i hi s (by omega), if_pos (by omega)]
      simp [h]
    · simp [k0]
theorem pu_hb {post : Int32 → Prop} {s : Int32} {i : Nat} (hi : i < 32) (h : post (pu_bI (bt s i))) : (((s >>> (nI i &&& 31)) &&& 1) = 0 → post 0) ∧ (¬ ((s >>> (nI i &&& 31)) &&& 1) = 0 → post 1) := by
  rw [pu_hasb hi]
  cases e : bt s i
  · rw [e] at h; exact ⟨fun _ => h, fun z => absurd rfl z⟩
  · rw [e] at h; exact ⟨fun z => (nomatch z), fun _ => h⟩
/-! bounded search -/
def pu_ex (f : Nat → Bool) : Nat → Bool
  | 0 => false
  | n + 1 => pu_ex f n || f n
theorem pu_ex_iff {f : Nat → Bool} {n : Nat} : pu_ex f n = true ↔ ∃ i, i < n ∧ f i = true := by
  induction n with
  | zero => exact ⟨fun h => (nomatch h), fun ⟨i, hi, _⟩ => absurd hi (Nat.not_lt_zero i)⟩
  | succ n ih =>
    show (pu_ex f n || f n) = true ↔ _
    rw [Bool.or_eq_true, ih]
    constructor
    · rintro (⟨i, hi, h⟩ | h)
      · exact ⟨i, by omega, h⟩
      · exact ⟨n, by omega, h⟩
    · rintro ⟨i, hi, h⟩
      by_cases e : i = n
      · subst e; exact Or.inr h
      · exact Or.inl ⟨i, by omega, h⟩
theorem pu_ex_t {f : Nat → Bool} {n i : Nat} (hi : i < n) (h : f i = true) : pu_ex f n = true := pu_ex_iff.mpr ⟨i, hi, h⟩
theorem pu_ex_no {f : Nat → Bool} {n : Nat} (h : ∀ i, i < n → f i = false) : pu_ex f n = false := by
  cases e : pu_ex f n
  · rfl
  · obtain ⟨i, hi, z⟩ := pu_ex_iff.mp e
    rw [h i hi] at z
    exact (nomatch z)
theorem pu_ex_f {f : Nat → Bool} {n i : Nat} (h : pu_ex f n = false) (hi : i < n) : f i = false := by
  cases e : f i
  · rfl
  · rw [pu_ex_t hi e] at h; exact (nomatch h)
/-- the first index from i on, m of them looked at -/
def pu_ff (f : Nat → Bool) : Nat → Nat → Option Nat
  | 0, _ => none
  | m + 1, i => if f i = true then some i else pu_ff f m (i + 1)
theorem pu_ff_some {f : Nat → Bool} : ∀ (m i w : Nat), pu_ff f m i = some w → i ≤ w ∧ w < i + m ∧ f w = true := by
  intro m
  induction m with
  | zero => intro i w h; exact (nomatch h)
  | succ m ih =>
    intro i w h
    by_cases e : f i = true
    · rw [pu_ff, if_pos e] at h
      cases h
      exact ⟨Nat.le_refl _, by omega, e⟩
    · rw [pu_ff, if_neg e] at h
      have := ih (i + 1) w h
      exact ⟨by omega, by omega, this.2.2⟩
theorem pu_ff_congr {f g : Nat → Bool} : ∀ (m i : Nat), (∀ j, i ≤ j → j < i + m → f j = g j) → pu_ff f m i = pu_ff g m i := by
  intro m
  induction m with
  | zero => intro i _; rfl
  | succ m ih =>
    intro i h
    rw [pu_ff, pu_ff, h i (Nat.le_refl _) (by omega), ih (i + 1) (fun j h1 h2 => h j (by omega) (by omega))]
/-! counts -/
def pu_cn (S : Nat → Bool) : Nat → Nat
  | 0 => 0
  | m + 1 => pu_cn S m + (if S m = true then 1 else 0)
theorem pu_cn_le (S : Nat → Bool) (m : Nat) : pu_cn S m ≤ m := by
  induction m with
  | zero => exact Nat.le_refl 0
  | succ m ih =>
    rw [pu_cn]
    split <;> omega
theorem pu_cn_mono {S S' : Nat → Bool} {m : Nat} (h : ∀ j, j < m → S j = true → S' j = true) : pu_cn S m ≤ pu_cn S' m := by
  induction m with
  | zero => exact Nat.le_refl 0
  | succ m ih =>
    have := ih (fun j hj => h j (by omega))
    rw [pu_cn, pu_cn]
    by_cases e : S m = true
    · rw [if_pos e, if_pos (h m (by omega) e)]; omega
    · rw [if_neg e]; omega
theorem pu_cn_lt {S S' : Nat → Bool} {m j : Nat} (h : ∀ j, j < m → S j = true → S' j = true) (hj : j < m) (h0 : S j = false) (h1 : S' j = true) : pu_cn S m < pu_cn S' m := by
  induction m with
  | zero => omega
  | succ m ih =>
    rw [pu_cn, pu_cn]
    by_cases e : j = m
    · subst e
      have := pu_cn_mono (S := S) (S' := S') (m := j) (fun i hi => h i (by omega))
      rw [if_pos h1, h0, if_neg (by decide)]
      omega
    · have := ih (fun i hi => h i (by omega)) (by omega)
      by_cases e2 : S m = true
      · rw [if_pos e2, if_pos (h m (by omega) e2)]; omega
      · rw [if_neg e2]; omega
theorem pu_cn_pos {S : Nat → Bool} {m j : Nat} (hj : j < m) (h : S j = true) : 0 < pu_cn S m :=
  Nat.lt_of_le_of_lt (Nat.zero_le _) (pu_cn_lt (S := fun _ => false) (fun _ _ z => (nomatch z)) hj rfl h)
/-! rounds of growth in place -/
def pu_st (Q : (Nat → Bool) → Nat → Bool) (S : Nat → Bool) (e : Nat) : Nat → Bool := fun j => S j || (decide (j = e) && Q S e)
def pu_rs (Q : (Nat → Bool) → Nat → Bool) (S : Nat → Bool) : Nat → (Nat → Bool)
  | 0 => S
  | e + 1 => pu_st Q (pu_rs Q S e) e
def pu_it (Q : (Nat → Bool) → Nat → Bool) (m : Nat) (S : Nat → Bool) : Nat → (Nat → Bool)
  | 0 => S
  | r + 1 => pu_rs Q (pu_it Q m S r) m
theorem pu_st_ge {Q : (Nat → Bool) → Nat → Bool} {S : Nat → Bool} {e j : Nat} (h : S j = true) : pu_st Q S e j = true := by
  show (S j || _) = true
  rw [h]; rfl
theorem pu_rs_le {Q : (Nat → Bool) → Nat → Bool} {S : Nat → Bool} {j : Nat} (e d : Nat) (h : pu_rs Q S e j = true) : pu_rs Q S (e + d) j = true := by
  induction d with
  | zero => exact h
  | succ d ih => exact pu_st_ge ih
theorem pu_rs_ge {Q : (Nat → Bool) → Nat → Bool} {S : Nat → Bool} {j : Nat} (e : Nat) (h : S j = true) : pu_rs Q S e j = true := by
  have := pu_rs_le (Q := Q) (S := S) 0 e h
  rwa [Nat.zero_add] at this
theorem pu_rs_hi {Q : (Nat → Bool) → Nat → Bool} {S : Nat → Bool} {j : Nat} : ∀ e, e ≤ j → pu_rs Q S e j = S j := by
  intro e
  induction e with
  | zero => intro _; rfl
  | succ e ih =>
    intro h
    show (pu_rs Q S e j || (decide (j = e) && _)) = S j
    rw [ih (by omega), decide_eq_false (by omega)]
    simp
theorem pu_rs_fixle {Q : (Nat → Bool) → Nat → Bool} {S : Nat → Bool} {m e : Nat} (h : pu_rs Q S m = S) (he : e ≤ m) : pu_rs Q S e = S := by
  funext j
  cases e1 : S j
  · cases e2 : pu_rs Q S e j
    · rfl
    · have := pu_rs_le e (m - e) e2
      rw [show e + (m - e) = m by omega, h, e1] at this
      exact (nomatch this)
  · exact pu_rs_ge e e1
theorem pu_rs_closed {Q : (Nat → Bool) → Nat → Bool} {S : Nat → Bool} {m e : Nat} (h : pu_rs Q S m = S) (he : e < m) (hq : Q S e = true) : S e = true := by
  have h1 : pu_rs Q S (e + 1) = S := pu_rs_fixle h (by omega)
  have h0 : pu_rs Q S e = S := pu_rs_fixle h (by omega)
  have h2 : pu_st Q (pu_rs Q S e) e e = S e := congrFun h1 e
  rw [h0] at h2
  rw [← h2]
  show (S e || (decide (e = e) && Q S e)) = true
  rw [hq]; simp
theorem pu_rs_grow {Q : (Nat → Bool) → Nat → Bool} {S : Nat → Bool} {m : Nat} (h : pu_rs Q S m ≠ S) : pu_cn S m < pu_cn (pu_rs Q S m) m := by
  have hx : ∃ j, j < m ∧ S j = false ∧ pu_rs Q S m j = true := by
    apply Classical.byContradiction
    intro hn
    apply h
    funext j
    rcases Nat.lt_or_ge j m with hj | hj
    · cases e1 : S j
      · cases e2 : pu_rs Q S m j
        · rfl
        · exact absurd ⟨j, hj, e1, e2⟩ hn
      · exact pu_rs_ge m e1
    · exact pu_rs_hi m hj
  obtain ⟨j, hj, h0, h1⟩ := hx
  exact pu_cn_lt (fun i _ z => pu_rs_ge m z) hj h0 h1
theorem pu_it_stab {Q : (Nat → Bool) → Nat → Bool} {S : Nat → Bool} {m : Nat} : ∀ r, (∃ j, j < r ∧ pu_rs Q (pu_it Q m S j) m = pu_it Q m S j) ∨ pu_cn S m + r ≤ pu_cn (pu_it Q m S r) m := by
  intro r
  induction r with
  | zero => exact Or.inr (Nat.le_refl _)
  | succ r ih =>
    rcases ih with ⟨j, hj, e⟩ | ih
    · exact Or.inl ⟨j, by omega, e⟩
    · by_cases h : pu_rs Q (pu_it Q m S r) m = pu_it Q m S r
      · exact Or.inl ⟨r, by omega, h⟩
      · have := pu_rs_grow h
        refine Or.inr ?_
        show pu_cn S m + (r + 1) ≤ pu_cn (pu_rs Q (pu_it Q m S r) m) m
        omega
theorem pu_it_from {Q : (Nat → Bool) → Nat → Bool} {S : Nat → Bool} {m j : Nat} (h : pu_rs Q (pu_it Q m S j) m = pu_it Q m S j) : ∀ d, pu_it Q m S (j + d) = pu_it Q m S j := by
  intro d
  induction d with
  | zero => rfl
  | succ d ih =>
    show pu_rs Q (pu_it Q m S (j + d)) m = _
    rw [ih, h]
theorem pu_it_fix {Q : (Nat → Bool) → Nat → Bool} {S : Nat → Bool} {m r : Nat} (h : m < pu_cn S m + r) : pu_rs Q (pu_it Q m S r) m = pu_it Q m S r := by
  rcases pu_it_stab (Q := Q) (S := S) (m := m) r with ⟨j, hj, e⟩ | z
  · have := pu_it_from e (r - j)
    rw [show j + (r - j) = r by omega] at this
    rw [this, e]
  · have := pu_cn_le (pu_it Q m S r) m
    omega
theorem pu_it_same {Q : (Nat → Bool) → Nat → Bool} {S : Nat → Bool} {m r r' : Nat} (h : m < pu_cn S m + r) (hr : r ≤ r') : pu_it Q m S r' = pu_it Q m S r := by
  have := pu_it_from (pu_it_fix (Q := Q) h) (r' - r)
  rwa [show r + (r' - r) = r' by omega] at this
theorem pu_it_ge {Q : (Nat → Bool) → Nat → Bool} {S : Nat → Bool} {m j : Nat} (h : S j = true) : ∀ r, pu_it Q m S r j = true := by
  intro r
  induction r with
  | zero => exact h
  | succ r ih => exact pu_rs_ge m ih
theorem pu_it_hi {Q : (Nat → Bool) → Nat → Bool} {S : Nat → Bool} {m j : Nat} (h : m ≤ j) : ∀ r, pu_it Q m S r j = S j := by
  intro r
  induction r with
  | zero => rfl
  | succ r ih => exact (pu_rs_hi m h).trans ih
def pu_mono (Q : (Nat → Bool) → Nat → Bool) : Prop := ∀ S S' : Nat → Bool, (∀ j, S j = true → S' j = true) → ∀ e, Q S e = true → Q S' e = true
theorem pu_rs_sound {Q : (Nat → Bool) → Nat → Bool} {S C : Nat → Bool} {m : Nat} (hm : pu_mono Q) (hC : ∀ e, e < m → Q C e = true → C e = true) (hS : ∀ j, S j = true → C j = true) : ∀ e, e ≤ m → ∀ j, pu_rs Q S e j = true → C j = true := by
  intro e
  induction e with
  | zero => intro _ j h; exact hS j h
  | succ e ih =>
    intro he j h
    have h' : (pu_rs Q S e j || (decide (j = e) && Q (pu_rs Q S e) e)) = true := h
    rw [Bool.or_eq_true, Bool.and_eq_true] at h'
    rcases h' with h' | ⟨h1, h2⟩
    · exact ih (by omega) j h'
    · have : j = e := of_decide_eq_true h1
      subst this
      exact hC j (by omega) (hm _ _ (ih (by omega)) j h2)
theorem pu_it_sound {Q : (Nat → Bool) → Nat → Bool} {S C : Nat → Bool} {m : Nat} (hm : pu_mono Q) (hC : ∀ e, e < m → Q C e = true → C e = true) (hS : ∀ j, S j = true → C j = true) : ∀ r j, pu_it Q m S r j = true → C j = true := by
  intro r
  induction r with
  | zero => exact hS
  | succ r ih => exact pu_rs_sound hm hC ih m (Nat.le_refl m)
end
section
/-! the domain, with no program in sight: relations, order, cycles, closures, plans, verdicts -/
def pu_up (k : Int32) : Bool := decide (k = 1) || decide (k = 3)
/-- relations: within, never of a unit with itself; kind 4 both ways -/
def pu_Rok (N : Nat) (R : Nat → Nat → Nat → Bool) : Prop := (∀ k a b, R k a b = true → a < N ∧ b < N ∧ a ≠ b) ∧ ∀ a b, R 4 a b = R 4 b a
def pu_XF (R : Nat → Nat → Nat → Bool) (fo ba : Nat → Int32) : Prop := ∀ k a i, k < 6 → a < 12 → i < 32 → bt (fo (k * 12 + a)) i = R k a i ∧ bt (ba (k * 12 + a)) i = R k i a
def pu_YF (N : Nat) (R : Nat → Nat → Nat → Bool) (re : Nat → Int32) : Prop := ∀ k a b, k < 6 → a < N → b < N → a ≠ b → re (k * 144 + a * 12 + b) = pu_bI (R k a b)
def pu_J4 (j : Int32) : Prop := j = 0 ∨ j = 1 ∨ j = 2 ∨ j = 3
def pu_Jok (N : Nat) (jb : Nat → Int32) : Prop := ∀ x, x < N → pu_J4 (jb x)
/-- is x ahead of y in a queue of jobs qj, states qs -/
def pu_P (R : Nat → Nat → Nat → Bool) (J S : Nat → Int32) (x y : Nat) : Bool :=
  !decide (x = y) && !decide (J x = 0) && !decide (J y = 0) && !decide (S y = 1) && ((R 5 y x && !decide (J y = 2)) || (R 5 x y && decide (J x = 2)) || (R 4 x y && decide (J x = 2) && pu_up (J y)))
theorem pu_P_in {N : Nat} {R : Nat → Nat → Nat → Bool} {J S : Nat → Int32} {x y : Nat} (hR : pu_Rok N R) (h : pu_P R J S x y = true) : x < N ∧ y < N ∧ ¬ J x = 0 ∧ ¬ J y = 0 := by
  unfold pu_P at h
  simp only [Bool.and_eq_true, Bool.or_eq_true, Bool.not_eq_true', decide_eq_false_iff_not] at h
  obtain ⟨⟨⟨⟨_, hx⟩, hy⟩, _⟩, h⟩ := h
  rcases h with (⟨h, _⟩ | ⟨h, _⟩) | ⟨⟨h, _⟩, _⟩
  · have := hR.1 _ _ _ h; exact ⟨this.2.1, this.1, hx, hy⟩
  · have := hR.1 _ _ _ h; exact ⟨this.1, this.2.1, hx, hy⟩
  · have := hR.1 _ _ _ h; exact ⟨this.1, this.2.1, hx, hy⟩
theorem pu_P_congr {R : Nat → Nat → Nat → Bool} {N : Nat} {J S J' S' : Nat → Int32} (hR : pu_Rok N R) (hJ : ∀ x, x < N → J' x = J x) (hS : ∀ x, x < N → S' x = S x) (x y : Nat) : pu_P R J' S' x y = pu_P R J S x y := by
  by_cases hx : x < N
  · by_cases hy : y < N
    · unfold pu_P; rw [hJ x hx, hJ y hy, hS y hy]
    · have z : ∀ J S, pu_P R J S x y = false := fun J S => by
        cases e : pu_P R J S x y
        · rfl
        · exact absurd (pu_P_in hR e).2.1 hy
      rw [z, z]
  · have z : ∀ J S, pu_P R J S x y = false := fun J S => by
      cases e : pu_P R J S x y
      · rfl
      · exact absurd (pu_P_in hR e).1 hx
    rw [z, z]
/-! taking away what is free, and reaching oneself -/
def pu_kh (N : Nat) (P : Nat → Nat → Bool) (J : Nat → Bool) : Nat → (Nat → Bool)
  | 0 => J
  | r + 1 => fun y => pu_kh N P J r y && pu_ex (fun x => pu_kh N P J r x && P x y) N
def pu_sQ (N : Nat) (P : Nat → Nat → Bool) (s : Nat) : (Nat → Bool) → Nat → Bool := fun S y => P s y || pu_ex (fun x => S x && P x y) N
def pu_seen (N : Nat) (P : Nat → Nat → Bool) (s : Nat) : Nat → Bool := pu_it (pu_sQ N P s) N (fun _ => false) 13
theorem pu_sQ_mono (N : Nat) (P : Nat → Nat → Bool) (s : Nat) : pu_mono (pu_sQ N P s) := by
  intro S S' h e he
  have he' : (P s e || pu_ex (fun x => S x && P x e) N) = true := he
  show (P s e || pu_ex (fun x => S' x && P x e) N) = true
  rw [Bool.or_eq_true] at he' ⊢
  rcases he' with h1 | h1
  · exact Or.inl h1
  · obtain ⟨x, hx, h2⟩ := pu_ex_iff.mp h1
    rw [Bool.and_eq_true] at h2
    exact Or.inr (pu_ex_t hx (by rw [h x h2.1, h2.2]; rfl))
theorem pu_seen_fix {N : Nat} {P : Nat → Nat → Bool} {s : Nat} (hN : N ≤ 12) : pu_rs (pu_sQ N P s) (pu_seen N P s) N = pu_seen N P s := pu_it_fix (by omega)
theorem pu_seen_1 {N : Nat} {P : Nat → Nat → Bool} {s y : Nat} (hN : N ≤ 12) (hy : y < N) (h : P s y = true) : pu_seen N P s y = true :=
  pu_rs_closed (pu_seen_fix hN) hy (by show (P s y || _) = true; rw [h]; rfl)
theorem pu_seen_2 {N : Nat} {P : Nat → Nat → Bool} {s x y : Nat} (hN : N ≤ 12) (hx : x < N) (hy : y < N) (hs : pu_seen N P s x = true) (h : P x y = true) : pu_seen N P s y = true :=
  pu_rs_closed (pu_seen_fix hN) hy (by
    show (P s y || pu_ex (fun x => pu_seen N P s x && P x y) N) = true
    rw [Bool.or_eq_true]
    exact Or.inr (pu_ex_t hx (by rw [hs, h]; rfl)))
/-- the least: what holds at the seeds and goes along P holds of all that is seen -/
theorem pu_seen_ind {N : Nat} {P : Nat → Nat → Bool} {s : Nat} (C : Nat → Bool) (h1 : ∀ y, y < N → P s y = true → C y = true) (h2 : ∀ x y, x < N → y < N → C x = true → P x y = true → C y = true) {y : Nat} (h : pu_seen N P s y = true) : C y = true := by
  refine pu_it_sound (S := fun _ => false) (m := N) (pu_sQ_mono N P s) (fun e he hq => ?_) (fun j z => (nomatch z)) 13 y h
  have hq' : (P s e || pu_ex (fun x => C x && P x e) N) = true := hq
  rw [Bool.or_eq_true] at hq'
  rcases hq' with hq' | hq'
  · exact h1 e he hq'
  · obtain ⟨x, hx, hz⟩ := pu_ex_iff.mp hq'
    rw [Bool.and_eq_true] at hz
    exact h2 x e hx he hz.1 hz.2
/-- the last link -/
theorem pu_seen_last {N : Nat} {P : Nat → Nat → Bool} {s y : Nat} (hN : N ≤ 12) (h : pu_seen N P s y = true) : P s y = true ∨ ∃ x, x < N ∧ pu_seen N P s x = true ∧ P x y = true := by
  have : pu_sQ N P s (pu_seen N P s) y = true := by
    refine pu_seen_ind (fun y => pu_sQ N P s (pu_seen N P s) y) (fun y _ hp => ?_) (fun x y hx hy hC hp => ?_) h
    · show (P s y || _) = true
      rw [hp]; rfl
    · have hs : pu_seen N P s x = true := pu_rs_closed (pu_seen_fix hN) hx hC
      show (P s y || pu_ex (fun x => pu_seen N P s x && P x y) N) = true
      rw [Bool.or_eq_true]
      exact Or.inr (pu_ex_t hx (by rw [hs, hp]; rfl))
  have h' : (P s y || pu_ex (fun x => pu_seen N P s x && P x y) N) = true := this
  rw [Bool.or_eq_true] at h'
  rcases h' with h' | h'
  · exact Or.inl h'
  · obtain ⟨x, hx, hz⟩ := pu_ex_iff.mp h'
    rw [Bool.and_eq_true] at hz
    exact Or.inr ⟨x, hx, hz.1, hz.2⟩
/-- numbers below N in a row: two are equal -/
theorem pu_pig {N : Nat} (g : Nat → Nat) (h : ∀ i, g i < N) : ∃ i j, i < j ∧ g i = g j := by
  apply Classical.byContradiction
  intro hn
  have hne : ∀ i j, i < j → g i ≠ g j := fun i j hij e => hn ⟨i, j, hij, e⟩
  have key : ∀ k, k ≤ pu_cn (fun e => pu_ex (fun i => decide (g i = e)) k) N := by
    intro k
    induction k with
    | zero => exact Nat.zero_le _
    | succ k ih =>
      have : pu_cn (fun e => pu_ex (fun i => decide (g i = e)) k) N < pu_cn (fun e => pu_ex (fun i => decide (g i = e)) (k + 1)) N := by
        refine pu_cn_lt (j := g k) (fun e _ z => ?_) (h k) (pu_ex_no (fun i hi => decide_eq_false (hne i k hi))) (pu_ex_t (Nat.lt_succ_self k) (decide_eq_true rfl))
        obtain ⟨i, hi, z⟩ := pu_ex_iff.mp z
        exact pu_ex_t (by omega) z
      omega
  have h1 := key (N + 1)
  have h2 := pu_cn_le (fun e => pu_ex (fun i => decide (g i = e)) (N + 1)) N
  omega
theorem pu_kh_le {N : Nat} {P : Nat → Nat → Bool} {J : Nat → Bool} {r y : Nat} (h : pu_kh N P J (r + 1) y = true) : pu_kh N P J r y = true := by
  have h' : (pu_kh N P J r y && _) = true := h
  rw [Bool.and_eq_true] at h'
  exact h'.1
theorem pu_kh_J {N : Nat} {P : Nat → Nat → Bool} {J : Nat → Bool} {y : Nat} : ∀ r, pu_kh N P J r y = true → J y = true := by
  intro r
  induction r with
  | zero => exact id
  | succ r ih => exact fun h => ih (pu_kh_le h)
theorem pu_kh_stab {N : Nat} {P : Nat → Nat → Bool} {J : Nat → Bool} (hJ : ∀ y, J y = true → y < N) : ∀ r, (∃ j, j < r ∧ pu_kh N P J (j + 1) = pu_kh N P J j) ∨ pu_cn (pu_kh N P J r) N + r ≤ pu_cn J N := by
  intro r
  induction r with
  | zero => exact Or.inr (Nat.le_refl _)
  | succ r ih =>
    rcases ih with ⟨j, hj, e⟩ | ih
    · exact Or.inl ⟨j, by omega, e⟩
    · by_cases h : pu_kh N P J (r + 1) = pu_kh N P J r
      · exact Or.inl ⟨r, by omega, h⟩
      · have hx : ∃ y, y < N ∧ pu_kh N P J (r + 1) y = false ∧ pu_kh N P J r y = true := by
          apply Classical.byContradiction
          intro hn
          apply h
          funext y
          cases e1 : pu_kh N P J r y
          · cases e2 : pu_kh N P J (r + 1) y
            · rfl
            · rw [pu_kh_le e2] at e1; exact (nomatch e1)
          · cases e2 : pu_kh N P J (r + 1) y
            · exact absurd ⟨y, hJ y (pu_kh_J r e1), e2, e1⟩ hn
            · rfl
        obtain ⟨y, hy, h0, h1⟩ := hx
        have := pu_cn_lt (S := pu_kh N P J (r + 1)) (S' := pu_kh N P J r) (m := N) (fun i _ z => pu_kh_le z) hy h0 h1
        exact Or.inr (by omega)
theorem pu_kh_from {N : Nat} {P : Nat → Nat → Bool} {J : Nat → Bool} {j : Nat} (h : pu_kh N P J (j + 1) = pu_kh N P J j) : ∀ d, pu_kh N P J (j + d) = pu_kh N P J j := by
  intro d
  induction d with
  | zero => rfl
  | succ d ih =>
    have : pu_kh N P J (j + (d + 1)) = fun y => pu_kh N P J (j + d) y && pu_ex (fun x => pu_kh N P J (j + d) x && P x y) N := rfl
    rw [this, ih]
    exact h
def pu_rp (f : Nat → Nat) (y : Nat) : Nat → Nat
  | 0 => y
  | i + 1 => f (pu_rp f y i)
theorem pu_kahn {N : Nat} {P : Nat → Nat → Bool} {J : Nat → Bool} (hN : N ≤ 12) (hJ : ∀ y, J y = true → y < N) (hP : ∀ x y, P x y = true → x < N ∧ y < N ∧ J x = true ∧ J y = true) : pu_ex (pu_kh N P J N) N = pu_ex (fun s => pu_seen N P s s) N := by
  rw [Bool.eq_iff_iff, pu_ex_iff, pu_ex_iff]
  constructor
  · rintro ⟨y0, hy0, h0⟩
    have hst : ∀ y, pu_kh N P J N y = true → ∃ x, x < N ∧ pu_kh N P J N x = true ∧ P x y = true := by
      rcases pu_kh_stab (P := P) hJ N with ⟨j, hj, e⟩ | z
      · intro y hy
        have e1 := pu_kh_from e (N - j)
        rw [show j + (N - j) = N by omega] at e1
        rw [e1, ← e] at hy
        have hy' : (pu_kh N P J j y && pu_ex (fun x => pu_kh N P J j x && P x y) N) = true := hy
        rw [Bool.and_eq_true] at hy'
        obtain ⟨x, hx, hz⟩ := pu_ex_iff.mp hy'.2
        rw [Bool.and_eq_true] at hz
        exact ⟨x, hx, by rw [e1]; exact hz.1, hz.2⟩
      · have h1 := pu_cn_pos (S := pu_kh N P J N) hy0 h0
        have h2 := pu_cn_le J N
        omega
    have hc : ∀ y, ∃ x, pu_kh N P J N y = true → x < N ∧ pu_kh N P J N x = true ∧ P x y = true := by
      intro y
      by_cases hy : pu_kh N P J N y = true
      · obtain ⟨x, hx⟩ := hst y hy
        exact ⟨x, fun _ => hx⟩
      · exact ⟨0, fun z => absurd z hy⟩
    obtain ⟨f, hf⟩ := Classical.axiomOfChoice hc
    have hg : ∀ i, pu_kh N P J N (pu_rp f y0 i) = true := by
      intro i
      induction i with
      | zero => exact h0
      | succ i ih => exact (hf _ ih).2.1
    have hg2 : ∀ i, pu_rp f y0 i < N := fun i => hJ _ (pu_kh_J N (hg i))
    have hgP : ∀ i, P (pu_rp f y0 (i + 1)) (pu_rp f y0 i) = true := fun i => (hf _ (hg i)).2.2
    obtain ⟨i, j, hij, e⟩ := pu_pig (pu_rp f y0) hg2
    refine ⟨pu_rp f y0 j, hg2 j, ?_⟩
    have key : ∀ d, d < j - i → pu_seen N P (pu_rp f y0 j) (pu_rp f y0 (j - 1 - d)) = true := by
      intro d
      induction d with
      | zero =>
        intro hd
        have := hgP (j - 1)
        rw [show j - 1 + 1 = j by omega] at this
        exact pu_seen_1 hN (hg2 _) this
      | succ d ih =>
        intro hd
        have h1 := ih (by omega)
        have h2 := hgP (j - 1 - (d + 1))
        rw [show j - 1 - (d + 1) + 1 = j - 1 - d by omega] at h2
        exact pu_seen_2 hN (hg2 _) (hg2 _) h1 h2
    have := key (j - i - 1) (by omega)
    rw [show j - 1 - (j - i - 1) = i by omega, e] at this
    exact this
  · rintro ⟨s, hs, h⟩
    refine ⟨s, hs, ?_⟩
    have hC : ∀ r y, pu_seen N P s y = true → pu_seen N P y s = true → pu_kh N P J r y = true := by
      intro r
      induction r with
      | zero =>
        intro y h1 _
        rcases pu_seen_last hN h1 with z | ⟨x, _, _, z⟩
        · exact (hP _ _ z).2.2.2
        · exact (hP _ _ z).2.2.2
      | succ r ih =>
        intro y h1 h2
        show (pu_kh N P J r y && pu_ex (fun x => pu_kh N P J r x && P x y) N) = true
        rw [ih y h1 h2]
        rcases pu_seen_last hN h1 with z | ⟨x, hx, hsx, z⟩
        · exact pu_ex_t hs (by rw [ih s h h, z]; rfl)
        · refine pu_ex_t hx ?_
          have hy : y < N := (hP _ _ z).2.1
          have hxy : pu_seen N P x y = true := pu_seen_1 hN hy z
          have hxs : pu_seen N P x s = true := pu_seen_ind (pu_seen N P x) (fun e he hp => pu_seen_2 hN hy he hxy hp) (fun a b ha hb hCa hp => pu_seen_2 hN ha hb hCa hp) h2
          rw [ih x hsx hxs, z]; rfl
    exact hC N s h h
end
section
/-! demands: e = 12 * kind + unit; kinds 0 start, 1 stop, 2 restart -/
def pu_hg (R : Nat → Nat → Nat → Bool) (x y : Nat) : Bool := R 0 y x || R 2 y x || R 3 y x
def pu_pl (R : Nat → Nat → Nat → Bool) (st : Nat → Int32) (d e : Nat) : Bool :=
  decide (e < 36) && (if d / 12 = 1 then decide (e / 12 = 1) && pu_hg R (d % 12) (e % 12)
    else if e / 12 = 0 then R 0 (d % 12) (e % 12) || R 2 (d % 12) (e % 12)
    else if e / 12 = 1 then R 4 (d % 12) (e % 12)
    else decide (d / 12 = 2) && pu_hg R (d % 12) (e % 12) && decide (st (e % 12) = 2))
def pu_hQ (R : Nat → Nat → Nat → Bool) (st : Nat → Int32) : (Nat → Bool) → Nat → Bool := fun S e => pu_ex (fun d => S d && pu_pl R st d e) 36
def pu_H (R : Nat → Nat → Nat → Bool) (st : Nat → Int32) (d0 : Nat) : Nat → Bool := pu_it (pu_hQ R st) 36 (fun j => decide (j = d0)) 36
def pu_clo (R : Nat → Nat → Nat → Bool) (st : Nat → Int32) (S : Nat → Bool) : Prop := ∀ d e, S d = true → pu_pl R st d e = true → S e = true
def pu_Dok (N : Nat) (S : Nat → Bool) : Prop := ∀ e, S e = true → e < 36 ∧ e % 12 < N
def pu_un (K H : Nat → Bool) : Nat → Bool := fun e => K e || H e
theorem pu_hg_in {N : Nat} {R : Nat → Nat → Nat → Bool} (hR : pu_Rok N R) {x y : Nat} (h : pu_hg R x y = true) : y < N := by
  unfold pu_hg at h
  rw [Bool.or_eq_true, Bool.or_eq_true] at h
  rcases h with (h | h) | h
  · exact (hR.1 _ _ _ h).1
  · exact (hR.1 _ _ _ h).1
  · exact (hR.1 _ _ _ h).1
theorem pu_pl_in {N : Nat} {R : Nat → Nat → Nat → Bool} {st : Nat → Int32} (hR : pu_Rok N R) {d e : Nat} (h : pu_pl R st d e = true) : e < 36 ∧ e % 12 < N := by
  unfold pu_pl at h
  rw [Bool.and_eq_true] at h
  refine ⟨of_decide_eq_true h.1, ?_⟩
  have h := h.2
  by_cases c1 : d / 12 = 1
  · rw [if_pos c1, Bool.and_eq_true] at h
    exact pu_hg_in hR h.2
  · rw [if_neg c1] at h
    by_cases c2 : e / 12 = 0
    · rw [if_pos c2, Bool.or_eq_true] at h
      rcases h with h | h
      · exact (hR.1 _ _ _ h).2.1
      · exact (hR.1 _ _ _ h).2.1
    · rw [if_neg c2] at h
      by_cases c3 : e / 12 = 1
      · rw [if_pos c3] at h
        exact (hR.1 _ _ _ h).2.1
      · rw [if_neg c3, Bool.and_eq_true, Bool.and_eq_true] at h
        exact pu_hg_in hR h.1.2
theorem pu_hQ_mono (R : Nat → Nat → Nat → Bool) (st : Nat → Int32) : pu_mono (pu_hQ R st) := by
  intro S S' h e he
  obtain ⟨d, hd, hz⟩ := pu_ex_iff.mp he
  rw [Bool.and_eq_true] at hz
  exact pu_ex_t hd (by rw [h d hz.1, hz.2]; rfl)
theorem pu_H_fix {R : Nat → Nat → Nat → Bool} {st : Nat → Int32} {d0 : Nat} (hd : d0 < 36) : pu_rs (pu_hQ R st) (pu_H R st d0) 36 = pu_H R st d0 := by
  have := pu_cn_pos (S := fun j => decide (j = d0)) hd (decide_eq_true rfl)
  exact pu_it_fix (by omega)
theorem pu_H_0 {R : Nat → Nat → Nat → Bool} {st : Nat → Int32} {d0 : Nat} : pu_H R st d0 d0 = true := pu_it_ge (decide_eq_true rfl) 36
theorem pu_H_least {R : Nat → Nat → Nat → Bool} {st : Nat → Int32} {d0 : Nat} {C : Nat → Bool} (hC : pu_clo R st C) (h0 : C d0 = true) {e : Nat} (h : pu_H R st d0 e = true) : C e = true := by
  refine pu_it_sound (pu_hQ_mono R st) (fun e _ hq => ?_) (fun j hj => ?_) 36 e h
  · obtain ⟨d, _, hz⟩ := pu_ex_iff.mp hq
    rw [Bool.and_eq_true] at hz
    exact hC d e hz.1 hz.2
  · have : j = d0 := of_decide_eq_true hj
    rw [this]; exact h0
theorem pu_H_Dok {N : Nat} {R : Nat → Nat → Nat → Bool} {st : Nat → Int32} {d0 : Nat} (hR : pu_Rok N R) (hd : d0 < 36) (hd2 : d0 % 12 < N) : pu_Dok N (pu_H R st d0) := by
  intro e h
  have := pu_H_least (C := fun e => decide (e < 36 ∧ e % 12 < N)) (fun d e _ hp => decide_eq_true (pu_pl_in hR hp)) (decide_eq_true ⟨hd, hd2⟩) h
  exact of_decide_eq_true this
theorem pu_H_clo {N : Nat} {R : Nat → Nat → Nat → Bool} {st : Nat → Int32} {d0 : Nat} (hR : pu_Rok N R) (hd : d0 < 36) (hd2 : d0 % 12 < N) : pu_clo R st (pu_H R st d0) := by
  intro d e h hp
  exact pu_rs_closed (pu_H_fix hd) (pu_pl_in hR hp).1 (pu_ex_t (pu_H_Dok hR hd hd2 d h).1 (by rw [h, hp]; rfl))
theorem pu_un_clo {R : Nat → Nat → Nat → Bool} {st : Nat → Int32} {K H : Nat → Bool} (hK : pu_clo R st K) (hH : pu_clo R st H) : pu_clo R st (pu_un K H) := by
  intro d e h hp
  have h' : (K d || H d) = true := h
  show (K e || H e) = true
  rw [Bool.or_eq_true] at h' ⊢
  rcases h' with h' | h'
  · exact Or.inl (hK d e h' hp)
  · exact Or.inr (hH d e h' hp)
theorem pu_un_Dok {N : Nat} {K H : Nat → Bool} (hK : pu_Dok N K) (hH : pu_Dok N H) : pu_Dok N (pu_un K H) := by
  intro e h
  have h' : (K e || H e) = true := h
  rw [Bool.or_eq_true] at h'
  rcases h' with h' | h'
  · exact hK e h'
  · exact hH e h'
theorem pu_H_un {N : Nat} {R : Nat → Nat → Nat → Bool} {st : Nat → Int32} {K D : Nat → Bool} {d0 : Nat} (hR : pu_Rok N R) (hd : d0 < 36) (hd2 : d0 % 12 < N) (cK : pu_clo R st K) (cD : pu_clo R st D) (KD : ∀ e, K e = true → D e = true) (h0 : D d0 = true)
    (hl : ∀ C, pu_clo R st C → (∀ e, K e = true → C e = true) → C d0 = true → ∀ e, D e = true → C e = true) : D = pu_un K (pu_H R st d0) := by
  funext e
  rw [Bool.eq_iff_iff]
  constructor
  · intro h
    refine hl (pu_un K (pu_H R st d0)) (pu_un_clo cK (pu_H_clo hR hd hd2)) (fun e he => ?_) ?_ e h
    · show (K e || _) = true
      rw [he]; rfl
    · show (_ || pu_H R st d0 d0) = true
      rw [pu_H_0, Bool.or_true]
  · intro h
    have h' : (K e || pu_H R st d0 e) = true := h
    rw [Bool.or_eq_true] at h'
    rcases h' with h' | h'
    · exact KD e h'
    · exact pu_H_least cD h0 h'
/-! plans -/
def pu_dm (T : Nat → Bool) (x : Nat) : Int32 := if T (24 + x) = true then 3 else if T x = true then 1 else if T (12 + x) = true then 2 else 0
def pu_id (k s : Int32) : Bool := (decide (k = 2) && (decide (s = 0) || decide (s = 3))) || (decide (k = 1) && decide (s = 2))
def pu_mj (k j s : Int32) : Int32 := if k = 0 then j else if j = 0 then (if pu_id k s = true then j else k) else if decide (j = 2) = decide (k = 2) then (if k = 3 then (if s = 1 then j else 3) else j) else k
def pu_ms (k j s : Int32) : Int32 := if k = 0 then s else if j = 0 then s else if decide (j = 2) = decide (k = 2) then s else if s = 1 then 0 else s
def pu_mo (k j o : Int32) : Int32 := if k = 0 then o else if j = 0 then o else if decide (j = 2) = decide (k = 2) then o else 5
def pu_qj (T : Nat → Bool) (st jb : Nat → Int32) : Nat → Int32 := fun x => pu_mj (pu_dm T x) (jb x) (st x)
def pu_qs (T : Nat → Bool) (st jb : Nat → Int32) : Nat → Int32 := fun x => pu_ms (pu_dm T x) (jb x) (st x)
def pu_qo (T : Nat → Bool) (jb ou : Nat → Int32) : Nat → Int32 := fun x => pu_mo (pu_dm T x) (jb x) (ou x)
theorem pu_dm_J4 (T : Nat → Bool) (x : Nat) : pu_J4 (pu_dm T x) := by
  unfold pu_dm pu_J4
  split
  · simp
  · split
    · simp
    · split <;> simp
theorem pu_mj_J4 {k j s : Int32} (hk : pu_J4 k) (hj : pu_J4 j) : pu_J4 (pu_mj k j s) := by
  unfold pu_mj
  split
  · exact hj
  · split
    · split
      · exact hj
      · exact hk
    · split
      · split
        · split
          · exact hj
          · exact Or.inr (Or.inr (Or.inr rfl))
        · exact hj
      · exact hk
theorem pu_qj_Jok {N : Nat} {T : Nat → Bool} {st jb : Nat → Int32} (hJ : pu_Jok N jb) : pu_Jok N (pu_qj T st jb) := fun x hx => pu_mj_J4 (pu_dm_J4 T x) (hJ x hx)
/-! verdicts -/
def pu_Cf (N : Nat) (T : Nat → Bool) : Bool := pu_ex (fun x => T (12 + x) && (T x || T (24 + x))) N
def pu_Pd (N : Nat) (T : Nat → Bool) (jb : Nat → Int32) : Bool := pu_ex (fun x => (decide (jb x = 2) && (T x || T (24 + x))) || (pu_up (jb x) && T (12 + x))) N
def pu_Cy (N : Nat) (R : Nat → Nat → Nat → Bool) (J S : Nat → Int32) : Bool := pu_ex (fun s => pu_seen N (pu_P R J S) s s) N
def pu_V (N : Nat) (R : Nat → Nat → Nat → Bool) (T : Nat → Bool) (st jb : Nat → Int32) (mode : Int32) : Int32 :=
  if pu_Cf N T = true then -2 else if mode = 0 ∧ pu_Pd N T jb = true then -3 else if pu_Cy N R (pu_qj T st jb) (pu_qs T st jb) = true then -4 else 0
def pu_nk (c : Int32) (K T : Nat → Bool) : Nat → Bool := if c = 0 then T else K
/-! how arrays hold sets -/
def pu_TB (D : Nat → Bool) (a : Nat → Int32) : Prop := ∀ k i, k < 3 → i < 32 → bt (a (k + 1)) i = (decide (i < 12) && D (k * 12 + i))
def pu_BB (D : Nat → Bool) (m : Nat) (a : Nat → Int32) : Prop := ∀ e, e < m → a e = pu_bI (D e)
def pu_QB (i : Nat) (J S : Nat → Int32) (qj qs qr : Int32) : Prop := ∀ b, b < 32 → bt qj b = (decide (b < i) && !decide (J b = 0)) ∧ bt qs b = (decide (b < i) && decide (J b = 2)) ∧ bt qr b = (decide (b < i) && !decide (J b = 0) && decide (S b = 1))
theorem pu_or1 {x : Int32} {i b : Nat} (hi : i < 32) (hb : b < 32) : bt (x ||| ((1 : Int32) <<< (nI i &&& 31))) b = (bt x b || decide (b = i)) := by
  rw [b_or, pu_b1 hi hb]
theorem pu_QBs {i : Nat} {J S : Nat → Int32} {qj qs qr qj' qs' qr' : Int32} (hq : pu_QB i J S qj qs qr) (hj : ∀ b, b < 32 → bt qj' b = (bt qj b || (decide (b = i) && !decide (J i = 0)))) (hs : ∀ b, b < 32 → bt qs' b = (bt qs b || (decide (b = i) && decide (J i = 2)))) (hr : ∀ b, b < 32 → bt qr' b = (bt qr b || (decide (b = i) && !decide (J i = 0) && decide (S i = 1)))) : pu_QB (i + 1) J S qj' qs' qr' := by
  intro b hb
  obtain ⟨h1, h2, h3⟩ := hq b hb
  rw [hj b hb, hs b hb, hr b hb, h1, h2, h3]
  by_cases e : b = i
  · subst e
    rw [decide_eq_false (Nat.lt_irrefl b), decide_eq_true (Nat.lt_succ_self b)]
    simp
  · have : decide (b < i + 1) = decide (b < i) := by
      by_cases z : b < i
      · rw [decide_eq_true z, decide_eq_true (by omega)]
      · rw [decide_eq_false z, decide_eq_false (by omega)]
    rw [this]
    simp [e]
theorem pu_QB0 {J S : Nat → Int32} : pu_QB 0 J S 0 0 0 := by
  intro b _
  rw [b_0]
  simp
theorem pu_QB_congr {N : Nat} {J S J' S' : Nat → Int32} {qj qs qr : Int32} (hJ : ∀ x, x < N → J' x = J x) (hS : ∀ x, x < N → S' x = S x) (h : pu_QB N J S qj qs qr) : pu_QB N J' S' qj qs qr := by
  intro b hb
  obtain ⟨h1, h2, h3⟩ := h b hb
  rw [h1, h2, h3]
  by_cases z : b < N
  · rw [hJ b z, hS b z]; exact ⟨rfl, rfl, rfl⟩
  · rw [decide_eq_false z]; exact ⟨rfl, rfl, rfl⟩
theorem pu_upself {f : Nat → Int32} {i : Nat} {v : Int32} (h : f i = v) : f = upd f i v := by
  funext j
  by_cases e : j = i
  · subst e; rw [pk_us, h]
  · rw [pk_un e]
theorem pu_upupd {f : Nat → Int32} {i : Nat} {v w : Int32} : upd (upd f i v) i w = upd f i w := by
  funext j
  by_cases e : j = i
  · subst e; rw [pk_us, pk_us]
  · rw [pk_un e, pk_un e, pk_un e]
theorem pu_l1_0 : ¬ (1 : Int32) = 0 := by decide
theorem pu_l2_0 : ¬ (2 : Int32) = 0 := by decide
theorem pu_l3_0 : ¬ (3 : Int32) = 0 := by decide
theorem pu_l1_2 : ¬ (1 : Int32) = 2 := by decide
theorem pu_l3_2 : ¬ (3 : Int32) = 2 := by decide
theorem pu_l1_3 : ¬ (1 : Int32) = 3 := by decide
theorem pu_l3_1 : ¬ (3 : Int32) = 1 := by decide
theorem pu_l2_1 : ¬ (2 : Int32) = 1 := by decide
theorem pu_l2_3 : ¬ (2 : Int32) = 3 := by decide
theorem pu_l0_2 : ¬ (0 : Int32) = 2 := by decide
theorem pu_l0_1 : ¬ (0 : Int32) = 1 := by decide
theorem pu_l0_3 : ¬ (0 : Int32) = 3 := by decide
/-- the bits of what is ahead of y -/
theorem pu_ahb {N : Nat} {R : Nat → Nat → Nat → Bool} {J S : Nat → Int32} {y : Nat} (hR : pu_Rok N R) (hJ : pu_Jok N J) (hy : y < N) (jy : ¬ J y = 0) (sy : ¬ S y = 1) (i : Nat) :
    pu_P R J S i y = ((R 5 i y && (decide (i < N) && decide (J i = 2))) || (!decide (J y = 2) && ((R 5 y i && (decide (i < N) && !decide (J i = 0))) || (R 4 y i && (decide (i < N) && decide (J i = 2)))))) := by
  by_cases hi : i < N ∧ i ≠ y
  · obtain ⟨hi, hne⟩ := hi
    unfold pu_P pu_up
    rw [hR.2 y i, decide_eq_true hi, decide_eq_false hne, decide_eq_false jy, decide_eq_false sy]
    generalize R 5 i y = r1
    generalize R 5 y i = r2
    generalize R 4 i y = r3
    rcases hJ y hy with e | e | e | e
    · exact absurd e jy
    · rw [e, decide_eq_false pu_l1_2, decide_eq_true (rfl : (1 : Int32) = 1)]
      by_cases c2 : J i = 2
      · rw [c2, decide_eq_false pu_l2_0]; cases r1 <;> cases r2 <;> cases r3 <;> rfl
      · rw [decide_eq_false c2]
        cases decide (J i = 0) <;> cases r1 <;> cases r2 <;> cases r3 <;> rfl
    · rw [e, decide_eq_true (rfl : (2 : Int32) = 2), decide_eq_false pu_l2_1, decide_eq_false pu_l2_3]
      by_cases c2 : J i = 2
      · rw [c2, decide_eq_false pu_l2_0]; cases r1 <;> cases r2 <;> cases r3 <;> rfl
      · rw [decide_eq_false c2]
        cases decide (J i = 0) <;> cases r1 <;> cases r2 <;> cases r3 <;> rfl
    · rw [e, decide_eq_false pu_l3_2, decide_eq_true (rfl : (3 : Int32) = 3), decide_eq_false pu_l3_1]
      by_cases c2 : J i = 2
      · rw [c2, decide_eq_false pu_l2_0]; cases r1 <;> cases r2 <;> cases r3 <;> rfl
      · rw [decide_eq_false c2]
        cases decide (J i = 0) <;> cases r1 <;> cases r2 <;> cases r3 <;> rfl
  · have f1 : ∀ k, R k i y = false := fun k => by
      cases e : R k i y
      · rfl
      · have := hR.1 _ _ _ e; exact absurd ⟨this.1, this.2.2⟩ hi
    have f2 : ∀ k, R k y i = false := fun k => by
      cases e : R k y i
      · rfl
      · have := hR.1 _ _ _ e; exact absurd ⟨this.2.1, fun z => this.2.2 z.symm⟩ hi
    unfold pu_P
    rw [f1, f2, f1, f2]
    simp
end
section
/-! X: ranges, bits, the queue, its order -/
section
variable {N : Nat} {tT tW tB pc qj qs qr : Int32} {fo ba st jb ou ag wi us au kp tr pu ps pj po : Nat → Int32}
theorem xx_inR {post : Int32 → Prop} {j : Nat} (hN : N ≤ 12) (hj : j < N) (h : post 1) : wpX_inRange post (nI N, tT, tW, tB, pc, qj, qs, qr, fo, ba, st, jb, ou, ag, wi, us, au, kp, tr, pu, ps, pj, po) (nI j) :=
  br_f (nI_pos (by omega)) (br_f (nI_ge hj (by omega)) h)
theorem xx_inR0 {post : Int32 → Prop} {x : Int32} (hx : x < 0 ∨ nI N ≤ x) (h : post 0) : wpX_inRange post (nI N, tT, tW, tB, pc, qj, qs, qr, fo, ba, st, jb, ou, ag, wi, us, au, kp, tr, pu, ps, pj, po) x := by
  by_cases h0 : x < 0
  · exact br_t h0 h
  · exact br_f h0 (br_t (hx.resolve_left h0) h)
theorem xx_has {post : Int32 → Prop} {u : SX} {s : Int32} {i : Nat} (hi : i < 32) (h : post (pu_bI (bt s i))) : wpX_has post u s (nI i) := by
  obtain ⟨x1, x2, x3, x4, x5, x6, x7, x8, x9, x10, x11, x12, x13, x14, x15, x16, x17, x18, x19, x20, x21, x22, x23⟩ := u
  exact pu_hb hi h
theorem xx_isUp {post : Int32 → Prop} {u : SX} {k : Int32} (h : post (pu_bI (pu_up k))) : wpX_isUp post u k := by
  obtain ⟨x1, x2, x3, x4, x5, x6, x7, x8, x9, x10, x11, x12, x13, x14, x15, x16, x17, x18, x19, x20, x21, x22, x23⟩ := u
  unfold pu_up at h
  by_cases h1 : k = 1
  · rw [decide_eq_true h1] at h
    exact br_t h1 h
  · by_cases h3 : k = 3
    · rw [decide_eq_true h3, Bool.or_true] at h
      exact br_f h1 (br_t h3 h)
    · rw [decide_eq_false h1, decide_eq_false h3] at h
      exact br_f h1 (br_f h3 h)
theorem xx_enq {post : SX → Prop} {i : Nat} {J S : Nat → Int32} (hi : i < 12) (hq : pu_QB i J S qj qs qr) (h : ∀ qj qs qr, pu_QB (i + 1) J S qj qs qr → post (nI N, tT, tW, tB, pc, qj, qs, qr, fo, ba, st, jb, ou, ag, wi, us, au, kp, tr, pu, ps, pj, po)) : wpX_enqueue post (nI N, tT, tW, tB, pc, qj, qs, qr, fo, ba, st, jb, ou, ag, wi, us, au, kp, tr, pu, ps, pj, po) (nI i) (J i) (S i) := by
  have hi2 : i < 32 := by omega
  by_cases h0 : J i = 0
  · have n2 : ¬ J i = 2 := by rw [h0]; exact pu_l0_2
    exact br_t h0 (h _ _ _ (pu_QBs hq (fun b hb => by simp [h0]) (fun b hb => by simp [n2]) (fun b hb => by simp [h0])))
  · refine br_f h0 (nm_e ?_)
    by_cases h2 : J i = 2
    · refine br_t h2 (nm_e ?_)
      by_cases h1 : S i = 1
      · exact br_t h1 (nm_e (h _ _ _ (pu_QBs hq (fun b hb => by rw [pu_or1 hi2 hb]; simp [h0]) (fun b hb => by rw [pu_or1 hi2 hb]; simp [h2]) (fun b hb => by rw [pu_or1 hi2 hb]; simp [h0, h1]))))
      · exact br_f h1 (h _ _ _ (pu_QBs hq (fun b hb => by rw [pu_or1 hi2 hb]; simp [h0]) (fun b hb => by rw [pu_or1 hi2 hb]; simp [h2]) (fun b hb => by simp [h1])))
    · refine br_f h2 ?_
      by_cases h1 : S i = 1
      · exact br_t h1 (nm_e (h _ _ _ (pu_QBs hq (fun b hb => by rw [pu_or1 hi2 hb]; simp [h0]) (fun b hb => by simp [h2]) (fun b hb => by rw [pu_or1 hi2 hb]; simp [h0, h1]))))
      · exact br_f h1 (h _ _ _ (pu_QBs hq (fun b hb => by rw [pu_or1 hi2 hb]; simp [h0]) (fun b hb => by simp [h2]) (fun b hb => by simp [h1])))
theorem xx_lpq_lp {post : SX → Prop} (hN : N ≤ 12) : ∀ (m i : Nat) (qj qs qr : Int32), i + m = N → pu_QB i jb st qj qs qr → (∀ qj qs qr, pu_QB N jb st qj qs qr → post (nI N, tT, tW, tB, pc, qj, qs, qr, fo, ba, st, jb, ou, ag, wi, us, au, kp, tr, pu, ps, pj, po)) → wX_loadPresentQueue_6 post (m + 1) (nI i) (nI N) tT tW tB pc qj qs qr fo ba st jb ou ag wi us au kp tr pu ps pj po := by
  intro m
  induction m with
  | zero =>
    intro i qj qs qr hi hq h
    have e : i = N := by omega
    subst e
    exact br_t (nI_le (Nat.le_refl _) (by omega)) (h _ _ _ hq)
  | succ m ih =>
    intro i qj qs qr hi hq h
    have hin : vp_in (nI i) 12 := vp_in_nI (by omega) (by omega)
    rw [wX_loadPresentQueue_6]; dsimp only
    simp only [nI_clamp (n := i) (by omega)]
    refine br_f (nI_ge (by omega) (by omega)) ⟨hin, hin, ?_⟩
    exact xx_enq (by omega) hq (fun qj' qs' qr' hq' => nm_r (nI_1 i) (ih (i + 1) qj' qs' qr' (by omega) hq' h))
theorem xx_lpq {post : SX → Prop} (hN : N ≤ 12) (h : ∀ qj qs qr, pu_QB N jb st qj qs qr → post (nI N, tT, tW, tB, pc, qj, qs, qr, fo, ba, st, jb, ou, ag, wi, us, au, kp, tr, pu, ps, pj, po)) : wpX_loadPresentQueue post (nI N, tT, tW, tB, pc, qj, qs, qr, fo, ba, st, jb, ou, ag, wi, us, au, kp, tr, pu, ps, pj, po) := by
  unfold wpX_loadPresentQueue wpX_clearQueue
  exact Exists.intro (N + 1) (xx_lpq_lp hN N 0 0 0 0 (by omega) pu_QB0 h)
theorem xx_ahd {post : Int32 → Prop} {R : Nat → Nat → Nat → Bool} {J S : Nat → Int32} {y : Nat} (hN : N ≤ 12) (hR : pu_Rok N R) (hX : pu_XF R fo ba) (hJ : pu_Jok N J) (hq : pu_QB N J S qj qs qr) (hy : y < N) (h : ∀ r, (∀ i, i < 32 → bt r i = pu_P R J S i y) → post r) : wpX_aheadOf post (nI N, tT, tW, tB, pc, qj, qs, qr, fo, ba, st, jb, ou, ag, wi, us, au, kp, tr, pu, ps, pj, po) (nI y) := by
  have e60 : (60 : Int32) + nI y = nI (60 + y) := nI_add 60 y
  have e48 : (48 : Int32) + nI y = nI (48 + y) := nI_add 48 y
  obtain ⟨q1, q2, q3⟩ := hq y (by omega)
  rw [decide_eq_true hy, Bool.true_and] at q1 q2 q3
  unfold wpX_aheadOf
  simp only [e60, e48, nI_clamp (n := 60 + y) (by omega), nI_clamp (n := 48 + y) (by omega)]
  refine xx_has (by omega) (pu_br (fun a1 => ?_) (fun a1 => ?_))
  · have jy : J y = 0 := by
      rw [q1, Bool.not_eq_false'] at a1; exact of_decide_eq_true a1
    refine h 0 (fun i _ => ?_)
    rw [b_0]
    unfold pu_P
    rw [decide_eq_true jy]
    simp
  · have jy : ¬ J y = 0 := by
      rw [q1, Bool.not_eq_true'] at a1; exact of_decide_eq_false a1
    rw [decide_eq_false jy] at q3
    refine xx_has (by omega) (pu_br (fun a2 => ?_) (fun a2 => ?_))
    · have sy : ¬ S y = 1 := by
        rw [q3] at a2
        exact of_decide_eq_false (by simpa using a2)
      refine ⟨vp_in_nI (by omega) (by omega), nm_e ?_⟩
      have hb5 : ∀ i, i < 32 → bt (ba (60 + y)) i = R 5 i y := fun i hi => (hX 5 y i (by omega) (by omega) hi).2
      have hf5 : ∀ i, i < 32 → bt (fo (60 + y)) i = R 5 y i := fun i hi => (hX 5 y i (by omega) (by omega) hi).1
      have hf4 : ∀ i, i < 32 → bt (fo (48 + y)) i = R 4 y i := fun i hi => (hX 4 y i (by omega) (by omega) hi).1
      refine xx_has (by omega) (pu_br (fun a3 => ?_) (fun a3 => ?_))
      · have s2 : ¬ J y = 2 := by
          rw [q2] at a3; exact of_decide_eq_false a3
        refine ⟨vp_in_nI (by omega) (by omega), nm_e ⟨vp_in_nI (by omega) (by omega), nm_e (h _ (fun i hi => ?_))⟩⟩
        obtain ⟨z1, z2, z3⟩ := hq i hi
        rw [b_or, b_or, b_and, b_and, b_and, hb5 i hi, hf5 i hi, hf4 i hi, z1, z2, pu_ahb hR hJ hy jy sy i, decide_eq_false s2, Bool.not_false, Bool.true_and, Bool.or_assoc]
      · have s2 : J y = 2 := by
          rw [q2] at a3; exact of_decide_eq_true a3
        refine h _ (fun i hi => ?_)
        obtain ⟨z1, z2, z3⟩ := hq i hi
        rw [b_and, hb5 i hi, z2, pu_ahb hR hJ hy jy sy i, decide_eq_true s2, Bool.not_true, Bool.false_and, Bool.or_false]
    · have sy : S y = 1 := by
        rw [q3] at a2
        exact of_decide_eq_true (by simpa using a2)
      refine h 0 (fun i _ => ?_)
      rw [b_0]
      unfold pu_P
      rw [decide_eq_true sy]
      simp
/-- what is left of 'rest' when the units below i have been looked at -/
def pu_wfb (N : Nat) (P : Nat → Nat → Bool) (rest : Int32) (i b : Nat) : Bool := bt rest b && (!decide (b < i) || pu_ex (fun x => bt rest x && P x b) N)
theorem pu_wfb_o {N : Nat} {P : Nat → Nat → Bool} {rest : Int32} {i b : Nat} (h : b ≠ i) : pu_wfb N P rest (i + 1) b = pu_wfb N P rest i b := by
  unfold pu_wfb
  have : decide (b < i + 1) = decide (b < i) := by
    by_cases z : b < i
    · rw [decide_eq_true z, decide_eq_true (by omega)]
    · rw [decide_eq_false z, decide_eq_false (by omega)]
  rw [this]
theorem xx_wf_lp {post : Int32 → Prop} {R : Nat → Nat → Nat → Bool} {J S : Nat → Int32} {rest : Int32} (hN : N ≤ 12) (hR : pu_Rok N R) (hX : pu_XF R fo ba) (hJ : pu_Jok N J) (hq : pu_QB N J S qj qs qr) : ∀ (m i : Nat) (x2 : Int32), i + m = N → (∀ b, b < 32 → bt x2 b = pu_wfb N (pu_P R J S) rest i b) → (∀ r, (∀ b, b < 32 → bt r b = pu_wfb N (pu_P R J S) rest N b) → post r) → wX_withoutFree_4 post rest (nI N) tT tW tB pc qj qs qr fo ba st jb ou ag wi us au kp tr pu ps pj po (m + 1) x2 (nI i) := by
  intro m
  induction m with
  | zero =>
    intro i x2 hi hx h
    have e : i = N := by omega
    subst e
    exact br_t (nI_le (Nat.le_refl _) (by omega)) (h _ hx)
  | succ m ih =>
    intro i x2 hi hx h
    rw [wX_withoutFree_4]; dsimp only
    refine br_f (nI_ge (by omega) (by omega)) ?_
    refine xx_has (by omega) (pu_br (fun a1 => ?_) (fun a1 => ?_))
    · refine nm_r (nI_1 i) (ih (i + 1) x2 (by omega) (fun b hb => ?_) h)
      rw [hx b hb]
      by_cases e : b = i
      · subst e
        unfold pu_wfb
        rw [a1]; rfl
      · rw [pu_wfb_o e]
    · refine xx_ahd hN hR hX hJ hq (by omega) (fun r hr => ?_)
      by_cases hz : r &&& rest = 0
      · refine br_t hz (nm_e (nm_r (nI_1 i) (ih (i + 1) _ (by omega) (fun b hb => ?_) h)))
        rw [pu_bn _ _ hb, pu_b1 (by omega) hb, hx b hb]
        by_cases e : b = i
        · subst e
          have : pu_ex (fun x => bt rest x && pu_P R J S x b) N = false := pu_ex_no (fun x hx2 => by
            have := pu_b0.mp hz x (by omega)
            rw [b_and, hr x (by omega)] at this
            show (bt rest x && pu_P R J S x b) = false
            rw [Bool.and_comm]
            exact this)
          unfold pu_wfb
          rw [this]
          simp
        · rw [pu_wfb_o e, decide_eq_false e]
          simp
      · refine br_f hz (nm_r (nI_1 i) (ih (i + 1) _ (by omega) (fun b hb => ?_) h))
        rw [hx b hb]
        by_cases e : b = i
        · subst e
          have : pu_ex (fun x => bt rest x && pu_P R J S x b) N = true := by
            cases e1 : pu_ex (fun x => bt rest x && pu_P R J S x b) N
            · refine absurd (pu_b0.mpr (fun x hx2 => ?_)) hz
              rw [b_and, hr x hx2]
              cases e2 : pu_P R J S x b
              · rfl
              · have h3 := pu_ex_f e1 (pu_P_in hR e2).1
                have h4 : (bt rest x && pu_P R J S x b) = false := h3
                rw [e2, Bool.and_true] at h4
                rw [h4]; rfl
            · rfl
          unfold pu_wfb
          rw [this]
          simp
        · rw [pu_wfb_o e]
theorem xx_wf {post : Int32 → Prop} {R : Nat → Nat → Nat → Bool} {J S : Nat → Int32} {rest : Int32} (hN : N ≤ 12) (hR : pu_Rok N R) (hX : pu_XF R fo ba) (hJ : pu_Jok N J) (hq : pu_QB N J S qj qs qr) (h : ∀ r, (∀ b, b < 32 → bt r b = pu_wfb N (pu_P R J S) rest N b) → post r) : wpX_withoutFree post (nI N, tT, tW, tB, pc, qj, qs, qr, fo, ba, st, jb, ou, ag, wi, us, au, kp, tr, pu, ps, pj, po) rest := by
  unfold wpX_withoutFree
  exact Exists.intro (N + 1) (xx_wf_lp hN hR hX hJ hq N 0 rest (by omega) (fun b hb => by unfold pu_wfb; simp) h)
theorem xx_cyc_lp {post : Int32 → Prop} {R : Nat → Nat → Nat → Bool} {J S : Nat → Int32} {Q : Nat → Bool} (hN : N ≤ 12) (hR : pu_Rok N R) (hX : pu_XF R fo ba) (hJ : pu_Jok N J) (hq : pu_QB N J S qj qs qr) (hQ : ∀ y, Q y = true → y < N) (h : post (pu_bI (pu_ex (pu_kh N (pu_P R J S) Q N) N))) : ∀ (m r : Nat) (x1 : Int32), r + m = N → (∀ b, b < 32 → bt x1 b = pu_kh N (pu_P R J S) Q r b) → wX_cyclic_7 post (nI N) tT tW tB pc qj qs qr fo ba st jb ou ag wi us au kp tr pu ps pj po (m + 1) x1 (nI r) := by
  intro m
  induction m with
  | zero =>
    intro r x1 hr hx
    have e : r = N := by omega
    subst e
    refine br_t (nI_le (Nat.le_refl _) (by omega)) ?_
    by_cases hz : x1 = 0
    · have : pu_ex (pu_kh r (pu_P R J S) Q r) r = false := pu_ex_no (fun i hi => by rw [← hx i (by omega), hz, b_0])
      rw [this] at h
      exact br_t hz h
    · have : pu_ex (pu_kh r (pu_P R J S) Q r) r = true := by
        cases e1 : pu_ex (pu_kh r (pu_P R J S) Q r) r
        · refine absurd (pu_b0.mpr (fun i hi => ?_)) hz
          rw [hx i hi]
          cases e2 : pu_kh r (pu_P R J S) Q r i
          · rfl
          · have := pu_ex_f e1 (hQ i (pu_kh_J r e2))
            rw [e2] at this
            exact (nomatch this)
        · rfl
      rw [this] at h
      exact br_f hz h
  | succ m ih =>
    intro r x1 hr hx
    rw [wX_cyclic_7]; dsimp only
    refine br_f (nI_ge (by omega) (by omega)) ?_
    refine xx_wf hN hR hX hJ hq (fun x hx2 => nm_r (nI_1 r) (ih (r + 1) x (by omega) (fun b hb => ?_)))
    rw [hx2 b hb]
    show _ = (pu_kh N (pu_P R J S) Q r b && pu_ex (fun x => pu_kh N (pu_P R J S) Q r x && pu_P R J S x b) N)
    unfold pu_wfb
    rw [hx b hb]
    have : pu_ex (fun x => bt x1 x && pu_P R J S x b) N = pu_ex (fun x => pu_kh N (pu_P R J S) Q r x && pu_P R J S x b) N := by
      rw [Bool.eq_iff_iff, pu_ex_iff, pu_ex_iff]
      constructor
      · rintro ⟨x, hx3, hz⟩; exact ⟨x, hx3, by rw [← hx x (by omega)]; exact hz⟩
      · rintro ⟨x, hx3, hz⟩; exact ⟨x, hx3, by rw [hx x (by omega)]; exact hz⟩
    rw [this]
    cases e : pu_kh N (pu_P R J S) Q r b
    · rfl
    · rw [decide_eq_true (hQ b (pu_kh_J r e))]
      rfl
theorem xx_cyc {post : Int32 → Prop} {R : Nat → Nat → Nat → Bool} {J S : Nat → Int32} (hN : N ≤ 12) (hR : pu_Rok N R) (hX : pu_XF R fo ba) (hJ : pu_Jok N J) (hq : pu_QB N J S qj qs qr) (h : post (pu_bI (pu_Cy N R J S))) : wpX_cyclic post (nI N, tT, tW, tB, pc, qj, qs, qr, fo, ba, st, jb, ou, ag, wi, us, au, kp, tr, pu, ps, pj, po) := by
  have hQ : ∀ y, (fun y => decide (y < N) && !decide (J y = 0)) y = true → y < N := fun y hy => by
    have hy' : (decide (y < N) && !decide (J y = 0)) = true := hy
    rw [Bool.and_eq_true] at hy'
    exact of_decide_eq_true hy'.1
  have hk := pu_kahn (P := pu_P R J S) (J := fun y => decide (y < N) && !decide (J y = 0)) hN hQ (fun x y hp => by
    obtain ⟨a, b, c, d⟩ := pu_P_in hR hp
    refine ⟨a, b, ?_, ?_⟩
    · show (decide (x < N) && !decide (J x = 0)) = true
      rw [decide_eq_true a, decide_eq_false c]; rfl
    · show (decide (y < N) && !decide (J y = 0)) = true
      rw [decide_eq_true b, decide_eq_false d]; rfl)
  unfold pu_Cy at h
  rw [← hk] at h
  unfold wpX_cyclic
  exact Exists.intro (N + 1) (xx_cyc_lp hN hR hX hJ hq hQ h N 0 qj (by omega) (fun b hb => (hq b hb).1))
end
end
section
/-! X: the closure of a demand -/
def pu_ins (D : Nat → Bool) (e : Nat) : Nat → Bool := fun j => D j || decide (j = e)
def pu_LI (N : Nat) (K0 D : Nat → Bool) (pu : Nat → Int32) (cnt : Nat) : Prop :=
  (∀ j, j < cnt → ∃ e, pu j = nI (12 + e) ∧ e < 36 ∧ e % 12 < N ∧ D e = true) ∧ (∀ e, D e = true → K0 e = true ∨ ∃ j, j < cnt ∧ pu j = nI (12 + e)) ∧ cnt ≤ pu_cn (fun e => D e && !K0 e) 36 ∧ (∀ e, K0 e = true → D e = true)
def pu_ext (cnt : Nat) (pu : Nat → Int32) (cnt' : Nat) (pu' : Nat → Int32) : Prop := cnt ≤ cnt' ∧ ∀ j, j < cnt → pu' j = pu j
theorem pu_ext_r {cnt : Nat} {pu : Nat → Int32} : pu_ext cnt pu cnt pu := ⟨Nat.le_refl _, fun _ _ => rfl⟩
theorem pu_ext_t {c1 c2 c3 : Nat} {p1 p2 p3 : Nat → Int32} (h1 : pu_ext c1 p1 c2 p2) (h2 : pu_ext c2 p2 c3 p3) : pu_ext c1 p1 c3 p3 :=
  ⟨Nat.le_trans h1.1 h2.1, fun j hj => (h2.2 j (Nat.lt_of_lt_of_le hj h1.1)).trans (h1.2 j hj)⟩
theorem pu_LI_c {N : Nat} {K0 D : Nat → Bool} {pu : Nat → Int32} {cnt : Nat} (h : pu_LI N K0 D pu cnt) : cnt ≤ 36 := Nat.le_trans h.2.2.1 (pu_cn_le _ _)
theorem pu_LI_add {N : Nat} {K0 D : Nat → Bool} {pu : Nat → Int32} {cnt e : Nat} (h : pu_LI N K0 D pu cnt) (he : e < 36) (he2 : e % 12 < N) (h0 : D e = false) : cnt < 36 ∧ pu_LI N K0 (pu_ins D e) (upd pu cnt (nI (12 + e))) (cnt + 1) ∧ pu_ext cnt pu (cnt + 1) (upd pu cnt (nI (12 + e))) := by
  obtain ⟨h1, h2, h3, h4⟩ := h
  have k0 : K0 e = false := by
    cases z : K0 e
    · rfl
    · rw [h4 e z] at h0; exact (nomatch h0)
  have hlt : pu_cn (fun e => D e && !K0 e) 36 < pu_cn (fun j => pu_ins D e j && !K0 j) 36 := by
    refine pu_cn_lt (j := e) (fun j _ hj => ?_) he ?_ ?_
    · have hj' : (D j && !K0 j) = true := hj
      show ((D j || decide (j = e)) && !K0 j) = true
      rw [Bool.and_eq_true] at hj'
      rw [hj'.1, hj'.2]; rfl
    · show (D e && !K0 e) = false
      rw [h0]; rfl
    · show ((D e || decide (e = e)) && !K0 e) = true
      rw [k0, decide_eq_true rfl, Bool.or_true]; rfl
  have hle := pu_cn_le (fun j => pu_ins D e j && !K0 j) 36
  refine ⟨by omega, ⟨fun j hj => ?_, fun d hd => ?_, by omega, fun d hd => ?_⟩, by omega, fun j hj => pk_un (by omega)⟩
  · by_cases c : j = cnt
    · subst c
      exact ⟨e, pk_us, he, he2, by show (D e || decide (e = e)) = true; rw [decide_eq_true rfl, Bool.or_true]⟩
    · obtain ⟨d, z1, z2, z3, z4⟩ := h1 j (by omega)
      exact ⟨d, by rw [pk_un c]; exact z1, z2, z3, by show (D d || _) = true; rw [z4]; rfl⟩
  · have hd' : (D d || decide (d = e)) = true := hd
    rw [Bool.or_eq_true] at hd'
    rcases hd' with hd' | hd'
    · rcases h2 d hd' with z | ⟨j, hj, z⟩
      · exact Or.inl z
      · exact Or.inr ⟨j, by omega, by rw [pk_un (by omega)]; exact z⟩
    · have : d = e := of_decide_eq_true hd'
      subst this
      exact Or.inr ⟨cnt, by omega, pk_us⟩
  · show (D d || _) = true
    rw [h4 d hd]; rfl
def pu_pD (D : Nat → Bool) (k : Nat) (U : Nat → Bool) (i : Nat) : Nat → Bool := fun e => D e || (decide (e / 12 = k) && decide (e % 12 < i) && U (e % 12))
theorem pu_pD_0 {D U : Nat → Bool} {k : Nat} : pu_pD D k U 0 = D := by
  funext e
  show (D e || (decide (e / 12 = k) && decide (e % 12 < 0) && U (e % 12))) = D e
  rw [decide_eq_false (Nat.not_lt_zero _)]
  simp
theorem pu_lt1 {b i : Nat} (h : b ≠ i) : decide (b < i + 1) = decide (b < i) := by
  by_cases z : b < i
  · rw [decide_eq_true z, decide_eq_true (by omega)]
  · rw [decide_eq_false z, decide_eq_false (by omega)]
theorem pu_pD_n {D U : Nat → Bool} {k i : Nat} (hi : i < 12) (h : (U i && !D (k * 12 + i)) = false) : pu_pD D k U (i + 1) = pu_pD D k U i := by
  funext e
  show (D e || (decide (e / 12 = k) && decide (e % 12 < i + 1) && U (e % 12))) = (D e || (decide (e / 12 = k) && decide (e % 12 < i) && U (e % 12)))
  by_cases c : e % 12 = i
  · by_cases c2 : e / 12 = k
    · have : e = k * 12 + i := by omega
      rw [← this] at h
      rw [c, decide_eq_true c2, decide_eq_true (Nat.lt_succ_self i), decide_eq_false (Nat.lt_irrefl i)]
      cases z1 : D e
      · rw [z1] at h
        have : U i = false := by simpa using h
        rw [this]; rfl
      · rfl
    · rw [decide_eq_false c2]; simp
  · rw [pu_lt1 c]
theorem pu_pD_y {D U : Nat → Bool} {k i : Nat} (hi : i < 12) (h : (U i && !D (k * 12 + i)) = true) : pu_pD D k U (i + 1) = pu_ins (pu_pD D k U i) (k * 12 + i) := by
  funext e
  show (D e || (decide (e / 12 = k) && decide (e % 12 < i + 1) && U (e % 12))) = ((D e || (decide (e / 12 = k) && decide (e % 12 < i) && U (e % 12))) || decide (e = k * 12 + i))
  rw [Bool.and_eq_true] at h
  by_cases c : e = k * 12 + i
  · have c1 : e / 12 = k := by omega
    have c2 : e % 12 = i := by omega
    rw [decide_eq_true c, decide_eq_true c1, c2, decide_eq_true (Nat.lt_succ_self i), h.1]
    simp
  · rw [decide_eq_false c, Bool.or_false]
    by_cases c2 : e % 12 = i
    · rw [decide_eq_false (show ¬ e / 12 = k by omega)]
      simp
    · rw [pu_lt1 c2]
theorem pu_pD_at {D U : Nat → Bool} {k i : Nat} (hi : i < 12) : pu_pD D k U i (k * 12 + i) = D (k * 12 + i) := by
  show (D (k * 12 + i) || (decide ((k * 12 + i) / 12 = k) && decide ((k * 12 + i) % 12 < i) && U ((k * 12 + i) % 12))) = _
  rw [decide_eq_false (show ¬ (k * 12 + i) % 12 < i by omega)]
  simp
section
variable {N : Nat} {tT tW tB pc qj qs qr : Int32} {fo ba st jb ou ag wi us au kp tr pu ps pj po : Nat → Int32}
theorem xx_pull_lp {post : SX → Prop} {K0 D U : Nat → Bool} {k : Nat} {x3 : Int32} (hN : N ≤ 12) (hk : k < 3) (hx : ∀ i, i < 12 → bt x3 i = (U i && !D (k * 12 + i))) : ∀ (m i cnt : Nat) (pu : Nat → Int32), i + m = N → pu_LI N K0 (pu_pD D k U i) pu cnt → (∀ cnt' pu', pu_LI N K0 (pu_pD D k U N) pu' cnt' → pu_ext cnt pu cnt' pu' → post (nI N, tT, tW, tB, nI cnt', qj, qs, qr, fo, ba, st, jb, ou, ag, wi, us, au, kp, tr, pu', ps, pj, po)) → wX_pull_24 post (nI (k + 1)) x3 (nI N) tT tW tB qj qs qr (m + 1) (nI i) (nI cnt) fo ba st jb ou ag wi us au kp tr pu ps pj po := by
  intro m
  induction m with
  | zero =>
    intro i cnt pu hi hl h
    have e : i = N := by omega
    subst e
    exact br_t (nI_le (Nat.le_refl _) (by omega)) (h _ _ hl pu_ext_r)
  | succ m ih =>
    intro i cnt pu hi hl h
    have hc := pu_LI_c hl
    rw [wX_pull_24]; dsimp only
    simp only [nI_clamp (n := cnt) (by omega)]
    refine br_f (nI_ge (by omega) (by omega)) ?_
    refine xx_has (by omega) (pu_br (fun a1 => ?_) (fun a1 => ?_))
    · rw [hx i (by omega)] at a1
      exact nm_r (nI_1 i) (ih (i + 1) cnt pu (by omega) (by rw [pu_pD_n (by omega) a1]; exact hl) h)
    · rw [hx i (by omega)] at a1
      have hD : pu_pD D k U i (k * 12 + i) = false := by
        rw [pu_pD_at (by omega)]
        rw [Bool.and_eq_true] at a1
        simpa using a1.2
      obtain ⟨hc2, hl2, hx2⟩ := pu_LI_add hl (e := k * 12 + i) (by omega) (by omega) hD
      rw [← pu_pD_y (by omega) a1] at hl2
      have ev : nI (k + 1) * 12 + nI i = nI (12 + (k * 12 + i)) := by
        show nI (k + 1) * nI 12 + nI i = _
        rw [pk_mul, nI_add]
        exact congrArg nI (by omega)
      rw [ev]
      refine br_f (nI_ge (b := 36) hc2 (by decide)) ⟨vp_in_nI hc2 (by omega), nm_e (nm_r (nI_1 cnt) (nm_r (nI_1 i) (ih (i + 1) (cnt + 1) _ (by omega) hl2 (fun c' p' l' x' => h c' p' l' (pu_ext_t hx2 x')))))⟩
theorem xx_pull {post : SX → Prop} {K0 D U : Nat → Bool} {p0 p1 : Int32} {cnt : Nat} (k : Nat) (hp : p0 = nI (k + 1)) (hN : N ≤ 12) (hk : k < 3) (hU : ∀ i, i < 32 → bt p1 i = U i) (hU2 : ∀ i, U i = true → i < N) (hT : pu_TB D tr) (hl : pu_LI N K0 D pu cnt) (h : ∀ cnt' pu' tr', pu_LI N K0 (pu_pD D k U N) pu' cnt' → pu_ext cnt pu cnt' pu' → pu_TB (pu_pD D k U N) tr' → post (nI N, tT, tW, tB, nI cnt', qj, qs, qr, fo, ba, st, jb, ou, ag, wi, us, au, kp, tr', pu', ps, pj, po)) : wpX_pull post (nI N, tT, tW, tB, nI cnt, qj, qs, qr, fo, ba, st, jb, ou, ag, wi, us, au, kp, tr, pu, ps, pj, po) p0 p1 := by
  subst hp
  have hin : vp_in (nI (k + 1)) 4 := vp_in_nI (by omega) (by omega)
  unfold wpX_pull
  simp only [nI_clamp (n := k + 1) (by omega)]
  refine ⟨hin, nm_e ⟨hin, hin, nm_e ?_⟩⟩
  have hx : ∀ i, i < 12 → bt (p1 &&& (tr (k + 1) ^^^ (-1))) i = (U i && !D (k * 12 + i)) := fun i hi => by
    rw [pu_bn _ _ (by omega), hU i (by omega), hT k i hk (by omega), decide_eq_true hi, Bool.true_and]
  refine Exists.intro (N + 1) (xx_pull_lp (D := D) (U := U) hN hk hx N 0 cnt pu (by omega) (by rw [pu_pD_0]; exact hl) (fun c' p' l' x' => h c' p' _ l' x' ?_))
  intro k' i hk' hi
  by_cases ek : k' = k
  · subst ek
    rw [pk_us, b_or, pu_bn _ _ hi, hT k' i hk' hi, hU i hi]
    by_cases h12 : i < 12
    · show _ = (decide (i < 12) && (D (k' * 12 + i) || (decide ((k' * 12 + i) / 12 = k') && decide ((k' * 12 + i) % 12 < N) && U ((k' * 12 + i) % 12))))
      rw [decide_eq_true h12, decide_eq_true (show (k' * 12 + i) / 12 = k' by omega), show (k' * 12 + i) % 12 = i by omega]
      cases z : U i
      · simp
      · rw [decide_eq_true (hU2 i z)]
        cases D (k' * 12 + i) <;> rfl
    · have : U i = false := by
        cases z : U i
        · rfl
        · have := hU2 i z; omega
      rw [decide_eq_false h12, this]; rfl
  · rw [pk_un (by omega), hT k' i hk' hi]
    by_cases h12 : i < 12
    · show _ = (decide (i < 12) && (D (k' * 12 + i) || (decide ((k' * 12 + i) / 12 = k) && decide ((k' * 12 + i) % 12 < N) && U ((k' * 12 + i) % 12))))
      rw [decide_eq_false (show ¬ (k' * 12 + i) / 12 = k by omega)]
      simp
    · rw [decide_eq_false h12]; rfl
theorem xx_act_lp {post : Int32 → Prop} (hN : N ≤ 12) (h : ∀ r, (∀ i, i < 32 → bt r i = (decide (i < N) && decide (st i = 2))) → post r) : ∀ (m i : Nat) (x1 : Int32), i + m = N → (∀ b, b < 32 → bt x1 b = (decide (b < i) && decide (st b = 2))) → wX_activeUnits_4 post (nI N) tT tW tB pc qj qs qr fo ba st jb ou ag wi us au kp tr pu ps pj po (m + 1) x1 (nI i) := by
  intro m
  induction m with
  | zero =>
    intro i x1 hi hx
    have e : i = N := by omega
    subst e
    exact br_t (nI_le (Nat.le_refl _) (by omega)) (h _ hx)
  | succ m ih =>
    intro i x1 hi hx
    rw [wX_activeUnits_4]; dsimp only
    simp only [nI_clamp (n := i) (by omega)]
    refine br_f (nI_ge (by omega) (by omega)) ⟨vp_in_nI (by omega) (by omega), ?_⟩
    by_cases c : st i = 2
    · refine br_t c (nm_e (nm_r (nI_1 i) (ih (i + 1) _ (by omega) (fun b hb => ?_))))
      rw [pu_or1 (by omega) hb, hx b hb]
      by_cases e : b = i
      · subst e
        rw [decide_eq_true c, decide_eq_true (Nat.lt_succ_self b)]; simp
      · rw [pu_lt1 e, decide_eq_false e, Bool.or_false]
    · refine br_f c (nm_r (nI_1 i) (ih (i + 1) _ (by omega) (fun b hb => ?_)))
      rw [hx b hb]
      by_cases e : b = i
      · subst e
        rw [decide_eq_false c]; simp
      · rw [pu_lt1 e]
theorem xx_act {post : Int32 → Prop} (hN : N ≤ 12) (h : ∀ r, (∀ i, i < 32 → bt r i = (decide (i < N) && decide (st i = 2))) → post r) : wpX_activeUnits post (nI N, tT, tW, tB, pc, qj, qs, qr, fo, ba, st, jb, ou, ag, wi, us, au, kp, tr, pu, ps, pj, po) := by
  unfold wpX_activeUnits
  exact Exists.intro (N + 1) (xx_act_lp hN h N 0 0 (by omega) (fun b _ => by rw [b_0]; simp))
end
end
section
/-! X: expanding a demand, closing -/
theorem pu_exp1 {N : Nat} {R : Nat → Nat → Nat → Bool} {st : Nat → Int32} {D : Nat → Bool} {d : Nat} (hR : pu_Rok N R) (c1 : d / 12 = 1) : pu_pD D 1 (fun y => pu_hg R (d % 12) y) N = pu_un D (pu_pl R st d) := by
  funext e
  show (D e || (decide (e / 12 = 1) && decide (e % 12 < N) && pu_hg R (d % 12) (e % 12))) = (D e || pu_pl R st d e)
  unfold pu_pl
  rw [if_pos c1]
  by_cases c : e / 12 = 1
  · rw [decide_eq_true c, decide_eq_true (show e < 36 by omega)]
    cases z : pu_hg R (d % 12) (e % 12)
    · simp
    · rw [decide_eq_true (pu_hg_in hR z)]; rfl
  · rw [decide_eq_false c]; simp
theorem pu_exp2 {N : Nat} {R : Nat → Nat → Nat → Bool} {st : Nat → Int32} {D : Nat → Bool} {d : Nat} (hR : pu_Rok N R) (c1 : ¬ d / 12 = 1) (c2 : ¬ d / 12 = 2) : pu_pD (pu_pD D 0 (fun y => R 0 (d % 12) y || R 2 (d % 12) y) N) 1 (fun y => R 4 (d % 12) y) N = pu_un D (pu_pl R st d) := by
  funext e
  show ((D e || (decide (e / 12 = 0) && decide (e % 12 < N) && (R 0 (d % 12) (e % 12) || R 2 (d % 12) (e % 12)))) || (decide (e / 12 = 1) && decide (e % 12 < N) && R 4 (d % 12) (e % 12))) = (D e || pu_pl R st d e)
  unfold pu_pl
  rw [if_neg c1, decide_eq_false c2]
  by_cases c : e / 12 = 0
  · rw [decide_eq_true c, decide_eq_false (show ¬ e / 12 = 1 by omega), if_pos c, decide_eq_true (show e < 36 by omega)]
    cases z : (R 0 (d % 12) (e % 12) || R 2 (d % 12) (e % 12))
    · simp
    · have : e % 12 < N := by
        rw [Bool.or_eq_true] at z
        rcases z with z | z
        · exact (hR.1 _ _ _ z).2.1
        · exact (hR.1 _ _ _ z).2.1
      rw [decide_eq_true this]; simp
  · rw [decide_eq_false c, if_neg c]
    by_cases c3 : e / 12 = 1
    · rw [decide_eq_true c3, if_pos c3, decide_eq_true (show e < 36 by omega)]
      cases z : R 4 (d % 12) (e % 12)
      · simp
      · rw [decide_eq_true (hR.1 _ _ _ z).2.1]; simp
    · rw [decide_eq_false c3, if_neg c3]; simp
theorem pu_exp3 {N : Nat} {R : Nat → Nat → Nat → Bool} {st : Nat → Int32} {D : Nat → Bool} {d : Nat} (hR : pu_Rok N R) (c2 : d / 12 = 2) : pu_pD (pu_pD (pu_pD D 0 (fun y => R 0 (d % 12) y || R 2 (d % 12) y) N) 1 (fun y => R 4 (d % 12) y) N) 2 (fun y => pu_hg R (d % 12) y && (decide (y < N) && decide (st y = 2))) N = pu_un D (pu_pl R st d) := by
  funext e
  show (((D e || (decide (e / 12 = 0) && decide (e % 12 < N) && (R 0 (d % 12) (e % 12) || R 2 (d % 12) (e % 12)))) || (decide (e / 12 = 1) && decide (e % 12 < N) && R 4 (d % 12) (e % 12))) || (decide (e / 12 = 2) && decide (e % 12 < N) && (pu_hg R (d % 12) (e % 12) && (decide (e % 12 < N) && decide (st (e % 12) = 2))))) = (D e || pu_pl R st d e)
  unfold pu_pl
  rw [if_neg (show ¬ d / 12 = 1 by omega), decide_eq_true c2]
  by_cases c : e / 12 = 0
  · rw [decide_eq_true c, decide_eq_false (show ¬ e / 12 = 1 by omega), decide_eq_false (show ¬ e / 12 = 2 by omega), if_pos c, decide_eq_true (show e < 36 by omega)]
    cases z : (R 0 (d % 12) (e % 12) || R 2 (d % 12) (e % 12))
    · simp
    · have : e % 12 < N := by
        rw [Bool.or_eq_true] at z
        rcases z with z | z
        · exact (hR.1 _ _ _ z).2.1
        · exact (hR.1 _ _ _ z).2.1
      rw [decide_eq_true this]; simp
  · rw [decide_eq_false c, if_neg c]
    by_cases c3 : e / 12 = 1
    · rw [decide_eq_true c3, if_pos c3, decide_eq_false (show ¬ e / 12 = 2 by omega), decide_eq_true (show e < 36 by omega)]
      cases z : R 4 (d % 12) (e % 12)
      · simp
      · rw [decide_eq_true (hR.1 _ _ _ z).2.1]; simp
    · rw [decide_eq_false c3, if_neg c3]
      by_cases c4 : e / 12 = 2
      · rw [decide_eq_true c4, decide_eq_true (show e < 36 by omega)]
        cases z : pu_hg R (d % 12) (e % 12)
        · simp
        · rw [decide_eq_true (pu_hg_in hR z)]; simp
      · rw [decide_eq_false c4, decide_eq_false (show ¬ e < 36 by omega)]; simp
section
variable {N : Nat} {tT tW tB pc qj qs qr : Int32} {fo ba st jb ou ag wi us au kp tr pu ps pj po : Nat → Int32}
theorem xx_exp {post : SX → Prop} {R : Nat → Nat → Nat → Bool} {K0 D : Nat → Bool} {d cnt : Nat} (hN : N ≤ 12) (hR : pu_Rok N R) (hX : pu_XF R fo ba) (hd : d < 36) (hT : pu_TB D tr) (hl : pu_LI N K0 D pu cnt) (h : ∀ cnt' pu' tr', pu_LI N K0 (pu_un D (pu_pl R st d)) pu' cnt' → pu_ext cnt pu cnt' pu' → pu_TB (pu_un D (pu_pl R st d)) tr' → post (nI N, tT, tW, tB, nI cnt', qj, qs, qr, fo, ba, st, jb, ou, ag, wi, us, au, kp, tr', pu', ps, pj, po)) : wpX_expand post (nI N, tT, tW, tB, nI cnt, qj, qs, qr, fo, ba, st, jb, ou, ag, wi, us, au, kp, tr, pu, ps, pj, po) (nI (d / 12 + 1)) (nI (d % 12)) := by
  have hx : d % 12 < 12 := Nat.mod_lt _ (by decide)
  have e0 : (0 : Int32) + nI (d % 12) = nI (d % 12) := by
    show nI 0 + nI (d % 12) = nI (d % 12)
    rw [nI_add, Nat.zero_add]
  have e24 : (24 : Int32) + nI (d % 12) = nI (24 + d % 12) := nI_add 24 (d % 12)
  have e36 : (36 : Int32) + nI (d % 12) = nI (36 + d % 12) := nI_add 36 (d % 12)
  have e48 : (48 : Int32) + nI (d % 12) = nI (48 + d % 12) := nI_add 48 (d % 12)
  have f0 : ∀ i, i < 32 → bt (fo (d % 12)) i = R 0 (d % 12) i := fun i hi => by
    have := (hX 0 (d % 12) i (by omega) hx hi).1
    rwa [Nat.zero_mul, Nat.zero_add] at this
  have b0 : ∀ i, i < 32 → bt (ba (d % 12)) i = R 0 i (d % 12) := fun i hi => by
    have := (hX 0 (d % 12) i (by omega) hx hi).2
    rwa [Nat.zero_mul, Nat.zero_add] at this
  have f2 : ∀ i, i < 32 → bt (fo (24 + d % 12)) i = R 2 (d % 12) i := fun i hi => (hX 2 (d % 12) i (by omega) hx hi).1
  have b2 : ∀ i, i < 32 → bt (ba (24 + d % 12)) i = R 2 i (d % 12) := fun i hi => (hX 2 (d % 12) i (by omega) hx hi).2
  have b3 : ∀ i, i < 32 → bt (ba (36 + d % 12)) i = R 3 i (d % 12) := fun i hi => (hX 3 (d % 12) i (by omega) hx hi).2
  have f4 : ∀ i, i < 32 → bt (fo (48 + d % 12)) i = R 4 (d % 12) i := fun i hi => (hX 4 (d % 12) i (by omega) hx hi).1
  have hdep : ∀ i, i < 32 → bt ((ba (d % 12) ||| ba (24 + d % 12)) ||| ba (36 + d % 12)) i = pu_hg R (d % 12) i := fun i hi => by
    rw [b_or, b_or, b0 i hi, b2 i hi, b3 i hi]; rfl
  have v0 : vp_in (nI (d % 12)) 72 := vp_in_nI (by omega) (by omega)
  have v24 : vp_in (nI (24 + d % 12)) 72 := vp_in_nI (by omega) (by omega)
  have v36 : vp_in (nI (36 + d % 12)) 72 := vp_in_nI (by omega) (by omega)
  have v48 : vp_in (nI (48 + d % 12)) 72 := vp_in_nI (by omega) (by omega)
  unfold wpX_expand
  simp only [e0, e24, e36, e48, nI_clamp (n := d % 12) (by omega), nI_clamp (n := 24 + d % 12) (by omega), nI_clamp (n := 36 + d % 12) (by omega), nI_clamp (n := 48 + d % 12) (by omega)]
  refine ⟨v0, v24, v36, nm_e ?_⟩
  refine pk_eq (d / 12 + 1) 2 (fun c => ?_) (fun c => ?_)
  · refine xx_pull (K0 := K0) (D := D) (U := fun y => pu_hg R (d % 12) y) 1 rfl hN (by omega) hdep (fun i hi => pu_hg_in hR hi) hT hl (fun c' p' t' l' x' b' => ?_)
    rw [pu_exp1 (st := st) hR (by omega)] at l' b'
    exact h c' p' t' l' x' b'
  · refine ⟨v0, v24, ?_⟩
    refine xx_pull (K0 := K0) (D := D) (U := fun y => R 0 (d % 12) y || R 2 (d % 12) y) 0 rfl hN (by omega) (fun i hi => by rw [b_or, f0 i hi, f2 i hi]) (fun i hi => ?_) hT hl (fun c1 p1 t1 l1 x1 b1 => ?_)
    · have hi' : (R 0 (d % 12) i || R 2 (d % 12) i) = true := hi
      rw [Bool.or_eq_true] at hi'
      rcases hi' with z | z
      · exact (hR.1 _ _ _ z).2.1
      · exact (hR.1 _ _ _ z).2.1
    · refine And.intro v48 ?_
      refine xx_pull (K0 := K0) (D := pu_pD D 0 (fun y => R 0 (d % 12) y || R 2 (d % 12) y) N) (U := fun y => R 4 (d % 12) y) 1 rfl hN (by omega) f4 (fun i hi => (hR.1 _ _ _ hi).2.1) b1 l1 (fun c2 p2 t2 l2 x2 b2 => ?_)
      refine pk_eq (d / 12 + 1) 3 (fun c3 => ?_) (fun c3 => ?_)
      · refine xx_act hN (fun r hr => ?_)
        refine xx_pull (K0 := K0) (D := pu_pD (pu_pD D 0 (fun y => R 0 (d % 12) y || R 2 (d % 12) y) N) 1 (fun y => R 4 (d % 12) y) N) (U := fun y => pu_hg R (d % 12) y && (decide (y < N) && decide (st y = 2))) 2 rfl hN (by omega) (fun i hi => by rw [b_and, hdep i hi, hr i hi]) (fun i hi => ?_) b2 l2 (fun c3 p3 t3 l3 x3 b3 => ?_)
        · have hi' : (pu_hg R (d % 12) i && (decide (i < N) && decide (st i = 2))) = true := hi
          rw [Bool.and_eq_true] at hi'
          exact pu_hg_in hR hi'.1
        · rw [pu_exp3 hR (by omega)] at l3 b3
          exact h c3 p3 t3 l3 (pu_ext_t x1 (pu_ext_t x2 x3)) b3
      · rw [pu_exp2 (st := st) hR (by omega) (by omega)] at l2 b2
        exact h c2 p2 t2 l2 (pu_ext_t x1 x2) b2
theorem xx_close_lp {post : SX → Prop} {R : Nat → Nat → Nat → Bool} {K : Nat → Bool} {d0 : Nat} (hN : N ≤ 12) (hR : pu_Rok N R) (hX : pu_XF R fo ba) (hd0 : d0 < 36) (hd1 : d0 % 12 < N) (cK : pu_clo R st K) (h : ∀ cnt' pu' tr', pu_TB (pu_un K (pu_H R st d0)) tr' → post (nI N, tT, tW, tB, nI cnt', qj, qs, qr, fo, ba, st, jb, ou, ag, wi, us, au, kp, tr', pu', ps, pj, po)) : ∀ (m i cnt : Nat) (pu tr : Nat → Int32) (D : Nat → Bool), i + m = 36 → pu_LI N K D pu cnt → pu_TB D tr → pu_Dok N D → D d0 = true → (∀ j, j < i → ∀ d, d < 36 → pu j = nI (12 + d) → ∀ e, pu_pl R st d e = true → D e = true) → (∀ C, pu_clo R st C → (∀ e, K e = true → C e = true) → C d0 = true → ∀ e, D e = true → C e = true) → wX_close_15 post (m + 1) (nI i) (nI N) tT tW tB (nI cnt) qj qs qr fo ba st jb ou ag wi us au kp tr pu ps pj po := by
  have fin : ∀ (i cnt : Nat) (pu tr : Nat → Int32) (D : Nat → Bool), pu_LI N K D pu cnt → pu_TB D tr → pu_Dok N D → D d0 = true → (∀ j, j < i → ∀ d, d < 36 → pu j = nI (12 + d) → ∀ e, pu_pl R st d e = true → D e = true) → (∀ C, pu_clo R st C → (∀ e, K e = true → C e = true) → C d0 = true → ∀ e, D e = true → C e = true) → cnt ≤ i → post (nI N, tT, tW, tB, nI cnt, qj, qs, qr, fo, ba, st, jb, ou, ag, wi, us, au, kp, tr, pu, ps, pj, po) := by
    intro i cnt pu tr D hl hT hD h0 hdn hmin hc
    have cD : pu_clo R st D := by
      intro d e hd hp
      rcases hl.2.1 d hd with z | ⟨j, hj, z⟩
      · exact hl.2.2.2 e (cK d e z hp)
      · exact hdn j (by omega) d (hD d hd).1 z e hp
    have := pu_H_un hR hd0 hd1 cK cD hl.2.2.2 h0 hmin
    rw [this] at hT
    exact h cnt pu tr hT
  intro m
  induction m with
  | zero =>
    intro i cnt pu tr D hi hl hT hD h0 hdn hmin
    have hc := pu_LI_c hl
    exact br_t (nI_le (by omega) (by omega)) (fin i cnt pu tr D hl hT hD h0 hdn hmin (by omega))
  | succ m ih =>
    intro i cnt pu tr D hi hl hT hD h0 hdn hmin
    have hc := pu_LI_c hl
    rw [wX_close_15]; dsimp only
    refine pk_le cnt i (fun hle => fin i cnt pu tr D hl hT hD h0 hdn hmin hle) (fun hlt => ?_)
    obtain ⟨e, pe, he, he2, hDe⟩ := hl.1 i hlt
    have ed : nI (12 + e) / 12 = nI (e / 12 + 1) := by
      show nI (12 + e) / nI 12 = _
      rw [pk_div (by omega) (by omega) (by omega)]
      exact congrArg nI (by omega)
    have er : nI (12 + e) - nI (12 + e) / 12 * 12 = nI (e % 12) := by
      show nI (12 + e) - nI (12 + e) / nI 12 * nI 12 = _
      rw [pk_rem (by omega) (by omega) (by omega)]
      exact congrArg nI (by omega)
    have hin : vp_in (nI i) 36 := vp_in_nI (by omega) (by omega)
    have n12 : ¬ (12 : Int32) = 0 := by decide
    rw [nI_clamp (n := i) (by omega), pe]
    refine br_f (nI_ge (b := 36) (by omega) (by decide)) ⟨hin, n12, nm_r ed ⟨hin, n12, nm_r er ?_⟩⟩
    refine xx_exp hN hR hX he hT hl (fun c' p' t' l' x' b' => nm_r (nI_1 i) (ih (i + 1) c' p' t' _ (by omega) l' b' ?_ ?_ ?_ ?_))
    · intro z hz
      have hz' : (D z || pu_pl R st e z) = true := hz
      rw [Bool.or_eq_true] at hz'
      rcases hz' with hz' | hz'
      · exact hD z hz'
      · exact pu_pl_in hR hz'
    · show (D d0 || _) = true
      rw [h0]; rfl
    · intro j hj d hd hpd z hpz
      show (D z || pu_pl R st e z) = true
      rw [x'.2 j (by omega)] at hpd
      by_cases c : j = i
      · subst c
        rw [pe, nI_eq (by omega) (by omega)] at hpd
        have : e = d := by omega
        subst this
        rw [hpz, Bool.or_true]
      · rw [hdn j (by omega) d hd hpd z hpz]; rfl
    · intro C cC hKC hC0 z hz
      have hz' : (D z || pu_pl R st e z) = true := hz
      rw [Bool.or_eq_true] at hz'
      rcases hz' with hz' | hz'
      · exact hmin C cC hKC hC0 z hz'
      · exact cC e z (hmin C cC hKC hC0 e hDe) hz'
theorem xx_close {post : SX → Prop} {R : Nat → Nat → Nat → Bool} {K : Nat → Bool} {k u : Nat} (hN : N ≤ 12) (hR : pu_Rok N R) (hX : pu_XF R fo ba) (hk : k < 3) (hu : u < N) (cK : pu_clo R st K) (hD : pu_Dok N K) (hT : pu_TB K tr) (h : ∀ pc' pu' tr', pu_TB (pu_un K (pu_H R st (k * 12 + u))) tr' → post (nI N, tT, tW, tB, pc', qj, qs, qr, fo, ba, st, jb, ou, ag, wi, us, au, kp, tr', pu', ps, pj, po)) : wpX_close post (nI N, tT, tW, tB, pc, qj, qs, qr, fo, ba, st, jb, ou, ag, wi, us, au, kp, tr, pu, ps, pj, po) (nI (k + 1)) (nI u) := by
  unfold wpX_close
  have hl0 : pu_LI N K K pu 0 := ⟨fun j hj => absurd hj (Nat.not_lt_zero j), fun e he => Or.inl he, Nat.zero_le _, fun e he => he⟩
  refine xx_pull (K0 := K) (D := K) (U := fun y => decide (y = u)) (cnt := 0) k rfl hN hk (fun i hi => pu_b1 (by omega) hi) (fun i hi => ?_) hT hl0 (fun c' p' t' l' x' b' => ?_)
  · have : i = u := of_decide_eq_true hi
    omega
  · have hpd : ∀ e, pu_pD K k (fun y => decide (y = u)) N e = true → K e = true ∨ e = k * 12 + u := by
      intro e he
      have he' : (K e || (decide (e / 12 = k) && decide (e % 12 < N) && decide (e % 12 = u))) = true := he
      rw [Bool.or_eq_true, Bool.and_eq_true, Bool.and_eq_true] at he'
      rcases he' with z | ⟨⟨z1, z2⟩, z3⟩
      · exact Or.inl z
      · have z1 := of_decide_eq_true z1
        have z3 := of_decide_eq_true z3
        exact Or.inr (by omega)
    refine Exists.intro 37 (xx_close_lp hN hR hX (d0 := k * 12 + u) (by omega) (by omega) cK (fun a b c d => h _ b c d) 36 0 c' p' t' _ (by omega) l' b' ?_ ?_ (fun j hj => absurd hj (Nat.not_lt_zero j)) ?_)
    · intro e he
      rcases hpd e he with z | z
      · exact hD e z
      · exact ⟨by omega, by omega⟩
    · show (K (k * 12 + u) || (decide ((k * 12 + u) / 12 = k) && decide ((k * 12 + u) % 12 < N) && decide ((k * 12 + u) % 12 = u))) = true
      rw [decide_eq_true (show (k * 12 + u) / 12 = k by omega), decide_eq_true (show (k * 12 + u) % 12 < N by omega), decide_eq_true (show (k * 12 + u) % 12 = u by omega), Bool.or_eq_true]
      exact Or.inr rfl
    · intro C _ hKC hC0 e he
      rcases hpd e he with z | z
      · exact hKC e z
      · rw [z]; exact hC0
end
end
section
/-! X: plans, verdicts, trials -/
theorem pu_ex_or {f g : Nat → Bool} {n : Nat} : pu_ex (fun x => f x || g x) n = (pu_ex f n || pu_ex g n) := by
  induction n with
  | zero => rfl
  | succ n ih =>
    show (pu_ex (fun x => f x || g x) n || (f n || g n)) = ((pu_ex f n || f n) || (pu_ex g n || g n))
    rw [ih]
    cases pu_ex f n <;> cases pu_ex g n <;> cases f n <;> cases g n <;> rfl
theorem pu_ex_congr {f g : Nat → Bool} {n : Nat} (h : ∀ i, i < n → f i = g i) : pu_ex f n = pu_ex g n := by
  induction n with
  | zero => rfl
  | succ n ih =>
    show (pu_ex f n || f n) = (pu_ex g n || g n)
    rw [ih (fun i hi => h i (by omega)), h n (by omega)]
/-- a bit set against a search -/
theorem pu_z_ex {x : Int32} {f : Nat → Bool} {N : Nat} (hN : N ≤ 12) (hx : ∀ i, i < 32 → bt x i = (decide (i < N) && f i)) : x = 0 ↔ pu_ex f N = false := by
  rw [pu_b0]
  constructor
  · intro h
    refine pu_ex_no (fun i hi => ?_)
    have := h i (by omega)
    rw [hx i (by omega), decide_eq_true hi] at this
    exact this
  · intro h i hi
    rw [hx i hi]
    by_cases c : i < N
    · rw [pu_ex_f h c, Bool.and_false]
    · rw [decide_eq_false c]; rfl
theorem pu_bz {x : Int32} {f : Nat → Bool} {N : Nat} {A B : Prop} (hN : N ≤ 12) (hx : ∀ i, i < 32 → bt x i = (decide (i < N) && f i)) (fa : pu_ex f N = false → A) (fb : pu_ex f N = true → B) : (x = 0 → A) ∧ (¬ x = 0 → B) := by
  rw [pu_z_ex hN hx]
  refine ⟨fa, fun z => fb ?_⟩
  cases e : pu_ex f N
  · exact absurd e z
  · rfl
theorem pu_TB_at {T : Nat → Bool} {a : Nat → Int32} (h : pu_TB T a) {i : Nat} (hi : i < 32) : bt (a 1) i = (decide (i < 12) && T i) ∧ bt (a 2) i = (decide (i < 12) && T (12 + i)) ∧ bt (a 3) i = (decide (i < 12) && T (24 + i)) := by
  have h0 : bt (a 1) i = (decide (i < 12) && T (0 * 12 + i)) := h 0 i (by omega) hi
  rw [Nat.zero_mul, Nat.zero_add] at h0
  exact ⟨h0, h 1 i (by omega) hi, h 2 i (by omega) hi⟩
theorem pu_TB_c {T : Nat → Bool} {a b : Nat → Int32} (h : pu_TB T a) (e : ∀ k, 1 ≤ k → k < 4 → b k = a k) : pu_TB T b := by
  intro k i hk hi
  rw [e (k + 1) (by omega) (by omega)]
  exact h k i hk hi
theorem pu_Dok_f {N : Nat} {T : Nat → Bool} (h : pu_Dok N T) {i : Nat} (hi : i < 12) (hn : ¬ i < N) : T i = false ∧ T (12 + i) = false ∧ T (24 + i) = false := by
  have f : ∀ e, e % 12 = i → T e = false := fun e he => by
    cases z : T e
    · rfl
    · have := h e z; omega
  exact ⟨f _ (by omega), f _ (by omega), f _ (by omega)⟩
theorem pu_up4 {j : Int32} (h : pu_J4 j) : pu_up j = (!decide (j = 0) && !decide (j = 2)) := by
  rcases h with e | e | e | e <;> (subst e; decide)
section
variable {N : Nat} {tT tW tB pc qj qs qr : Int32} {fo ba st jb ou ag wi us au kp tr pu ps pj po : Nat → Int32}
theorem xx_dmo {post : Int32 → Prop} {T : Nat → Bool} {x : Nat} (hx : x < 12) (hT : pu_TB T tr) (h : post (pu_dm T x)) : wpX_demandOn post (nI N, tT, tW, tB, pc, qj, qs, qr, fo, ba, st, jb, ou, ag, wi, us, au, kp, tr, pu, ps, pj, po) (nI x) := by
  obtain ⟨t1, t2, t3⟩ := pu_TB_at hT (i := x) (by omega)
  rw [decide_eq_true hx, Bool.true_and] at t1 t2 t3
  unfold pu_dm at h
  unfold wpX_demandOn
  refine xx_has (by omega) (pu_br (fun a1 => ?_) (fun a1 => ?_))
  · rw [t3] at a1
    rw [a1, if_neg (by decide)] at h
    refine xx_has (by omega) (pu_br (fun a2 => ?_) (fun a2 => ?_))
    · rw [t1] at a2
      rw [a2, if_neg (by decide)] at h
      refine xx_has (by omega) (pu_br (fun a3 => ?_) (fun a3 => ?_))
      · rw [t2] at a3
        rw [a3, if_neg (by decide)] at h
        exact h
      · rw [t2] at a3
        rw [a3, if_pos rfl] at h
        exact h
    · rw [t1] at a2
      rw [a2, if_pos rfl] at h
      exact h
  · rw [t3] at a1
    rw [a1, if_pos rfl] at h
    exact h
theorem xx_idl {post : Int32 → Prop} {x : Nat} {k : Int32} (hx : x < 12) (h : post (pu_bI (pu_id k (st x)))) : wpX_idle post (nI N, tT, tW, tB, pc, qj, qs, qr, fo, ba, st, jb, ou, ag, wi, us, au, kp, tr, pu, ps, pj, po) (nI x) k := by
  have hin : vp_in (nI x) 12 := vp_in_nI hx (by omega)
  unfold pu_id at h
  unfold wpX_idle
  simp only [nI_clamp (n := x) (by omega)]
  by_cases k2 : k = 2
  · have k1 : ¬ k = 1 := by rw [k2]; exact pu_l2_1
    rw [decide_eq_true k2, decide_eq_false k1] at h
    refine br_t k2 ⟨hin, ?_⟩
    by_cases s0 : st x = 0
    · rw [decide_eq_true s0] at h
      exact br_t s0 h
    · rw [decide_eq_false s0] at h
      refine br_f s0 ⟨hin, ?_⟩
      by_cases s3 : st x = 3
      · rw [decide_eq_true s3] at h
        exact br_t s3 h
      · rw [decide_eq_false s3] at h
        exact br_f s3 h
  · rw [decide_eq_false k2] at h
    refine br_f k2 ?_
    by_cases k1 : k = 1
    · rw [decide_eq_true k1] at h
      refine br_t k1 ⟨hin, ?_⟩
      by_cases s2 : st x = 2
      · rw [decide_eq_true s2] at h
        exact br_t s2 h
      · rw [decide_eq_false s2] at h
        exact br_f s2 h
    · rw [decide_eq_false k1] at h
      exact br_f k1 h
theorem xx_mrg53 {post : SX → Prop} {x : Nat} {k z0 z1 : Int32} (hx : x < 12) (hk : ¬ k = 0) (hj : ¬ jb x = 0) (hz : z1 = z0 ↔ decide (jb x = 2) = decide (k = 2)) (p1 : pj x = jb x) (p2 : ps x = st x) (p3 : po x = ou x) (h : ∀ pj' ps' po', pj' = upd pj x (pu_mj k (jb x) (st x)) → ps' = upd ps x (pu_ms k (jb x) (st x)) → po' = upd po x (pu_mo k (jb x) (ou x)) → post (nI N, tT, tW, tB, pc, qj, qs, qr, fo, ba, st, jb, ou, ag, wi, us, au, kp, tr, pu, ps', pj', po')) : wX_mergeDemand_53 post (nI x) k z0 z1 (nI N) tT tW tB pc qj qs qr fo ba st jb ou ag wi us au kp tr pu ps pj po := by
  have hin : vp_in (nI x) 12 := vp_in_nI hx (by omega)
  unfold pu_mj pu_ms pu_mo at h
  rw [if_neg hk, if_neg hk, if_neg hk, if_neg hj, if_neg hj, if_neg hj] at h
  unfold wX_mergeDemand_53
  rw [nI_clamp (n := x) (by omega)]
  by_cases c : decide (jb x = 2) = decide (k = 2)
  · rw [if_pos c, if_pos c, if_pos c] at h
    refine br_t (hz.mpr c) ?_
    by_cases k3 : k = 3
    · rw [if_pos k3] at h
      refine br_t k3 ⟨hin, ?_⟩
      by_cases s1 : st x = 1
      · rw [if_pos s1] at h
        exact br_t s1 (h _ _ _ (pu_upself p1) (pu_upself p2) (pu_upself p3))
      · rw [if_neg s1] at h
        exact br_f s1 ⟨hin, nm_e (h _ _ _ rfl (pu_upself p2) (pu_upself p3))⟩
    · rw [if_neg k3] at h
      exact br_f k3 (h _ _ _ (pu_upself p1) (pu_upself p2) (pu_upself p3))
  · rw [if_neg c, if_neg c, if_neg c] at h
    refine br_f (fun z => c (hz.mp z)) ⟨hin, nm_e ⟨hin, nm_e ⟨hin, ?_⟩⟩⟩
    by_cases s1 : st x = 1
    · rw [if_pos s1] at h
      exact br_t s1 ⟨hin, nm_e (h _ _ _ rfl rfl rfl)⟩
    · rw [if_neg s1] at h
      exact br_f s1 (h _ _ _ rfl (pu_upself p2) rfl)
theorem xx_mrg {post : SX → Prop} {x : Nat} {k : Int32} (hx : x < 12) (hk : ¬ k = 0) (p1 : pj x = jb x) (p2 : ps x = st x) (p3 : po x = ou x) (h : ∀ pj' ps' po', pj' = upd pj x (pu_mj k (jb x) (st x)) → ps' = upd ps x (pu_ms k (jb x) (st x)) → po' = upd po x (pu_mo k (jb x) (ou x)) → post (nI N, tT, tW, tB, pc, qj, qs, qr, fo, ba, st, jb, ou, ag, wi, us, au, kp, tr, pu, ps', pj', po')) : wpX_mergeDemand post (nI N, tT, tW, tB, pc, qj, qs, qr, fo, ba, st, jb, ou, ag, wi, us, au, kp, tr, pu, ps, pj, po) (nI x) k := by
  have hin : vp_in (nI x) 12 := vp_in_nI hx (by omega)
  unfold wpX_mergeDemand
  simp only [nI_clamp (n := x) (by omega)]
  refine ⟨hin, ?_⟩
  by_cases j0 : jb x = 0
  · refine br_t j0 ?_
    unfold pu_mj pu_ms pu_mo at h
    rw [if_neg hk, if_neg hk, if_neg hk, if_pos j0, if_pos j0, if_pos j0] at h
    refine xx_idl hx (pu_br (fun a => ?_) (fun a => ?_))
    · rw [a, if_neg (by decide)] at h
      exact ⟨hin, nm_e (h _ _ _ rfl (pu_upself p2) (pu_upself p3))⟩
    · rw [a, if_pos rfl] at h
      exact h _ _ _ (pu_upself p1) (pu_upself p2) (pu_upself p3)
  · refine br_f j0 ⟨hin, ?_⟩
    have n10 : ¬ (1 : Int32) = 0 := pu_l1_0
    have n01 : ¬ (0 : Int32) = 1 := pu_l0_1
    by_cases j2 : jb x = 2
    · refine br_t j2 ?_
      unfold wX_mergeDemand_43
      by_cases k2 : k = 2
      · exact br_t k2 (xx_mrg53 hx hk j0 (by rw [decide_eq_true j2, decide_eq_true k2]; simp) p1 p2 p3 h)
      · exact br_f k2 (xx_mrg53 hx hk j0 (by rw [decide_eq_true j2, decide_eq_false k2]; simp) p1 p2 p3 h)
    · refine br_f j2 ?_
      unfold wX_mergeDemand_43
      by_cases k2 : k = 2
      · exact br_t k2 (xx_mrg53 hx hk j0 (by rw [decide_eq_false j2, decide_eq_true k2]; simp) p1 p2 p3 h)
      · exact br_f k2 (xx_mrg53 hx hk j0 (by rw [decide_eq_false j2, decide_eq_false k2]; simp) p1 p2 p3 h)
theorem xx_pl66 {post : SX → Prop} {J6 : Int32 → Int32 → Int32 → Int32 → Int32 → Int32 → Int32 → Int32 → Int32 → (Nat → Int32) → (Nat → Int32) → (Nat → Int32) → (Nat → Int32) → (Nat → Int32) → (Nat → Int32) → (Nat → Int32) → (Nat → Int32) → (Nat → Int32) → (Nat → Int32) → (Nat → Int32) → (Nat → Int32) → (Nat → Int32) → (Nat → Int32) → (Nat → Int32) → Prop} {i : Nat} {J S : Nat → Int32} (hi : i < 12) (hq : pu_QB i J S qj qs qr) (e1 : pj i = J i) (e2 : ps i = S i) (h : ∀ qj qs qr, pu_QB (i + 1) J S qj qs qr → J6 (nI (i + 1)) (nI N) tT tW tB pc qj qs qr fo ba st jb ou ag wi us au kp tr pu ps pj po) : wX_planQueue_66 post J6 (nI i) (nI N) tT tW tB pc qj qs qr fo ba st jb ou ag wi us au kp tr pu ps pj po := by
  have hin : vp_in (nI i) 12 := vp_in_nI hi (by omega)
  unfold wX_planQueue_66
  rw [nI_clamp (n := i) (by omega), e1, e2]
  exact ⟨hin, hin, xx_enq hi hq (fun qj' qs' qr' hq' => nm_r (nI_1 i) (h qj' qs' qr' hq'))⟩
def pu_Pl (i : Nat) (T : Nat → Bool) (st jb ou ps pj po : Nat → Int32) : Prop := ∀ b, b < i → pj b = pu_qj T st jb b ∧ ps b = pu_qs T st jb b ∧ po b = pu_qo T jb ou b
theorem pu_Pl_s {i : Nat} {T : Nat → Bool} {st jb ou ps pj po ps' pj' po' : Nat → Int32} (h : pu_Pl i T st jb ou ps pj po) (e1 : pj' = upd pj i (pu_qj T st jb i)) (e2 : ps' = upd ps i (pu_qs T st jb i)) (e3 : po' = upd po i (pu_qo T jb ou i)) : pu_Pl (i + 1) T st jb ou ps' pj' po' := by
  subst e1 e2 e3
  intro b hb
  by_cases c : b = i
  · subst c
    exact ⟨pk_us, pk_us, pk_us⟩
  · rw [pk_un c, pk_un c, pk_un c]
    exact h b (by omega)
theorem xx_pln_lp {post : SX → Prop} {T : Nat → Bool} (hN : N ≤ 12) (hT : pu_TB T tr) (h : ∀ qj qs qr ps pj po, pu_Pl N T st jb ou ps pj po → pu_QB N (pu_qj T st jb) (pu_qs T st jb) qj qs qr → post (nI N, tT, tW, tB, pc, qj, qs, qr, fo, ba, st, jb, ou, ag, wi, us, au, kp, tr, pu, ps, pj, po)) : ∀ (m i : Nat) (qj qs qr : Int32) (ps pj po : Nat → Int32), i + m = N → pu_Pl i T st jb ou ps pj po → pu_QB i (pu_qj T st jb) (pu_qs T st jb) qj qs qr → wX_planQueue_6 post (m + 1) (nI i) (nI N) tT tW tB pc qj qs qr fo ba st jb ou ag wi us au kp tr pu ps pj po := by
  intro m
  induction m with
  | zero =>
    intro i qj qs qr ps pj po hi hp hq
    have e : i = N := by omega
    subst e
    exact br_t (nI_le (Nat.le_refl _) (by omega)) (h _ _ _ _ _ _ hp hq)
  | succ m ih =>
    intro i qj qs qr ps pj po hi hp hq
    have hin : vp_in (nI i) 12 := vp_in_nI (by omega) (by omega)
    rw [wX_planQueue_6]; dsimp only
    simp only [nI_clamp (n := i) (by omega)]
    refine br_f (nI_ge (by omega) (by omega)) ⟨hin, hin, nm_e ⟨hin, hin, nm_e ⟨hin, hin, nm_e ?_⟩⟩⟩
    refine xx_dmo (by omega) hT ?_
    by_cases c : pu_dm T i = 0
    · refine br_t c (xx_pl66 (J := pu_qj T st jb) (S := pu_qs T st jb) (by omega) hq ?_ ?_ (fun qj' qs' qr' hq' => ih (i + 1) qj' qs' qr' _ _ _ (by omega) (pu_Pl_s hp ?_ ?_ ?_) hq'))
      · rw [pk_us]; unfold pu_qj pu_mj; rw [if_pos c]
      · rw [pk_us]; unfold pu_qs pu_ms; rw [if_pos c]
      · unfold pu_qj pu_mj; rw [if_pos c]
      · unfold pu_qs pu_ms; rw [if_pos c]
      · unfold pu_qo pu_mo; rw [if_pos c]
    · refine br_f c (xx_mrg (by omega) c pk_us pk_us pk_us (fun pj' ps' po' e1 e2 e3 => ?_))
      rw [pu_upupd] at e1 e2 e3
      dsimp only
      refine xx_pl66 (J := pu_qj T st jb) (S := pu_qs T st jb) (by omega) hq ?_ ?_ (fun qj' qs' qr' hq' => ih (i + 1) qj' qs' qr' _ _ _ (by omega) (pu_Pl_s hp e1 e2 e3) hq')
      · rw [e1, pk_us]; rfl
      · rw [e2, pk_us]; rfl
theorem xx_pln {post : SX → Prop} {T : Nat → Bool} (hN : N ≤ 12) (hT : pu_TB T tr) (h : ∀ qj qs qr ps pj po, pu_Pl N T st jb ou ps pj po → pu_QB N (pu_qj T st jb) (pu_qs T st jb) qj qs qr → post (nI N, tT, tW, tB, pc, qj, qs, qr, fo, ba, st, jb, ou, ag, wi, us, au, kp, tr, pu, ps, pj, po)) : wpX_planQueue post (nI N, tT, tW, tB, pc, qj, qs, qr, fo, ba, st, jb, ou, ag, wi, us, au, kp, tr, pu, ps, pj, po) := by
  unfold wpX_planQueue wpX_clearQueue
  exact Exists.intro (N + 1) (xx_pln_lp hN hT h N 0 0 0 0 ps pj po (by omega) (fun b hb => absurd hb (Nat.not_lt_zero b)) pu_QB0)
theorem xx_cpd {post : Int32 → SX → Prop} {T : Nat → Bool} {p0 p1 : Int32} (hN : N ≤ 12) (hJ : pu_Jok N jb) (h0 : ∀ i, i < 32 → bt p0 i = (decide (i < 12) && (T i || T (24 + i)))) (h1 : ∀ i, i < 32 → bt p1 i = (decide (i < 12) && T (12 + i))) (h : ∀ qj qs qr, post (pu_bI (pu_Pd N T jb)) (nI N, tT, tW, tB, pc, qj, qs, qr, fo, ba, st, jb, ou, ag, wi, us, au, kp, tr, pu, ps, pj, po)) : wpX_contradictsPending post (nI N, tT, tW, tB, pc, qj, qs, qr, fo, ba, st, jb, ou, ag, wi, us, au, kp, tr, pu, ps, pj, po) p0 p1 := by
  have hP : pu_Pd N T jb = (pu_ex (fun x => decide (jb x = 2) && (T x || T (24 + x))) N || pu_ex (fun x => pu_up (jb x) && T (12 + x)) N) := pu_ex_or
  unfold wpX_contradictsPending
  refine xx_lpq hN (fun qj' qs' qr' hq => nm_e ?_)
  have h := h qj' qs' qr'
  refine pu_bz (f := fun x => decide (jb x = 2) && (T x || T (24 + x))) hN (fun i hi => ?_) (fun c1 => ?_) (fun c1 => ?_)
  · rw [b_and, (hq i hi).2.1, h0 i hi]
    by_cases c : i < N
    · rw [decide_eq_true c, decide_eq_true (show i < 12 by omega)]; simp
    · rw [decide_eq_false c]; simp
  · refine pu_bz (f := fun x => pu_up (jb x) && T (12 + x)) hN (fun i hi => ?_) (fun c2 => ?_) (fun c2 => ?_)
    · rw [b_and, pu_bn _ _ hi, (hq i hi).2.1, (hq i hi).1, h1 i hi]
      by_cases c : i < N
      · rw [decide_eq_true c, decide_eq_true (show i < 12 by omega), pu_up4 (hJ i c)]; simp
      · rw [decide_eq_false c]; simp
    · rw [hP, c1, c2] at h; exact h
    · rw [hP, c1, c2] at h; exact h
  · rw [hP, c1] at h; exact h
theorem xx_jdg46 {post : Int32 → SX → Prop} {R : Nat → Nat → Nat → Bool} {T : Nat → Bool} (hN : N ≤ 12) (hR : pu_Rok N R) (hX : pu_XF R fo ba) (hJ : pu_Jok N jb) (hT : pu_TB T tr) (h : ∀ qj qs qr ps pj po, post (if pu_Cy N R (pu_qj T st jb) (pu_qs T st jb) = true then -4 else 0) (nI N, tT, tW, tB, pc, qj, qs, qr, fo, ba, st, jb, ou, ag, wi, us, au, kp, tr, pu, ps, pj, po)) : wX_judge_46 post (nI N) tT tW tB pc qj qs qr fo ba st jb ou ag wi us au kp tr pu ps pj po := by
  unfold wX_judge_46
  refine xx_pln hN hT (fun qj' qs' qr' ps' pj' po' hp hq => ?_)
  have h := h qj' qs' qr' ps' pj' po'
  refine xx_cyc hN hR hX (pu_qj_Jok hJ) hq (pu_br (fun a => ?_) (fun a => ?_))
  · rw [a, if_neg (by decide)] at h; exact h
  · rw [a, if_pos rfl] at h; exact h
theorem xx_jdg {post : Int32 → SX → Prop} {R : Nat → Nat → Nat → Bool} {T : Nat → Bool} {mode : Int32} (hN : N ≤ 12) (hR : pu_Rok N R) (hX : pu_XF R fo ba) (hJ : pu_Jok N jb) (hT : pu_TB T tr) (hD : pu_Dok N T) (h : ∀ qj qs qr ps pj po, post (pu_V N R T st jb mode) (nI N, tT, tW, tB, pc, qj, qs, qr, fo, ba, st, jb, ou, ag, wi, us, au, kp, tr, pu, ps, pj, po)) : wpX_judge post (nI N, tT, tW, tB, pc, qj, qs, qr, fo, ba, st, jb, ou, ag, wi, us, au, kp, tr, pu, ps, pj, po) mode := by
  unfold pu_V at h
  unfold wpX_judge
  refine nm_e (nm_e ?_)
  have t1 : ∀ i, i < 32 → bt (tr 1 ||| tr 3) i = (decide (i < 12) && (T i || T (24 + i))) := fun i hi => by
    obtain ⟨a, b, c⟩ := pu_TB_at hT hi
    rw [b_or, a, c]
    cases decide (i < 12) <;> rfl
  refine pu_bz (f := fun x => T (12 + x) && (T x || T (24 + x))) hN (fun i hi => ?_) (fun c1 => ?_) (fun c1 => ?_)
  · rw [b_and, t1 i hi, (pu_TB_at hT hi).2.1]
    by_cases c : i < N
    · rw [decide_eq_true c, decide_eq_true (show i < 12 by omega)]
      cases T i <;> cases T (24 + i) <;> cases T (12 + i) <;> rfl
    · by_cases c12 : i < 12
      · obtain ⟨a, b, d⟩ := pu_Dok_f hD c12 c
        rw [a, b, d]; simp
      · rw [decide_eq_false c12, decide_eq_false c]; rfl
  · have c1' : pu_Cf N T = false := c1
    rw [c1', if_neg (by decide)] at h
    by_cases m0 : mode = 0
    · refine br_t m0 (xx_cpd hN hJ t1 (fun i hi => (pu_TB_at hT hi).2.1) (fun qj' qs' qr' => pu_br (fun a => ?_) (fun a => ?_)))
      · rw [if_neg (fun z => by rw [z.2] at a; exact (nomatch a))] at h
        exact xx_jdg46 hN hR hX hJ hT h
      · rw [if_pos ⟨m0, a⟩] at h
        exact h _ _ _ _ _ _
    · rw [if_neg (fun z => m0 z.1)] at h
      exact br_f m0 (xx_jdg46 hN hR hX hJ hT h)
  · have c1' : pu_Cf N T = true := c1
    rw [c1', if_pos rfl] at h
    exact h _ _ _ _ _ _
theorem xx_ldt_lp {post : SX → Prop} (h : ∀ tr', (∀ k, 1 ≤ k → k < 4 → tr' k = kp k) → post (nI N, tT, tW, tB, pc, qj, qs, qr, fo, ba, st, jb, ou, ag, wi, us, au, kp, tr', pu, ps, pj, po)) : ∀ (m i : Nat) (tr : Nat → Int32), i + m = 4 → 1 ≤ i → (∀ k, 1 ≤ k → k < i → tr k = kp k) → wX_loadTrial_2 post (nI N) tT tW tB pc qj qs qr (m + 1) (nI i) fo ba st jb ou ag wi us au kp tr pu ps pj po := by
  intro m
  induction m with
  | zero =>
    intro i tr hi h1 ht
    have e : i = 4 := by omega
    subst e
    exact br_t (nI_lt (a := 3) (by omega) (by omega)) (h tr ht)
  | succ m ih =>
    intro i tr hi h1 ht
    have hin : vp_in (nI i) 4 := vp_in_nI (by omega) (by omega)
    rw [wX_loadTrial_2]; dsimp only
    rw [nI_clamp (n := i) (by omega)]
    refine br_f (nI_nlt (a := 3) (by omega) (by omega)) ⟨hin, hin, nm_e (nm_r (nI_1 i) (ih (i + 1) _ (by omega) (by omega) (fun k k1 k2 => ?_)))⟩
    by_cases c : k = i
    · subst c; exact pk_us
    · rw [pk_un c]; exact ht k k1 (by omega)
theorem xx_ldt {post : SX → Prop} (h : ∀ tr', (∀ k, 1 ≤ k → k < 4 → tr' k = kp k) → post (nI N, tT, tW, tB, pc, qj, qs, qr, fo, ba, st, jb, ou, ag, wi, us, au, kp, tr', pu, ps, pj, po)) : wpX_loadTrial post (nI N, tT, tW, tB, pc, qj, qs, qr, fo, ba, st, jb, ou, ag, wi, us, au, kp, tr, pu, ps, pj, po) := by
  unfold wpX_loadTrial
  exact Exists.intro 4 (xx_ldt_lp h 3 1 tr (by omega) (by omega) (fun k k1 k2 => absurd k2 (by omega)))
theorem xx_kpt_lp {post : Int32 → SX → Prop} {r : Int32} (h : ∀ kp', (∀ k, 1 ≤ k → k < 4 → kp' k = tr k) → post r (nI N, tT, tW, tB, pc, qj, qs, qr, fo, ba, st, jb, ou, ag, wi, us, au, kp', tr, pu, ps, pj, po)) : ∀ (m i : Nat) (kp : Nat → Int32), i + m = 4 → 1 ≤ i → (∀ k, 1 ≤ k → k < i → kp k = tr k) → wX_tryDemand_25 post r (nI N) tT tW tB pc qj qs qr (m + 1) (nI i) fo ba st jb ou ag wi us au kp tr pu ps pj po := by
  intro m
  induction m with
  | zero =>
    intro i kp hi h1 ht
    have e : i = 4 := by omega
    subst e
    exact br_t (nI_lt (a := 3) (by omega) (by omega)) (h kp ht)
  | succ m ih =>
    intro i kp hi h1 ht
    have hin : vp_in (nI i) 4 := vp_in_nI (by omega) (by omega)
    rw [wX_tryDemand_25]; dsimp only
    rw [nI_clamp (n := i) (by omega)]
    refine br_f (nI_nlt (a := 3) (by omega) (by omega)) ⟨hin, hin, nm_e (nm_r (nI_1 i) (ih (i + 1) _ (by omega) (by omega) (fun k k1 k2 => ?_)))⟩
    by_cases c : k = i
    · subst c; exact pk_us
    · rw [pk_un c]; exact ht k k1 (by omega)
theorem xx_try {post : Int32 → SX → Prop} {R : Nat → Nat → Nat → Bool} {K : Nat → Bool} {k u : Nat} {p0 mode : Int32} (hp : p0 = nI (k + 1)) (hN : N ≤ 12) (hR : pu_Rok N R) (hX : pu_XF R fo ba) (hJ : pu_Jok N jb) (hk : k < 3) (hu : u < N) (cK : pu_clo R st K) (hD : pu_Dok N K) (hT : pu_TB K kp) (h : ∀ (pc' qj' qs' qr' : Int32) (kp' tr' pu' ps' pj' po' : Nat → Int32), pu_TB (pu_nk (pu_V N R (pu_un K (pu_H R st (k * 12 + u))) st jb mode) K (pu_un K (pu_H R st (k * 12 + u)))) kp' → post (pu_V N R (pu_un K (pu_H R st (k * 12 + u))) st jb mode) (nI N, tT, tW, tB, pc', qj', qs', qr', fo, ba, st, jb, ou, ag, wi, us, au, kp', tr', pu', ps', pj', po')) : wpX_tryDemand post (nI N, tT, tW, tB, pc, qj, qs, qr, fo, ba, st, jb, ou, ag, wi, us, au, kp, tr, pu, ps, pj, po) p0 (nI u) mode := by
  subst hp
  unfold wpX_tryDemand
  refine xx_ldt (fun tr1 ht1 => ?_)
  refine xx_close hN hR hX hk hu cK hD (pu_TB_c hT ht1) (fun pc2 pu2 tr2 ht2 => ?_)
  refine xx_jdg hN hR hX hJ ht2 (pu_un_Dok hD (pu_H_Dok hR (by omega) (by omega))) (fun qj3 qs3 qr3 ps3 pj3 po3 => ?_)
  have h := fun kp' => h pc2 qj3 qs3 qr3 kp' tr2 pu2 ps3 pj3 po3
  by_cases c : pu_V N R (pu_un K (pu_H R st (k * 12 + u))) st jb mode = 0
  · refine br_t c (Exists.intro 4 (xx_kpt_lp (fun kp' hk' => h kp' ?_) 3 1 kp (by omega) (by omega) (fun k k1 k2 => absurd k2 (by omega))))
    unfold pu_nk
    rw [if_pos c]
    exact pu_TB_c ht2 hk'
  · refine br_f c (h kp ?_)
    unfold pu_nk
    rw [if_neg c]
    exact hT
end
end
section
/-! Y: ranges, relations, pulls -/
def pu_co (a b : Int32) : Bool := (decide (a = 2) && pu_up b) || (decide (b = 2) && pu_up a)
theorem pu_co4 {j k : Int32} (hj : pu_J4 j) (hk : pu_J4 k) (j0 : ¬ j = 0) (k0 : ¬ k = 0) : pu_co j k = false ↔ decide (j = 2) = decide (k = 2) := by
  rcases hj with e | e | e | e
  · exact absurd e j0
  all_goals
    rcases hk with f | f | f | f
    · exact absurd f k0
    all_goals (subst e; subst f; decide)
theorem pu_Rf {N : Nat} {R : Nat → Nat → Nat → Bool} (hR : pu_Rok N R) {k a b : Nat} (h : ¬ (a < N ∧ b < N ∧ a ≠ b)) : R k a b = false := by
  cases e : R k a b
  · rfl
  · exact absurd (hR.1 _ _ _ e) h
section
variable {N : Nat} {tT tW tB : Int32} {re st jb ou ag wi us au hu kq tq pq sq fq yj ys yo : Nat → Int32}
theorem yy_inR {post : Int32 → Prop} {j : Nat} (hN : N ≤ 12) (hj : j < N) (h : post 1) : wpY_inRange post (nI N, tT, tW, tB, re, st, jb, ou, ag, wi, us, au, hu, kq, tq, pq, sq, fq, yj, ys, yo) (nI j) :=
  br_f (nI_pos (by omega)) (br_f (nI_ge hj (by omega)) h)
theorem yy_inR0 {post : Int32 → Prop} {x : Int32} (hx : x < 0 ∨ nI N ≤ x) (h : post 0) : wpY_inRange post (nI N, tT, tW, tB, re, st, jb, ou, ag, wi, us, au, hu, kq, tq, pq, sq, fq, yj, ys, yo) x := by
  by_cases h0 : x < 0
  · exact br_t h0 h
  · exact br_f h0 (br_t (hx.resolve_left h0) h)
theorem yy_isUp {post : Int32 → Prop} {u : SY} {k : Int32} (h : post (pu_bI (pu_up k))) : wpY_isUp post u k := by
  obtain ⟨x1, x2, x3, x4, x5, x6, x7, x8, x9, x10, x11, x12, x13, x14, x15, x16, x17, x18, x19, x20, x21⟩ := u
  unfold pu_up at h
  by_cases h1 : k = 1
  · rw [decide_eq_true h1] at h
    exact br_t h1 h
  · by_cases h3 : k = 3
    · rw [decide_eq_true h3, Bool.or_true] at h
      exact br_f h1 (br_t h3 h)
    · rw [decide_eq_false h1, decide_eq_false h3] at h
      exact br_f h1 (br_f h3 h)
theorem yy_con13 {post : Int32 → Prop} {a b : Int32} (h : post (pu_bI (decide (b = 2) && pu_up a))) : wY_contradict_13 post a b (nI N) tT tW tB re st jb ou ag wi us au hu kq tq pq sq fq yj ys yo := by
  unfold wY_contradict_13
  by_cases b2 : b = 2
  · rw [decide_eq_true b2, Bool.true_and] at h
    refine br_t b2 (yy_isUp (pu_br (fun c => ?_) (fun c => ?_)))
    · rw [c] at h; exact h
    · rw [c] at h; exact h
  · rw [decide_eq_false b2] at h
    exact br_f b2 h
theorem yy_con {post : Int32 → Prop} {a b : Int32} (h : post (pu_bI (pu_co a b))) : wpY_contradict post (nI N, tT, tW, tB, re, st, jb, ou, ag, wi, us, au, hu, kq, tq, pq, sq, fq, yj, ys, yo) a b := by
  unfold pu_co at h
  unfold wpY_contradict
  by_cases a2 : a = 2
  · rw [decide_eq_true a2, Bool.true_and] at h
    refine br_t a2 (yy_isUp (pu_br (fun c => ?_) (fun c => ?_)))
    · rw [c, Bool.false_or] at h
      exact yy_con13 h
    · rw [c] at h; exact h
  · rw [decide_eq_false a2, Bool.false_and, Bool.false_or] at h
    exact br_f a2 (yy_con13 h)
theorem yy_rel {post : Int32 → Prop} {R : Nat → Nat → Nat → Bool} {k a b : Nat} {p0 : Int32} (hp : p0 = nI k) (hN : N ≤ 12) (hR : pu_Rok N R) (hF : pu_YF N R re) (hk : k < 6) (ha : a < 12) (hb : b < 12) (h : post (pu_bI (R k a b))) : wpY_related post (nI N, tT, tW, tB, re, st, jb, ou, ag, wi, us, au, hu, kq, tq, pq, sq, fq, yj, ys, yo) p0 (nI a) (nI b) := by
  subst hp
  have ev : ((nI k * 144) + (nI a * 12)) + nI b = nI (k * 144 + a * 12 + b) := by
    show ((nI k * nI 144) + (nI a * nI 12)) + nI b = _
    rw [pk_mul, pk_mul, nI_add, nI_add]
  unfold wpY_related
  simp only [ev, nI_clamp (n := k * 144 + a * 12 + b) (by omega)]
  refine br_f (nI_pos (by omega)) (br_f (nI_nlt (a := 5) (b := k) (by omega) (by omega)) ?_)
  by_cases ca : a < N
  · refine yy_inR hN ca (br_f pu_l1_0 ?_)
    by_cases cb : b < N
    · refine yy_inR hN cb (br_f pu_l1_0 ?_)
      refine pk_eq a b (fun e => ?_) (fun e => ?_)
      · rw [pu_Rf hR (fun z => z.2.2 e)] at h
        exact h
      · exact ⟨vp_in_nI (by omega) (by omega), pu_brc (hF k a b hk ca cb e) (fun z => by rw [z] at h; exact h) (fun z => by rw [z] at h; exact h)⟩
    · rw [pu_Rf hR (fun z => cb z.2.1)] at h
      exact yy_inR0 (Or.inr (nI_le (by omega) (by omega))) (br_t rfl h)
  · rw [pu_Rf hR (fun z => ca z.1)] at h
    exact yy_inR0 (Or.inr (nI_le (by omega) (by omega))) (br_t rfl h)
theorem yy_p68 {post : Int32 → Prop} {R : Nat → Nat → Nat → Bool} {d e : Nat} {z0 : Int32} (hz : z0 = pu_bI (pu_hg R (d % 12) (e % 12))) (hN : N ≤ 12) (hR : pu_Rok N R) (hF : pu_YF N R re) (hd : d < 36) (he : e < 36) (h : post (pu_bI (pu_pl R st d e))) : wY_pulls_68 post (nI (d / 12 + 1)) (nI (d % 12)) (nI (e / 12 + 1)) (nI (e % 12)) z0 (nI N) tT tW tB re st jb ou ag wi us au hu kq tq pq sq fq yj ys yo := by
  subst hz
  have hx : d % 12 < 12 := Nat.mod_lt _ (by decide)
  have hy : e % 12 < 12 := Nat.mod_lt _ (by decide)
  unfold pu_pl at h
  rw [decide_eq_true he, Bool.true_and] at h
  unfold wY_pulls_68
  rw [nI_clamp (n := e % 12) (by omega)]
  refine pk_eq (d / 12 + 1) 2 (fun c1 => ?_) (fun c1 => ?_)
  · rw [if_pos (show d / 12 = 1 by omega)] at h
    refine pk_eq (e / 12 + 1) 2 (fun c2 => ?_) (fun c2 => ?_)
    · rw [decide_eq_true (show e / 12 = 1 by omega), Bool.true_and] at h
      exact pu_br (fun z => by rw [z] at h; exact h) (fun z => by rw [z] at h; exact h)
    · rw [decide_eq_false (show ¬ e / 12 = 1 by omega)] at h
      exact h
  · rw [if_neg (show ¬ d / 12 = 1 by omega)] at h
    refine pk_eq (e / 12 + 1) 1 (fun c2 => ?_) (fun c2 => ?_)
    · rw [if_pos (show e / 12 = 0 by omega)] at h
      refine yy_rel (k := 0) rfl hN hR hF (by omega) hx hy (pu_br (fun z => ?_) (fun z => ?_))
      · rw [z, Bool.false_or] at h
        refine yy_rel (k := 2) rfl hN hR hF (by omega) hx hy (pu_br (fun z => ?_) (fun z => ?_))
        · rw [z] at h; exact h
        · rw [z] at h; exact h
      · rw [z] at h; exact h
    · rw [if_neg (show ¬ e / 12 = 0 by omega)] at h
      refine pk_eq (e / 12 + 1) 2 (fun c3 => ?_) (fun c3 => ?_)
      · rw [if_pos (show e / 12 = 1 by omega)] at h
        exact yy_rel (k := 4) rfl hN hR hF (by omega) hx hy ⟨pu_nar _, h⟩
      · rw [if_neg (show ¬ e / 12 = 1 by omega)] at h
        refine pk_eq (d / 12 + 1) 3 (fun c4 => ?_) (fun c4 => ?_)
        · rw [decide_eq_true (show d / 12 = 2 by omega), Bool.true_and] at h
          refine pu_br (fun z => ?_) (fun z => ?_)
          · rw [z] at h; exact h
          · rw [z, Bool.true_and] at h
            refine ⟨vp_in_nI hy (by omega), ?_⟩
            by_cases s2 : st (e % 12) = 2
            · rw [decide_eq_true s2] at h
              exact br_t s2 h
            · rw [decide_eq_false s2] at h
              exact br_f s2 h
        · rw [decide_eq_false (show ¬ d / 12 = 2 by omega)] at h
          exact h
theorem yy_pulls {post : Int32 → Prop} {R : Nat → Nat → Nat → Bool} {d e : Nat} (hN : N ≤ 12) (hR : pu_Rok N R) (hF : pu_YF N R re) (hd : d < 36) (he : e < 36) (h : post (pu_bI (pu_pl R st d e))) : wpY_pulls post (nI N, tT, tW, tB, re, st, jb, ou, ag, wi, us, au, hu, kq, tq, pq, sq, fq, yj, ys, yo) (nI d) (nI e) := by
  have n12 : ¬ (12 : Int32) = 0 := by decide
  have hx : d % 12 < 12 := Nat.mod_lt _ (by decide)
  have hy : e % 12 < 12 := Nat.mod_lt _ (by decide)
  have dv : ∀ a, a < 36 → nI a / 12 + 1 = nI (a / 12 + 1) := fun a ha => by
    show nI a / nI 12 + 1 = _
    rw [pk_div (by omega) (by omega) (by omega), nI_1]
  have rm : ∀ a, a < 36 → nI a - nI a / 12 * 12 = nI (a % 12) := fun a ha => by
    show nI a - nI a / nI 12 * nI 12 = _
    rw [pk_rem (by omega) (by omega) (by omega)]
  unfold wpY_pulls
  refine ⟨n12, nm_r (dv d hd) ⟨n12, nm_r (rm d hd) ⟨n12, nm_r (dv e he) ⟨n12, nm_r (rm e he) ?_⟩⟩⟩⟩
  refine yy_rel (k := 0) rfl hN hR hF (by omega) hy hx (pu_br (fun z => ?_) (fun z => ?_))
  · refine yy_rel (k := 2) rfl hN hR hF (by omega) hy hx (pu_br (fun z2 => ?_) (fun z2 => ?_))
    · refine yy_rel (k := 3) rfl hN hR hF (by omega) hy hx (pu_br (fun z3 => ?_) (fun z3 => ?_))
      · exact yy_p68 (by unfold pu_hg; rw [z, z2, z3]; rfl) hN hR hF hd he h
      · exact yy_p68 (by unfold pu_hg; rw [z, z2, z3]; rfl) hN hR hF hd he h
    · exact yy_p68 (by unfold pu_hg; rw [z, z2]; rfl) hN hR hF hd he h
  · exact yy_p68 (by unfold pu_hg; rw [z]; rfl) hN hR hF hd he h
theorem yy_pbh_lp {post : Int32 → Prop} {R : Nat → Nat → Nat → Bool} {H : Nat → Bool} {e : Nat} (hN : N ≤ 12) (hR : pu_Rok N R) (hF : pu_YF N R re) (he : e < 36) (hB : pu_BB H 36 hu) (h : post (pu_bI (pu_hQ R st H e))) : ∀ (m i : Nat), i + m = 36 → (∀ j, j < i → (H j && pu_pl R st j e) = false) → wY_pulledByHull_2 post (nI e) (nI N) tT tW tB re st jb ou ag wi us au hu kq tq pq sq fq yj ys yo (m + 1) (nI i) := by
  intro m
  induction m with
  | zero =>
    intro i hi hn
    have ei : i = 36 := by omega
    subst ei
    have : pu_hQ R st H e = false := pu_ex_no hn
    rw [this] at h
    exact br_t (nI_le (a := 36) (Nat.le_refl _) (by omega)) h
  | succ m ih =>
    intro i hi hn
    rw [wY_pulledByHull_2]; dsimp only
    rw [nI_clamp (n := i) (by omega)]
    refine br_f (nI_ge (b := 36) (by omega) (by omega)) ⟨vp_in_nI (by omega) (by omega), ?_⟩
    refine pu_brc (hB i (by omega)) (fun z => ?_) (fun z => ?_)
    · refine nm_r (nI_1 i) (ih (i + 1) (by omega) (fun j hj => ?_))
      by_cases c : j = i
      · subst c; rw [z]; rfl
      · exact hn j (by omega)
    · refine yy_pulls hN hR hF (by omega) he (pu_br (fun z2 => ?_) (fun z2 => ?_))
      · refine nm_r (nI_1 i) (ih (i + 1) (by omega) (fun j hj => ?_))
        by_cases c : j = i
        · subst c; rw [z2, Bool.and_false]
        · exact hn j (by omega)
      · have : pu_hQ R st H e = true := pu_ex_t (i := i) (by omega) (by show (H i && pu_pl R st i e) = true; rw [z, z2]; rfl)
        rw [this] at h
        exact h
theorem yy_pbh {post : Int32 → Prop} {R : Nat → Nat → Nat → Bool} {H : Nat → Bool} {e : Nat} (hN : N ≤ 12) (hR : pu_Rok N R) (hF : pu_YF N R re) (he : e < 36) (hB : pu_BB H 36 hu) (h : post (pu_bI (pu_hQ R st H e))) : wpY_pulledByHull post (nI N, tT, tW, tB, re, st, jb, ou, ag, wi, us, au, hu, kq, tq, pq, sq, fq, yj, ys, yo) (nI e) := by
  unfold wpY_pulledByHull
  exact Exists.intro 37 (yy_pbh_lp hN hR hF he hB h 36 0 (by omega) (fun j hj => absurd hj (Nat.not_lt_zero j)))
end
end
section
/-! Y: the hull, the combined queue, the order, cycles -/
theorem pu_st_in {Q : (Nat → Bool) → Nat → Bool} {S : Nat → Bool} {e : Nat} (h : S e = true) : pu_st Q S e = S := by
  funext j
  show (S j || (decide (j = e) && Q S e)) = S j
  by_cases c : j = e
  · subst c; rw [h]; rfl
  · rw [decide_eq_false c]; simp
theorem pu_st_no {Q : (Nat → Bool) → Nat → Bool} {S : Nat → Bool} {e : Nat} (h : Q S e = false) : pu_st Q S e = S := by
  funext j
  show (S j || (decide (j = e) && Q S e)) = S j
  rw [h]; simp
theorem pu_BB_st {Q : (Nat → Bool) → Nat → Bool} {S : Nat → Bool} {e m : Nat} {a : Nat → Int32} (h : Q S e = true) (hB : pu_BB S m a) : pu_BB (pu_st Q S e) m (upd a e 1) := by
  intro j hj
  by_cases c : j = e
  · subst c
    rw [pk_us]
    have : pu_st Q S j j = true := by
      show (S j || (decide (j = j) && Q S j)) = true
      rw [h, decide_eq_true rfl, Bool.and_true, Bool.or_true]
    rw [this, pu_bI1]
  · rw [pk_un c, hB j hj]
    have : pu_st Q S e j = S j := by
      show (S j || (decide (j = e) && Q S e)) = S j
      rw [decide_eq_false c]; simp
    rw [this]
theorem pu_BB_s {D : Nat → Bool} {i : Nat} {a : Nat → Int32} {v : Int32} (h : pu_BB D i a) (hv : v = pu_bI (D i)) : pu_BB D (i + 1) (upd a i v) := by
  intro e he
  by_cases c : e = i
  · subst c; rw [pk_us]; exact hv
  · rw [pk_un c]; exact h e (by omega)
theorem pu_BB_0 {D : Nat → Bool} {a : Nat → Int32} : pu_BB D 0 a := fun e he => absurd he (Nat.not_lt_zero e)
theorem pu_BB_le {D : Nat → Bool} {m n : Nat} {a : Nat → Int32} (h : pu_BB D n a) (hm : m ≤ n) : pu_BB D m a := fun e he => h e (by omega)
section
variable {N : Nat} {tT tW tB : Int32} {re st jb ou ag wi us au hu kq tq pq sq fq yj ys yo : Nat → Int32}
theorem yy_mh58 {post : SY → Prop} {J42 : Int32 → Int32 → (Nat → Int32) → (Nat → Int32) → (Nat → Int32) → (Nat → Int32) → (Nat → Int32) → (Nat → Int32) → (Nat → Int32) → (Nat → Int32) → (Nat → Int32) → (Nat → Int32) → (Nat → Int32) → (Nat → Int32) → (Nat → Int32) → (Nat → Int32) → (Nat → Int32) → (Nat → Int32) → (Nat → Int32) → Prop} {R : Nat → Nat → Nat → Bool} {S : Nat → Bool} {r : Nat} (hN : N ≤ 12) (hR : pu_Rok N R) (hF : pu_YF N R re) (h : ∀ g hu', pu_BB (pu_rs (pu_hQ R st) S 36) 36 hu' → (g = false → pu_rs (pu_hQ R st) S 36 = S) → J42 (pu_bI g) (nI (r + 1)) re st jb ou ag wi us au hu' kq tq pq sq fq yj ys yo) : ∀ (m e : Nat) (g : Bool) (hu : Nat → Int32), e + m = 36 → pu_BB (pu_rs (pu_hQ R st) S e) 36 hu → (g = false → pu_rs (pu_hQ R st) S e = S) → wY_makeHull_58 post J42 (nI r) (nI N) tT tW tB (m + 1) (pu_bI g) (nI e) re st jb ou ag wi us au hu kq tq pq sq fq yj ys yo := by
  intro m
  induction m with
  | zero =>
    intro e g hu he hB hg
    have ei : e = 36 := by omega
    subst ei
    exact br_t (nI_le (a := 36) (Nat.le_refl _) (by omega)) (nm_r (nI_1 r) (h g hu hB hg))
  | succ m ih =>
    intro e g hu he hB hg
    have hin : vp_in (nI e) 36 := vp_in_nI (by omega) (by omega)
    rw [wY_makeHull_58]; dsimp only
    rw [nI_clamp (n := e) (by omega)]
    refine br_f (nI_ge (b := 36) (by omega) (by omega)) ⟨hin, ?_⟩
    refine pu_brc (hB e (by omega)) (fun z => ?_) (fun z => ?_)
    · refine yy_pbh hN hR hF (by omega) hB (pu_br (fun z2 => ?_) (fun z2 => ?_))
      · have es : pu_rs (pu_hQ R st) S (e + 1) = pu_rs (pu_hQ R st) S e := pu_st_no z2
        exact nm_r (nI_1 e) (ih (e + 1) g hu (by omega) (by rw [es]; exact hB) (by rw [es]; exact hg))
      · have hB2 : pu_BB (pu_rs (pu_hQ R st) S (e + 1)) 36 (upd hu e 1) := pu_BB_st z2 hB
        exact ⟨hin, nm_r (by rw [pu_vn1]) (nm_r (nI_1 e) (ih (e + 1) true _ (by omega) hB2 (fun w => (nomatch w))))⟩
    · have es : pu_rs (pu_hQ R st) S (e + 1) = pu_rs (pu_hQ R st) S e := pu_st_in z
      exact nm_r (nI_1 e) (ih (e + 1) g hu (by omega) (by rw [es]; exact hB) (by rw [es]; exact hg))
theorem yy_mh42 {post : SY → Prop} {R : Nat → Nat → Nat → Bool} {S : Nat → Bool} (hN : N ≤ 12) (hR : pu_Rok N R) (hF : pu_YF N R re) (h : ∀ hu', pu_BB (pu_it (pu_hQ R st) 36 S 36) 36 hu' → post (nI N, tT, tW, tB, re, st, jb, ou, ag, wi, us, au, hu', kq, tq, pq, sq, fq, yj, ys, yo)) : ∀ (m r : Nat) (g : Bool) (hu : Nat → Int32), r + m = 36 → pu_BB (pu_it (pu_hQ R st) 36 S r) 36 hu → (g = false → pu_rs (pu_hQ R st) (pu_it (pu_hQ R st) 36 S r) 36 = pu_it (pu_hQ R st) 36 S r) → wY_makeHull_42 post (nI N) tT tW tB (m + 1) (pu_bI g) (nI r) re st jb ou ag wi us au hu kq tq pq sq fq yj ys yo := by
  intro m
  induction m with
  | zero =>
    intro r g hu hr hB hg
    have ei : r = 36 := by omega
    subst ei
    exact br_t (nI_le (a := 36) (Nat.le_refl _) (by omega)) (h hu hB)
  | succ m ih =>
    intro r g hu hr hB hg
    rw [wY_makeHull_42]; dsimp only
    refine br_f (nI_ge (b := 36) (by omega) (by omega)) (pu_br (fun z => ?_) (fun z => ?_))
    · have e1 := pu_it_from (hg z) (36 - r)
      rw [show r + (36 - r) = 36 by omega] at e1
      exact h hu (by rw [e1]; exact hB)
    · refine Exists.intro 37 (yy_mh58 (S := pu_it (pu_hQ R st) 36 S r) hN hR hF (fun g' hu' hB' hg' => ih (r + 1) g' hu' (by omega) hB' (fun w => ?_)) 36 0 false hu (by omega) hB (fun _ => rfl))
      have e2 : pu_it (pu_hQ R st) 36 S (r + 1) = pu_it (pu_hQ R st) 36 S r := hg' w
      rw [e2]
      exact hg' w
theorem yy_mh2 {post : SY → Prop} {R : Nat → Nat → Nat → Bool} {k u : Nat} (hN : N ≤ 12) (hR : pu_Rok N R) (hF : pu_YF N R re) (hk : k < 3) (hu12 : u < 12) (h : ∀ hu', pu_BB (pu_H R st (k * 12 + u)) 36 hu' → post (nI N, tT, tW, tB, re, st, jb, ou, ag, wi, us, au, hu', kq, tq, pq, sq, fq, yj, ys, yo)) : ∀ (m i : Nat) (hu : Nat → Int32), i + m = 36 → pu_BB (fun j => decide (j = k * 12 + u)) i hu → wY_makeHull_2 post (nI (k + 1)) (nI u) (nI N) tT tW tB (m + 1) (nI i) re st jb ou ag wi us au hu kq tq pq sq fq yj ys yo := by
  intro m
  induction m with
  | zero =>
    intro i hu hi hB
    have ei : i = 36 := by omega
    subst ei
    exact br_t (nI_le (a := 36) (Nat.le_refl _) (by omega)) (Exists.intro 37 (yy_mh42 (S := fun j => decide (j = k * 12 + u)) hN hR hF h 36 0 true hu (by omega) hB (fun w => (nomatch w))))
  | succ m ih =>
    intro i hu hi hB
    have hin : vp_in (nI i) 36 := vp_in_nI (by omega) (by omega)
    have ev : ((nI (k + 1) - 1) * 12) + nI u = nI (k * 12 + u) := by
      rw [nI_pred]
      show nI k * nI 12 + nI u = _
      rw [pk_mul, nI_add]
    rw [wY_makeHull_2]; dsimp only
    rw [nI_clamp (n := i) (by omega), ev, pu_vn0, pu_vn1]
    refine br_f (nI_ge (b := 36) (by omega) (by omega)) (pk_eq i (k * 12 + u) (fun c => ?_) (fun c => ?_))
    · exact ⟨hin, nm_e (nm_r (nI_1 i) (ih (i + 1) _ (by omega) (pu_BB_s hB (by rw [decide_eq_true c, pu_bI1]))))⟩
    · exact ⟨hin, nm_e (nm_r (nI_1 i) (ih (i + 1) _ (by omega) (pu_BB_s hB (by rw [decide_eq_false c, pu_bI0]))))⟩
theorem yy_mh {post : SY → Prop} {R : Nat → Nat → Nat → Bool} {k u : Nat} (hN : N ≤ 12) (hR : pu_Rok N R) (hF : pu_YF N R re) (hk : k < 3) (hu12 : u < 12) (h : ∀ hu', pu_BB (pu_H R st (k * 12 + u)) 36 hu' → post (nI N, tT, tW, tB, re, st, jb, ou, ag, wi, us, au, hu', kq, tq, pq, sq, fq, yj, ys, yo)) : wpY_makeHull post (nI N, tT, tW, tB, re, st, jb, ou, ag, wi, us, au, hu, kq, tq, pq, sq, fq, yj, ys, yo) (nI (k + 1)) (nI u) := by
  unfold wpY_makeHull
  exact Exists.intro 37 (yy_mh2 hN hR hF hk hu12 h 36 0 hu (by omega) pu_BB_0)
/-! the combined queue -/
theorem yy_c90 {post : SY → Prop} {J2 : Int32 → (Nat → Int32) → (Nat → Int32) → (Nat → Int32) → (Nat → Int32) → (Nat → Int32) → (Nat → Int32) → (Nat → Int32) → (Nat → Int32) → (Nat → Int32) → (Nat → Int32) → (Nat → Int32) → (Nat → Int32) → (Nat → Int32) → (Nat → Int32) → (Nat → Int32) → (Nat → Int32) → (Nat → Int32) → Prop} {x : Nat} {k : Int32} (hx : x < 12) (hk : pu_J4 k) (hj : ¬ k = 0 → pu_J4 (jb x)) (p1 : yj x = jb x) (p2 : ys x = st x) (p3 : yo x = ou x) (h : ∀ yj' ys' yo', yj' = upd yj x (pu_mj k (jb x) (st x)) → ys' = upd ys x (pu_ms k (jb x) (st x)) → yo' = upd yo x (pu_mo k (jb x) (ou x)) → J2 (nI (x + 1)) re st jb ou ag wi us au hu kq tq pq sq fq yj' ys' yo') : wY_combine_90 post J2 (nI x) k (nI N) tT tW tB re st jb ou ag wi us au hu kq tq pq sq fq yj ys yo := by
  have hin : vp_in (nI x) 12 := vp_in_nI hx (by omega)
  unfold pu_mj pu_ms pu_mo at h
  unfold wY_combine_90
  rw [nI_clamp (n := x) (by omega)]
  by_cases k0 : k = 0
  · rw [if_pos k0, if_pos k0, if_pos k0] at h
    exact br_t k0 (nm_r (nI_1 x) (h _ _ _ (pu_upself p1) (pu_upself p2) (pu_upself p3)))
  · rw [if_neg k0, if_neg k0, if_neg k0] at h
    refine br_f k0 ⟨hin, ?_⟩
    by_cases j0 : jb x = 0
    · rw [if_pos j0, if_pos j0, if_pos j0] at h
      refine br_t j0 ?_
      have yes : pu_id k (st x) = true → wY_combine_146 post J2 (nI x) k (nI N) tT tW tB re st jb ou ag wi us au hu kq tq pq sq fq yj ys yo := fun c => by
        rw [if_pos c] at h
        unfold wY_combine_146 wY_combine_151
        exact br_f pu_l1_0 (nm_r (nI_1 x) (h _ _ _ (pu_upself p1) (pu_upself p2) (pu_upself p3)))
      have no : pu_id k (st x) = false → wY_combine_150 post J2 (nI x) k (nI N) tT tW tB re st jb ou ag wi us au hu kq tq pq sq fq yj ys yo := fun c => by
        rw [c, if_neg (by decide)] at h
        unfold wY_combine_150 wY_combine_151
        rw [nI_clamp (n := x) (by omega)]
        exact br_t rfl ⟨hin, nm_e (nm_r (nI_1 x) (h _ _ _ rfl (pu_upself p2) (pu_upself p3)))⟩
      have c131 : ¬ (k = 2 ∧ (st x = 0 ∨ st x = 3)) → wY_combine_131 post J2 (nI x) k (nI N) tT tW tB re st jb ou ag wi us au hu kq tq pq sq fq yj ys yo := fun c => by
        unfold wY_combine_131
        rw [nI_clamp (n := x) (by omega)]
        by_cases k1 : k = 1
        · refine br_t k1 ⟨hin, ?_⟩
          have k2 : ¬ k = 2 := by rw [k1]; exact pu_l1_2
          by_cases s2 : st x = 2
          · exact br_t s2 (yes (by unfold pu_id; rw [decide_eq_true k1, decide_eq_true s2]; simp))
          · exact br_f s2 (no (by unfold pu_id; rw [decide_eq_false k2, decide_eq_false s2]; simp))
        · refine br_f k1 (no ?_)
          unfold pu_id
          rw [decide_eq_false k1]
          by_cases k2 : k = 2
          · rw [decide_eq_false (fun z => c ⟨k2, Or.inl z⟩), decide_eq_false (fun z => c ⟨k2, Or.inr z⟩)]; simp
          · rw [decide_eq_false k2]; simp
      by_cases k2 : k = 2
      · refine br_t k2 ⟨hin, ?_⟩
        by_cases s0 : st x = 0
        · exact br_t s0 (yes (by unfold pu_id; rw [decide_eq_true k2, decide_eq_true s0]; simp))
        · refine br_f s0 ⟨hin, ?_⟩
          by_cases s3 : st x = 3
          · exact br_t s3 (yes (by unfold pu_id; rw [decide_eq_true k2, decide_eq_true s3]; simp))
          · exact br_f s3 (c131 (fun z => z.2.elim s0 s3))
      · exact br_f k2 (c131 (fun z => k2 z.1))
    · rw [if_neg j0, if_neg j0, if_neg j0] at h
      refine br_f j0 ⟨hin, ?_⟩
      have hc := pu_co4 (hj k0) hk j0 k0
      refine yy_con (pu_br (fun z => ?_) (fun z => ?_))
      · have c := hc.mp z
        rw [if_pos c, if_pos c, if_pos c] at h
        refine ⟨hin, ?_⟩
        by_cases s1 : st x = 1
        · rw [if_pos s1] at h
          refine br_t s1 (nm_r (nI_1 x) (h _ _ _ ?_ (pu_upself p2) (pu_upself p3)))
          rw [ite_self]
          exact pu_upself p1
        · rw [if_neg s1] at h
          refine br_f s1 ?_
          by_cases k3 : k = 3
          · rw [if_pos k3] at h
            exact br_t k3 ⟨hin, nm_e (nm_r (nI_1 x) (h _ _ _ rfl (pu_upself p2) (pu_upself p3)))⟩
          · rw [if_neg k3] at h
            exact br_f k3 (nm_r (nI_1 x) (h _ _ _ (pu_upself p1) (pu_upself p2) (pu_upself p3)))
      · have c : ¬ decide (jb x = 2) = decide (k = 2) := fun w => by
          rw [hc.mpr w] at z; exact (nomatch z)
        rw [if_neg c, if_neg c, if_neg c] at h
        refine ⟨hin, nm_e ⟨hin, nm_e ⟨hin, ?_⟩⟩⟩
        by_cases s1 : st x = 1
        · rw [if_pos s1] at h
          exact br_t s1 ⟨hin, nm_e (nm_r (nI_1 x) (h _ _ _ rfl rfl rfl))⟩
        · rw [if_neg s1] at h
          exact br_f s1 (nm_r (nI_1 x) (h _ _ _ rfl (pu_upself p2) rfl))
theorem yy_cmb_lp {post : SY → Prop} {T : Nat → Bool} (hN : N ≤ 12) (hJ : pu_Jok N jb) (hD : pu_Dok N T) (hT : pu_BB T 36 tq) (h : ∀ yj ys yo, pu_Pl 12 T st jb ou ys yj yo → post (nI N, tT, tW, tB, re, st, jb, ou, ag, wi, us, au, hu, kq, tq, pq, sq, fq, yj, ys, yo)) : ∀ (m i : Nat) (yj ys yo : Nat → Int32), i + m = 12 → pu_Pl i T st jb ou ys yj yo → wY_combine_2 post (nI N) tT tW tB (m + 1) (nI i) re st jb ou ag wi us au hu kq tq pq sq fq yj ys yo := by
  intro m
  induction m with
  | zero =>
    intro i yj ys yo hi hp
    have e : i = 12 := by omega
    subst e
    exact br_t (nI_le (a := 12) (Nat.le_refl _) (by omega)) (h _ _ _ hp)
  | succ m ih =>
    intro i yj ys yo hi hp
    have hin : vp_in (nI i) 12 := vp_in_nI (by omega) (by omega)
    have hin36 : vp_in (nI i) 36 := vp_in_nI (by omega) (by omega)
    have hin12 : vp_in (nI (12 + i)) 36 := vp_in_nI (by omega) (by omega)
    have hin24 : vp_in (nI (24 + i)) 36 := vp_in_nI (by omega) (by omega)
    have e12 : (12 : Int32) + nI i = nI (12 + i) := nI_add 12 i
    have e24 : (24 : Int32) + nI i = nI (24 + i) := nI_add 24 i
    rw [wY_combine_2]; dsimp only
    rw [e12, e24, nI_clamp (n := i) (by omega), nI_clamp (n := 12 + i) (by omega), nI_clamp (n := 24 + i) (by omega)]
    refine br_f (nI_ge (b := 12) (by omega) (by omega)) ⟨hin, hin, nm_e ⟨hin, hin, nm_e ⟨hin, hin, nm_e ⟨hin24, ?_⟩⟩⟩⟩
    have key : ∀ k, pu_dm T i = k → pu_J4 k → wY_combine_90 post (wY_combine_2 post (nI N) tT tW tB (m + 1)) (nI i) k (nI N) tT tW tB re st jb ou ag wi us au hu kq tq pq sq fq (upd yj i (jb i)) (upd ys i (st i)) (upd yo i (ou i)) := by
      intro k ek hk
      refine yy_c90 (by omega) hk (fun k0 => hJ i ?_) pk_us pk_us pk_us (fun yj' ys' yo' e1 e2 e3 => ih (i + 1) yj' ys' yo' (by omega) (pu_Pl_s hp ?_ ?_ ?_))
      · apply Classical.byContradiction
        intro hn
        obtain ⟨a, b, c⟩ := pu_Dok_f hD (show i < 12 by omega) hn
        unfold pu_dm at ek
        rw [a, b, c] at ek
        exact k0 ek.symm
      · rw [e1, pu_upupd, ← ek]; rfl
      · rw [e2, pu_upupd, ← ek]; rfl
      · rw [e3, pu_upupd, ← ek]; rfl
    refine pu_brc (hT (24 + i) (by omega)) (fun a1 => ⟨hin36, pu_brc (hT i (by omega)) (fun a2 => ⟨hin12, pu_brc (hT (12 + i) (by omega)) (fun a3 => ?_) (fun a3 => ?_)⟩) (fun a2 => ?_)⟩) (fun a1 => ?_)
    · exact key 0 (by unfold pu_dm; rw [a1, a2, a3]; rfl) (Or.inl rfl)
    · exact key 2 (by unfold pu_dm; rw [a1, a2, a3]; rfl) (Or.inr (Or.inr (Or.inl rfl)))
    · exact key 1 (by unfold pu_dm; rw [a1, a2]; rfl) (Or.inr (Or.inl rfl))
    · exact key 3 (by unfold pu_dm; rw [a1]; rfl) (Or.inr (Or.inr (Or.inr rfl)))
theorem yy_cmb {post : SY → Prop} {T : Nat → Bool} (hN : N ≤ 12) (hJ : pu_Jok N jb) (hD : pu_Dok N T) (hT : pu_BB T 36 tq) (h : ∀ yj ys yo, pu_Pl 12 T st jb ou ys yj yo → post (nI N, tT, tW, tB, re, st, jb, ou, ag, wi, us, au, hu, kq, tq, pq, sq, fq, yj, ys, yo)) : wpY_combine post (nI N, tT, tW, tB, re, st, jb, ou, ag, wi, us, au, hu, kq, tq, pq, sq, fq, yj, ys, yo) := by
  unfold wpY_combine
  exact Exists.intro 13 (yy_cmb_lp hN hJ hD hT h 12 0 yj ys yo (by omega) (fun b hb => absurd hb (Nat.not_lt_zero b)))
end
end
section
/-! Y: the order and cycles -/
section
variable {N : Nat} {tT tW tB : Int32} {re st jb ou ag wi us au hu kq tq pq sq fq yj ys yo : Nat → Int32}
theorem yy_ia75 {post : Int32 → Prop} {R : Nat → Nat → Nat → Bool} {x y : Nat} (hN : N ≤ 12) (hR : pu_Rok N R) (hF : pu_YF N R re) (hx : x < 12) (hy : y < 12) (h : post (pu_bI (R 4 x y && decide (yj x = 2) && pu_up (yj y)))) : wY_isAhead_75 post (nI x) (nI y) (nI N) tT tW tB re st jb ou ag wi us au hu kq tq pq sq fq yj ys yo := by
  unfold wY_isAhead_75
  rw [nI_clamp (n := x) (by omega), nI_clamp (n := y) (by omega)]
  refine yy_rel (k := 4) rfl hN hR hF (by omega) hx hy (pu_br (fun z => ?_) (fun z => ?_))
  · rw [z] at h; exact h
  · rw [z, Bool.true_and] at h
    refine ⟨vp_in_nI hx (by omega), ?_⟩
    by_cases c : yj x = 2
    · rw [decide_eq_true c, Bool.true_and] at h
      exact br_t c ⟨vp_in_nI hy (by omega), yy_isUp (pu_br (fun w => by rw [w] at h; exact h) (fun w => by rw [w] at h; exact h))⟩
    · rw [decide_eq_false c] at h
      exact br_f c h
theorem yy_ia55 {post : Int32 → Prop} {R : Nat → Nat → Nat → Bool} {x y : Nat} (hN : N ≤ 12) (hR : pu_Rok N R) (hF : pu_YF N R re) (hx : x < 12) (hy : y < 12) (h : post (pu_bI ((R 5 x y && decide (yj x = 2)) || (R 4 x y && decide (yj x = 2) && pu_up (yj y))))) : wY_isAhead_55 post (nI x) (nI y) (nI N) tT tW tB re st jb ou ag wi us au hu kq tq pq sq fq yj ys yo := by
  unfold wY_isAhead_55
  rw [nI_clamp (n := x) (by omega)]
  refine yy_rel (k := 5) rfl hN hR hF (by omega) hx hy (pu_br (fun z => ?_) (fun z => ?_))
  · rw [z, Bool.false_and, Bool.false_or] at h
    exact yy_ia75 hN hR hF hx hy h
  · rw [z, Bool.true_and] at h
    refine ⟨vp_in_nI hx (by omega), ?_⟩
    by_cases c : yj x = 2
    · rw [decide_eq_true c, Bool.true_or] at h
      exact br_t c h
    · refine br_f c (yy_ia75 hN hR hF hx hy ?_)
      rw [decide_eq_false c, Bool.false_or] at h
      rw [decide_eq_false c]
      exact h
theorem yy_ia {post : Int32 → Prop} {R : Nat → Nat → Nat → Bool} {x y : Nat} (hN : N ≤ 12) (hR : pu_Rok N R) (hF : pu_YF N R re) (hx : x < 12) (hy : y < 12) (h : post (pu_bI (pu_P R yj ys x y))) : wpY_isAhead post (nI N, tT, tW, tB, re, st, jb, ou, ag, wi, us, au, hu, kq, tq, pq, sq, fq, yj, ys, yo) (nI x) (nI y) := by
  have hix : vp_in (nI x) 12 := vp_in_nI hx (by omega)
  have hiy : vp_in (nI y) 12 := vp_in_nI hy (by omega)
  unfold pu_P at h
  unfold wpY_isAhead
  simp only [nI_clamp (n := x) (by omega), nI_clamp (n := y) (by omega)]
  refine pk_eq x y (fun e => ?_) (fun e => ?_)
  · rw [decide_eq_true e] at h; exact h
  · rw [decide_eq_false e, Bool.not_false, Bool.true_and] at h
    refine ⟨hix, ?_⟩
    by_cases c1 : yj x = 0
    · rw [decide_eq_true c1] at h; exact br_t c1 h
    · rw [decide_eq_false c1, Bool.not_false, Bool.true_and] at h
      refine br_f c1 ⟨hiy, ?_⟩
      by_cases c2 : yj y = 0
      · rw [decide_eq_true c2] at h; exact br_t c2 h
      · rw [decide_eq_false c2, Bool.not_false, Bool.true_and] at h
        refine br_f c2 ⟨hiy, ?_⟩
        by_cases c3 : ys y = 1
        · rw [decide_eq_true c3] at h; exact br_t c3 h
        · rw [decide_eq_false c3, Bool.not_false, Bool.true_and, Bool.or_assoc] at h
          refine br_f c3 (yy_rel (k := 5) rfl hN hR hF (by omega) hy hx (pu_br (fun z => ?_) (fun z => ?_)))
          · rw [z, Bool.false_and, Bool.false_or] at h
            exact yy_ia55 hN hR hF hx hy h
          · rw [z, Bool.true_and] at h
            refine ⟨hiy, ?_⟩
            by_cases c4 : yj y = 2
            · rw [decide_eq_true c4, Bool.not_true, Bool.false_or] at h
              exact br_t c4 (yy_ia55 hN hR hF hx hy h)
            · rw [decide_eq_false c4, Bool.not_false, Bool.true_or] at h
              exact br_f c4 h
theorem yy_sa_lp {post : Int32 → Prop} {R : Nat → Nat → Nat → Bool} {S : Nat → Bool} {y : Nat} (hN : N ≤ 12) (hR : pu_Rok N R) (hF : pu_YF N R re) (hy : y < N) (hB : pu_BB S 12 sq) (h : post (pu_bI (pu_ex (fun x => S x && pu_P R yj ys x y) N))) : ∀ (m i : Nat), i + m = N → (∀ j, j < i → (S j && pu_P R yj ys j y) = false) → wY_seenAhead_2 post (nI y) (nI N) tT tW tB re st jb ou ag wi us au hu kq tq pq sq fq yj ys yo (m + 1) (nI i) := by
  intro m
  induction m with
  | zero =>
    intro i hi hn
    have ei : i = N := by omega
    subst ei
    rw [pu_ex_no hn] at h
    exact br_t (nI_le (Nat.le_refl _) (by omega)) h
  | succ m ih =>
    intro i hi hn
    rw [wY_seenAhead_2]; dsimp only
    rw [nI_clamp (n := i) (by omega)]
    refine br_f (nI_ge (by omega) (by omega)) ⟨vp_in_nI (by omega) (by omega), ?_⟩
    refine pu_brc (hB i (by omega)) (fun z => ?_) (fun z => ?_)
    · refine nm_r (nI_1 i) (ih (i + 1) (by omega) (fun j hj => ?_))
      by_cases c : j = i
      · subst c; rw [z]; rfl
      · exact hn j (by omega)
    · refine yy_ia hN hR hF (by omega) (by omega) (pu_br (fun z2 => ?_) (fun z2 => ?_))
      · refine nm_r (nI_1 i) (ih (i + 1) (by omega) (fun j hj => ?_))
        by_cases c : j = i
        · subst c; rw [z2, Bool.and_false]
        · exact hn j (by omega)
      · rw [pu_ex_t (f := fun x => S x && pu_P R yj ys x y) (i := i) (by omega) (by show (S i && pu_P R yj ys i y) = true; rw [z, z2]; rfl)] at h
        exact h
theorem yy_sa {post : Int32 → Prop} {R : Nat → Nat → Nat → Bool} {S : Nat → Bool} {y : Nat} (hN : N ≤ 12) (hR : pu_Rok N R) (hF : pu_YF N R re) (hy : y < N) (hB : pu_BB S 12 sq) (h : post (pu_bI (pu_ex (fun x => S x && pu_P R yj ys x y) N))) : wpY_seenAhead post (nI N, tT, tW, tB, re, st, jb, ou, ag, wi, us, au, hu, kq, tq, pq, sq, fq, yj, ys, yo) (nI y) := by
  unfold wpY_seenAhead
  exact Exists.intro (N + 1) (yy_sa_lp hN hR hF hy hB h N 0 (by omega) (fun j hj => absurd hj (Nat.not_lt_zero j)))
theorem yy_oc40 {post : Int32 → SY → Prop} {J25 : Int32 → Int32 → (Nat → Int32) → (Nat → Int32) → (Nat → Int32) → (Nat → Int32) → (Nat → Int32) → (Nat → Int32) → (Nat → Int32) → (Nat → Int32) → (Nat → Int32) → (Nat → Int32) → (Nat → Int32) → (Nat → Int32) → (Nat → Int32) → (Nat → Int32) → (Nat → Int32) → (Nat → Int32) → (Nat → Int32) → Prop} {R : Nat → Nat → Nat → Bool} {S : Nat → Bool} {s r : Nat} (hN : N ≤ 12) (hR : pu_Rok N R) (hF : pu_YF N R re) (hs : s < N) (h : ∀ g sq', pu_BB (pu_rs (pu_sQ N (pu_P R yj ys) s) S N) 12 sq' → (g = false → pu_rs (pu_sQ N (pu_P R yj ys) s) S N = S) → J25 (pu_bI g) (nI (r + 1)) re st jb ou ag wi us au hu kq tq pq sq' fq yj ys yo) : ∀ (m e : Nat) (g : Bool) (sq : Nat → Int32), e + m = N → pu_BB (pu_rs (pu_sQ N (pu_P R yj ys) s) S e) 12 sq → (g = false → pu_rs (pu_sQ N (pu_P R yj ys) s) S e = S) → wY_onCycle_40 post J25 (nI s) (nI r) (nI N) tT tW tB (m + 1) (pu_bI g) (nI e) re st jb ou ag wi us au hu kq tq pq sq fq yj ys yo := by
  intro m
  induction m with
  | zero =>
    intro e g sq he hB hg
    have ei : e = N := by omega
    subst ei
    exact br_t (nI_le (Nat.le_refl _) (by omega)) (nm_r (nI_1 r) (h g sq hB hg))
  | succ m ih =>
    intro e g sq he hB hg
    have hin : vp_in (nI e) 12 := vp_in_nI (by omega) (by omega)
    have yes : pu_sQ N (pu_P R yj ys) s (pu_rs (pu_sQ N (pu_P R yj ys) s) S e) e = true → wY_onCycle_78 post J25 (wY_onCycle_40 post J25 (nI s) (nI r) (nI N) tT tW tB (m + 1)) (nI s) (nI r) (nI e) (nI N) tT tW tB re st jb ou ag wi us au hu kq tq pq sq fq yj ys yo := fun z2 => by
      have hB2 : pu_BB (pu_rs (pu_sQ N (pu_P R yj ys) s) S (e + 1)) 12 (upd sq e 1) := pu_BB_st z2 hB
      unfold wY_onCycle_78
      rw [nI_clamp (n := e) (by omega), pu_vn1]
      exact ⟨hin, nm_e (nm_r (nI_1 e) (ih (e + 1) true _ (by omega) hB2 (fun w => (nomatch w))))⟩
    rw [wY_onCycle_40]; dsimp only
    rw [nI_clamp (n := e) (by omega)]
    refine br_f (nI_ge (by omega) (by omega)) ⟨hin, ?_⟩
    refine pu_brc (hB e (by omega)) (fun z => ?_) (fun z => ?_)
    · refine yy_ia hN hR hF (by omega) (by omega) (pu_br (fun z2 => ?_) (fun z2 => ?_))
      · refine yy_sa hN hR hF (by omega) hB (pu_br (fun z3 => ?_) (fun z3 => ?_))
        · have zq : pu_sQ N (pu_P R yj ys) s (pu_rs (pu_sQ N (pu_P R yj ys) s) S e) e = false := by
            show (pu_P R yj ys s e || pu_ex _ N) = false
            rw [z2]; exact z3
          have es : pu_rs (pu_sQ N (pu_P R yj ys) s) S (e + 1) = pu_rs (pu_sQ N (pu_P R yj ys) s) S e := pu_st_no zq
          exact nm_r (nI_1 e) (ih (e + 1) g sq (by omega) (by rw [es]; exact hB) (by rw [es]; exact hg))
        · refine yes ?_
          show (pu_P R yj ys s e || pu_ex _ N) = true
          rw [z2]; exact z3
      · refine yes ?_
        show (pu_P R yj ys s e || pu_ex _ N) = true
        rw [z2]; rfl
    · have es : pu_rs (pu_sQ N (pu_P R yj ys) s) S (e + 1) = pu_rs (pu_sQ N (pu_P R yj ys) s) S e := pu_st_in z
      exact nm_r (nI_1 e) (ih (e + 1) g sq (by omega) (by rw [es]; exact hB) (by rw [es]; exact hg))
theorem yy_oc25 {post : Int32 → SY → Prop} {R : Nat → Nat → Nat → Bool} {s : Nat} (hN : N ≤ 12) (hR : pu_Rok N R) (hF : pu_YF N R re) (hs : s < N) (h : ∀ sq', post (pu_bI (pu_seen N (pu_P R yj ys) s s)) (nI N, tT, tW, tB, re, st, jb, ou, ag, wi, us, au, hu, kq, tq, pq, sq', fq, yj, ys, yo)) : ∀ (m r : Nat) (g : Bool) (sq : Nat → Int32), r + m = 13 → pu_BB (pu_it (pu_sQ N (pu_P R yj ys) s) N (fun _ => false) r) 12 sq → (g = false → pu_rs (pu_sQ N (pu_P R yj ys) s) (pu_it (pu_sQ N (pu_P R yj ys) s) N (fun _ => false) r) N = pu_it (pu_sQ N (pu_P R yj ys) s) N (fun _ => false) r) → wY_onCycle_25 post (nI s) (nI N) tT tW tB (m + 1) (pu_bI g) (nI r) re st jb ou ag wi us au hu kq tq pq sq fq yj ys yo := by
  intro m
  induction m with
  | zero =>
    intro r g sq hr hB hg
    have ei : r = 13 := by omega
    subst ei
    rw [wY_onCycle_25]; dsimp only
    rw [nI_clamp (n := s) (by omega), hB s (by omega)]
    exact br_t (nI_le (a := 13) (Nat.le_refl _) (by omega)) ⟨vp_in_nI (by omega) (by omega), pu_nar _, h sq⟩
  | succ m ih =>
    intro r g sq hr hB hg
    rw [wY_onCycle_25]; dsimp only
    rw [nI_clamp (n := s) (by omega)]
    refine br_f (nI_ge (b := 13) (by omega) (by omega)) (pu_br (fun z => ?_) (fun z => ?_))
    · have e1 := pu_it_from (hg z) (13 - r)
      rw [show r + (13 - r) = 13 by omega] at e1
      rw [hB s (by omega), ← e1]
      exact ⟨vp_in_nI (by omega) (by omega), pu_nar _, h sq⟩
    · refine Exists.intro (N + 1) (yy_oc40 (S := pu_it (pu_sQ N (pu_P R yj ys) s) N (fun _ => false) r) hN hR hF hs (fun g' sq' hB' hg' => ih (r + 1) g' sq' (by omega) hB' (fun w => ?_)) N 0 false sq (by omega) hB (fun _ => rfl))
      have e2 : pu_it (pu_sQ N (pu_P R yj ys) s) N (fun _ => false) (r + 1) = pu_it (pu_sQ N (pu_P R yj ys) s) N (fun _ => false) r := hg' w
      rw [e2]
      exact hg' w
theorem yy_oc2 {post : Int32 → SY → Prop} {R : Nat → Nat → Nat → Bool} {s : Nat} (hN : N ≤ 12) (hR : pu_Rok N R) (hF : pu_YF N R re) (hs : s < N) (h : ∀ sq', post (pu_bI (pu_seen N (pu_P R yj ys) s s)) (nI N, tT, tW, tB, re, st, jb, ou, ag, wi, us, au, hu, kq, tq, pq, sq', fq, yj, ys, yo)) : ∀ (m i : Nat) (sq : Nat → Int32), i + m = 12 → pu_BB (fun _ => false) i sq → wY_onCycle_2 post (nI s) (nI N) tT tW tB (m + 1) (nI i) re st jb ou ag wi us au hu kq tq pq sq fq yj ys yo := by
  intro m
  induction m with
  | zero =>
    intro i sq hi hB
    have ei : i = 12 := by omega
    subst ei
    exact br_t (nI_le (a := 12) (Nat.le_refl _) (by omega)) (Exists.intro 14 (yy_oc25 hN hR hF hs h 13 0 true sq (by omega) hB (fun w => (nomatch w))))
  | succ m ih =>
    intro i sq hi hB
    rw [wY_onCycle_2]; dsimp only
    rw [nI_clamp (n := i) (by omega), pu_vn0]
    exact br_f (nI_ge (b := 12) (by omega) (by omega)) ⟨vp_in_nI (by omega) (by omega), nm_e (nm_r (nI_1 i) (ih (i + 1) _ (by omega) (pu_BB_s hB pu_bI0.symm)))⟩
theorem yy_oc {post : Int32 → SY → Prop} {R : Nat → Nat → Nat → Bool} {s : Nat} (hN : N ≤ 12) (hR : pu_Rok N R) (hF : pu_YF N R re) (hs : s < N) (h : ∀ sq', post (pu_bI (pu_seen N (pu_P R yj ys) s s)) (nI N, tT, tW, tB, re, st, jb, ou, ag, wi, us, au, hu, kq, tq, pq, sq', fq, yj, ys, yo)) : wpY_onCycle post (nI N, tT, tW, tB, re, st, jb, ou, ag, wi, us, au, hu, kq, tq, pq, sq, fq, yj, ys, yo) (nI s) := by
  unfold wpY_onCycle
  exact Exists.intro 13 (yy_oc2 hN hR hF hs h 12 0 sq (by omega) pu_BB_0)
theorem yy_t110 {post : Int32 → SY → Prop} {R : Nat → Nat → Nat → Bool} (hN : N ≤ 12) (hR : pu_Rok N R) (hF : pu_YF N R re) (h : ∀ sq', post (if pu_Cy N R yj ys = true then -4 else 0) (nI N, tT, tW, tB, re, st, jb, ou, ag, wi, us, au, hu, kq, tq, pq, sq', fq, yj, ys, yo)) : ∀ (m i : Nat) (sq : Nat → Int32), i + m = N → (∀ j, j < i → pu_seen N (pu_P R yj ys) j j = false) → wY_test_110 post (m + 1) (nI i) (nI N) tT tW tB re st jb ou ag wi us au hu kq tq pq sq fq yj ys yo := by
  intro m
  induction m with
  | zero =>
    intro i sq hi hn
    have ei : i = N := by omega
    subst ei
    have : pu_Cy i R yj ys = false := pu_ex_no hn
    rw [this, if_neg (by decide)] at h
    exact br_t (nI_le (Nat.le_refl _) (by omega)) (h sq)
  | succ m ih =>
    intro i sq hi hn
    rw [wY_test_110]; dsimp only
    refine br_f (nI_ge (by omega) (by omega)) (yy_oc hN hR hF (by omega) (fun sq' => pu_br (fun z => ?_) (fun z => ?_)))
    · refine nm_r (nI_1 i) (ih (i + 1) sq' (by omega) (fun j hj => ?_))
      by_cases c : j = i
      · subst c; exact z
      · exact hn j (by omega)
    · have : pu_Cy N R yj ys = true := pu_ex_t (i := i) (by omega) z
      rw [this, if_pos rfl] at h
      exact h sq'
end
end
section
/-! Y: verdicts, trials, what is wanted next -/
theorem pu_co_1 (j : Int32) : pu_co j (nI 1) = decide (j = 2) := by
  unfold pu_co
  rw [show pu_up (nI 1) = true by decide, show decide (nI 1 = 2) = false by decide]
  simp
theorem pu_co_2 (j : Int32) : pu_co j (nI 2) = pu_up j := by
  unfold pu_co
  rw [show pu_up (nI 2) = false by decide, show decide (nI 2 = 2) = true by decide]
  simp
theorem pu_co_3 (j : Int32) : pu_co j (nI 3) = decide (j = 2) := by
  unfold pu_co
  rw [show pu_up (nI 3) = true by decide, show decide (nI 3 = 2) = false by decide]
  simp
theorem pu_Pd36 {N : Nat} {T : Nat → Bool} {jb : Nat → Int32} (hN : N ≤ 12) (hD : pu_Dok N T) : pu_ex (fun i => T i && pu_co (jb (i % 12)) (nI (i / 12 + 1))) 36 = pu_Pd N T jb := by
  unfold pu_Pd
  rw [Bool.eq_iff_iff, pu_ex_iff, pu_ex_iff]
  constructor
  · rintro ⟨i, hi, h⟩
    rw [Bool.and_eq_true] at h
    have hx := (hD i h.1).2
    refine ⟨i % 12, hx, ?_⟩
    have h3 : i / 12 = 0 ∨ i / 12 = 1 ∨ i / 12 = 2 := by omega
    rcases h3 with c | c | c
    · have e : i % 12 = i := by omega
      have h2 := h.2
      rw [c, pu_co_1] at h2
      rw [h2, e, h.1]; rfl
    · have e : 12 + i % 12 = i := by omega
      have h2 := h.2
      rw [c, pu_co_2] at h2
      rw [h2, e, h.1]
      simp
    · have e : 24 + i % 12 = i := by omega
      have h2 := h.2
      rw [c, pu_co_3] at h2
      rw [h2, e, h.1]
      simp
  · rintro ⟨x, hx, h⟩
    rw [Bool.or_eq_true, Bool.and_eq_true, Bool.and_eq_true, Bool.or_eq_true] at h
    rcases h with ⟨h1, h2 | h2⟩ | ⟨h1, h2⟩
    · refine ⟨x, by omega, ?_⟩
      rw [show x % 12 = x by omega, show x / 12 + 1 = 1 by omega, pu_co_1, h1, h2]; rfl
    · refine ⟨24 + x, by omega, ?_⟩
      rw [show (24 + x) % 12 = x by omega, show (24 + x) / 12 + 1 = 3 by omega, pu_co_3, h1, h2]; rfl
    · refine ⟨12 + x, by omega, ?_⟩
      rw [show (12 + x) % 12 = x by omega, show (12 + x) / 12 + 1 = 2 by omega, pu_co_2, h1, h2]; rfl
theorem pu_Cy_congr {R : Nat → Nat → Nat → Bool} {N : Nat} {J S J' S' : Nat → Int32} (hR : pu_Rok N R) (hJ : ∀ x, x < N → J' x = J x) (hS : ∀ x, x < N → S' x = S x) : pu_Cy N R J' S' = pu_Cy N R J S := by
  have : pu_P R J' S' = pu_P R J S := by
    funext x y
    exact pu_P_congr hR hJ hS x y
  unfold pu_Cy
  rw [this]
section
variable {N : Nat} {tT tW tB : Int32} {re st jb ou ag wi us au hu kq tq pq sq fq yj ys yo : Nat → Int32}
theorem yy_t54 {post : Int32 → SY → Prop} {R : Nat → Nat → Nat → Bool} {T : Nat → Bool} {mode : Int32} (hN : N ≤ 12) (hR : pu_Rok N R) (hF : pu_YF N R re) (hJ : pu_Jok N jb) (hD : pu_Dok N T) (hT : pu_BB T 36 tq) (h : ∀ sq yj ys yo, post (if mode = 0 ∧ pu_Pd N T jb = true then -3 else if pu_Cy N R (pu_qj T st jb) (pu_qs T st jb) = true then -4 else 0) (nI N, tT, tW, tB, re, st, jb, ou, ag, wi, us, au, hu, kq, tq, pq, sq, fq, yj, ys, yo)) : ∀ (m i : Nat), i + m = 36 → (mode = 0 → ∀ j, j < i → (T j && pu_co (jb (j % 12)) (nI (j / 12 + 1))) = false) → wY_test_54 post mode (nI N) tT tW tB re st jb ou ag wi us au hu kq tq pq sq fq yj ys yo (m + 1) (nI i) := by
  intro m
  induction m with
  | zero =>
    intro i hi hn
    have ei : i = 36 := by omega
    subst ei
    rw [if_neg (fun z => by
      have := pu_ex_no (hn z.1)
      rw [pu_Pd36 hN hD, z.2] at this
      exact (nomatch this))] at h
    refine br_t (nI_le (a := 36) (Nat.le_refl _) (by omega)) (yy_cmb hN hJ hD hT (fun yj' ys' yo' hp => Exists.intro (N + 1) (yy_t110 hN hR hF (fun sq' => ?_) N 0 sq (by omega) (fun j hj => absurd hj (Nat.not_lt_zero j)))))
    rw [pu_Cy_congr hR (J := pu_qj T st jb) (S := pu_qs T st jb) (fun x hx => (hp x (by omega)).1) (fun x hx => (hp x (by omega)).2.1)]
    exact h sq' yj' ys' yo'
  | succ m ih =>
    intro i hi hn
    have n12 : ¬ (12 : Int32) = 0 := by decide
    have dv : nI i / 12 + 1 = nI (i / 12 + 1) := by
      show nI i / nI 12 + 1 = _
      rw [pk_div (by omega) (by omega) (by omega), nI_1]
    have rm : nI i - nI i / 12 * 12 = nI (i % 12) := by
      show nI i - nI i / nI 12 * nI 12 = _
      rw [pk_rem (by omega) (by omega) (by omega)]
    have hr : i % 12 < 12 := Nat.mod_lt _ (by decide)
    rw [wY_test_54]; dsimp only
    rw [rm, dv, nI_clamp (n := i) (by omega), nI_clamp (n := i % 12) (by omega)]
    refine br_f (nI_ge (b := 36) (by omega) (by omega)) ?_
    by_cases m0 : mode = 0
    · refine br_t m0 ⟨vp_in_nI (by omega) (by omega), pu_brc (hT i (by omega)) (fun z => ?_) (fun z => ?_)⟩
      · refine nm_r (nI_1 i) (ih (i + 1) (by omega) (fun _ j hj => ?_))
        by_cases c : j = i
        · subst c; rw [z]; rfl
        · exact hn m0 j (by omega)
      · refine ⟨n12, vp_in_nI hr (by omega), n12, yy_con (pu_br (fun z2 => ?_) (fun z2 => ?_))⟩
        · refine nm_r (nI_1 i) (ih (i + 1) (by omega) (fun _ j hj => ?_))
          by_cases c : j = i
          · subst c; rw [z2, Bool.and_false]
          · exact hn m0 j (by omega)
        · have hp : pu_Pd N T jb = true := by
            rw [← pu_Pd36 hN hD]
            exact pu_ex_t (i := i) (by omega) (by show (T i && pu_co (jb (i % 12)) (nI (i / 12 + 1))) = true; rw [z, z2]; rfl)
          rw [if_pos ⟨m0, hp⟩] at h
          exact h _ _ _ _
    · exact br_f m0 (nm_r (nI_1 i) (ih (i + 1) (by omega) (fun z => absurd z m0)))
theorem yy_t2 {post : Int32 → SY → Prop} {R : Nat → Nat → Nat → Bool} {T : Nat → Bool} {mode : Int32} (hN : N ≤ 12) (hR : pu_Rok N R) (hF : pu_YF N R re) (hJ : pu_Jok N jb) (hD : pu_Dok N T) (hT : pu_BB T 36 tq) (h : ∀ sq yj ys yo, post (pu_V N R T st jb mode) (nI N, tT, tW, tB, re, st, jb, ou, ag, wi, us, au, hu, kq, tq, pq, sq, fq, yj, ys, yo)) : ∀ (m i : Nat), i + m = N → (∀ j, j < i → (T (12 + j) && (T j || T (24 + j))) = false) → wY_test_2 post mode (nI N) tT tW tB re st jb ou ag wi us au hu kq tq pq sq fq yj ys yo (m + 1) (nI i) := by
  intro m
  unfold pu_V at h
  induction m with
  | zero =>
    intro i hi hn
    have ei : i = N := by omega
    subst ei
    have : pu_Cf i T = false := pu_ex_no hn
    rw [this, if_neg (by decide)] at h
    exact br_t (nI_le (Nat.le_refl _) (by omega)) (Exists.intro 37 (yy_t54 hN hR hF hJ hD hT h 36 0 (by omega) (fun _ j hj => absurd hj (Nat.not_lt_zero j))))
  | succ m ih =>
    intro i hi hn
    have e12 : (12 : Int32) + nI i = nI (12 + i) := nI_add 12 i
    have e24 : (24 : Int32) + nI i = nI (24 + i) := nI_add 24 i
    have next : (T (12 + i) && (T i || T (24 + i))) = false → wY_test_2 post mode (nI N) tT tW tB re st jb ou ag wi us au hu kq tq pq sq fq yj ys yo (m + 1) (nI (i + 1)) := fun z => ih (i + 1) (by omega) (fun j hj => by
      by_cases c : j = i
      · subst c; exact z
      · exact hn j (by omega))
    have hit : (T (12 + i) && (T i || T (24 + i))) = true → post (-2) (nI N, tT, tW, tB, re, st, jb, ou, ag, wi, us, au, hu, kq, tq, pq, sq, fq, yj, ys, yo) := fun z => by
      have : pu_Cf N T = true := pu_ex_t (i := i) (by omega) z
      rw [this, if_pos rfl] at h
      exact h _ _ _ _
    rw [wY_test_2]; dsimp only
    rw [e12, e24, nI_clamp (n := i) (by omega), nI_clamp (n := 12 + i) (by omega), nI_clamp (n := 24 + i) (by omega)]
    refine br_f (nI_ge (by omega) (by omega)) ⟨vp_in_nI (by omega) (by omega), pu_brc (hT (12 + i) (by omega)) (fun a1 => ?_) (fun a1 => ?_)⟩
    · exact nm_r (nI_1 i) (next (by rw [a1]; rfl))
    · refine ⟨vp_in_nI (by omega) (by omega), pu_brc (hT i (by omega)) (fun a2 => ?_) (fun a2 => ?_)⟩
      · refine ⟨vp_in_nI (by omega) (by omega), pu_brc (hT (24 + i) (by omega)) (fun a3 => ?_) (fun a3 => ?_)⟩
        · exact nm_r (nI_1 i) (next (by rw [a1, a2, a3]; rfl))
        · exact hit (by rw [a1, a2, a3]; rfl)
      · exact hit (by rw [a1, a2]; rfl)
theorem yy_test {post : Int32 → SY → Prop} {R : Nat → Nat → Nat → Bool} {T : Nat → Bool} {mode : Int32} (hN : N ≤ 12) (hR : pu_Rok N R) (hF : pu_YF N R re) (hJ : pu_Jok N jb) (hD : pu_Dok N T) (hT : pu_BB T 36 tq) (h : ∀ sq yj ys yo, post (pu_V N R T st jb mode) (nI N, tT, tW, tB, re, st, jb, ou, ag, wi, us, au, hu, kq, tq, pq, sq, fq, yj, ys, yo)) : wpY_test post (nI N, tT, tW, tB, re, st, jb, ou, ag, wi, us, au, hu, kq, tq, pq, sq, fq, yj, ys, yo) mode := by
  unfold wpY_test
  exact Exists.intro (N + 1) (yy_t2 hN hR hF hJ hD hT h N 0 (by omega) (fun j hj => absurd hj (Nat.not_lt_zero j)))
theorem yy_ta64 {post : Int32 → SY → Prop} {K T : Nat → Bool} {c : Int32} (hK : pu_BB K 36 kq) (hT : pu_BB T 36 tq) (h : ∀ kq', pu_BB (pu_nk c K T) 36 kq' → post c (nI N, tT, tW, tB, re, st, jb, ou, ag, wi, us, au, hu, kq', tq, pq, sq, fq, yj, ys, yo)) : ∀ (m i : Nat) (kq' : Nat → Int32), i + m = 36 → (∀ e, e < 36 → kq' e = if e < i ∧ c = 0 then pu_bI (T e) else kq e) → wY_tryAdd_64 post c (nI N) tT tW tB (m + 1) (nI i) re st jb ou ag wi us au hu kq' tq pq sq fq yj ys yo := by
  intro m
  induction m with
  | zero =>
    intro i kq' hi hk
    have ei : i = 36 := by omega
    subst ei
    refine br_t (nI_le (a := 36) (Nat.le_refl _) (by omega)) (h kq' (fun e he => ?_))
    rw [hk e he]
    unfold pu_nk
    by_cases c0 : c = 0
    · rw [if_pos ⟨he, c0⟩, if_pos c0]
    · rw [if_neg (fun z => c0 z.2), if_neg c0]
      exact hK e he
  | succ m ih =>
    intro i kq' hi hk
    rw [wY_tryAdd_64]; dsimp only
    rw [nI_clamp (n := i) (by omega), hT i (by omega), pu_vnb]
    refine br_f (nI_ge (b := 36) (by omega) (by omega)) ?_
    by_cases c0 : c = 0
    · refine br_t c0 ⟨vp_in_nI (by omega) (by omega), vp_in_nI (by omega) (by omega), nm_e (nm_r (nI_1 i) (ih (i + 1) _ (by omega) (fun e he => ?_)))⟩
      by_cases z : e = i
      · subst z
        rw [pk_us, if_pos ⟨by omega, c0⟩]
      · rw [pk_un z, hk e he]
        by_cases w : e < i
        · rw [if_pos ⟨w, c0⟩, if_pos ⟨by omega, c0⟩]
        · rw [if_neg (fun y => w y.1), if_neg (fun y => by have := y.1; omega)]
    · refine br_f c0 (nm_r (nI_1 i) (ih (i + 1) _ (by omega) (fun e he => ?_)))
      rw [hk e he, if_neg (fun y => c0 y.2), if_neg (fun y => c0 y.2)]
theorem yy_ta9 {post : Int32 → SY → Prop} {R : Nat → Nat → Nat → Bool} {K H : Nat → Bool} {mode : Int32} (hN : N ≤ 12) (hR : pu_Rok N R) (hF : pu_YF N R re) (hJ : pu_Jok N jb) (hD : pu_Dok N (pu_un K H)) (hK : pu_BB K 36 kq) (hH : pu_BB H 36 hu) (h : ∀ tq' sq' yj' ys' yo' kq', pu_BB (pu_nk (pu_V N R (pu_un K H) st jb mode) K (pu_un K H)) 36 kq' → post (pu_V N R (pu_un K H) st jb mode) (nI N, tT, tW, tB, re, st, jb, ou, ag, wi, us, au, hu, kq', tq', pq, sq', fq, yj', ys', yo')) : ∀ (m i : Nat) (tq : Nat → Int32), i + m = 36 → pu_BB (pu_un K H) i tq → wY_tryAdd_9 post mode (nI N) tT tW tB (m + 1) (nI i) re st jb ou ag wi us au hu kq tq pq sq fq yj ys yo := by
  intro m
  induction m with
  | zero =>
    intro i tq hi hB
    have ei : i = 36 := by omega
    subst ei
    refine br_t (nI_le (a := 36) (Nat.le_refl _) (by omega)) (yy_test hN hR hF hJ hD hB (fun sq' yj' ys' yo' => Exists.intro 37 (yy_ta64 hK hB (fun kq' hk' => h tq sq' yj' ys' yo' kq' hk') 36 0 kq (by omega) (fun e he => ?_))))
    rw [if_neg (fun z => absurd z.1 (Nat.not_lt_zero e))]
  | succ m ih =>
    intro i tq hi hB
    have hin : vp_in (nI i) 36 := vp_in_nI (by omega) (by omega)
    rw [wY_tryAdd_9]; dsimp only
    rw [nI_clamp (n := i) (by omega), pu_vn0, pu_vn1]
    refine br_f (nI_ge (b := 36) (by omega) (by omega)) ⟨hin, pu_brc (hK i (by omega)) (fun a1 => ⟨hin, pu_brc (hH i (by omega)) (fun a2 => ?_) (fun a2 => ?_)⟩) (fun a1 => ?_)⟩
    · exact ⟨hin, nm_e (nm_r (nI_1 i) (ih (i + 1) _ (by omega) (pu_BB_s hB (by unfold pu_un; rw [a1, a2]; rfl))))⟩
    · exact ⟨hin, nm_e (nm_r (nI_1 i) (ih (i + 1) _ (by omega) (pu_BB_s hB (by unfold pu_un; rw [a1, a2]; rfl))))⟩
    · exact ⟨hin, nm_e (nm_r (nI_1 i) (ih (i + 1) _ (by omega) (pu_BB_s hB (by unfold pu_un; rw [a1]; rfl))))⟩
theorem yy_try {post : Int32 → SY → Prop} {R : Nat → Nat → Nat → Bool} {K : Nat → Bool} {k u : Nat} {p0 mode : Int32} (hp : p0 = nI (k + 1)) (hN : N ≤ 12) (hR : pu_Rok N R) (hF : pu_YF N R re) (hJ : pu_Jok N jb) (hk : k < 3) (hu2 : u < N) (hD : pu_Dok N K) (hK : pu_BB K 36 kq) (h : ∀ hu' tq' sq' yj' ys' yo' kq', pu_BB (pu_nk (pu_V N R (pu_un K (pu_H R st (k * 12 + u))) st jb mode) K (pu_un K (pu_H R st (k * 12 + u)))) 36 kq' → post (pu_V N R (pu_un K (pu_H R st (k * 12 + u))) st jb mode) (nI N, tT, tW, tB, re, st, jb, ou, ag, wi, us, au, hu', kq', tq', pq, sq', fq, yj', ys', yo')) : wpY_tryAdd post (nI N, tT, tW, tB, re, st, jb, ou, ag, wi, us, au, hu, kq, tq, pq, sq, fq, yj, ys, yo) p0 (nI u) mode := by
  subst hp
  unfold wpY_tryAdd
  refine yy_mh hN hR hF hk (by omega) (fun hu' hH => ?_)
  exact Exists.intro 37 (yy_ta9 hN hR hF hJ (pu_un_Dok hD (pu_H_Dok hR (by omega) (by omega))) hK hH (fun tq' sq' yj' ys' yo' kq' hk' => h hu' tq' sq' yj' ys' yo' kq' hk') 36 0 tq (by omega) pu_BB_0)
end
/-! what is wanted next -/
def pu_fi (o : Option Nat) : Int32 := match o with
  | none => -1
  | some w => nI w
def pu_wf (N : Nat) (R : Nat → Nat → Nat → Bool) (K Ps : Nat → Bool) (w : Nat) : Bool := !Ps w && !K w && !K (24 + w) && pu_ex (fun x => (K x || K (24 + x)) && R 1 x w) N
section
variable {N : Nat} {tT tW tB : Int32} {re st jb ou ag wi us au hu kq tq pq sq fq yj ys yo : Nat → Int32}
theorem yy_nw12 {post J2 : Int32 → Prop} {R : Nat → Nat → Nat → Bool} {K Ps : Nat → Bool} {w : Nat} (hN : N ≤ 12) (hR : pu_Rok N R) (hF : pu_YF N R re) (hK : pu_BB K 36 kq) (hP : pu_BB Ps 12 pq) (hw : w < N) (hy : pu_wf N R K Ps w = true → post (nI w)) (hn : pu_wf N R K Ps w = false → J2 (nI (w + 1))) : ∀ (m i : Nat), i + m = N → ((!Ps w && !K w && !K (24 + w)) = true → ∀ x, x < i → ((K x || K (24 + x)) && R 1 x w) = false) → wY_nextWanted_12 post J2 (nI w) (nI N) tT tW tB re st jb ou ag wi us au hu kq tq pq sq fq yj ys yo (m + 1) (nI i) := by
  intro m
  induction m with
  | zero =>
    intro i hi hx
    have ei : i = N := by omega
    subst ei
    refine br_t (nI_le (Nat.le_refl _) (by omega)) (nm_r (nI_1 w) (hn ?_))
    unfold pu_wf
    cases z : (!Ps w && !K w && !K (24 + w))
    · rfl
    · rw [pu_ex_no (hx z)]; rfl
  | succ m ih =>
    intro i hi hx
    have e24 : ∀ a, (24 : Int32) + nI a = nI (24 + a) := fun a => nI_add 24 a
    rw [wY_nextWanted_12]; dsimp only
    rw [e24 w, e24 i, nI_clamp (n := i) (by omega), nI_clamp (n := w) (by omega), nI_clamp (n := 24 + i) (by omega), nI_clamp (n := 24 + w) (by omega)]
    have no : (!Ps w && !K w && !K (24 + w)) = false → wY_nextWanted_12 post J2 (nI w) (nI N) tT tW tB re st jb ou ag wi us au hu kq tq pq sq fq yj ys yo (m + 1) (nI (i + 1)) := fun z => ih (i + 1) (by omega) (fun y => by rw [z] at y; exact (nomatch y))
    have n71 : (!Ps w && !K w && !K (24 + w)) = true → (K i || K (24 + i)) = true → wY_nextWanted_71 post J2 (wY_nextWanted_12 post J2 (nI w) (nI N) tT tW tB re st jb ou ag wi us au hu kq tq pq sq fq yj ys yo (m + 1)) (nI w) (nI i) (nI N) tT tW tB re st jb ou ag wi us au hu kq tq pq sq fq yj ys yo := fun z1 z2 => by
      unfold wY_nextWanted_71
      refine yy_rel (k := 1) rfl hN hR hF (by omega) (by omega) (by omega) (pu_br (fun z => ?_) (fun z => ?_))
      · refine nm_r (nI_1 i) (ih (i + 1) (by omega) (fun y x hx2 => ?_))
        by_cases c : x = i
        · subst c; rw [z, Bool.and_false]
        · exact hx y x (by omega)
      · refine hy ?_
        unfold pu_wf
        rw [z1, pu_ex_t (f := fun x => (K x || K (24 + x)) && R 1 x w) (i := i) (by omega) (by show ((K i || K (24 + i)) && R 1 i w) = true; rw [z2, z]; rfl)]
        rfl
    refine br_f (nI_ge (by omega) (by omega)) ⟨vp_in_nI (by omega) (by omega), pu_brc (hP w (by omega)) (fun a1 => ⟨vp_in_nI (by omega) (by omega), pu_brc (hK w (by omega)) (fun a2 => ⟨vp_in_nI (by omega) (by omega), pu_brc (hK (24 + w) (by omega)) (fun a3 => ⟨vp_in_nI (by omega) (by omega), pu_brc (hK i (by omega)) (fun a4 => ⟨vp_in_nI (by omega) (by omega), pu_brc (hK (24 + i) (by omega)) (fun a5 => ?_) (fun a5 => ?_)⟩) (fun a4 => ?_)⟩) (fun a3 => ?_)⟩) (fun a2 => ?_)⟩) (fun a1 => ?_)⟩
    · refine nm_r (nI_1 i) (ih (i + 1) (by omega) (fun y x hx2 => ?_))
      by_cases c : x = i
      · subst c; rw [a4, a5]; rfl
      · exact hx y x (by omega)
    · exact n71 (by rw [a1, a2, a3]; rfl) (by rw [a4, a5]; rfl)
    · exact n71 (by rw [a1, a2, a3]; rfl) (by rw [a4]; rfl)
    · exact nm_r (nI_1 i) (no (by rw [a1, a2, a3]; rfl))
    · exact nm_r (nI_1 i) (no (by rw [a1, a2]; rfl))
    · exact nm_r (nI_1 i) (no (by rw [a1]; rfl))
theorem yy_nw2 {post : Int32 → Prop} {R : Nat → Nat → Nat → Bool} {K Ps : Nat → Bool} (hN : N ≤ 12) (hR : pu_Rok N R) (hF : pu_YF N R re) (hK : pu_BB K 36 kq) (hP : pu_BB Ps 12 pq) : ∀ (m w : Nat), w + m = N → post (pu_fi (pu_ff (pu_wf N R K Ps) m w)) → wY_nextWanted_2 post (nI N) tT tW tB re st jb ou ag wi us au hu kq tq pq sq fq yj ys yo (m + 1) (nI w) := by
  intro m
  induction m with
  | zero =>
    intro w hw h
    have ei : w = N := by omega
    subst ei
    exact br_t (nI_le (Nat.le_refl _) (by omega)) h
  | succ m ih =>
    intro w hw h
    rw [pu_ff] at h
    rw [wY_nextWanted_2]; dsimp only
    refine br_f (nI_ge (by omega) (by omega)) (Exists.intro (N + 1) (yy_nw12 hN hR hF hK hP (by omega) (fun z => ?_) (fun z => ?_) N 0 (by omega) (fun _ x hx => absurd hx (Nat.not_lt_zero x))))
    · rw [if_pos z] at h; exact h
    · rw [z, if_neg (by decide)] at h
      exact ih (w + 1) (by omega) h
theorem yy_nw {post : Int32 → Prop} {R : Nat → Nat → Nat → Bool} {K Ps : Nat → Bool} (hN : N ≤ 12) (hR : pu_Rok N R) (hF : pu_YF N R re) (hK : pu_BB K 36 kq) (hP : pu_BB Ps 12 pq) (h : post (pu_fi (pu_ff (pu_wf N R K Ps) N 0))) : wpY_nextWanted post (nI N, tT, tW, tB, re, st, jb, ou, ag, wi, us, au, hu, kq, tq, pq, sq, fq, yj, ys, yo) := by
  unfold wpY_nextWanted
  exact Exists.intro (N + 1) (yy_nw2 hN hR hF hK hP N 0 (by omega) h)
end
end
section
/-! X: what is wanted next, committing; Y: committing -/
section
variable {N : Nat} {tT tW tB pc qj qs qr : Int32} {fo ba st jb ou ag wi us au kp tr pu ps pj po : Nat → Int32}
theorem xx_wby_lp {post : Int32 → Prop} {R : Nat → Nat → Nat → Bool} {U : Int32} (hN : N ≤ 12) (hX : pu_XF R fo ba) (h : ∀ r, (∀ b, b < 32 → bt r b = pu_ex (fun x => bt U x && R 1 x b) N) → post r) : ∀ (m i : Nat) (x2 : Int32), i + m = N → (∀ b, b < 32 → bt x2 b = pu_ex (fun x => bt U x && R 1 x b) i) → wX_wantedBy_4 post U (nI N) tT tW tB pc qj qs qr fo ba st jb ou ag wi us au kp tr pu ps pj po (m + 1) x2 (nI i) := by
  intro m
  induction m with
  | zero =>
    intro i x2 hi hx
    have e : i = N := by omega
    subst e
    exact br_t (nI_le (Nat.le_refl _) (by omega)) (h _ hx)
  | succ m ih =>
    intro i x2 hi hx
    have e12 : (12 : Int32) + nI i = nI (12 + i) := nI_add 12 i
    rw [wX_wantedBy_4]; dsimp only
    rw [e12, nI_clamp (n := 12 + i) (by omega)]
    refine br_f (nI_ge (by omega) (by omega)) (xx_has (by omega) (pu_br (fun a1 => ?_) (fun a1 => ?_)))
    · refine nm_r (nI_1 i) (ih (i + 1) _ (by omega) (fun b hb => ?_))
      rw [hx b hb]
      show _ = (pu_ex (fun x => bt U x && R 1 x b) i || (bt U i && R 1 i b))
      rw [a1, Bool.false_and, Bool.or_false]
    · refine ⟨vp_in_nI (by omega) (by omega), nm_e (nm_r (nI_1 i) (ih (i + 1) _ (by omega) (fun b hb => ?_)))⟩
      have hf : bt (fo (12 + i)) b = R 1 i b := (hX 1 i b (by omega) (by omega) hb).1
      rw [b_or, hx b hb, hf]
      show _ = (pu_ex (fun x => bt U x && R 1 x b) i || (bt U i && R 1 i b))
      rw [a1, Bool.true_and]
theorem xx_wby {post : Int32 → Prop} {R : Nat → Nat → Nat → Bool} {U : Int32} (hN : N ≤ 12) (hX : pu_XF R fo ba) (h : ∀ r, (∀ b, b < 32 → bt r b = pu_ex (fun x => bt U x && R 1 x b) N) → post r) : wpX_wantedBy post (nI N, tT, tW, tB, pc, qj, qs, qr, fo, ba, st, jb, ou, ag, wi, us, au, kp, tr, pu, ps, pj, po) U := by
  unfold wpX_wantedBy
  exact Exists.intro (N + 1) (xx_wby_lp hN hX h N 0 0 (by omega) (fun b _ => b_0 b))
theorem xx_low_lp {post : Int32 → Prop} {U : Int32} (hN : N ≤ 12) : ∀ (m i : Nat), i + m = N → post (pu_fi (pu_ff (bt U) m i)) → wX_lowest_2 post U (nI N) tT tW tB pc qj qs qr fo ba st jb ou ag wi us au kp tr pu ps pj po (m + 1) (nI i) := by
  intro m
  induction m with
  | zero =>
    intro i hi h
    have e : i = N := by omega
    subst e
    exact br_t (nI_le (Nat.le_refl _) (by omega)) h
  | succ m ih =>
    intro i hi h
    rw [pu_ff] at h
    rw [wX_lowest_2]; dsimp only
    refine br_f (nI_ge (by omega) (by omega)) (xx_has (by omega) (pu_br (fun a1 => ?_) (fun a1 => ?_)))
    · rw [a1, if_neg (by decide)] at h
      exact nm_r (nI_1 i) (ih (i + 1) (by omega) h)
    · rw [a1, if_pos rfl] at h
      exact h
theorem xx_low {post : Int32 → Prop} {U : Int32} (hN : N ≤ 12) (h : post (pu_fi (pu_ff (bt U) N 0))) : wpX_lowest post (nI N, tT, tW, tB, pc, qj, qs, qr, fo, ba, st, jb, ou, ag, wi, us, au, kp, tr, pu, ps, pj, po) U := by
  unfold wpX_lowest
  exact Exists.intro (N + 1) (xx_low_lp hN N 0 (by omega) h)
/-- what a commit leaves -/
def pu_cm (i : Nat) (f g : Nat → Int32) : Nat → Int32 := fun x => if x < i then f x else g x
theorem pu_cm_0 {f g : Nat → Int32} : pu_cm 0 f g = g := by
  funext x
  exact if_neg (Nat.not_lt_zero x)
theorem pu_cm_s {i : Nat} {f g : Nat → Int32} {v : Int32} (h : v = f i) : upd (pu_cm i f g) i v = pu_cm (i + 1) f g := by
  subst h
  funext x
  show (if x = i then f i else if x < i then f x else g x) = if x < i + 1 then f x else g x
  by_cases c : x = i
  · subst c
    rw [if_pos rfl, if_pos (Nat.lt_succ_self x)]
  · rw [if_neg c]
    by_cases c2 : x < i
    · rw [if_pos c2, if_pos (by omega)]
    · rw [if_neg c2, if_neg (by omega)]
theorem xx_cmt_lp {post : SX → Prop} {T : Nat → Bool} {st0 jb0 ou0 : Nat → Int32} (hN : N ≤ 12) (hp : pu_Pl N T st0 jb0 ou0 ps pj po) (h : post (nI N, tT, tW, tB, pc, qj, qs, qr, fo, ba, pu_cm N (pu_qs T st0 jb0) st0, pu_cm N (pu_qj T st0 jb0) jb0, pu_cm N (pu_qo T jb0 ou0) ou0, ag, wi, us, au, kp, tr, pu, ps, pj, po)) : ∀ (m i : Nat), i + m = N → wX_commit_10 post (nI N) tT tW tB pc qj qs qr (m + 1) (nI i) fo ba (pu_cm i (pu_qs T st0 jb0) st0) (pu_cm i (pu_qj T st0 jb0) jb0) (pu_cm i (pu_qo T jb0 ou0) ou0) ag wi us au kp tr pu ps pj po := by
  intro m
  induction m with
  | zero =>
    intro i hi
    have e : i = N := by omega
    subst e
    exact br_t (nI_le (Nat.le_refl _) (by omega)) h
  | succ m ih =>
    intro i hi
    have hin : vp_in (nI i) 12 := vp_in_nI (by omega) (by omega)
    obtain ⟨p1, p2, p3⟩ := hp i (by omega)
    rw [wX_commit_10]; dsimp only
    rw [nI_clamp (n := i) (by omega)]
    exact br_f (nI_ge (by omega) (by omega)) ⟨hin, hin, nm_r (pu_cm_s p1) ⟨hin, hin, nm_r (pu_cm_s p2) ⟨hin, hin, nm_r (pu_cm_s p3) (nm_r (nI_1 i) (ih (i + 1) (by omega)))⟩⟩⟩
theorem xx_cmt {post : SX → Prop} {K : Nat → Bool} (hN : N ≤ 12) (hT : pu_TB K kp) (h : ∀ (pc' qj' qs' qr' : Int32) (kp' tr' pu' ps' pj' po' : Nat → Int32), post (nI N, tT, tW, tB, pc', qj', qs', qr', fo, ba, pu_cm N (pu_qs K st jb) st, pu_cm N (pu_qj K st jb) jb, pu_cm N (pu_qo K jb ou) ou, ag, wi, us, au, kp', tr', pu', ps', pj', po')) : wpX_commit post (nI N, tT, tW, tB, pc, qj, qs, qr, fo, ba, st, jb, ou, ag, wi, us, au, kp, tr, pu, ps, pj, po) := by
  unfold wpX_commit
  refine xx_ldt (fun tr1 ht1 => ?_)
  refine xx_pln hN (pu_TB_c hT ht1) (fun qj' qs' qr' ps' pj' po' hp hq => ?_)
  have hh := xx_cmt_lp (post := post) (tT := tT) (tW := tW) (tB := tB) (pc := pc) (qj := qj') (qs := qs') (qr := qr') (fo := fo) (ba := ba) (ag := ag) (wi := wi) (us := us) (au := au) (kp := kp) (tr := tr1) (pu := pu) hN hp (h _ _ _ _ _ _ _ _ _ _) N 0 (by omega)
  rw [pu_cm_0, pu_cm_0, pu_cm_0] at hh
  exact Exists.intro (N + 1) hh
end
section
variable {N : Nat} {tT tW tB : Int32} {re st jb ou ag wi us au hu kq tq pq sq fq yj ys yo : Nat → Int32}
theorem yy_t253 {post : Int32 → SY → Prop} {T : Nat → Bool} {st0 jb0 ou0 : Nat → Int32} (hN : N ≤ 12) (hp : pu_Pl 12 T st0 jb0 ou0 ys yj yo) (h : post 0 (nI N, tT, tW, tB, re, pu_cm N (pu_qs T st0 jb0) st0, pu_cm N (pu_qj T st0 jb0) jb0, pu_cm N (pu_qo T jb0 ou0) ou0, ag, wi, us, au, hu, kq, tq, pq, sq, fq, yj, ys, yo)) : ∀ (m i : Nat), i + m = N → wY_transact_253 post (nI N) tT tW tB (m + 1) (nI i) re (pu_cm i (pu_qs T st0 jb0) st0) (pu_cm i (pu_qj T st0 jb0) jb0) (pu_cm i (pu_qo T jb0 ou0) ou0) ag wi us au hu kq tq pq sq fq yj ys yo := by
  intro m
  induction m with
  | zero =>
    intro i hi
    have e : i = N := by omega
    subst e
    exact br_t (nI_le (Nat.le_refl _) (by omega)) h
  | succ m ih =>
    intro i hi
    have hin : vp_in (nI i) 12 := vp_in_nI (by omega) (by omega)
    obtain ⟨p1, p2, p3⟩ := hp i (by omega)
    rw [wY_transact_253]; dsimp only
    rw [nI_clamp (n := i) (by omega)]
    exact br_f (nI_ge (by omega) (by omega)) ⟨hin, hin, nm_r (pu_cm_s p1) ⟨hin, hin, nm_r (pu_cm_s p2) ⟨hin, hin, nm_r (pu_cm_s p3) (nm_r (nI_1 i) (ih (i + 1) (by omega)))⟩⟩⟩
theorem yy_t219 {post : Int32 → SY → Prop} {K : Nat → Bool} (hN : N ≤ 12) (hJ : pu_Jok N jb) (hD : pu_Dok N K) (hK : pu_BB K 36 kq) (h : ∀ tq' yj' ys' yo', post 0 (nI N, tT, tW, tB, re, pu_cm N (pu_qs K st jb) st, pu_cm N (pu_qj K st jb) jb, pu_cm N (pu_qo K jb ou) ou, ag, wi, us, au, hu, kq, tq', pq, sq, fq, yj', ys', yo')) : ∀ (m i : Nat) (tq : Nat → Int32), i + m = 36 → pu_BB K i tq → wY_transact_219 post (nI N) tT tW tB (m + 1) (nI i) re st jb ou ag wi us au hu kq tq pq sq fq yj ys yo := by
  intro m
  induction m with
  | zero =>
    intro i tq hi hB
    have ei : i = 36 := by omega
    subst ei
    refine br_t (nI_le (a := 36) (Nat.le_refl _) (by omega)) (yy_cmb hN hJ hD hB (fun yj' ys' yo' hp => ?_))
    have hh := yy_t253 (post := post) (tT := tT) (tW := tW) (tB := tB) (re := re) (ag := ag) (wi := wi) (us := us) (au := au) (hu := hu) (kq := kq) (tq := tq) (pq := pq) (sq := sq) (fq := fq) hN hp (h _ _ _ _) N 0 (by omega)
    rw [pu_cm_0, pu_cm_0, pu_cm_0] at hh
    exact Exists.intro (N + 1) hh
  | succ m ih =>
    intro i tq hi hB
    have hin : vp_in (nI i) 36 := vp_in_nI (by omega) (by omega)
    rw [wY_transact_219]; dsimp only
    rw [nI_clamp (n := i) (by omega), hK i (by omega), pu_vnb]
    exact br_f (nI_ge (b := 36) (by omega) (by omega)) ⟨hin, hin, nm_e (nm_r (nI_1 i) (ih (i + 1) _ (by omega) (pu_BB_s hB rfl)))⟩
end
end
section
/-! one turn of the loops of a transaction, X and Y -/
theorem pu_nk_clo {R : Nat → Nat → Nat → Bool} {st : Nat → Int32} {c : Int32} {K T : Nat → Bool} (hK : pu_clo R st K) (hT : pu_clo R st T) : pu_clo R st (pu_nk c K T) := by
  unfold pu_nk
  split
  · exact hT
  · exact hK
theorem pu_nk_Dok {N : Nat} {c : Int32} {K T : Nat → Bool} (hK : pu_Dok N K) (hT : pu_Dok N T) : pu_Dok N (pu_nk c K T) := by
  unfold pu_nk
  split
  · exact hT
  · exact hK
theorem pu_wf_w {N : Nat} {R : Nat → Nat → Nat → Bool} {K Ps : Nat → Bool} {w : Nat} (h : pu_wf N R K Ps w = true) : Ps w = false := by
  unfold pu_wf at h
  rw [Bool.and_eq_true, Bool.and_eq_true, Bool.and_eq_true] at h
  simpa using h.1.1.1
section
variable {N : Nat} {tT tW tB pc qj qs qr : Int32} {fo ba st jb ou ag wi us au kp tr pu ps pj po : Nat → Int32}
theorem xx_aw1 {post : SX → Prop} {R : Nat → Nat → Nat → Bool} {K Ps : Nat → Bool} {mode x2 : Int32} {m r : Nat} (hN : N ≤ 12) (hR : pu_Rok N R) (hX : pu_XF R fo ba) (hJ : pu_Jok N jb) (cK : pu_clo R st K) (hD : pu_Dok N K) (hT : pu_TB K kp) (hx2 : ∀ b, b < 12 → bt x2 b = Ps b) (hr : r < 12)
    (h0 : pu_ff (pu_wf N R K Ps) N 0 = none → post (nI N, tT, tW, tB, pc, qj, qs, qr, fo, ba, st, jb, ou, ag, wi, us, au, kp, tr, pu, ps, pj, po))
    (h1 : ∀ w, w < N → pu_ff (pu_wf N R K Ps) N 0 = some w → pu_V N R (pu_un K (pu_H R st (0 * 12 + w))) st jb mode = 0 → ∀ (pc' qj' qs' qr' : Int32) (kp' tr' pu' ps' pj' po' : Nat → Int32), pu_TB (pu_nk (pu_V N R (pu_un K (pu_H R st (0 * 12 + w))) st jb mode) K (pu_un K (pu_H R st (0 * 12 + w)))) kp' → wX_addWanted_4 post mode m x2 (nI (r + 1)) (nI N) tT tW tB pc' qj' qs' qr' fo ba st jb ou ag wi us au kp' tr' pu' ps' pj' po')
    (h2 : ∀ w, w < N → pu_ff (pu_wf N R K Ps) N 0 = some w → ¬ pu_V N R (pu_un K (pu_H R st (0 * 12 + w))) st jb mode = 0 → ∀ (pc' qj' qs' qr' : Int32) (kp' tr' pu' ps' pj' po' : Nat → Int32), pu_TB (pu_nk (pu_V N R (pu_un K (pu_H R st (0 * 12 + w))) st jb mode) K (pu_un K (pu_H R st (0 * 12 + w)))) kp' → wX_addWanted_4 post mode m (x2 ||| ((1 : Int32) <<< (nI w &&& 31))) (nI (r + 1)) (nI N) tT tW tB pc' qj' qs' qr' fo ba st jb ou ag wi us au kp' tr' pu' ps' pj' po') : wX_addWanted_4 post mode (m + 1) x2 (nI r) (nI N) tT tW tB pc qj qs qr fo ba st jb ou ag wi us au kp tr pu ps pj po := by
  rw [wX_addWanted_4]; dsimp only
  refine br_f (nI_ge (b := 12) hr (by decide)) (nm_e ?_)
  have hb4 : ∀ b, b < 12 → bt (kp 1 ||| kp 3) b = (K b || K (24 + b)) := fun b hb => by
    obtain ⟨t1, t2, t3⟩ := pu_TB_at hT (i := b) (by omega)
    rw [b_or, t1, t3, decide_eq_true hb, Bool.true_and, Bool.true_and]
  refine xx_wby hN hX (fun r1 hr1 => nm_e (xx_low hN ?_))
  have eff : pu_ff (bt ((r1 &&& ((kp 1 ||| kp 3) ^^^ (-1))) &&& (x2 ^^^ (-1)))) N 0 = pu_ff (pu_wf N R K Ps) N 0 := by
    refine pu_ff_congr N 0 (fun j _ hj => ?_)
    rw [pu_bn _ _ (by omega), pu_bn _ _ (by omega), hr1 j (by omega), hb4 j (by omega), hx2 j (by omega), pu_ex_congr (g := fun x => (K x || K (24 + x)) && R 1 x j) (fun x hx => by rw [hb4 x (by omega)])]
    unfold pu_wf
    cases pu_ex (fun x => (K x || K (24 + x)) && R 1 x j) N <;> cases K j <;> cases K (24 + j) <;> cases Ps j <;> rfl
  rw [eff]
  cases e : pu_ff (pu_wf N R K Ps) N 0 with
  | none =>
    have z : ¬ (0 : Int32) ≤ pu_fi none := by decide
    exact br_f z (h0 e)
  | some w =>
    have hw := pu_ff_some N 0 w e
    have hwN : w < N := by omega
    have z : (0 : Int32) ≤ pu_fi (some w) := nI_pos' (n := w) (by omega)
    refine br_t z ?_
    refine xx_try (k := 0) (u := w) rfl hN hR hX hJ (by omega) hwN cK hD hT (fun pc' qj' qs' qr' kp' tr' pu' ps' pj' po' hk' => ?_)
    by_cases c : pu_V N R (pu_un K (pu_H R st (0 * 12 + w))) st jb mode = 0
    · exact br_t c (nm_r (nI_1 r) (h1 w hwN e c pc' qj' qs' qr' kp' tr' pu' ps' pj' po' hk'))
    · exact br_f c (nm_e (nm_r (nI_1 r) (h2 w hwN e c pc' qj' qs' qr' kp' tr' pu' ps' pj' po' hk')))
theorem xx_so1 {post : SX → Prop} {R : Nat → Nat → Nat → Bool} {K : Nat → Bool} {mode : Int32} {m v : Nat} (hN : N ≤ 12) (hR : pu_Rok N R) (hX : pu_XF R fo ba) (hJ : pu_Jok N jb) (cK : pu_clo R st K) (hD : pu_Dok N K) (hT : pu_TB K kp) (hv : v < N)
    (h0 : ((!decide (jb v = 0) || decide (st v = 2)) && !(K v || K (12 + v) || K (24 + v))) = false → wX_stopOthers_2 post mode m (nI (v + 1)) (nI N) tT tW tB pc qj qs qr fo ba st jb ou ag wi us au kp tr pu ps pj po)
    (h1 : ((!decide (jb v = 0) || decide (st v = 2)) && !(K v || K (12 + v) || K (24 + v))) = true → ∀ (pc' qj' qs' qr' : Int32) (kp' tr' pu' ps' pj' po' : Nat → Int32), pu_TB (pu_nk (pu_V N R (pu_un K (pu_H R st (1 * 12 + v))) st jb mode) K (pu_un K (pu_H R st (1 * 12 + v)))) kp' → wX_stopOthers_2 post mode m (nI (v + 1)) (nI N) tT tW tB pc' qj' qs' qr' fo ba st jb ou ag wi us au kp' tr' pu' ps' pj' po') : wX_stopOthers_2 post mode (m + 1) (nI v) (nI N) tT tW tB pc qj qs qr fo ba st jb ou ag wi us au kp tr pu ps pj po := by
  have hin : vp_in (nI v) 12 := vp_in_nI (by omega) (by omega)
  have hb4 : bt ((kp 1 ||| kp 2) ||| kp 3) v = (K v || K (12 + v) || K (24 + v)) := by
    obtain ⟨t1, t2, t3⟩ := pu_TB_at hT (i := v) (by omega)
    rw [b_or, b_or, t1, t2, t3, decide_eq_true (show v < 12 by omega), Bool.true_and, Bool.true_and, Bool.true_and]
  have no : (!decide (jb v = 0) || decide (st v = 2)) = false → wX_stopOthers_55 post (wX_stopOthers_2 post mode m) mode (nI v) ((kp 1 ||| kp 2) ||| kp 3) 0 (nI N) tT tW tB pc qj qs qr fo ba st jb ou ag wi us au kp tr pu ps pj po := fun z => by
    unfold wX_stopOthers_55
    exact br_t rfl (nm_r (nI_1 v) (h0 (by rw [z]; rfl)))
  have yes : (!decide (jb v = 0) || decide (st v = 2)) = true → wX_stopOthers_50 post (wX_stopOthers_2 post mode m) mode (nI v) ((kp 1 ||| kp 2) ||| kp 3) (nI N) tT tW tB pc qj qs qr fo ba st jb ou ag wi us au kp tr pu ps pj po := fun z => by
    unfold wX_stopOthers_50 wX_stopOthers_55
    refine br_f pu_l1_0 (xx_has (by omega) ?_)
    rw [hb4]
    refine pu_br (fun a => ?_) (fun a => ?_)
    · refine xx_try (k := 1) (u := v) rfl hN hR hX hJ (by omega) hv cK hD hT (fun pc' qj' qs' qr' kp' tr' pu' ps' pj' po' hk' => ?_)
      exact nm_r (nI_1 v) (h1 (by rw [z, a]; rfl) pc' qj' qs' qr' kp' tr' pu' ps' pj' po' hk')
    · exact nm_r (nI_1 v) (h0 (by rw [z, a]; rfl))
  rw [wX_stopOthers_2]; dsimp only
  rw [nI_clamp (n := v) (by omega)]
  refine br_f (nI_ge hv (by omega)) (nm_e ⟨hin, ?_⟩)
  by_cases j0 : jb v = 0
  · refine br_t j0 ⟨hin, ?_⟩
    by_cases s2 : st v = 2
    · exact br_t s2 (yes (by rw [decide_eq_true s2, Bool.or_true]))
    · exact br_f s2 (no (by rw [decide_eq_false s2, decide_eq_true j0]; rfl))
  · exact br_f j0 (yes (by rw [decide_eq_false j0]; rfl))
theorem xx_clr_lp {post : Int32 → SX → Prop} {kind u mode : Int32} (h : ∀ kp', pu_TB (fun _ => false) kp' → (kind = 4 → wX_transact_33 post kind u mode 1 (nI N) tT tW tB pc qj qs qr fo ba st jb ou ag wi us au kp' tr pu ps pj po) ∧ (¬ kind = 4 → wX_transact_33 post kind u mode kind (nI N) tT tW tB pc qj qs qr fo ba st jb ou ag wi us au kp' tr pu ps pj po)) : ∀ (m i : Nat) (kp : Nat → Int32), i + m = 4 → 1 ≤ i → (∀ k, 1 ≤ k → k < i → kp k = 0) → wX_transact_3 post kind u mode (nI N) tT tW tB pc qj qs qr (m + 1) (nI i) fo ba st jb ou ag wi us au kp tr pu ps pj po := by
  intro m
  induction m with
  | zero =>
    intro i kp hi h1 ht
    have e : i = 4 := by omega
    subst e
    refine br_t (nI_lt (a := 3) (by omega) (by omega)) (h kp (fun k b hk hb => ?_))
    rw [ht (k + 1) (by omega) (by omega), b_0]
    simp
  | succ m ih =>
    intro i kp hi h1 ht
    have hin : vp_in (nI i) 4 := vp_in_nI (by omega) (by omega)
    rw [wX_transact_3]; dsimp only
    rw [nI_clamp (n := i) (by omega)]
    refine br_f (nI_nlt (a := 3) (by omega) (by omega)) ⟨hin, nm_e (nm_r (nI_1 i) (ih (i + 1) _ (by omega) (by omega) (fun k k1 k2 => ?_)))⟩
    by_cases c : k = i
    · subst c; exact pk_us
    · rw [pk_un c]; exact ht k k1 (by omega)
end
section
variable {N : Nat} {tT tW tB : Int32} {re st jb ou ag wi us au hu kq tq pq sq fq yj ys yo : Nat → Int32}
theorem yy_aw1 {post : Int32 → SY → Prop} {R : Nat → Nat → Nat → Bool} {K Ps : Nat → Bool} {kind mode : Int32} {m r : Nat} (hN : N ≤ 12) (hR : pu_Rok N R) (hF : pu_YF N R re) (hJ : pu_Jok N jb) (hD : pu_Dok N K) (hK : pu_BB K 36 kq) (hP : pu_BB Ps 12 pq) (hr : r < 12)
    (h0 : pu_ff (pu_wf N R K Ps) N 0 = none → ∃ n, wY_transact_130 post kind mode n 0 (nI N) tT tW tB re st jb ou ag wi us au hu kq tq pq sq fq yj ys yo)
    (h1 : ∀ w, w < N → pu_ff (pu_wf N R K Ps) N 0 = some w → pu_V N R (pu_un K (pu_H R st (0 * 12 + w))) st jb mode = 0 → ∀ (hu' kq' tq' pq' sq' fq' yj' ys' yo' : Nat → Int32), pu_BB (pu_nk (pu_V N R (pu_un K (pu_H R st (0 * 12 + w))) st jb mode) K (pu_un K (pu_H R st (0 * 12 + w)))) 36 kq' → pu_BB Ps 12 pq' → wY_transact_77 post kind mode m (nI (r + 1)) (nI N) tT tW tB re st jb ou ag wi us au hu' kq' tq' pq' sq' fq' yj' ys' yo')
    (h2 : ∀ w, w < N → pu_ff (pu_wf N R K Ps) N 0 = some w → ¬ pu_V N R (pu_un K (pu_H R st (0 * 12 + w))) st jb mode = 0 → ∀ (hu' kq' tq' pq' sq' fq' yj' ys' yo' : Nat → Int32), pu_BB (pu_nk (pu_V N R (pu_un K (pu_H R st (0 * 12 + w))) st jb mode) K (pu_un K (pu_H R st (0 * 12 + w)))) 36 kq' → pu_BB (pu_ins Ps w) 12 pq' → wY_transact_77 post kind mode m (nI (r + 1)) (nI N) tT tW tB re st jb ou ag wi us au hu' kq' tq' pq' sq' fq' yj' ys' yo') : wY_transact_77 post kind mode (m + 1) (nI r) (nI N) tT tW tB re st jb ou ag wi us au hu kq tq pq sq fq yj ys yo := by
  rw [wY_transact_77]; dsimp only
  refine br_f (nI_ge (b := 12) hr (by decide)) (yy_nw hN hR hF hK hP ?_)
  cases e : pu_ff (pu_wf N R K Ps) N 0 with
  | none =>
    have z : ¬ (0 : Int32) ≤ pu_fi none := by decide
    exact br_f z (h0 e)
  | some w =>
    have hw := pu_ff_some N 0 w e
    have hwN : w < N := by omega
    have z : (0 : Int32) ≤ pu_fi (some w) := nI_pos' (n := w) (by omega)
    have ef : pu_fi (some w) = nI w := rfl
    rw [ef, nI_clamp (n := w) (by omega), pu_vn0, pu_vn1]
    refine br_t z ?_
    refine yy_try (k := 0) (u := w) rfl hN hR hF hJ (by omega) hwN hD hK (fun hu' tq' sq' yj' ys' yo' kq' hk' => ?_)
    have hin : vp_in (nI w) 12 := vp_in_nI (by omega) (by omega)
    by_cases c : pu_V N R (pu_un K (pu_H R st (0 * 12 + w))) st jb mode = 0
    · refine br_t c ⟨hin, nm_e (nm_r (nI_1 r) (h1 w hwN e c hu' kq' tq' _ sq' fq yj' ys' yo' hk' (fun b hb => ?_)))⟩
      by_cases cb : b = w
      · subst cb; rw [pk_us, pu_wf_w hw.2.2, pu_bI0]
      · rw [pk_un cb]; exact hP b hb
    · refine br_f c ⟨hin, nm_e (nm_r (nI_1 r) (h2 w hwN e c hu' kq' tq' _ sq' fq yj' ys' yo' hk' (fun b hb => ?_)))⟩
      unfold pu_ins
      by_cases cb : b = w
      · subst cb; rw [pk_us, decide_eq_true rfl, Bool.or_true, pu_bI1]
      · rw [pk_un cb, decide_eq_false cb, Bool.or_false]; exact hP b hb
theorem yy_so1 {post : Int32 → SY → Prop} {R : Nat → Nat → Nat → Bool} {K : Nat → Bool} {mode : Int32} {m v : Nat} (hN : N ≤ 12) (hR : pu_Rok N R) (hF : pu_YF N R re) (hJ : pu_Jok N jb) (hD : pu_Dok N K) (hK : pu_BB K 36 kq) (hv : v < N)
    (h0 : ((!decide (jb v = 0) || decide (st v = 2)) && !(K v || K (12 + v) || K (24 + v))) = false → wY_transact_130 post 4 mode m (nI (v + 1)) (nI N) tT tW tB re st jb ou ag wi us au hu kq tq pq sq fq yj ys yo)
    (h1 : ((!decide (jb v = 0) || decide (st v = 2)) && !(K v || K (12 + v) || K (24 + v))) = true → ∀ (hu' kq' tq' pq' sq' fq' yj' ys' yo' : Nat → Int32), pu_BB (pu_nk (pu_V N R (pu_un K (pu_H R st (1 * 12 + v))) st jb mode) K (pu_un K (pu_H R st (1 * 12 + v)))) 36 kq' → wY_transact_130 post 4 mode m (nI (v + 1)) (nI N) tT tW tB re st jb ou ag wi us au hu' kq' tq' pq' sq' fq' yj' ys' yo') : wY_transact_130 post 4 mode (m + 1) (nI v) (nI N) tT tW tB re st jb ou ag wi us au hu kq tq pq sq fq yj ys yo := by
  have hin : vp_in (nI v) 12 := vp_in_nI (by omega) (by omega)
  have e12 : (12 : Int32) + nI v = nI (12 + v) := nI_add 12 v
  have e24 : (24 : Int32) + nI v = nI (24 + v) := nI_add 24 v
  have yes : (!decide (jb v = 0) || decide (st v = 2)) = true → (K v || K (12 + v) || K (24 + v)) = false → wY_transact_201 post (wY_transact_130 post 4 mode m) 4 mode (nI v) (nI N) tT tW tB re st jb ou ag wi us au hu kq tq pq sq fq yj ys yo := fun z a => by
    unfold wY_transact_201
    refine yy_try (k := 1) (u := v) rfl hN hR hF hJ (by omega) hv hD hK (fun hu' tq' sq' yj' ys' yo' kq' hk' => ?_)
    exact nm_r (nI_1 v) (h1 (by rw [z, a]; rfl) hu' kq' tq' pq sq' fq yj' ys' yo' hk')
  rw [wY_transact_130]; dsimp only
  rw [e12, e24, nI_clamp (n := v) (by omega), nI_clamp (n := 12 + v) (by omega), nI_clamp (n := 24 + v) (by omega)]
  refine br_f (nI_ge hv (by omega)) (br_t rfl ⟨vp_in_nI (by omega) (by omega), pu_brc (hK v (by omega)) (fun a1 => ⟨vp_in_nI (by omega) (by omega), pu_brc (hK (12 + v) (by omega)) (fun a2 => ⟨vp_in_nI (by omega) (by omega), pu_brc (hK (24 + v) (by omega)) (fun a3 => ⟨hin, ?_⟩) (fun a3 => ?_)⟩) (fun a2 => ?_)⟩) (fun a1 => ?_)⟩)
  · have a : (K v || K (12 + v) || K (24 + v)) = false := by rw [a1, a2, a3]; rfl
    by_cases j0 : jb v = 0
    · refine br_t j0 ⟨hin, ?_⟩
      by_cases s2 : st v = 2
      · exact br_t s2 (yes (by rw [decide_eq_true s2, Bool.or_true]) a)
      · exact br_f s2 (nm_r (nI_1 v) (h0 (by rw [decide_eq_false s2, decide_eq_true j0]; rfl)))
    · exact br_f j0 (yes (by rw [decide_eq_false j0]; rfl) a)
  · exact nm_r (nI_1 v) (h0 (by rw [a3]; simp))
  · exact nm_r (nI_1 v) (h0 (by rw [a2]; simp))
  · exact nm_r (nI_1 v) (h0 (by rw [a1]; simp))
theorem yy_t130n {post : Int32 → SY → Prop} {kind mode : Int32} (hN : N ≤ 12) (hk : ¬ kind = 4) (h : ∃ n, wY_transact_219 post (nI N) tT tW tB n 0 re st jb ou ag wi us au hu kq tq pq sq fq yj ys yo) : ∀ (m v : Nat), v + m = N → wY_transact_130 post kind mode (m + 1) (nI v) (nI N) tT tW tB re st jb ou ag wi us au hu kq tq pq sq fq yj ys yo := by
  intro m
  induction m with
  | zero =>
    intro v hv
    have e : v = N := by omega
    subst e
    exact br_t (nI_le (Nat.le_refl _) (by omega)) h
  | succ m ih =>
    intro v hv
    rw [wY_transact_130]; dsimp only
    exact br_f (nI_ge (by omega) (by omega)) (br_f hk (nm_r (nI_1 v) (ih (v + 1) (by omega))))
theorem yy_t27 {post : Int32 → SY → Prop} {kind u mode : Int32} (h : ∀ pq', pu_BB (fun _ => false) 12 pq' → (kind = 4 → wY_transact_59 post kind u mode 1 (nI N) tT tW tB re st jb ou ag wi us au hu kq tq pq' sq fq yj ys yo) ∧ (¬ kind = 4 → wY_transact_59 post kind u mode kind (nI N) tT tW tB re st jb ou ag wi us au hu kq tq pq' sq fq yj ys yo)) : ∀ (m i : Nat) (pq : Nat → Int32), i + m = 12 → pu_BB (fun _ => false) i pq → wY_transact_27 post kind u mode (nI N) tT tW tB (m + 1) (nI i) re st jb ou ag wi us au hu kq tq pq sq fq yj ys yo := by
  intro m
  induction m with
  | zero =>
    intro i pq hi hB
    have e : i = 12 := by omega
    subst e
    exact br_t (nI_le (a := 12) (Nat.le_refl _) (by omega)) (h pq hB)
  | succ m ih =>
    intro i pq hi hB
    rw [wY_transact_27]; dsimp only
    rw [nI_clamp (n := i) (by omega), pu_vn0]
    exact br_f (nI_ge (b := 12) (by omega) (by omega)) ⟨vp_in_nI (by omega) (by omega), nm_e (nm_r (nI_1 i) (ih (i + 1) _ (by omega) (pu_BB_s hB pu_bI0.symm)))⟩
theorem yy_t3 {post : Int32 → SY → Prop} {kind u mode : Int32} (h : ∀ kq' pq', pu_BB (fun _ => false) 36 kq' → pu_BB (fun _ => false) 12 pq' → (kind = 4 → wY_transact_59 post kind u mode 1 (nI N) tT tW tB re st jb ou ag wi us au hu kq' tq pq' sq fq yj ys yo) ∧ (¬ kind = 4 → wY_transact_59 post kind u mode kind (nI N) tT tW tB re st jb ou ag wi us au hu kq' tq pq' sq fq yj ys yo)) : ∀ (m i : Nat) (kq : Nat → Int32), i + m = 36 → pu_BB (fun _ => false) i kq → wY_transact_3 post kind u mode (nI N) tT tW tB (m + 1) (nI i) re st jb ou ag wi us au hu kq tq pq sq fq yj ys yo := by
  intro m
  induction m with
  | zero =>
    intro i kq hi hB
    have e : i = 36 := by omega
    subst e
    exact br_t (nI_le (a := 36) (Nat.le_refl _) (by omega)) (Exists.intro 13 (yy_t27 (fun pq' hp' => h kq pq' hB hp') 12 0 pq (by omega) pu_BB_0))
  | succ m ih =>
    intro i kq hi hB
    rw [wY_transact_3]; dsimp only
    rw [nI_clamp (n := i) (by omega), pu_vn0]
    exact br_f (nI_ge (b := 36) (by omega) (by omega)) ⟨vp_in_nI (by omega) (by omega), nm_e (nm_r (nI_1 i) (ih (i + 1) _ (by omega) (pu_BB_s hB pu_bI0.symm)))⟩
end
end
section
/-! transactions in lockstep: one outcome for both -/
theorem pu_cm_Jok {N : Nat} {f g : Nat → Int32} (h : pu_Jok N f) : pu_Jok N (pu_cm N f g) := fun x hx => by
  have : pu_cm N f g x = f x := if_pos hx
  rw [this]
  exact h x hx
section
variable {N : Nat} {tT tW tB : Int32} {fo ba re st jb ou ag wi us au : Nat → Int32}
theorem lk_aw {R : Nat → Nat → Nat → Bool} {mode : Int32} (hN : N ≤ 12) (hR : pu_Rok N R) (hJ : pu_Jok N jb) : ∀ (m r : Nat) (K Ps : Nat → Bool), r + m = 12 → pu_clo R st K → pu_Dok N K → ∃ K', pu_clo R st K' ∧ pu_Dok N K' ∧
    (∀ (post : SX → Prop) (x2 : Int32) (pc qj qs qr : Int32) (kp tr pu ps pj po : Nat → Int32), pu_XF R fo ba → pu_TB K kp → (∀ b, b < 12 → bt x2 b = Ps b) → (∀ (pc' qj' qs' qr' : Int32) (kp' tr' pu' ps' pj' po' : Nat → Int32), pu_TB K' kp' → post (nI N, tT, tW, tB, pc', qj', qs', qr', fo, ba, st, jb, ou, ag, wi, us, au, kp', tr', pu', ps', pj', po')) → wX_addWanted_4 post mode (m + 1) x2 (nI r) (nI N) tT tW tB pc qj qs qr fo ba st jb ou ag wi us au kp tr pu ps pj po) ∧
    (∀ (post : Int32 → SY → Prop) (kind : Int32) (hu kq tq pq sq fq yj ys yo : Nat → Int32), pu_YF N R re → pu_BB K 36 kq → pu_BB Ps 12 pq → (∀ (hu' kq' tq' pq' sq' fq' yj' ys' yo' : Nat → Int32), pu_BB K' 36 kq' → ∃ n, wY_transact_130 post kind mode n 0 (nI N) tT tW tB re st jb ou ag wi us au hu' kq' tq' pq' sq' fq' yj' ys' yo') → wY_transact_77 post kind mode (m + 1) (nI r) (nI N) tT tW tB re st jb ou ag wi us au hu kq tq pq sq fq yj ys yo) := by
  intro m
  induction m with
  | zero =>
    intro r K Ps hr cK hD
    have e : r = 12 := by omega
    subst e
    refine ⟨K, cK, hD, fun post x2 pc qj qs qr kp tr pu ps pj po hX hT hx h => ?_, fun post kind hu kq tq pq sq fq yj ys yo hF hK hP h => ?_⟩
    · exact br_t (nI_le (a := 12) (Nat.le_refl _) (by omega)) (h pc qj qs qr kp tr pu ps pj po hT)
    · exact br_t (nI_le (a := 12) (Nat.le_refl _) (by omega)) (h hu kq tq pq sq fq yj ys yo hK)
  | succ m ih =>
    intro r K Ps hr cK hD
    have hr2 : r < 12 := by omega
    cases e : pu_ff (pu_wf N R K Ps) N 0 with
    | none =>
      refine ⟨K, cK, hD, fun post x2 pc qj qs qr kp tr pu ps pj po hX hT hx h => ?_, fun post kind hu kq tq pq sq fq yj ys yo hF hK hP h => ?_⟩
      · exact xx_aw1 hN hR hX hJ cK hD hT hx hr2 (fun _ => h pc qj qs qr kp tr pu ps pj po hT) (fun w _ e2 => by rw [e] at e2; cases e2) (fun w _ e2 => by rw [e] at e2; cases e2)
      · exact yy_aw1 hN hR hF hJ hD hK hP hr2 (fun _ => h hu kq tq pq sq fq yj ys yo hK) (fun w _ e2 => by rw [e] at e2; cases e2) (fun w _ e2 => by rw [e] at e2; cases e2)
    | some w =>
      have hw := pu_ff_some N 0 w e
      have hd1 : 0 * 12 + w < 36 := by omega
      have hd2 : (0 * 12 + w) % 12 < N := by omega
      have cT : pu_clo R st (pu_un K (pu_H R st (0 * 12 + w))) := pu_un_clo cK (pu_H_clo hR hd1 hd2)
      have dT : pu_Dok N (pu_un K (pu_H R st (0 * 12 + w))) := pu_un_Dok hD (pu_H_Dok hR hd1 hd2)
      by_cases c : pu_V N R (pu_un K (pu_H R st (0 * 12 + w))) st jb mode = 0
      · obtain ⟨K', c', d', XA, YA⟩ := ih (r + 1) (pu_nk (pu_V N R (pu_un K (pu_H R st (0 * 12 + w))) st jb mode) K (pu_un K (pu_H R st (0 * 12 + w)))) Ps (by omega) (pu_nk_clo cK cT) (pu_nk_Dok hD dT)
        refine ⟨K', c', d', fun post x2 pc qj qs qr kp tr pu ps pj po hX hT hx h => ?_, fun post kind hu kq tq pq sq fq yj ys yo hF hK hP h => ?_⟩
        · refine xx_aw1 hN hR hX hJ cK hD hT hx hr2 (fun e2 => by rw [e] at e2; cases e2) (fun w2 _ e2 _ pc' qj' qs' qr' kp' tr' pu' ps' pj' po' hk' => ?_) (fun w2 _ e2 c2 => ?_)
          · rw [e] at e2; cases e2
            exact XA post x2 pc' qj' qs' qr' kp' tr' pu' ps' pj' po' hX hk' hx h
          · rw [e] at e2; cases e2
            exact absurd c c2
        · refine yy_aw1 hN hR hF hJ hD hK hP hr2 (fun e2 => by rw [e] at e2; cases e2) (fun w2 _ e2 _ hu' kq' tq' pq' sq' fq' yj' ys' yo' hk' hp' => ?_) (fun w2 _ e2 c2 => ?_)
          · rw [e] at e2; cases e2
            exact YA post kind hu' kq' tq' pq' sq' fq' yj' ys' yo' hF hk' hp' h
          · rw [e] at e2; cases e2
            exact absurd c c2
      · obtain ⟨K', c', d', XA, YA⟩ := ih (r + 1) (pu_nk (pu_V N R (pu_un K (pu_H R st (0 * 12 + w))) st jb mode) K (pu_un K (pu_H R st (0 * 12 + w)))) (pu_ins Ps w) (by omega) (pu_nk_clo cK cT) (pu_nk_Dok hD dT)
        refine ⟨K', c', d', fun post x2 pc qj qs qr kp tr pu ps pj po hX hT hx h => ?_, fun post kind hu kq tq pq sq fq yj ys yo hF hK hP h => ?_⟩
        · refine xx_aw1 hN hR hX hJ cK hD hT hx hr2 (fun e2 => by rw [e] at e2; cases e2) (fun w2 _ e2 c2 => ?_) (fun w2 _ e2 _ pc' qj' qs' qr' kp' tr' pu' ps' pj' po' hk' => ?_)
          · rw [e] at e2; cases e2
            exact absurd c2 c
          · rw [e] at e2; cases e2
            refine XA post _ pc' qj' qs' qr' kp' tr' pu' ps' pj' po' hX hk' (fun b hb => ?_) h
            rw [pu_or1 (by omega) (by omega), hx b hb]; rfl
        · refine yy_aw1 hN hR hF hJ hD hK hP hr2 (fun e2 => by rw [e] at e2; cases e2) (fun w2 _ e2 c2 => ?_) (fun w2 _ e2 _ hu' kq' tq' pq' sq' fq' yj' ys' yo' hk' hp' => ?_)
          · rw [e] at e2; cases e2
            exact absurd c2 c
          · rw [e] at e2; cases e2
            exact YA post kind hu' kq' tq' pq' sq' fq' yj' ys' yo' hF hk' hp' h
theorem lk_so {R : Nat → Nat → Nat → Bool} {mode : Int32} (hN : N ≤ 12) (hR : pu_Rok N R) (hJ : pu_Jok N jb) : ∀ (m v : Nat) (K : Nat → Bool), v + m = N → pu_clo R st K → pu_Dok N K → ∃ K', pu_clo R st K' ∧ pu_Dok N K' ∧
    (∀ (post : SX → Prop) (pc qj qs qr : Int32) (kp tr pu ps pj po : Nat → Int32), pu_XF R fo ba → pu_TB K kp → (∀ (pc' qj' qs' qr' : Int32) (kp' tr' pu' ps' pj' po' : Nat → Int32), pu_TB K' kp' → post (nI N, tT, tW, tB, pc', qj', qs', qr', fo, ba, st, jb, ou, ag, wi, us, au, kp', tr', pu', ps', pj', po')) → wX_stopOthers_2 post mode (m + 1) (nI v) (nI N) tT tW tB pc qj qs qr fo ba st jb ou ag wi us au kp tr pu ps pj po) ∧
    (∀ (post : Int32 → SY → Prop) (hu kq tq pq sq fq yj ys yo : Nat → Int32), pu_YF N R re → pu_BB K 36 kq → (∀ (hu' kq' tq' pq' sq' fq' yj' ys' yo' : Nat → Int32), pu_BB K' 36 kq' → ∃ n, wY_transact_219 post (nI N) tT tW tB n 0 re st jb ou ag wi us au hu' kq' tq' pq' sq' fq' yj' ys' yo') → wY_transact_130 post 4 mode (m + 1) (nI v) (nI N) tT tW tB re st jb ou ag wi us au hu kq tq pq sq fq yj ys yo) := by
  intro m
  induction m with
  | zero =>
    intro v K hv cK hD
    have e : v = N := by omega
    subst e
    refine ⟨K, cK, hD, fun post pc qj qs qr kp tr pu ps pj po hX hT h => ?_, fun post hu kq tq pq sq fq yj ys yo hF hK h => ?_⟩
    · exact br_t (nI_le (Nat.le_refl _) (by omega)) (h pc qj qs qr kp tr pu ps pj po hT)
    · exact br_t (nI_le (Nat.le_refl _) (by omega)) (h hu kq tq pq sq fq yj ys yo hK)
  | succ m ih =>
    intro v K hv cK hD
    have hv2 : v < N := by omega
    have hd1 : 1 * 12 + v < 36 := by omega
    have hd2 : (1 * 12 + v) % 12 < N := by omega
    have cT : pu_clo R st (pu_un K (pu_H R st (1 * 12 + v))) := pu_un_clo cK (pu_H_clo hR hd1 hd2)
    have dT : pu_Dok N (pu_un K (pu_H R st (1 * 12 + v))) := pu_un_Dok hD (pu_H_Dok hR hd1 hd2)
    cases e : ((!decide (jb v = 0) || decide (st v = 2)) && !(K v || K (12 + v) || K (24 + v))) with
    | false =>
      obtain ⟨K', c', d', XA, YA⟩ := ih (v + 1) K (by omega) cK hD
      refine ⟨K', c', d', fun post pc qj qs qr kp tr pu ps pj po hX hT h => ?_, fun post hu kq tq pq sq fq yj ys yo hF hK h => ?_⟩
      · exact xx_so1 hN hR hX hJ cK hD hT hv2 (fun _ => XA post pc qj qs qr kp tr pu ps pj po hX hT h) (fun e2 => by rw [e] at e2; cases e2)
      · exact yy_so1 hN hR hF hJ hD hK hv2 (fun _ => YA post hu kq tq pq sq fq yj ys yo hF hK h) (fun e2 => by rw [e] at e2; cases e2)
    | true =>
      obtain ⟨K', c', d', XA, YA⟩ := ih (v + 1) (pu_nk (pu_V N R (pu_un K (pu_H R st (1 * 12 + v))) st jb mode) K (pu_un K (pu_H R st (1 * 12 + v)))) (by omega) (pu_nk_clo cK cT) (pu_nk_Dok hD dT)
      refine ⟨K', c', d', fun post pc qj qs qr kp tr pu ps pj po hX hT h => ?_, fun post hu kq tq pq sq fq yj ys yo hF hK h => ?_⟩
      · exact xx_so1 hN hR hX hJ cK hD hT hv2 (fun e2 => by rw [e] at e2; cases e2) (fun _ pc' qj' qs' qr' kp' tr' pu' ps' pj' po' hk' => XA post pc' qj' qs' qr' kp' tr' pu' ps' pj' po' hX hk' h)
      · exact yy_so1 hN hR hF hJ hD hK hv2 (fun e2 => by rw [e] at e2; cases e2) (fun _ hu' kq' tq' pq' sq' fq' yj' ys' yo' hk' => YA post hu' kq' tq' pq' sq' fq' yj' ys' yo' hF hk' h)
theorem lk_t33 {R : Nat → Nat → Nat → Bool} {mode kind : Int32} {k u : Nat} (hN : N ≤ 12) (hR : pu_Rok N R) (hJ : pu_Jok N jb) (hk : k < 3) (hu0 : u < N) : ∃ (c : Int32) (st' jb' ou' : Nat → Int32), pu_Jok N jb' ∧
    (∀ (post : Int32 → SX → Prop) (pc qj qs qr : Int32) (kp tr pu ps pj po : Nat → Int32), pu_XF R fo ba → pu_TB (fun _ => false) kp → (∀ (pc' qj' qs' qr' : Int32) (kp' tr' pu' ps' pj' po' : Nat → Int32), post c (nI N, tT, tW, tB, pc', qj', qs', qr', fo, ba, st', jb', ou', ag, wi, us, au, kp', tr', pu', ps', pj', po')) → wX_transact_33 post kind (nI u) mode (nI (k + 1)) (nI N) tT tW tB pc qj qs qr fo ba st jb ou ag wi us au kp tr pu ps pj po) ∧
    (∀ (post : Int32 → SY → Prop) (hu kq tq pq sq fq yj ys yo : Nat → Int32), pu_YF N R re → pu_BB (fun _ => false) 36 kq → pu_BB (fun _ => false) 12 pq → (∀ (hu' kq' tq' pq' sq' fq' yj' ys' yo' : Nat → Int32), post c (nI N, tT, tW, tB, re, st', jb', ou', ag, wi, us, au, hu', kq', tq', pq', sq', fq', yj', ys', yo')) → wY_transact_59 post kind (nI u) mode (nI (k + 1)) (nI N) tT tW tB re st jb ou ag wi us au hu kq tq pq sq fq yj ys yo) := by
  have cK : pu_clo R st (fun _ => false) := fun d e z => (nomatch z)
  have hD : pu_Dok N (fun _ => false) := fun e z => (nomatch z)
  have hd1 : k * 12 + u < 36 := by omega
  have hd2 : (k * 12 + u) % 12 < N := by omega
  have cT : pu_clo R st (pu_un (fun _ => false) (pu_H R st (k * 12 + u))) := pu_un_clo cK (pu_H_clo hR hd1 hd2)
  have dT : pu_Dok N (pu_un (fun _ => false) (pu_H R st (k * 12 + u))) := pu_un_Dok hD (pu_H_Dok hR hd1 hd2)
  by_cases c0 : pu_V N R (pu_un (fun _ => false) (pu_H R st (k * 12 + u))) st jb mode = 0
  · obtain ⟨K2, c2, d2, XA, YA⟩ := lk_aw (tT := tT) (tW := tW) (tB := tB) (fo := fo) (ba := ba) (re := re) (ou := ou) (ag := ag) (wi := wi) (us := us) (au := au) (mode := mode) hN hR hJ 12 0 (pu_nk (pu_V N R (pu_un (fun _ => false) (pu_H R st (k * 12 + u))) st jb mode) (fun _ => false) (pu_un (fun _ => false) (pu_H R st (k * 12 + u)))) (fun _ => false) (by omega) (pu_nk_clo cK cT) (pu_nk_Dok hD dT)
    by_cases k4 : kind = 4
    · obtain ⟨K3, c3, d3, XS, YS⟩ := lk_so (tT := tT) (tW := tW) (tB := tB) (fo := fo) (ba := ba) (re := re) (ou := ou) (ag := ag) (wi := wi) (us := us) (au := au) (mode := mode) hN hR hJ N 0 K2 (by omega) c2 d2
      refine ⟨0, pu_cm N (pu_qs K3 st jb) st, pu_cm N (pu_qj K3 st jb) jb, pu_cm N (pu_qo K3 jb ou) ou, pu_cm_Jok (pu_qj_Jok hJ), fun post pc qj qs qr kp tr pu ps pj po hX hT h => ?_, fun post hu kq tq pq sq fq yj ys yo hF hK hP h => ?_⟩
      · unfold wX_transact_33
        refine xx_try rfl hN hR hX hJ hk hu0 cK hD hT (fun pc1 qj1 qs1 qr1 kp1 tr1 pu1 ps1 pj1 po1 hk1 => br_t c0 ?_)
        refine Exists.intro 13 (XA _ 0 pc1 qj1 qs1 qr1 kp1 tr1 pu1 ps1 pj1 po1 hX hk1 (fun b _ => b_0 b) (fun pc2 qj2 qs2 qr2 kp2 tr2 pu2 ps2 pj2 po2 hk2 => br_t k4 ?_))
        refine Exists.intro (N + 1) (XS _ pc2 qj2 qs2 qr2 kp2 tr2 pu2 ps2 pj2 po2 hX hk2 (fun pc3 qj3 qs3 qr3 kp3 tr3 pu3 ps3 pj3 po3 hk3 => ?_))
        unfold wX_transact_68
        exact xx_cmt hN hk3 (fun pc4 qj4 qs4 qr4 kp4 tr4 pu4 ps4 pj4 po4 => h pc4 qj4 qs4 qr4 kp4 tr4 pu4 ps4 pj4 po4)
      · unfold wY_transact_59
        refine yy_try rfl hN hR hF hJ hk hu0 hD hK (fun hu1 tq1 sq1 yj1 ys1 yo1 kq1 hk1 => br_t c0 ?_)
        refine Exists.intro 13 (YA post kind _ _ _ _ _ _ _ _ _ hF hk1 hP (fun hu2 kq2 tq2 pq2 sq2 fq2 yj2 ys2 yo2 hk2 => ?_))
        subst k4
        exact Exists.intro (N + 1) (YS post hu2 kq2 tq2 pq2 sq2 fq2 yj2 ys2 yo2 hF hk2 (fun hu3 kq3 tq3 pq3 sq3 fq3 yj3 ys3 yo3 hk3 => Exists.intro 37 (yy_t219 hN hJ d3 hk3 (fun tq4 yj4 ys4 yo4 => h _ _ _ _ _ _ _ _ _) 36 0 tq3 (by omega) pu_BB_0)))
    · refine ⟨0, pu_cm N (pu_qs K2 st jb) st, pu_cm N (pu_qj K2 st jb) jb, pu_cm N (pu_qo K2 jb ou) ou, pu_cm_Jok (pu_qj_Jok hJ), fun post pc qj qs qr kp tr pu ps pj po hX hT h => ?_, fun post hu kq tq pq sq fq yj ys yo hF hK hP h => ?_⟩
      · unfold wX_transact_33
        refine xx_try rfl hN hR hX hJ hk hu0 cK hD hT (fun pc1 qj1 qs1 qr1 kp1 tr1 pu1 ps1 pj1 po1 hk1 => br_t c0 ?_)
        refine Exists.intro 13 (XA _ 0 pc1 qj1 qs1 qr1 kp1 tr1 pu1 ps1 pj1 po1 hX hk1 (fun b _ => b_0 b) (fun pc2 qj2 qs2 qr2 kp2 tr2 pu2 ps2 pj2 po2 hk2 => br_f k4 ?_))
        unfold wX_transact_68
        exact xx_cmt hN hk2 (fun pc4 qj4 qs4 qr4 kp4 tr4 pu4 ps4 pj4 po4 => h pc4 qj4 qs4 qr4 kp4 tr4 pu4 ps4 pj4 po4)
      · unfold wY_transact_59
        refine yy_try rfl hN hR hF hJ hk hu0 hD hK (fun hu1 tq1 sq1 yj1 ys1 yo1 kq1 hk1 => br_t c0 ?_)
        refine Exists.intro 13 (YA post kind _ _ _ _ _ _ _ _ _ hF hk1 hP (fun hu2 kq2 tq2 pq2 sq2 fq2 yj2 ys2 yo2 hk2 => ?_))
        exact Exists.intro (N + 1) (yy_t130n hN k4 (Exists.intro 37 (yy_t219 hN hJ d2 hk2 (fun tq4 yj4 ys4 yo4 => h _ _ _ _ _ _ _ _ _) 36 0 tq2 (by omega) pu_BB_0)) N 0 (by omega))
  · refine ⟨pu_V N R (pu_un (fun _ => false) (pu_H R st (k * 12 + u))) st jb mode, st, jb, ou, hJ, fun post pc qj qs qr kp tr pu ps pj po hX hT h => ?_, fun post hu kq tq pq sq fq yj ys yo hF hK hP h => ?_⟩
    · unfold wX_transact_33
      exact xx_try rfl hN hR hX hJ hk hu0 cK hD hT (fun pc1 qj1 qs1 qr1 kp1 tr1 pu1 ps1 pj1 po1 hk1 => br_f c0 (h pc1 qj1 qs1 qr1 kp1 tr1 pu1 ps1 pj1 po1))
    · unfold wY_transact_59
      exact yy_try rfl hN hR hF hJ hk hu0 hD hK (fun hu1 tq1 sq1 yj1 ys1 yo1 kq1 hk1 => br_f c0 (h _ _ _ _ _ _ _ _ _))
theorem lk_tr {R : Nat → Nat → Nat → Bool} {mode : Int32} {kind u : Nat} (hN : N ≤ 12) (hR : pu_Rok N R) (hJ : pu_Jok N jb) (hk1 : 1 ≤ kind) (hk4 : kind ≤ 4) (hu : u < N) : ∃ (c : Int32) (st' jb' ou' : Nat → Int32), pu_Jok N jb' ∧
    (∀ (post : Int32 → SX → Prop) (pc qj qs qr : Int32) (kp tr pu ps pj po : Nat → Int32), pu_XF R fo ba → (∀ (pc' qj' qs' qr' : Int32) (kp' tr' pu' ps' pj' po' : Nat → Int32), post c (nI N, tT, tW, tB, pc', qj', qs', qr', fo, ba, st', jb', ou', ag, wi, us, au, kp', tr', pu', ps', pj', po')) → wpX_transact post (nI N, tT, tW, tB, pc, qj, qs, qr, fo, ba, st, jb, ou, ag, wi, us, au, kp, tr, pu, ps, pj, po) (nI kind) (nI u) mode) ∧
    (∀ (post : Int32 → SY → Prop) (hu kq tq pq sq fq yj ys yo : Nat → Int32), pu_YF N R re → (∀ (hu' kq' tq' pq' sq' fq' yj' ys' yo' : Nat → Int32), post c (nI N, tT, tW, tB, re, st', jb', ou', ag, wi, us, au, hu', kq', tq', pq', sq', fq', yj', ys', yo')) → wpY_transact post (nI N, tT, tW, tB, re, st, jb, ou, ag, wi, us, au, hu, kq, tq, pq, sq, fq, yj, ys, yo) (nI kind) (nI u) mode) := by
  by_cases k4 : kind = 4
  · obtain ⟨c, st', jb', ou', j', XT, YT⟩ := lk_t33 (tT := tT) (tW := tW) (tB := tB) (fo := fo) (ba := ba) (re := re) (st := st) (ou := ou) (ag := ag) (wi := wi) (us := us) (au := au) (mode := mode) (kind := nI kind) (k := 0) hN hR hJ (by omega) hu
    have kI : nI kind = 4 := by rw [k4]; rfl
    refine ⟨c, st', jb', ou', j', fun post pc qj qs qr kp tr pu ps pj po hX h => ?_, fun post hu kq tq pq sq fq yj ys yo hF h => ?_⟩
    · unfold wpX_transact
      exact Exists.intro 4 (xx_clr_lp (fun kp' hk' => br_t kI (XT post _ _ _ _ _ _ _ _ _ _ hX hk' h)) 3 1 kp (by omega) (by omega) (fun k k1 k2 => absurd k2 (by omega)))
    · unfold wpY_transact
      exact Exists.intro 37 (yy_t3 (fun kq' pq' hk' hp' => br_t kI (YT post _ _ _ _ _ _ _ _ _ hF hk' hp' h)) 36 0 kq (by omega) pu_BB_0)
  · obtain ⟨c, st', jb', ou', j', XT, YT⟩ := lk_t33 (tT := tT) (tW := tW) (tB := tB) (fo := fo) (ba := ba) (re := re) (st := st) (ou := ou) (ag := ag) (wi := wi) (us := us) (au := au) (mode := mode) (kind := nI kind) (k := kind - 1) hN hR hJ (by omega) hu
    have kI : ¬ nI kind = 4 := by
      show ¬ nI kind = nI 4
      rw [nI_eq (by omega) (by omega)]
      exact k4
    rw [show kind - 1 + 1 = kind by omega] at XT YT
    refine ⟨c, st', jb', ou', j', fun post pc qj qs qr kp tr pu ps pj po hX h => ?_, fun post hu kq tq pq sq fq yj ys yo hF h => ?_⟩
    · unfold wpX_transact
      exact Exists.intro 4 (xx_clr_lp (fun kp' hk' => br_f kI (XT post _ _ _ _ _ _ _ _ _ _ hX hk' h)) 3 1 kp (by omega) (by omega) (fun k k1 k2 => absurd k2 (by omega)))
    · unfold wpY_transact
      exact Exists.intro 37 (yy_t3 (fun kq' pq' hk' hp' => br_f kI (YT post _ _ _ _ _ _ _ _ _ hF hk' hp' h)) 36 0 kq (by omega) pu_BB_0)
end
end
section
/-! falls: the pure side, and X's walk -/
def pu_dr (R : Nat → Nat → Nat → Bool) (st jb : Nat → Int32) (v f : Nat) : Bool := (pu_up (jb v) && (R 0 v f || R 2 v f)) || (decide (st v = 2) && R 2 v f)
def pu_dQ (N : Nat) (R : Nat → Nat → Nat → Bool) (st jb : Nat → Int32) : (Nat → Bool) → Nat → Bool := fun S v => pu_ex (fun f => S f && pu_dr R st jb v f) N
def pu_F (N : Nat) (R : Nat → Nat → Nat → Bool) (st jb : Nat → Int32) (u : Nat) : Nat → Bool := pu_it (pu_dQ N R st jb) N (fun j => decide (j = u)) N
theorem pu_F12 {N : Nat} {R : Nat → Nat → Nat → Bool} {st jb : Nat → Int32} {u : Nat} (hN : N ≤ 12) (hu : u < N) : pu_it (pu_dQ N R st jb) N (fun j => decide (j = u)) 12 = pu_F N R st jb u := by
  have := pu_cn_pos (S := fun j => decide (j = u)) hu (decide_eq_true rfl)
  exact pu_it_same (by omega) hN
theorem pu_dQ_eq {N : Nat} {R : Nat → Nat → Nat → Bool} {st jb : Nat → Int32} {S : Nat → Bool} {v : Nat} : pu_dQ N R st jb S v = (((pu_ex (fun f => S f && R 2 v f) N || pu_ex (fun f => S f && R 0 v f) N) && pu_up (jb v)) || (pu_ex (fun f => S f && R 2 v f) N && decide (st v = 2))) := by
  unfold pu_dQ pu_dr
  cases pu_up (jb v)
  · cases decide (st v = 2)
    · rw [pu_ex_no (fun i _ => by simp)]; simp
    · rw [pu_ex_congr (g := fun f => S f && R 2 v f) (fun i _ => by simp)]; simp
  · rw [← pu_ex_or]
    cases decide (st v = 2)
    · rw [pu_ex_congr (g := fun x => (S x && R 2 v x) || (S x && R 0 v x)) (fun i _ => by cases S i <;> cases R 2 v i <;> cases R 0 v i <;> rfl)]; simp
    · rw [pu_ex_congr (g := fun x => (S x && R 2 v x) || (S x && R 0 v x)) (fun i _ => by cases S i <;> cases R 2 v i <;> cases R 0 v i <;> rfl), pu_ex_or]
      cases pu_ex (fun f => S f && R 2 v f) N <;> cases pu_ex (fun f => S f && R 0 v f) N <;> rfl
/-- a change of the cells below i that satisfy c -/
def pu_par (i : Nat) (c : Nat → Bool) (v g : Nat → Int32) : Nat → Int32 := fun x => if (decide (x < i) && c x) = true then v x else g x
theorem pu_par_0 {c : Nat → Bool} {v g : Nat → Int32} : pu_par 0 c v g = g := by
  funext x
  unfold pu_par
  rw [decide_eq_false (Nat.not_lt_zero x)]
  exact if_neg (by simp)
theorem pu_par_at {i : Nat} {c : Nat → Bool} {v g : Nat → Int32} : pu_par i c v g i = g i := by
  unfold pu_par
  rw [decide_eq_false (Nat.lt_irrefl i)]
  exact if_neg (by simp)
theorem pu_par_n {i : Nat} {c : Nat → Bool} {v g : Nat → Int32} (h : c i = false) : pu_par (i + 1) c v g = pu_par i c v g := by
  funext x
  unfold pu_par
  by_cases e : x = i
  · subst e; rw [h]; simp
  · rw [pu_lt1 e]
theorem pu_par_y {i : Nat} {c : Nat → Bool} {v g : Nat → Int32} {w : Int32} (h : c i = true) (hw : w = v i) : upd (pu_par i c v g) i w = pu_par (i + 1) c v g := by
  subst hw
  funext x
  by_cases e : x = i
  · subst e
    rw [pk_us]
    unfold pu_par
    rw [h, decide_eq_true (Nat.lt_succ_self x)]
    exact (if_pos rfl).symm
  · rw [pk_un e]
    unfold pu_par
    rw [pu_lt1 e]
def pu_bj (F : Nat → Bool) (jb : Nat → Int32) (i : Nat) : Nat → Int32 := pu_par i (fun x => F x && pu_up (jb x)) (fun _ => 0) jb
def pu_bs (F : Nat → Bool) (st : Nat → Int32) (i : Nat) : Nat → Int32 := pu_par i (fun x => F x && (decide (st x = 2) || decide (st x = 1))) (fun _ => 0) st
def pu_bo (F : Nat → Bool) (ou : Nat → Int32) (i : Nat) : Nat → Int32 := pu_par i F (fun _ => 4) ou
def pu_ct (F : Nat → Bool) : Nat → Int32
  | 0 => 0
  | i + 1 => if F i = true then pu_ct F i + 1 else pu_ct F i
theorem pu_bj_Jok {N : Nat} {F : Nat → Bool} {jb : Nat → Int32} (h : pu_Jok N jb) (i : Nat) : pu_Jok N (pu_bj F jb i) := fun x hx => by
  unfold pu_bj pu_par
  split
  · exact Or.inl rfl
  · exact h x hx
section
variable {N : Nat} {tT tW tB pc qj qs qr : Int32} {fo ba st jb ou ag wi us au kp tr pu ps pj po : Nat → Int32}
theorem xx_fw62 {post : Int32 → Prop} {b : Bool} {v : Nat} {x3 : Int32} (hx : x3 = pu_bI b) (hv : v < 12) (h : post (pu_bI (b && decide (st v = 2)))) : wX_fallsWith_62 post (nI v) x3 (nI N) tT tW tB pc qj qs qr fo ba st jb ou ag wi us au kp tr pu ps pj po := by
  unfold wX_fallsWith_62
  rw [nI_clamp (n := v) (by omega)]
  refine pu_brc hx (fun z => ?_) (fun z => ?_)
  · rw [z] at h; exact h
  · rw [z, Bool.true_and] at h
    refine ⟨vp_in_nI hv (by omega), ?_⟩
    by_cases c : st v = 2
    · rw [decide_eq_true c] at h; exact br_t c h
    · rw [decide_eq_false c] at h; exact br_f c h
theorem xx_fw42 {post : Int32 → Prop} {b n : Bool} {v : Nat} {x3 z0 : Int32} (hx : x3 = pu_bI b) (hz : z0 = pu_bI n) (hv : v < 12) (h : post (pu_bI ((n && pu_up (jb v)) || (b && decide (st v = 2))))) : wX_fallsWith_42 post (nI v) x3 z0 (nI N) tT tW tB pc qj qs qr fo ba st jb ou ag wi us au kp tr pu ps pj po := by
  unfold wX_fallsWith_42
  rw [nI_clamp (n := v) (by omega)]
  refine pu_brc hz (fun z => ?_) (fun z => ?_)
  · rw [z, Bool.false_and, Bool.false_or] at h
    exact xx_fw62 hx hv h
  · rw [z, Bool.true_and] at h
    refine ⟨vp_in_nI hv (by omega), xx_isUp (pu_br (fun a => ?_) (fun a => ?_))⟩
    · rw [a, Bool.false_or] at h
      exact xx_fw62 hx hv h
    · rw [a, Bool.true_or] at h
      exact h
theorem xx_fw {post : Int32 → Prop} {R : Nat → Nat → Nat → Bool} {S : Nat → Bool} {s : Int32} {v : Nat} (hN : N ≤ 12) (hR : pu_Rok N R) (hX : pu_XF R fo ba) (hv : v < N) (hs : ∀ b, b < 32 → bt s b = S b) (h : post (pu_bI (pu_dQ N R st jb S v))) : wpX_fallsWith post (nI N, tT, tW, tB, pc, qj, qs, qr, fo, ba, st, jb, ou, ag, wi, us, au, kp, tr, pu, ps, pj, po) (nI v) s := by
  have e0 : (0 : Int32) + nI v = nI v := by
    show nI 0 + nI v = nI v
    rw [nI_add, Nat.zero_add]
  have e24 : (24 : Int32) + nI v = nI (24 + v) := nI_add 24 v
  have f0 : ∀ i, i < 32 → bt (fo v) i = R 0 v i := fun i hi => by
    have := (hX 0 v i (by omega) (by omega) hi).1
    rwa [Nat.zero_mul, Nat.zero_add] at this
  have f2 : ∀ i, i < 32 → bt (fo (24 + v)) i = R 2 v i := fun i hi => (hX 2 v i (by omega) (by omega) hi).1
  have hb2 : ∀ i, i < 32 → bt (fo (24 + v) &&& s) i = (decide (i < N) && (S i && R 2 v i)) := fun i hi => by
    rw [b_and, f2 i hi, hs i hi]
    cases z : R 2 v i
    · simp
    · rw [decide_eq_true (hR.1 _ _ _ z).2.1]; simp
  have hb0 : ∀ i, i < 32 → bt (fo v &&& s) i = (decide (i < N) && (S i && R 0 v i)) := fun i hi => by
    rw [b_and, f0 i hi, hs i hi]
    cases z : R 0 v i
    · simp
    · rw [decide_eq_true (hR.1 _ _ _ z).2.1]; simp
  rw [pu_dQ_eq] at h
  unfold wpX_fallsWith
  simp only [e24, nI_clamp (n := 24 + v) (by omega)]
  refine ⟨vp_in_nI (by omega) (by omega), pu_bz (f := fun f => S f && R 2 v f) hN hb2 (fun c2 => ?_) (fun c2 => ?_)⟩
  · rw [c2, Bool.false_or] at h
    unfold wX_fallsWith_19
    rw [e0, nI_clamp (n := v) (by omega)]
    refine br_t rfl ⟨vp_in_nI (by omega) (by omega), pu_bz (f := fun f => S f && R 0 v f) hN hb0 (fun c0 => ?_) (fun c0 => ?_)⟩
    · rw [c0] at h
      exact xx_fw42 (b := false) (n := false) pu_bI0.symm pu_bI0.symm (by omega) h
    · rw [c0] at h
      unfold wX_fallsWith_37
      exact xx_fw42 (b := false) (n := true) pu_bI0.symm pu_bI1.symm (by omega) h
  · rw [c2, Bool.true_or] at h
    unfold wX_fallsWith_19 wX_fallsWith_37
    exact br_f pu_l1_0 (xx_fw42 (b := true) (n := true) pu_bI1.symm pu_bI1.symm (by omega) h)
theorem xx_fs17 {post : Int32 → Prop} {J6 : Int32 → Int32 → Prop} {R : Nat → Nat → Nat → Bool} {S : Nat → Bool} {r : Nat} (hN : N ≤ 12) (hR : pu_Rok N R) (hX : pu_XF R fo ba) (h : ∀ x2, (∀ b, b < 32 → bt x2 b = pu_rs (pu_dQ N R st jb) S N b) → J6 x2 (nI (r + 1))) : ∀ (m v : Nat) (x2 : Int32), v + m = N → (∀ b, b < 32 → bt x2 b = pu_rs (pu_dQ N R st jb) S v b) → wX_fallSet_17 post J6 (nI r) (nI N) tT tW tB pc qj qs qr fo ba st jb ou ag wi us au kp tr pu ps pj po (m + 1) x2 (nI v) := by
  intro m
  induction m with
  | zero =>
    intro v x2 hv hx
    have e : v = N := by omega
    subst e
    exact br_t (nI_le (Nat.le_refl _) (by omega)) (nm_r (nI_1 r) (h x2 hx))
  | succ m ih =>
    intro v x2 hv hx
    rw [wX_fallSet_17]; dsimp only
    refine br_f (nI_ge (by omega) (by omega)) (xx_fw hN hR hX (by omega) hx (pu_br (fun z => ?_) (fun z => ?_)))
    · have es : pu_rs (pu_dQ N R st jb) S (v + 1) = pu_rs (pu_dQ N R st jb) S v := pu_st_no z
      exact nm_r (nI_1 v) (ih (v + 1) x2 (by omega) (by rw [es]; exact hx))
    · refine nm_e (nm_r (nI_1 v) (ih (v + 1) _ (by omega) (fun b hb => ?_)))
      rw [pu_or1 (by omega) hb, hx b hb]
      show _ = (pu_rs (pu_dQ N R st jb) S v b || (decide (b = v) && pu_dQ N R st jb (pu_rs (pu_dQ N R st jb) S v) v))
      rw [z, Bool.and_true]
theorem xx_fs6 {post : Int32 → Prop} {R : Nat → Nat → Nat → Bool} {S : Nat → Bool} (hN : N ≤ 12) (hR : pu_Rok N R) (hX : pu_XF R fo ba) (h : ∀ x2, (∀ b, b < 32 → bt x2 b = pu_it (pu_dQ N R st jb) N S N b) → post x2) : ∀ (m r : Nat) (x2 : Int32), r + m = N → (∀ b, b < 32 → bt x2 b = pu_it (pu_dQ N R st jb) N S r b) → wX_fallSet_6 post (nI N) tT tW tB pc qj qs qr fo ba st jb ou ag wi us au kp tr pu ps pj po (m + 1) x2 (nI r) := by
  intro m
  induction m with
  | zero =>
    intro r x2 hr hx
    have e : r = N := by omega
    subst e
    exact br_t (nI_le (Nat.le_refl _) (by omega)) (h x2 hx)
  | succ m ih =>
    intro r x2 hr hx
    rw [wX_fallSet_6]; dsimp only
    exact br_f (nI_ge (by omega) (by omega)) (Exists.intro (N + 1) (xx_fs17 (S := pu_it (pu_dQ N R st jb) N S r) hN hR hX (fun x3 hx3 => ih (r + 1) x3 (by omega) hx3) N 0 x2 (by omega) hx))
theorem xx_fs {post : Int32 → Prop} {R : Nat → Nat → Nat → Bool} {u : Nat} (hN : N ≤ 12) (hR : pu_Rok N R) (hX : pu_XF R fo ba) (hu : u < N) (h : ∀ x2, (∀ b, b < 32 → bt x2 b = pu_F N R st jb u b) → post x2) : wpX_fallSet post (nI N, tT, tW, tB, pc, qj, qs, qr, fo, ba, st, jb, ou, ag, wi, us, au, kp, tr, pu, ps, pj, po) (nI u) := by
  unfold wpX_fallSet
  exact nm_e (Exists.intro (N + 1) (xx_fs6 (S := fun j => decide (j = u)) hN hR hX h N 0 _ (by omega) (fun b hb => pu_b1 (by omega) hb)))
theorem xx_bd20 {post : SX → Prop} {F : Nat → Bool} {st0 ou0 : Nat → Int32} {x : Nat} (hx : x < 12) (hF : F x = true) (h : post (nI N, tT, tW, tB, pc, qj, qs, qr, fo, ba, pu_bs F st0 (x + 1), jb, pu_bo F ou0 (x + 1), ag, wi, us, au, kp, tr, pu, ps, pj, po)) : wX_bringDown_20 post (nI x) (nI N) tT tW tB pc qj qs qr fo ba (pu_bs F st0 x) jb (pu_bo F ou0 x) ag wi us au kp tr pu ps pj po := by
  have hin : vp_in (nI x) 12 := vp_in_nI hx (by omega)
  have es : pu_bs F st0 x x = st0 x := pu_par_at
  have eo : upd (pu_bo F ou0 x) x 4 = pu_bo F ou0 (x + 1) := pu_par_y hF rfl
  have h40 : (decide (st0 x = 2) || decide (st0 x = 1)) = true → wX_bringDown_40 post (nI x) (nI N) tT tW tB pc qj qs qr fo ba (pu_bs F st0 x) jb (pu_bo F ou0 x) ag wi us au kp tr pu ps pj po := fun c => by
    unfold wX_bringDown_40
    rw [nI_clamp (n := x) (by omega)]
    have e2 : upd (pu_bs F st0 x) x 0 = pu_bs F st0 (x + 1) := pu_par_y (by show (F x && _) = true; rw [hF, c]; rfl) rfl
    exact ⟨hin, nm_r e2 ⟨hin, nm_r eo h⟩⟩
  unfold wX_bringDown_20
  rw [nI_clamp (n := x) (by omega), es]
  refine ⟨hin, ?_⟩
  by_cases s2 : st0 x = 2
  · exact br_t s2 (h40 (by rw [decide_eq_true s2]; rfl))
  · refine br_f s2 ⟨hin, ?_⟩
    by_cases s1 : st0 x = 1
    · exact br_t s1 (h40 (by rw [decide_eq_true s1, Bool.or_true]))
    · have e2 : pu_bs F st0 (x + 1) = pu_bs F st0 x := pu_par_n (by show (F x && _) = false; rw [decide_eq_false s2, decide_eq_false s1]; simp)
      rw [e2] at h
      exact br_f s1 ⟨hin, nm_r eo h⟩
theorem xx_bd {post : SX → Prop} {F : Nat → Bool} {st0 jb0 ou0 : Nat → Int32} {x : Nat} (hx : x < 12) (hF : F x = true) (h : post (nI N, tT, tW, tB, pc, qj, qs, qr, fo, ba, pu_bs F st0 (x + 1), pu_bj F jb0 (x + 1), pu_bo F ou0 (x + 1), ag, wi, us, au, kp, tr, pu, ps, pj, po)) : wpX_bringDown post (nI N, tT, tW, tB, pc, qj, qs, qr, fo, ba, pu_bs F st0 x, pu_bj F jb0 x, pu_bo F ou0 x, ag, wi, us, au, kp, tr, pu, ps, pj, po) (nI x) := by
  have hin : vp_in (nI x) 12 := vp_in_nI hx (by omega)
  have ej : pu_bj F jb0 x x = jb0 x := pu_par_at
  unfold wpX_bringDown
  simp only [nI_clamp (n := x) (by omega), ej]
  refine ⟨hin, xx_isUp (pu_br (fun a => ?_) (fun a => ?_))⟩
  · have e2 : pu_bj F jb0 (x + 1) = pu_bj F jb0 x := pu_par_n (by show (F x && _) = false; rw [a, Bool.and_false])
    rw [e2] at h
    exact xx_bd20 hx hF h
  · have e2 : upd (pu_bj F jb0 x) x 0 = pu_bj F jb0 (x + 1) := pu_par_y (by show (F x && _) = true; rw [a, hF]; rfl) rfl
    exact ⟨hin, nm_r e2 (xx_bd20 hx hF h)⟩
/-- X's falls: what is asked at the end -/
theorem xx_fall {post : Int32 → SX → Prop} {R : Nat → Nat → Nat → Bool} {u : Nat} {o : Int32} (hN : N ≤ 12) (hR : pu_Rok N R) (hX : pu_XF R fo ba) (hu : u < N)
    (h0 : au u = 0 → post (pu_ct (pu_F N R st jb u) N) (nI N, tT, tW, tB, pc, qj, qs, qr, fo, ba, upd (pu_bs (pu_F N R st jb u) st N) u 3, pu_bj (pu_F N R st jb u) jb N, upd (pu_bo (pu_F N R st jb u) ou N) u o, ag, wi, us, au, kp, tr, pu, ps, pj, po))
    (h1 : ¬ au u = 0 → wi u = 0 → wpX_transact (fun _ v => post (pu_ct (pu_F N R st jb u) N) v) (nI N, tT, tW, tB, pc, qj, qs, qr, fo, ba, upd (pu_bs (pu_F N R st jb u) st N) u 3, pu_bj (pu_F N R st jb u) jb N, upd (pu_bo (pu_F N R st jb u) ou N) u o, ag, upd wi u tW, upd us u 1, au, kp, tr, pu, ps, pj, po) (nI 1) (nI u) 0)
    (h2 : ¬ au u = 0 → ¬ wi u = 0 → tB ≤ us u → post (pu_ct (pu_F N R st jb u) N) (nI N, tT, tW, tB, pc, qj, qs, qr, fo, ba, upd (pu_bs (pu_F N R st jb u) st N) u 3, pu_bj (pu_F N R st jb u) jb N, upd (pu_bo (pu_F N R st jb u) ou N) u o, ag, wi, us, au, kp, tr, pu, ps, pj, po))
    (h3 : ¬ au u = 0 → ¬ wi u = 0 → ¬ tB ≤ us u → wpX_transact (fun _ v => post (pu_ct (pu_F N R st jb u) N) v) (nI N, tT, tW, tB, pc, qj, qs, qr, fo, ba, upd (pu_bs (pu_F N R st jb u) st N) u 3, pu_bj (pu_F N R st jb u) jb N, upd (pu_bo (pu_F N R st jb u) ou N) u o, ag, wi, upd us u (us u + 1), au, kp, tr, pu, ps, pj, po) (nI 1) (nI u) 0) : wpX_fall post (nI N, tT, tW, tB, pc, qj, qs, qr, fo, ba, st, jb, ou, ag, wi, us, au, kp, tr, pu, ps, pj, po) (nI u) o := by
  have hin : vp_in (nI u) 12 := vp_in_nI (by omega) (by omega)
  have lp : ∀ x3, (∀ b, b < 32 → bt x3 b = pu_F N R st jb u b) → ∀ (m i : Nat), i + m = N → wX_fall_12 post (nI u) o x3 (m + 1) (pu_ct (pu_F N R st jb u) i) (nI i) (nI N) tT tW tB pc qj qs qr fo ba (pu_bs (pu_F N R st jb u) st i) (pu_bj (pu_F N R st jb u) jb i) (pu_bo (pu_F N R st jb u) ou i) ag wi us au kp tr pu ps pj po := by
    intro x3 hx3 m
    induction m with
    | zero =>
      intro i hi
      have e : i = N := by omega
      subst e
      rw [wX_fall_12]; dsimp only
      rw [nI_clamp (n := u) (by omega)]
      refine br_t (nI_le (Nat.le_refl _) (by omega)) ⟨hin, nm_e ⟨hin, nm_e ⟨hin, ?_⟩⟩⟩
      by_cases a0 : au u = 0
      · exact br_t a0 (h0 a0)
      · refine br_f a0 ?_
        unfold wpX_restartAllowed; dsimp only
        rw [nI_clamp (n := u) (by omega)]
        refine ⟨hin, ?_⟩
        by_cases w0 : wi u = 0
        · exact br_t w0 ⟨hin, nm_e ⟨hin, nm_e (br_f pu_l1_0 (h1 a0 w0))⟩⟩
        · refine br_f w0 ⟨hin, ?_⟩
          by_cases b0 : tB ≤ us u
          · exact br_t b0 (br_t rfl (h2 a0 w0 b0))
          · exact br_f b0 ⟨hin, hin, nm_e (br_f pu_l1_0 (h3 a0 w0 b0))⟩
    | succ m ih =>
      intro i hi
      have ih := ih (i + 1) (by omega)
      rw [wX_fall_12]; dsimp only
      refine br_f (nI_ge (by omega) (by omega)) (xx_has (by omega) ?_)
      rw [hx3 i (by omega)]
      refine pu_br (fun z => ?_) (fun z => ?_)
      · have e1 : pu_bs (pu_F N R st jb u) st (i + 1) = pu_bs (pu_F N R st jb u) st i := pu_par_n (by show (pu_F N R st jb u i && _) = false; rw [z]; rfl)
        have e2 : pu_bj (pu_F N R st jb u) jb (i + 1) = pu_bj (pu_F N R st jb u) jb i := pu_par_n (by show (pu_F N R st jb u i && _) = false; rw [z]; rfl)
        have e3 : pu_bo (pu_F N R st jb u) ou (i + 1) = pu_bo (pu_F N R st jb u) ou i := pu_par_n z
        have e4 : pu_ct (pu_F N R st jb u) (i + 1) = pu_ct (pu_F N R st jb u) i := by
          rw [pu_ct, z]; exact if_neg (by decide)
        rw [e1, e2, e3, e4] at ih
        exact nm_r (nI_1 i) ih
      · have e4 : pu_ct (pu_F N R st jb u) i + 1 = pu_ct (pu_F N R st jb u) (i + 1) := by
          rw [pu_ct, z]; exact (if_pos rfl).symm
        exact xx_bd (by omega) z (nm_r e4 (nm_r (nI_1 i) ih))
  unfold wpX_fall
  refine xx_fs hN hR hX hu (fun x3 hx3 => ?_)
  have := lp x3 hx3 N 0 (by omega)
  have e1 : pu_bs (pu_F N R st jb u) st 0 = st := pu_par_0
  have e2 : pu_bj (pu_F N R st jb u) jb 0 = jb := pu_par_0
  have e3 : pu_bo (pu_F N R st jb u) ou 0 = ou := pu_par_0
  rw [e1, e2, e3] at this
  exact Exists.intro (N + 1) this
end
end
section
/-! falls: Y's walk -/
section
variable {N : Nat} {tT tW tB : Int32} {re st jb ou ag wi us au hu kq tq pq sq fq yj ys yo : Nat → Int32}
theorem yy_dg_lp {post : Int32 → Prop} {R : Nat → Nat → Nat → Bool} {S : Nat → Bool} {v : Nat} (hN : N ≤ 12) (hR : pu_Rok N R) (hF : pu_YF N R re) (hv : v < N) (hB : pu_BB S 12 fq) (h : post (pu_bI (pu_dQ N R st jb S v))) : ∀ (m i : Nat), i + m = N → (∀ f, f < i → (S f && pu_dr R st jb v f) = false) → wY_dragged_2 post (nI v) (nI N) tT tW tB re st jb ou ag wi us au hu kq tq pq sq fq yj ys yo (m + 1) (nI i) := by
  intro m
  induction m with
  | zero =>
    intro i hi hn
    have e : i = N := by omega
    subst e
    have : pu_dQ i R st jb S v = false := pu_ex_no hn
    rw [this] at h
    exact br_t (nI_le (Nat.le_refl _) (by omega)) h
  | succ m ih =>
    intro i hi hn
    have hin : vp_in (nI i) 12 := vp_in_nI (by omega) (by omega)
    have hiv : vp_in (nI v) 12 := vp_in_nI (by omega) (by omega)
    have next : (S i && pu_dr R st jb v i) = false → wY_dragged_2 post (nI v) (nI N) tT tW tB re st jb ou ag wi us au hu kq tq pq sq fq yj ys yo (m + 1) (nI (i + 1)) := fun z => ih (i + 1) (by omega) (fun f hf => by
      by_cases c : f = i
      · subst c; exact z
      · exact hn f (by omega))
    have hit : S i = true → pu_dr R st jb v i = true → post 1 := fun z1 z2 => by
      have : pu_dQ N R st jb S v = true := pu_ex_t (i := i) (by omega) (by show (S i && pu_dr R st jb v i) = true; rw [z1, z2]; rfl)
      rw [this] at h
      exact h
    have d54 : (S i = true → (pu_up (jb v) && (R 0 v i || R 2 v i)) = false) → wY_dragged_54 post (wY_dragged_2 post (nI v) (nI N) tT tW tB re st jb ou ag wi us au hu kq tq pq sq fq yj ys yo (m + 1)) (nI v) (nI i) (nI N) tT tW tB re st jb ou ag wi us au hu kq tq pq sq fq yj ys yo := fun z => by
      unfold wY_dragged_54
      rw [nI_clamp (n := i) (by omega), nI_clamp (n := v) (by omega)]
      refine ⟨hin, pu_brc (hB i (by omega)) (fun a1 => ?_) (fun a1 => ⟨hiv, ?_⟩)⟩
      · exact nm_r (nI_1 i) (next (by rw [a1]; rfl))
      · by_cases s2 : st v = 2
        · refine br_t s2 (yy_rel (k := 2) rfl hN hR hF (by omega) (by omega) (by omega) (pu_br (fun a2 => ?_) (fun a2 => ?_)))
          · refine nm_r (nI_1 i) (next ?_)
            unfold pu_dr
            rw [z a1, a2]; simp
          · refine hit a1 ?_
            unfold pu_dr
            rw [decide_eq_true s2, a2]; simp
        · refine br_f s2 (nm_r (nI_1 i) (next ?_))
          unfold pu_dr
          rw [z a1, decide_eq_false s2]; simp
    rw [wY_dragged_2]; dsimp only
    rw [nI_clamp (n := i) (by omega), nI_clamp (n := v) (by omega)]
    refine br_f (nI_ge (by omega) (by omega)) ⟨hin, pu_brc (hB i (by omega)) (fun a1 => ?_) (fun a1 => ⟨hiv, yy_isUp (pu_br (fun a2 => ?_) (fun a2 => ?_))⟩)⟩
    · exact d54 (fun z => by rw [a1] at z; exact (nomatch z))
    · exact d54 (fun _ => by rw [a2]; rfl)
    · refine yy_rel (k := 0) rfl hN hR hF (by omega) (by omega) (by omega) (pu_br (fun a3 => ?_) (fun a3 => ?_))
      · refine yy_rel (k := 2) rfl hN hR hF (by omega) (by omega) (by omega) (pu_br (fun a4 => ?_) (fun a4 => ?_))
        · exact d54 (fun _ => by rw [a3, a4]; simp)
        · exact hit a1 (by unfold pu_dr; rw [a2, a4]; simp)
      · exact hit a1 (by unfold pu_dr; rw [a2, a3]; simp)
theorem yy_dg {post : Int32 → Prop} {R : Nat → Nat → Nat → Bool} {S : Nat → Bool} {v : Nat} (hN : N ≤ 12) (hR : pu_Rok N R) (hF : pu_YF N R re) (hv : v < N) (hB : pu_BB S 12 fq) (h : post (pu_bI (pu_dQ N R st jb S v))) : wpY_dragged post (nI N, tT, tW, tB, re, st, jb, ou, ag, wi, us, au, hu, kq, tq, pq, sq, fq, yj, ys, yo) (nI v) := by
  unfold wpY_dragged
  exact Exists.intro (N + 1) (yy_dg_lp hN hR hF hv hB h N 0 (by omega) (fun j hj => absurd hj (Nat.not_lt_zero j)))
theorem yy_f41 {post : Int32 → SY → Prop} {J32 : Int32 → (Nat → Int32) → (Nat → Int32) → (Nat → Int32) → (Nat → Int32) → (Nat → Int32) → (Nat → Int32) → (Nat → Int32) → (Nat → Int32) → (Nat → Int32) → (Nat → Int32) → (Nat → Int32) → (Nat → Int32) → (Nat → Int32) → (Nat → Int32) → (Nat → Int32) → (Nat → Int32) → (Nat → Int32) → Prop} {R : Nat → Nat → Nat → Bool} {S : Nat → Bool} {r : Nat} {x1 x2 : Int32} (hN : N ≤ 12) (hR : pu_Rok N R) (hF : pu_YF N R re) (h : ∀ fq', pu_BB (pu_rs (pu_dQ N R st jb) S N) 12 fq' → J32 (nI (r + 1)) re st jb ou ag wi us au hu kq tq pq sq fq' yj ys yo) : ∀ (m v : Nat) (fq : Nat → Int32), v + m = N → pu_BB (pu_rs (pu_dQ N R st jb) S v) 12 fq → wY_fall_41 post J32 x1 x2 (nI r) (nI N) tT tW tB (m + 1) (nI v) re st jb ou ag wi us au hu kq tq pq sq fq yj ys yo := by
  intro m
  induction m with
  | zero =>
    intro v fq hv hB
    have e : v = N := by omega
    subst e
    exact br_t (nI_le (Nat.le_refl _) (by omega)) (nm_r (nI_1 r) (h fq hB))
  | succ m ih =>
    intro v fq hv hB
    have hin : vp_in (nI v) 12 := vp_in_nI (by omega) (by omega)
    rw [wY_fall_41]; dsimp only
    rw [nI_clamp (n := v) (by omega), pu_vn1]
    refine br_f (nI_ge (by omega) (by omega)) ⟨hin, pu_brc (hB v (by omega)) (fun z => ?_) (fun z => ?_)⟩
    · refine yy_dg hN hR hF (by omega) hB (pu_br (fun z2 => ?_) (fun z2 => ?_))
      · have es : pu_rs (pu_dQ N R st jb) S (v + 1) = pu_rs (pu_dQ N R st jb) S v := pu_st_no z2
        exact nm_r (nI_1 v) (ih (v + 1) fq (by omega) (by rw [es]; exact hB))
      · have hB2 : pu_BB (pu_rs (pu_dQ N R st jb) S (v + 1)) 12 (upd fq v 1) := pu_BB_st z2 hB
        exact ⟨hin, nm_e (nm_r (nI_1 v) (ih (v + 1) _ (by omega) hB2))⟩
    · have es : pu_rs (pu_dQ N R st jb) S (v + 1) = pu_rs (pu_dQ N R st jb) S v := pu_st_in z
      exact nm_r (nI_1 v) (ih (v + 1) fq (by omega) (by rw [es]; exact hB))
theorem yy_f32 {post : Int32 → SY → Prop} {R : Nat → Nat → Nat → Bool} {S : Nat → Bool} {x1 x2 : Int32} (hN : N ≤ 12) (hR : pu_Rok N R) (hF : pu_YF N R re) (h : ∀ fq', pu_BB (pu_it (pu_dQ N R st jb) N S 12) 12 fq' → ∃ n, wY_fall_94 post x1 x2 (nI N) tT tW tB n 0 0 re st jb ou ag wi us au hu kq tq pq sq fq' yj ys yo) : ∀ (m r : Nat) (fq : Nat → Int32), r + m = 12 → pu_BB (pu_it (pu_dQ N R st jb) N S r) 12 fq → wY_fall_32 post x1 x2 (nI N) tT tW tB (m + 1) (nI r) re st jb ou ag wi us au hu kq tq pq sq fq yj ys yo := by
  intro m
  induction m with
  | zero =>
    intro r fq hr hB
    have e : r = 12 := by omega
    subst e
    exact br_t (nI_le (a := 12) (Nat.le_refl _) (by omega)) (h fq hB)
  | succ m ih =>
    intro r fq hr hB
    rw [wY_fall_32]; dsimp only
    exact br_f (nI_ge (b := 12) (by omega) (by omega)) (Exists.intro (N + 1) (yy_f41 (S := pu_it (pu_dQ N R st jb) N S r) hN hR hF (fun fq' hB' => ih (r + 1) fq' (by omega) hB') N 0 fq (by omega) hB))
theorem yy_f2 {post : Int32 → SY → Prop} {u : Nat} {x2 : Int32} (hu2 : u < 12) (h : ∀ fq', pu_BB (fun j => decide (j = u)) 12 fq' → ∃ n, wY_fall_32 post (nI u) x2 (nI N) tT tW tB n 0 re st jb ou ag wi us au hu kq tq pq sq fq' yj ys yo) : ∀ (m i : Nat) (fq : Nat → Int32), i + m = 12 → pu_BB (fun j => decide (j = u)) i fq → wY_fall_2 post (nI u) x2 (nI N) tT tW tB (m + 1) (nI i) re st jb ou ag wi us au hu kq tq pq sq fq yj ys yo := by
  intro m
  induction m with
  | zero =>
    intro i fq hi hB
    have e : i = 12 := by omega
    subst e
    exact br_t (nI_le (a := 12) (Nat.le_refl _) (by omega)) (h fq hB)
  | succ m ih =>
    intro i fq hi hB
    have hin : vp_in (nI i) 12 := vp_in_nI (by omega) (by omega)
    rw [wY_fall_2]; dsimp only
    rw [nI_clamp (n := i) (by omega), pu_vn0, pu_vn1]
    refine br_f (nI_ge (b := 12) (by omega) (by omega)) (pk_eq i u (fun c => ?_) (fun c => ?_))
    · exact ⟨hin, nm_e (nm_r (nI_1 i) (ih (i + 1) _ (by omega) (pu_BB_s hB (by rw [decide_eq_true c, pu_bI1]))))⟩
    · exact ⟨hin, nm_e (nm_r (nI_1 i) (ih (i + 1) _ (by omega) (pu_BB_s hB (by rw [decide_eq_false c, pu_bI0]))))⟩
theorem yy_f141 {post : Int32 → SY → Prop} {J94 : Int32 → Int32 → (Nat → Int32) → (Nat → Int32) → (Nat → Int32) → (Nat → Int32) → (Nat → Int32) → (Nat → Int32) → (Nat → Int32) → (Nat → Int32) → (Nat → Int32) → (Nat → Int32) → (Nat → Int32) → (Nat → Int32) → (Nat → Int32) → (Nat → Int32) → (Nat → Int32) → (Nat → Int32) → (Nat → Int32) → Prop} {F : Nat → Bool} {st0 ou0 : Nat → Int32} {x : Nat} {x1 x2 x3 : Int32} (hx : x < 12) (hF : F x = true) (h : J94 x3 (nI (x + 1)) re (pu_bs F st0 (x + 1)) jb (pu_bo F ou0 (x + 1)) ag wi us au hu kq tq pq sq fq yj ys yo) : wY_fall_141 post J94 x1 x2 x3 (nI x) (nI N) tT tW tB re (pu_bs F st0 x) jb (pu_bo F ou0 x) ag wi us au hu kq tq pq sq fq yj ys yo := by
  have hin : vp_in (nI x) 12 := vp_in_nI hx (by omega)
  have es : pu_bs F st0 x x = st0 x := pu_par_at
  have eo : upd (pu_bo F ou0 x) x 4 = pu_bo F ou0 (x + 1) := pu_par_y hF rfl
  have h40 : (decide (st0 x = 2) || decide (st0 x = 1)) = true → wY_fall_163 post J94 x1 x2 x3 (nI x) (nI N) tT tW tB re (pu_bs F st0 x) jb (pu_bo F ou0 x) ag wi us au hu kq tq pq sq fq yj ys yo := fun c => by
    unfold wY_fall_163
    rw [nI_clamp (n := x) (by omega)]
    have e2 : upd (pu_bs F st0 x) x 0 = pu_bs F st0 (x + 1) := pu_par_y (by show (F x && _) = true; rw [hF, c]; rfl) rfl
    exact ⟨hin, nm_r e2 ⟨hin, nm_r eo (nm_r (nI_1 x) h)⟩⟩
  unfold wY_fall_141
  rw [nI_clamp (n := x) (by omega), es]
  refine ⟨hin, ?_⟩
  by_cases s2 : st0 x = 2
  · exact br_t s2 (h40 (by rw [decide_eq_true s2]; rfl))
  · refine br_f s2 ⟨hin, ?_⟩
    by_cases s1 : st0 x = 1
    · exact br_t s1 (h40 (by rw [decide_eq_true s1, Bool.or_true]))
    · have e2 : pu_bs F st0 (x + 1) = pu_bs F st0 x := pu_par_n (by show (F x && _) = false; rw [decide_eq_false s2, decide_eq_false s1]; simp)
      rw [e2] at h
      exact br_f s1 ⟨hin, nm_r eo (nm_r (nI_1 x) h)⟩
/-- Y's falls: what is asked at the end -/
theorem yy_fall {post : Int32 → SY → Prop} {R : Nat → Nat → Nat → Bool} {u : Nat} {o : Int32} (hN : N ≤ 12) (hR : pu_Rok N R) (hF : pu_YF N R re) (hu2 : u < N)
    (h0 : au u = 0 → ∀ fq', post (pu_ct (pu_F N R st jb u) N) (nI N, tT, tW, tB, re, upd (pu_bs (pu_F N R st jb u) st N) u 3, pu_bj (pu_F N R st jb u) jb N, upd (pu_bo (pu_F N R st jb u) ou N) u o, ag, wi, us, au, hu, kq, tq, pq, sq, fq', yj, ys, yo))
    (h1 : ¬ au u = 0 → wi u = 0 → ∀ fq', wpY_transact (fun _ v => post (pu_ct (pu_F N R st jb u) N) v) (nI N, tT, tW, tB, re, upd (pu_bs (pu_F N R st jb u) st N) u 3, pu_bj (pu_F N R st jb u) jb N, upd (pu_bo (pu_F N R st jb u) ou N) u o, ag, upd wi u tW, upd us u 1, au, hu, kq, tq, pq, sq, fq', yj, ys, yo) (nI 1) (nI u) 0)
    (h2 : ¬ au u = 0 → ¬ wi u = 0 → tB ≤ us u → ∀ fq', post (pu_ct (pu_F N R st jb u) N) (nI N, tT, tW, tB, re, upd (pu_bs (pu_F N R st jb u) st N) u 3, pu_bj (pu_F N R st jb u) jb N, upd (pu_bo (pu_F N R st jb u) ou N) u o, ag, wi, us, au, hu, kq, tq, pq, sq, fq', yj, ys, yo))
    (h3 : ¬ au u = 0 → ¬ wi u = 0 → ¬ tB ≤ us u → ∀ fq', wpY_transact (fun _ v => post (pu_ct (pu_F N R st jb u) N) v) (nI N, tT, tW, tB, re, upd (pu_bs (pu_F N R st jb u) st N) u 3, pu_bj (pu_F N R st jb u) jb N, upd (pu_bo (pu_F N R st jb u) ou N) u o, ag, wi, upd us u (us u + 1), au, hu, kq, tq, pq, sq, fq', yj, ys, yo) (nI 1) (nI u) 0) : wpY_fall post (nI N, tT, tW, tB, re, st, jb, ou, ag, wi, us, au, hu, kq, tq, pq, sq, fq, yj, ys, yo) (nI u) o := by
  have hin : vp_in (nI u) 12 := vp_in_nI (by omega) (by omega)
  have lp : ∀ fq, pu_BB (pu_F N R st jb u) 12 fq → ∀ (m i : Nat), i + m = N → wY_fall_94 post (nI u) o (nI N) tT tW tB (m + 1) (pu_ct (pu_F N R st jb u) i) (nI i) re (pu_bs (pu_F N R st jb u) st i) (pu_bj (pu_F N R st jb u) jb i) (pu_bo (pu_F N R st jb u) ou i) ag wi us au hu kq tq pq sq fq yj ys yo := by
    intro fq hB m
    induction m with
    | zero =>
      intro i hi
      have e : i = N := by omega
      subst e
      rw [wY_fall_94]; dsimp only
      rw [nI_clamp (n := u) (by omega)]
      refine br_t (nI_le (Nat.le_refl _) (by omega)) ⟨hin, nm_e ⟨hin, nm_e ⟨hin, ?_⟩⟩⟩
      by_cases a0 : au u = 0
      · exact br_t a0 (h0 a0 fq)
      · refine br_f a0 ⟨hin, ?_⟩
        by_cases w0 : wi u = 0
        · exact br_t w0 ⟨hin, nm_e ⟨hin, nm_e (h1 a0 w0 fq)⟩⟩
        · refine br_f w0 ⟨hin, ?_⟩
          by_cases b0 : tB ≤ us u
          · exact br_t b0 (h2 a0 w0 b0 fq)
          · exact br_f b0 ⟨hin, hin, nm_e (h3 a0 w0 b0 fq)⟩
    | succ m ih =>
      intro i hi
      have ih := ih (i + 1) (by omega)
      have hii : vp_in (nI i) 12 := vp_in_nI (by omega) (by omega)
      have ej : pu_bj (pu_F N R st jb u) jb i i = jb i := pu_par_at
      rw [wY_fall_94]; dsimp only
      rw [nI_clamp (n := i) (by omega), ej]
      refine br_f (nI_ge (by omega) (by omega)) ⟨hii, pu_brc (hB i (by omega)) (fun z => ?_) (fun z => ?_)⟩
      · have e1 : pu_bs (pu_F N R st jb u) st (i + 1) = pu_bs (pu_F N R st jb u) st i := pu_par_n (by show (pu_F N R st jb u i && _) = false; rw [z]; rfl)
        have e2 : pu_bj (pu_F N R st jb u) jb (i + 1) = pu_bj (pu_F N R st jb u) jb i := pu_par_n (by show (pu_F N R st jb u i && _) = false; rw [z]; rfl)
        have e3 : pu_bo (pu_F N R st jb u) ou (i + 1) = pu_bo (pu_F N R st jb u) ou i := pu_par_n z
        have e4 : pu_ct (pu_F N R st jb u) (i + 1) = pu_ct (pu_F N R st jb u) i := by
          rw [pu_ct, z]; exact if_neg (by decide)
        rw [e1, e2, e3, e4] at ih
        exact nm_r (nI_1 i) ih
      · have e4 : pu_ct (pu_F N R st jb u) i + 1 = pu_ct (pu_F N R st jb u) (i + 1) := by
          rw [pu_ct, z]; exact (if_pos rfl).symm
        refine nm_r e4 ⟨hii, yy_isUp (pu_br (fun a => ?_) (fun a => ?_))⟩
        · have e2 : pu_bj (pu_F N R st jb u) jb (i + 1) = pu_bj (pu_F N R st jb u) jb i := pu_par_n (by show (pu_F N R st jb u i && _) = false; rw [a, Bool.and_false])
          rw [e2] at ih
          exact yy_f141 (by omega) z ih
        · have e2 : upd (pu_bj (pu_F N R st jb u) jb i) i 0 = pu_bj (pu_F N R st jb u) jb (i + 1) := pu_par_y (by show (pu_F N R st jb u i && _) = true; rw [a, z]; rfl) rfl
          exact ⟨hii, nm_r e2 (yy_f141 (by omega) z ih)⟩
  unfold wpY_fall
  refine Exists.intro 13 (yy_f2 (by omega) (fun fq1 hB1 => Exists.intro 13 (yy_f32 (S := fun j => decide (j = u)) hN hR hF (fun fq2 hB2 => ?_) 12 0 fq1 (by omega) hB1)) 12 0 fq (by omega) pu_BB_0)
  rw [pu_F12 hN hu2] at hB2
  have := lp fq2 hB2 N 0 (by omega)
  have e1 : pu_bs (pu_F N R st jb u) st 0 = st := pu_par_0
  have e2 : pu_bj (pu_F N R st jb u) jb 0 = jb := pu_par_0
  have e3 : pu_bo (pu_F N R st jb u) ou 0 = ou := pu_par_0
  rw [e1, e2, e3] at this
  exact Exists.intro (N + 1) this
end
end
section
/-! falls and time in lockstep -/
def pu_Wok (N : Nat) (wi : Nat → Int32) : Prop := ∀ x, x < N → ∃ w : Nat, w < 2 ^ 31 ∧ wi x = nI w
theorem pu_Wok_u {N : Nat} {wi : Nat → Int32} {u : Nat} {v : Int32} (h : pu_Wok N wi) (hv : ∃ w : Nat, w < 2 ^ 31 ∧ v = nI w) : pu_Wok N (upd wi u v) := fun x hx => by
  by_cases c : x = u
  · subst c; rw [pk_us]; exact hv
  · rw [pk_un c]; exact h x hx
section
variable {N : Nat} {tT tW tB : Int32} {fo ba re st jb ou ag wi us au : Nat → Int32}
theorem lk_fall {R : Nat → Nat → Nat → Bool} {u : Nat} {o : Int32} (hN : N ≤ 12) (hR : pu_Rok N R) (hJ : pu_Jok N jb) (hW : pu_Wok N wi) (hT : ∃ w : Nat, w < 2 ^ 31 ∧ tW = nI w) (hu0 : u < N) : ∃ (c : Int32) (st' jb' ou' wi' us' : Nat → Int32), pu_Jok N jb' ∧ pu_Wok N wi' ∧
    (∀ (post : Int32 → SX → Prop) (pc qj qs qr : Int32) (kp tr pu ps pj po : Nat → Int32), pu_XF R fo ba → (∀ (pc' qj' qs' qr' : Int32) (kp' tr' pu' ps' pj' po' : Nat → Int32), post c (nI N, tT, tW, tB, pc', qj', qs', qr', fo, ba, st', jb', ou', ag, wi', us', au, kp', tr', pu', ps', pj', po')) → wpX_fall post (nI N, tT, tW, tB, pc, qj, qs, qr, fo, ba, st, jb, ou, ag, wi, us, au, kp, tr, pu, ps, pj, po) (nI u) o) ∧
    (∀ (post : Int32 → SY → Prop) (hu kq tq pq sq fq yj ys yo : Nat → Int32), pu_YF N R re → (∀ (hu' kq' tq' pq' sq' fq' yj' ys' yo' : Nat → Int32), post c (nI N, tT, tW, tB, re, st', jb', ou', ag, wi', us', au, hu', kq', tq', pq', sq', fq', yj', ys', yo')) → wpY_fall post (nI N, tT, tW, tB, re, st, jb, ou, ag, wi, us, au, hu, kq, tq, pq, sq, fq, yj, ys, yo) (nI u) o) := by
  have hJ1 : pu_Jok N (pu_bj (pu_F N R st jb u) jb N) := pu_bj_Jok hJ N
  by_cases a0 : au u = 0
  · refine ⟨pu_ct (pu_F N R st jb u) N, upd (pu_bs (pu_F N R st jb u) st N) u 3, pu_bj (pu_F N R st jb u) jb N, upd (pu_bo (pu_F N R st jb u) ou N) u o, wi, us, hJ1, hW, fun post pc qj qs qr kp tr pu ps pj po hX h => ?_, fun post hu kq tq pq sq fq yj ys yo hF h => ?_⟩
    · exact xx_fall hN hR hX hu0 (fun _ => h pc qj qs qr kp tr pu ps pj po) (fun z => absurd a0 z) (fun z => absurd a0 z) (fun z => absurd a0 z)
    · exact yy_fall hN hR hF hu0 (fun _ fq' => h _ _ _ _ _ _ _ _ _) (fun z => absurd a0 z) (fun z => absurd a0 z) (fun z => absurd a0 z)
  · by_cases w0 : wi u = 0
    · obtain ⟨c, st', jb', ou', j', XT, YT⟩ := lk_tr (tT := tT) (tW := tW) (tB := tB) (fo := fo) (ba := ba) (re := re) (st := upd (pu_bs (pu_F N R st jb u) st N) u 3) (ou := upd (pu_bo (pu_F N R st jb u) ou N) u o) (ag := ag) (wi := upd wi u tW) (us := upd us u 1) (au := au) (mode := 0) (kind := 1) hN hR hJ1 (by omega) (by omega) hu0
      refine ⟨pu_ct (pu_F N R st jb u) N, st', jb', ou', upd wi u tW, upd us u 1, j', pu_Wok_u hW hT, fun post pc qj qs qr kp tr pu ps pj po hX h => ?_, fun post hu kq tq pq sq fq yj ys yo hF h => ?_⟩
      · exact xx_fall hN hR hX hu0 (fun z => absurd z a0) (fun _ _ => XT _ pc qj qs qr kp tr pu ps pj po hX h) (fun _ z => absurd w0 z) (fun _ z => absurd w0 z)
      · exact yy_fall hN hR hF hu0 (fun z => absurd z a0) (fun _ _ fq' => YT _ _ _ _ _ _ _ _ _ _ hF h) (fun _ z => absurd w0 z) (fun _ z => absurd w0 z)
    · by_cases b0 : tB ≤ us u
      · refine ⟨pu_ct (pu_F N R st jb u) N, upd (pu_bs (pu_F N R st jb u) st N) u 3, pu_bj (pu_F N R st jb u) jb N, upd (pu_bo (pu_F N R st jb u) ou N) u o, wi, us, hJ1, hW, fun post pc qj qs qr kp tr pu ps pj po hX h => ?_, fun post hu kq tq pq sq fq yj ys yo hF h => ?_⟩
        · exact xx_fall hN hR hX hu0 (fun z => absurd z a0) (fun _ z => absurd z w0) (fun _ _ _ => h pc qj qs qr kp tr pu ps pj po) (fun _ _ z => absurd b0 z)
        · exact yy_fall hN hR hF hu0 (fun z => absurd z a0) (fun _ z => absurd z w0) (fun _ _ _ fq' => h _ _ _ _ _ _ _ _ _) (fun _ _ z => absurd b0 z)
      · obtain ⟨c, st', jb', ou', j', XT, YT⟩ := lk_tr (tT := tT) (tW := tW) (tB := tB) (fo := fo) (ba := ba) (re := re) (st := upd (pu_bs (pu_F N R st jb u) st N) u 3) (ou := upd (pu_bo (pu_F N R st jb u) ou N) u o) (ag := ag) (wi := wi) (us := upd us u (us u + 1)) (au := au) (mode := 0) (kind := 1) hN hR hJ1 (by omega) (by omega) hu0
        refine ⟨pu_ct (pu_F N R st jb u) N, st', jb', ou', wi, upd us u (us u + 1), j', hW, fun post pc qj qs qr kp tr pu ps pj po hX h => ?_, fun post hu kq tq pq sq fq yj ys yo hF h => ?_⟩
        · exact xx_fall hN hR hX hu0 (fun z => absurd z a0) (fun _ z => absurd z w0) (fun _ _ z => absurd z b0) (fun _ _ _ => XT _ pc qj qs qr kp tr pu ps pj po hX h)
        · exact yy_fall hN hR hF hu0 (fun z => absurd z a0) (fun _ z => absurd z w0) (fun _ _ z => absurd z b0) (fun _ _ _ fq' => YT _ _ _ _ _ _ _ _ _ _ hF h)
theorem lk_tick {R : Nat → Nat → Nat → Bool} (hN : N ≤ 12) (hR : pu_Rok N R) (hT : ∃ w : Nat, w < 2 ^ 31 ∧ tW = nI w) : ∀ (m i : Nat) (c : Int32) (st jb ou wi us : Nat → Int32), i + m = N → pu_Jok N jb → pu_Wok N wi → ∃ (c' : Int32) (st' jb' ou' wi' us' : Nat → Int32), pu_Jok N jb' ∧ pu_Wok N wi' ∧
    (∀ (post : Int32 → SX → Prop) (pc qj qs qr : Int32) (kp tr pu ps pj po : Nat → Int32), pu_XF R fo ba → (∀ (pc' qj' qs' qr' : Int32) (kp' tr' pu' ps' pj' po' : Nat → Int32), post c' (nI N, tT, tW, tB, pc', qj', qs', qr', fo, ba, st', jb', ou', ag, wi', us', au, kp', tr', pu', ps', pj', po')) → wX_tick_12 post (m + 1) c (nI i) (nI N) tT tW tB pc qj qs qr fo ba st jb ou ag wi us au kp tr pu ps pj po) ∧
    (∀ (post : Int32 → SY → Prop) (hu kq tq pq sq fq yj ys yo : Nat → Int32), pu_YF N R re → (∀ (hu' kq' tq' pq' sq' fq' yj' ys' yo' : Nat → Int32), post c' (nI N, tT, tW, tB, re, st', jb', ou', ag, wi', us', au, hu', kq', tq', pq', sq', fq', yj', ys', yo')) → wY_tick_94 post (m + 1) c (nI i) (nI N) tT tW tB re st jb ou ag wi us au hu kq tq pq sq fq yj ys yo) := by
  intro m
  induction m with
  | zero =>
    intro i c st jb ou wi us hi hJ hW
    have e : i = N := by omega
    subst e
    refine ⟨c, st, jb, ou, wi, us, hJ, hW, fun post pc qj qs qr kp tr pu ps pj po hX h => ?_, fun post hu kq tq pq sq fq yj ys yo hF h => ?_⟩
    · exact br_t (nI_le (Nat.le_refl _) (by omega)) (h pc qj qs qr kp tr pu ps pj po)
    · exact br_t (nI_le (Nat.le_refl _) (by omega)) (h hu kq tq pq sq fq yj ys yo)
  | succ m ih =>
    intro i c st jb ou wi us hi hJ hW
    have hin : vp_in (nI i) 12 := vp_in_nI (by omega) (by omega)
    by_cases s1 : st i = 1
    · by_cases a1 : ag i < tT
      · obtain ⟨c', st', jb', ou', wi', us', j', w', XA, YA⟩ := ih (i + 1) c st jb ou wi us (by omega) hJ hW
        refine ⟨c', st', jb', ou', wi', us', j', w', fun post pc qj qs qr kp tr pu ps pj po hX h => ?_, fun post hu kq tq pq sq fq yj ys yo hF h => ?_⟩
        · rw [wX_tick_12]; dsimp only
          rw [nI_clamp (n := i) (by omega)]
          exact br_f (nI_ge (by omega) (by omega)) ⟨hin, br_t s1 ⟨hin, br_t a1 (nm_r (nI_1 i) (XA post pc qj qs qr kp tr pu ps pj po hX h))⟩⟩
        · rw [wY_tick_94]; dsimp only
          rw [nI_clamp (n := i) (by omega)]
          exact br_f (nI_ge (by omega) (by omega)) ⟨hin, br_t s1 ⟨hin, br_t a1 (nm_r (nI_1 i) (YA post hu kq tq pq sq fq yj ys yo hF h))⟩⟩
      · obtain ⟨cf, st1, jb1, ou1, wi1, us1, j1, w1, XF, YF⟩ := lk_fall (tT := tT) (tB := tB) (fo := fo) (ba := ba) (re := re) (st := st) (ou := ou) (ag := ag) (us := us) (au := au) (o := 3) (u := i) hN hR hJ hW hT (by omega)
        obtain ⟨c', st', jb', ou', wi', us', j', w', XA, YA⟩ := ih (i + 1) (c + 1) st1 jb1 ou1 wi1 us1 (by omega) j1 w1
        refine ⟨c', st', jb', ou', wi', us', j', w', fun post pc qj qs qr kp tr pu ps pj po hX h => ?_, fun post hu kq tq pq sq fq yj ys yo hF h => ?_⟩
        · rw [wX_tick_12]; dsimp only
          rw [nI_clamp (n := i) (by omega)]
          exact br_f (nI_ge (by omega) (by omega)) ⟨hin, br_t s1 ⟨hin, br_f a1 (XF _ pc qj qs qr kp tr pu ps pj po hX (fun pc2 qj2 qs2 qr2 kp2 tr2 pu2 ps2 pj2 po2 => nm_e (nm_r (nI_1 i) (XA post pc2 qj2 qs2 qr2 kp2 tr2 pu2 ps2 pj2 po2 hX h))))⟩⟩
        · rw [wY_tick_94]; dsimp only
          rw [nI_clamp (n := i) (by omega)]
          exact br_f (nI_ge (by omega) (by omega)) ⟨hin, br_t s1 ⟨hin, br_f a1 (YF _ hu kq tq pq sq fq yj ys yo hF (fun hu2 kq2 tq2 pq2 sq2 fq2 yj2 ys2 yo2 => nm_e (nm_r (nI_1 i) (YA post hu2 kq2 tq2 pq2 sq2 fq2 yj2 ys2 yo2 hF h))))⟩⟩
    · obtain ⟨c', st', jb', ou', wi', us', j', w', XA, YA⟩ := ih (i + 1) c st jb ou wi us (by omega) hJ hW
      refine ⟨c', st', jb', ou', wi', us', j', w', fun post pc qj qs qr kp tr pu ps pj po hX h => ?_, fun post hu kq tq pq sq fq yj ys yo hF h => ?_⟩
      · rw [wX_tick_12]; dsimp only
        rw [nI_clamp (n := i) (by omega)]
        exact br_f (nI_ge (by omega) (by omega)) ⟨hin, br_f s1 (nm_r (nI_1 i) (XA post pc qj qs qr kp tr pu ps pj po hX h))⟩
      · rw [wY_tick_94]; dsimp only
        rw [nI_clamp (n := i) (by omega)]
        exact br_f (nI_ge (by omega) (by omega)) ⟨hin, br_f s1 (nm_r (nI_1 i) (YA post hu kq tq pq sq fq yj ys yo hF h))⟩
end
/-! ages and windows -/
def pu_ga (st ag : Nat → Int32) (i : Nat) : Nat → Int32 := pu_par i (fun x => decide (st x = 1)) (fun x => ag x + 1) ag
def pu_gw (wi : Nat → Int32) (i : Nat) : Nat → Int32 := pu_par i (fun x => !decide (wi x = 0)) (fun x => wi x - 1) wi
def pu_gu (wi us : Nat → Int32) (i : Nat) : Nat → Int32 := pu_par i (fun x => !decide (wi x = 0) && decide (wi x - 1 = 0)) (fun _ => 0) us
theorem pu_gw_Wok {N : Nat} {wi : Nat → Int32} (h : pu_Wok N wi) (i : Nat) : pu_Wok N (pu_gw wi i) := fun x hx => by
  obtain ⟨w, hw, e⟩ := h x hx
  unfold pu_gw pu_par
  split
  · next z =>
    rw [Bool.and_eq_true] at z
    have z0 : ¬ wi x = 0 := by simpa using z.2
    cases w with
    | zero => exact absurd e z0
    | succ w => exact ⟨w, by omega, by show wi x - 1 = nI w; rw [e, nI_pred]⟩
  · exact ⟨w, hw, e⟩
theorem pu_le0 {x : Int32} (h : ∃ w : Nat, w < 2 ^ 31 ∧ x = nI w) : x ≤ 0 ↔ x = 0 := by
  obtain ⟨w, hw, rfl⟩ := h
  show nI w ≤ nI 0 ↔ nI w = nI 0
  rw [nI_leI hw (by omega), nI_eq hw (by omega)]
  omega
section
variable {N : Nat} {tT tW tB pc qj qs qr : Int32} {fo ba st jb ou ag wi us au kp tr pu ps pj po : Nat → Int32}
theorem xx_ga_lp {post : SX → Prop} {ag0 : Nat → Int32} (hN : N ≤ 12) (h : post (nI N, tT, tW, tB, pc, qj, qs, qr, fo, ba, st, jb, ou, pu_ga st ag0 N, wi, us, au, kp, tr, pu, ps, pj, po)) : ∀ (m i : Nat), i + m = N → wX_growAges_2 post (nI N) tT tW tB pc qj qs qr (m + 1) (nI i) fo ba st jb ou (pu_ga st ag0 i) wi us au kp tr pu ps pj po := by
  intro m
  induction m with
  | zero =>
    intro i hi
    have e : i = N := by omega
    subst e
    exact br_t (nI_le (Nat.le_refl _) (by omega)) h
  | succ m ih =>
    intro i hi
    have ih := ih (i + 1) (by omega)
    have hin : vp_in (nI i) 12 := vp_in_nI (by omega) (by omega)
    have ea : pu_ga st ag0 i i = ag0 i := pu_par_at
    rw [wX_growAges_2]; dsimp only
    rw [nI_clamp (n := i) (by omega), ea]
    refine br_f (nI_ge (by omega) (by omega)) ⟨hin, ?_⟩
    by_cases c : st i = 1
    · have e2 : upd (pu_ga st ag0 i) i (ag0 i + 1) = pu_ga st ag0 (i + 1) := pu_par_y (decide_eq_true c) rfl
      exact br_t c ⟨hin, hin, nm_r e2 (nm_r (nI_1 i) ih)⟩
    · have e2 : pu_ga st ag0 (i + 1) = pu_ga st ag0 i := pu_par_n (decide_eq_false c)
      rw [e2] at ih
      exact br_f c (nm_r (nI_1 i) ih)
theorem xx_ga {post : SX → Prop} (hN : N ≤ 12) (h : post (nI N, tT, tW, tB, pc, qj, qs, qr, fo, ba, st, jb, ou, pu_ga st ag N, wi, us, au, kp, tr, pu, ps, pj, po)) : wpX_growAges post (nI N, tT, tW, tB, pc, qj, qs, qr, fo, ba, st, jb, ou, ag, wi, us, au, kp, tr, pu, ps, pj, po) := by
  have := xx_ga_lp (ag0 := ag) hN h N 0 (by omega)
  have e : pu_ga st ag 0 = ag := pu_par_0
  rw [e] at this
  exact Exists.intro (N + 1) this
theorem xx_gw_lp {post : SX → Prop} {wi0 us0 : Nat → Int32} (hN : N ≤ 12) (hW : pu_Wok N wi0) (h : post (nI N, tT, tW, tB, pc, qj, qs, qr, fo, ba, st, jb, ou, ag, pu_gw wi0 N, pu_gu wi0 us0 N, au, kp, tr, pu, ps, pj, po)) : ∀ (m i : Nat), i + m = N → wX_shrinkWindows_2 post (nI N) tT tW tB pc qj qs qr (m + 1) (nI i) fo ba st jb ou ag (pu_gw wi0 i) (pu_gu wi0 us0 i) au kp tr pu ps pj po := by
  intro m
  induction m with
  | zero =>
    intro i hi
    have e : i = N := by omega
    subst e
    exact br_t (nI_le (Nat.le_refl _) (by omega)) h
  | succ m ih =>
    intro i hi
    have ih := ih (i + 1) (by omega)
    have hin : vp_in (nI i) 12 := vp_in_nI (by omega) (by omega)
    have ea : pu_gw wi0 i i = wi0 i := pu_par_at
    have hz := pu_le0 (hW i (by omega))
    rw [wX_shrinkWindows_2]; dsimp only
    rw [nI_clamp (n := i) (by omega), ea]
    refine br_f (nI_ge (by omega) (by omega)) ⟨hin, ?_⟩
    by_cases c : wi0 i = 0
    · have e2 : pu_gw wi0 (i + 1) = pu_gw wi0 i := pu_par_n (by show (!decide (wi0 i = 0)) = false; rw [decide_eq_true c]; rfl)
      have e3 : pu_gu wi0 us0 (i + 1) = pu_gu wi0 us0 i := pu_par_n (by show (!decide (wi0 i = 0) && _) = false; rw [decide_eq_true c]; rfl)
      rw [e2, e3] at ih
      exact br_t (hz.mpr c) (nm_r (nI_1 i) ih)
    · have e2 : upd (pu_gw wi0 i) i (wi0 i - 1) = pu_gw wi0 (i + 1) := pu_par_y (by show (!decide (wi0 i = 0)) = true; rw [decide_eq_false c]; rfl) rfl
      have e5 : pu_gw wi0 (i + 1) i = wi0 i - 1 := by rw [← e2, pk_us]
      refine br_f (fun z => c (hz.mp z)) ⟨hin, hin, nm_r e2 ⟨hin, ?_⟩⟩
      rw [e5]
      by_cases d : wi0 i - 1 = 0
      · have e3 : upd (pu_gu wi0 us0 i) i 0 = pu_gu wi0 us0 (i + 1) := pu_par_y (by show (!decide (wi0 i = 0) && decide (wi0 i - 1 = 0)) = true; rw [decide_eq_false c, decide_eq_true d]; rfl) rfl
        exact br_t d ⟨hin, nm_r e3 (nm_r (nI_1 i) ih)⟩
      · have e3 : pu_gu wi0 us0 (i + 1) = pu_gu wi0 us0 i := pu_par_n (by show (!decide (wi0 i = 0) && decide (wi0 i - 1 = 0)) = false; rw [decide_eq_false d, Bool.and_false])
        rw [e3] at ih
        exact br_f d (nm_r (nI_1 i) ih)
theorem xx_gw {post : SX → Prop} (hN : N ≤ 12) (hW : pu_Wok N wi) (h : post (nI N, tT, tW, tB, pc, qj, qs, qr, fo, ba, st, jb, ou, ag, pu_gw wi N, pu_gu wi us N, au, kp, tr, pu, ps, pj, po)) : wpX_shrinkWindows post (nI N, tT, tW, tB, pc, qj, qs, qr, fo, ba, st, jb, ou, ag, wi, us, au, kp, tr, pu, ps, pj, po) := by
  have := xx_gw_lp (wi0 := wi) (us0 := us) hN hW h N 0 (by omega)
  have e : pu_gw wi 0 = wi := pu_par_0
  have e2 : pu_gu wi us 0 = us := pu_par_0
  rw [e, e2] at this
  exact Exists.intro (N + 1) this
end
section
variable {N : Nat} {tT tW tB : Int32} {re st jb ou ag wi us au hu kq tq pq sq fq yj ys yo : Nat → Int32}
theorem yy_gw_lp {post : Int32 → SY → Prop} {x1 : Int32} {wi0 us0 : Nat → Int32} (hN : N ≤ 12) (h : ∃ n, wY_tick_94 post n x1 0 (nI N) tT tW tB re st jb ou ag (pu_gw wi0 N) (pu_gu wi0 us0 N) au hu kq tq pq sq fq yj ys yo) : ∀ (m i : Nat), i + m = N → wY_tick_40 post x1 (nI N) tT tW tB (m + 1) (nI i) re st jb ou ag (pu_gw wi0 i) (pu_gu wi0 us0 i) au hu kq tq pq sq fq yj ys yo := by
  intro m
  induction m with
  | zero =>
    intro i hi
    have e : i = N := by omega
    subst e
    exact br_t (nI_le (Nat.le_refl _) (by omega)) h
  | succ m ih =>
    intro i hi
    have ih := ih (i + 1) (by omega)
    have hin : vp_in (nI i) 12 := vp_in_nI (by omega) (by omega)
    have ea : pu_gw wi0 i i = wi0 i := pu_par_at
    rw [wY_tick_40]; dsimp only
    rw [nI_clamp (n := i) (by omega), ea]
    refine br_f (nI_ge (by omega) (by omega)) ⟨hin, ?_⟩
    by_cases c : wi0 i = 0
    · have e2 : pu_gw wi0 (i + 1) = pu_gw wi0 i := pu_par_n (by show (!decide (wi0 i = 0)) = false; rw [decide_eq_true c]; rfl)
      have e3 : pu_gu wi0 us0 (i + 1) = pu_gu wi0 us0 i := pu_par_n (by show (!decide (wi0 i = 0) && _) = false; rw [decide_eq_true c]; rfl)
      rw [e2, e3] at ih
      exact br_t c (nm_r (nI_1 i) ih)
    · have e2 : upd (pu_gw wi0 i) i (wi0 i - 1) = pu_gw wi0 (i + 1) := pu_par_y (by show (!decide (wi0 i = 0)) = true; rw [decide_eq_false c]; rfl) rfl
      have e5 : pu_gw wi0 (i + 1) i = wi0 i - 1 := by rw [← e2, pk_us]
      refine br_f c ⟨hin, hin, nm_r e2 ⟨hin, ?_⟩⟩
      rw [e5]
      by_cases d : wi0 i - 1 = 0
      · have e3 : upd (pu_gu wi0 us0 i) i 0 = pu_gu wi0 us0 (i + 1) := pu_par_y (by show (!decide (wi0 i = 0) && decide (wi0 i - 1 = 0)) = true; rw [decide_eq_false c, decide_eq_true d]; rfl) rfl
        exact br_t d ⟨hin, nm_r e3 (nm_r (nI_1 i) ih)⟩
      · have e3 : pu_gu wi0 us0 (i + 1) = pu_gu wi0 us0 i := pu_par_n (by show (!decide (wi0 i = 0) && decide (wi0 i - 1 = 0)) = false; rw [decide_eq_false d, Bool.and_false])
        rw [e3] at ih
        exact br_f d (nm_r (nI_1 i) ih)
theorem yy_ga_lp {post : Int32 → SY → Prop} {x1 : Int32} {ag0 : Nat → Int32} (hN : N ≤ 12) (h : ∃ n, wY_tick_40 post x1 (nI N) tT tW tB n 0 re st jb ou (pu_ga st ag0 N) wi us au hu kq tq pq sq fq yj ys yo) : ∀ (m i : Nat), i + m = N → wY_tick_4 post x1 (nI N) tT tW tB (m + 1) (nI i) re st jb ou (pu_ga st ag0 i) wi us au hu kq tq pq sq fq yj ys yo := by
  intro m
  induction m with
  | zero =>
    intro i hi
    have e : i = N := by omega
    subst e
    exact br_t (nI_le (Nat.le_refl _) (by omega)) h
  | succ m ih =>
    intro i hi
    have ih := ih (i + 1) (by omega)
    have hin : vp_in (nI i) 12 := vp_in_nI (by omega) (by omega)
    have ea : pu_ga st ag0 i i = ag0 i := pu_par_at
    rw [wY_tick_4]; dsimp only
    rw [nI_clamp (n := i) (by omega), ea]
    refine br_f (nI_ge (by omega) (by omega)) ⟨hin, ?_⟩
    by_cases c : st i = 1
    · have e2 : upd (pu_ga st ag0 i) i (ag0 i + 1) = pu_ga st ag0 (i + 1) := pu_par_y (decide_eq_true c) rfl
      exact br_t c ⟨hin, hin, nm_r e2 (nm_r (nI_1 i) ih)⟩
    · have e2 : pu_ga st ag0 (i + 1) = pu_ga st ag0 i := pu_par_n (decide_eq_false c)
      rw [e2] at ih
      exact br_f c (nm_r (nI_1 i) ih)
end
end
section
/-! steps, what is ahead, relating -/
theorem pu_add1 {x : Int32} {i : Nat} (hi : i < 32) (h : bt x i = false) : x + ((1 : Int32) <<< (nI i &&& 31)) = x ||| ((1 : Int32) <<< (nI i &&& 31)) := by
  have hz : x &&& ((1 : Int32) <<< (nI i &&& 31)) = 0 := by
    refine pu_b0.mpr (fun b hb => ?_)
    rw [b_and, pu_b1 hi hb]
    by_cases c : b = i
    · subst c; rw [h]; rfl
    · rw [decide_eq_false c, Bool.and_false]
  have hz2 : x.toBitVec &&& ((1 : Int32) <<< (nI i &&& 31)).toBitVec = 0#32 := by
    rw [← Int32.toBitVec_and, hz]; rfl
  apply Int32.toBitVec_inj.mp
  rw [Int32.toBitVec_add, Int32.toBitVec_or]
  exact BitVec.add_eq_or_of_and_eq_zero _ _ hz2
section
variable {N : Nat} {tT tW tB : Int32} {re st jb ou ag wi us au hu kq tq pq sq fq yj ys yo : Nat → Int32}
theorem yy_ah54 {post : Int32 → SY → Prop} {R : Nat → Nat → Nat → Bool} {u : Nat} (hN : N ≤ 12) (hR : pu_Rok N R) (hF : pu_YF N R re) (hu2 : u < N) (h : ∀ r, (∀ b, b < 32 → bt r b = pu_P R yj ys b u) → post r (nI N, tT, tW, tB, re, st, jb, ou, ag, wi, us, au, hu, kq, tq, pq, sq, fq, yj, ys, yo)) : ∀ (m i : Nat) (x2 : Int32), i + m = N → (∀ b, b < 32 → bt x2 b = (decide (b < i) && pu_P R yj ys b u)) → wY_ahead_54 post (nI u) (nI N) tT tW tB re st jb ou ag wi us au hu kq tq pq sq fq yj ys yo (m + 1) x2 (nI i) := by
  intro m
  induction m with
  | zero =>
    intro i x2 hi hx
    have e : i = N := by omega
    subst e
    refine br_t (nI_le (Nat.le_refl _) (by omega)) (h x2 (fun b hb => ?_))
    rw [hx b hb]
    cases z : pu_P R yj ys b u
    · rw [Bool.and_false]
    · rw [decide_eq_true (pu_P_in hR z).1]; rfl
  | succ m ih =>
    intro i x2 hi hx
    rw [wY_ahead_54]; dsimp only
    refine br_f (nI_ge (by omega) (by omega)) (yy_ia hN hR hF (by omega) (by omega) (pu_br (fun z => ?_) (fun z => ?_)))
    · refine nm_r (nI_1 i) (ih (i + 1) x2 (by omega) (fun b hb => ?_))
      rw [hx b hb]
      by_cases c : b = i
      · subst c; rw [z, Bool.and_false, Bool.and_false]
      · rw [pu_lt1 c]
    · have h0 : bt x2 i = false := by
        rw [hx i (by omega), decide_eq_false (Nat.lt_irrefl i)]; rfl
      refine nm_r (pu_add1 (by omega) h0) (nm_r (nI_1 i) (ih (i + 1) _ (by omega) (fun b hb => ?_)))
      rw [pu_or1 (by omega) hb, hx b hb]
      by_cases c : b = i
      · subst c
        rw [z, decide_eq_true rfl, decide_eq_true (Nat.lt_succ_self b), Bool.or_true]; rfl
      · rw [pu_lt1 c, decide_eq_false c, Bool.or_false]
theorem yy_ah12 {post : Int32 → SY → Prop} {R : Nat → Nat → Nat → Bool} {u : Nat} (hN : N ≤ 12) (hR : pu_Rok N R) (hF : pu_YF N R re) (hu2 : u < N) (h : ∀ r yj' ys', (∀ b, b < 32 → bt r b = pu_P R jb st b u) → post r (nI N, tT, tW, tB, re, st, jb, ou, ag, wi, us, au, hu, kq, tq, pq, sq, fq, yj', ys', yo)) : ∀ (m i : Nat) (yj ys : Nat → Int32), i + m = N → (∀ b, b < i → yj b = jb b ∧ ys b = st b) → wY_ahead_12 post (nI u) (nI N) tT tW tB (m + 1) (nI i) re st jb ou ag wi us au hu kq tq pq sq fq yj ys yo := by
  intro m
  induction m with
  | zero =>
    intro i yj ys hi hq
    have e : i = N := by omega
    subst e
    refine br_t (nI_le (Nat.le_refl _) (by omega)) (Exists.intro (i + 1) (yy_ah54 hN hR hF hu2 (fun r hr => h r yj ys (fun b hb => ?_)) i 0 0 (by omega) (fun b _ => ?_)))
    · rw [hr b hb]
      exact pu_P_congr hR (fun x hx => (hq x hx).1) (fun x hx => (hq x hx).2) b u
    · rw [b_0, decide_eq_false (Nat.not_lt_zero b)]; rfl
  | succ m ih =>
    intro i yj ys hi hq
    have hin : vp_in (nI i) 12 := vp_in_nI (by omega) (by omega)
    rw [wY_ahead_12]; dsimp only
    rw [nI_clamp (n := i) (by omega)]
    refine br_f (nI_ge (by omega) (by omega)) ⟨hin, hin, nm_e ⟨hin, hin, nm_e (nm_r (nI_1 i) (ih (i + 1) _ _ (by omega) (fun b hb => ?_)))⟩⟩
    by_cases c : b = i
    · subst c; exact ⟨pk_us, pk_us⟩
    · rw [pk_un c, pk_un c]; exact hq b (by omega)
theorem yy_ah {post : Int32 → SY → Prop} {R : Nat → Nat → Nat → Bool} {u : Nat} (hN : N ≤ 12) (hR : pu_Rok N R) (hF : pu_YF N R re) (hu2 : u < N) (h : ∀ r yj' ys', (∀ b, b < 32 → bt r b = pu_P R jb st b u) → post r (nI N, tT, tW, tB, re, st, jb, ou, ag, wi, us, au, hu, kq, tq, pq, sq, fq, yj', ys', yo)) : wpY_ahead post (nI N, tT, tW, tB, re, st, jb, ou, ag, wi, us, au, hu, kq, tq, pq, sq, fq, yj, ys, yo) (nI u) := by
  unfold wpY_ahead
  exact yy_inR hN hu2 (br_f pu_l1_0 (Exists.intro (N + 1) (yy_ah12 hN hR hF hu2 h N 0 yj ys (by omega) (fun b hb => absurd hb (Nat.not_lt_zero b)))))
end
/-- may x be carried out -/
def pu_rdy (N : Nat) (R : Nat → Nat → Nat → Bool) (st jb : Nat → Int32) (x : Nat) : Bool := !decide (jb x = 0) && !decide (st x = 1) && !pu_ex (fun i => pu_P R jb st i x) N
theorem pu_P_z {N : Nat} {R : Nat → Nat → Nat → Bool} {J S : Nat → Int32} {x : Nat} {r : Int32} (hN : N ≤ 12) (hR : pu_Rok N R) (hr : ∀ b, b < 32 → bt r b = pu_P R J S b x) : ∀ b, b < 32 → bt r b = (decide (b < N) && pu_P R J S b x) := fun b hb => by
  rw [hr b hb]
  cases z : pu_P R J S b x
  · rw [Bool.and_false]
  · rw [decide_eq_true (pu_P_in hR z).1]; rfl
/-- the outcome of carrying out x -/
def pu_cs (st jb : Nat → Int32) (x : Nat) : Nat → Int32 := if jb x = 2 then upd st x 0 else if jb x = 1 ∧ st x = 2 then st else upd st x 1
def pu_cj (st jb : Nat → Int32) (x : Nat) : Nat → Int32 := if jb x = 2 then upd jb x 0 else if jb x = 1 ∧ st x = 2 then upd jb x 0 else jb
def pu_cu (st jb ou : Nat → Int32) (x : Nat) : Nat → Int32 := if jb x = 2 then upd ou x 1 else if jb x = 1 ∧ st x = 2 then upd ou x 1 else ou
def pu_cg (st jb ag : Nat → Int32) (x : Nat) : Nat → Int32 := if jb x = 2 then ag else if jb x = 1 ∧ st x = 2 then ag else upd ag x 0
theorem pu_J0_Jok {N : Nat} {jb : Nat → Int32} (h : pu_Jok N jb) (x : Nat) : pu_Jok N (upd jb x 0) := fun y hy => by
  by_cases c : y = x
  · subst c; rw [pk_us]; exact Or.inl rfl
  · rw [pk_un c]; exact h y hy
theorem pu_cj_Jok {N : Nat} {st jb : Nat → Int32} {x : Nat} (h : pu_Jok N jb) : pu_Jok N (pu_cj st jb x) := by
  unfold pu_cj
  split
  · exact pu_J0_Jok h x
  · split
    · exact pu_J0_Jok h x
    · exact h
section
variable {N : Nat} {tT tW tB pc qj qs qr : Int32} {fo ba st jb ou ag wi us au kp tr pu ps pj po : Nat → Int32}
theorem xx_car {post : SX → Prop} {x : Nat} (hx : x < 12) (h : post (nI N, tT, tW, tB, pc, qj, qs, qr, fo, ba, pu_cs st jb x, pu_cj st jb x, pu_cu st jb ou x, pu_cg st jb ag x, wi, us, au, kp, tr, pu, ps, pj, po)) : wpX_carryOut post (nI N, tT, tW, tB, pc, qj, qs, qr, fo, ba, st, jb, ou, ag, wi, us, au, kp, tr, pu, ps, pj, po) (nI x) := by
  have hin : vp_in (nI x) 12 := vp_in_nI hx (by omega)
  unfold pu_cs pu_cj pu_cu pu_cg at h
  unfold wpX_carryOut wpX_completeJob wX_carryOut_53; dsimp only
  rw [nI_clamp (n := x) (by omega)]
  refine ⟨hin, ?_⟩
  by_cases j2 : jb x = 2
  · rw [if_pos j2, if_pos j2, if_pos j2, if_pos j2] at h
    exact br_t j2 ⟨hin, nm_e ⟨hin, nm_e ⟨hin, nm_e h⟩⟩⟩
  · rw [if_neg j2, if_neg j2, if_neg j2, if_neg j2] at h
    refine br_f j2 ⟨hin, ?_⟩
    by_cases j1 : jb x = 1
    · refine br_t j1 ⟨hin, ?_⟩
      by_cases s2 : st x = 2
      · rw [if_pos ⟨j1, s2⟩, if_pos ⟨j1, s2⟩, if_pos ⟨j1, s2⟩, if_pos ⟨j1, s2⟩] at h
        exact br_t s2 ⟨hin, nm_e ⟨hin, nm_e h⟩⟩
      · rw [if_neg (fun z => s2 z.2), if_neg (fun z => s2 z.2), if_neg (fun z => s2 z.2), if_neg (fun z => s2 z.2)] at h
        exact br_f s2 ⟨hin, nm_e ⟨hin, nm_e h⟩⟩
    · rw [if_neg (fun z => j1 z.1), if_neg (fun z => j1 z.1), if_neg (fun z => j1 z.1), if_neg (fun z => j1 z.1)] at h
      exact br_f j1 ⟨hin, nm_e ⟨hin, nm_e h⟩⟩
theorem xx_step_lp {post : Int32 → SX → Prop} {R : Nat → Nat → Nat → Bool} {x1 : Int32} (hN : N ≤ 12) (hR : pu_Rok N R) (hX : pu_XF R fo ba) (hJ : pu_Jok N jb) (hq : pu_QB N jb st qj qs qr) (hx1 : ∀ b, b < N → bt x1 b = (!decide (jb b = 0) && !decide (st b = 1))) : ∀ (m i : Nat), i + m = N → (pu_ff (pu_rdy N R st jb) m i = none → post (-1) (nI N, tT, tW, tB, pc, qj, qs, qr, fo, ba, st, jb, ou, ag, wi, us, au, kp, tr, pu, ps, pj, po)) → (∀ w, pu_ff (pu_rdy N R st jb) m i = some w → post (nI w) (nI N, tT, tW, tB, pc, qj, qs, qr, fo, ba, pu_cs st jb w, pu_cj st jb w, pu_cu st jb ou w, pu_cg st jb ag w, wi, us, au, kp, tr, pu, ps, pj, po)) → wX_step_18 post x1 (nI N) tT tW tB pc qj qs qr fo ba st jb ou ag wi us au kp tr pu ps pj po (m + 1) (nI i) := by
  intro m
  induction m with
  | zero =>
    intro i hi h0 _
    have e : i = N := by omega
    subst e
    exact br_t (nI_le (Nat.le_refl _) (by omega)) (h0 rfl)
  | succ m ih =>
    intro i hi h0 h1
    rw [pu_ff] at h0 h1
    have next : pu_rdy N R st jb i = false → wX_step_18 post x1 (nI N) tT tW tB pc qj qs qr fo ba st jb ou ag wi us au kp tr pu ps pj po (m + 1) (nI (i + 1)) := fun z => by
      rw [z, if_neg (by decide)] at h0 h1
      exact ih (i + 1) (by omega) h0 h1
    rw [wX_step_18]; dsimp only
    refine br_f (nI_ge (by omega) (by omega)) (xx_has (by omega) ?_)
    rw [hx1 i (by omega)]
    refine pu_br (fun z => ?_) (fun z => ?_)
    · exact nm_r (nI_1 i) (next (by unfold pu_rdy; rw [z]; rfl))
    · refine xx_ahd hN hR hX hJ hq (by omega) (fun r hr => pu_bz (f := fun b => pu_P R jb st b i) hN (pu_P_z hN hR hr) (fun c => ?_) (fun c => ?_))
      · have hy : pu_rdy N R st jb i = true := by
          unfold pu_rdy
          rw [z, c]; rfl
        exact xx_car (by omega) (h1 i (by rw [hy]; rfl))
      · exact nm_r (nI_1 i) (next (by unfold pu_rdy; rw [c]; simp))
theorem xx_step {post : Int32 → SX → Prop} {R : Nat → Nat → Nat → Bool} (hN : N ≤ 12) (hR : pu_Rok N R) (hX : pu_XF R fo ba) (hJ : pu_Jok N jb) (h0 : pu_ff (pu_rdy N R st jb) N 0 = none → ∀ qj qs qr, post (-1) (nI N, tT, tW, tB, pc, qj, qs, qr, fo, ba, st, jb, ou, ag, wi, us, au, kp, tr, pu, ps, pj, po)) (h1 : ∀ w, pu_ff (pu_rdy N R st jb) N 0 = some w → ∀ qj qs qr, post (nI w) (nI N, tT, tW, tB, pc, qj, qs, qr, fo, ba, pu_cs st jb w, pu_cj st jb w, pu_cu st jb ou w, pu_cg st jb ag w, wi, us, au, kp, tr, pu, ps, pj, po)) : wpX_step post (nI N, tT, tW, tB, pc, qj, qs, qr, fo, ba, st, jb, ou, ag, wi, us, au, kp, tr, pu, ps, pj, po) := by
  unfold wpX_step
  refine xx_lpq hN (fun qj' qs' qr' hq => nm_e (Exists.intro (N + 1) (xx_step_lp hN hR hX hJ hq (fun b hb => ?_) N 0 (by omega) (fun z => h0 z qj' qs' qr') (fun w z => h1 w z qj' qs' qr'))))
  obtain ⟨q1, q2, q3⟩ := hq b (by omega)
  rw [pu_bn _ _ (by omega), q1, q3, decide_eq_true hb]
  cases decide (jb b = 0) <;> cases decide (st b = 1) <;> rfl
end
section
variable {N : Nat} {tT tW tB : Int32} {re st jb ou ag wi us au hu kq tq pq sq fq yj ys yo : Nat → Int32}
theorem yy_step_lp {post : Int32 → SY → Prop} {R : Nat → Nat → Nat → Bool} (hN : N ≤ 12) (hR : pu_Rok N R) (hF : pu_YF N R re) : ∀ (m i : Nat) (yj ys : Nat → Int32), i + m = N → (pu_ff (pu_rdy N R st jb) m i = none → ∀ yj ys, post (-1) (nI N, tT, tW, tB, re, st, jb, ou, ag, wi, us, au, hu, kq, tq, pq, sq, fq, yj, ys, yo)) → (∀ w, pu_ff (pu_rdy N R st jb) m i = some w → ∀ yj ys, post (nI w) (nI N, tT, tW, tB, re, pu_cs st jb w, pu_cj st jb w, pu_cu st jb ou w, pu_cg st jb ag w, wi, us, au, hu, kq, tq, pq, sq, fq, yj, ys, yo)) → wY_step_2 post (m + 1) (nI i) (nI N) tT tW tB re st jb ou ag wi us au hu kq tq pq sq fq yj ys yo := by
  intro m
  induction m with
  | zero =>
    intro i yj ys hi h0 _
    have e : i = N := by omega
    subst e
    exact br_t (nI_le (Nat.le_refl _) (by omega)) (h0 rfl _ _)
  | succ m ih =>
    intro i yj ys hi h0 h1
    rw [pu_ff] at h0 h1
    have hin : vp_in (nI i) 12 := vp_in_nI (by omega) (by omega)
    have next : pu_rdy N R st jb i = false → ∀ yj ys, wY_step_2 post (m + 1) (nI (i + 1)) (nI N) tT tW tB re st jb ou ag wi us au hu kq tq pq sq fq yj ys yo := fun z yj ys => by
      rw [z, if_neg (by decide)] at h0 h1
      exact ih (i + 1) yj ys (by omega) h0 h1
    rw [wY_step_2]; dsimp only
    rw [nI_clamp (n := i) (by omega)]
    refine br_f (nI_ge (by omega) (by omega)) ⟨hin, ?_⟩
    by_cases j0 : jb i = 0
    · exact br_t j0 (nm_r (nI_1 i) (next (by unfold pu_rdy; rw [decide_eq_true j0]; rfl) _ _))
    · refine br_f j0 ⟨hin, ?_⟩
      by_cases s1 : st i = 1
      · exact br_t s1 (nm_r (nI_1 i) (next (by unfold pu_rdy; rw [decide_eq_true s1]; simp) _ _))
      · refine br_f s1 (yy_ah hN hR hF (by omega) (fun r yj' ys' hr => pu_bz (f := fun b => pu_P R jb st b i) hN (pu_P_z hN hR hr) (fun c => ?_) (fun c => ?_)))
        · have hy : pu_rdy N R st jb i = true := by
            unfold pu_rdy
            rw [decide_eq_false j0, decide_eq_false s1, c]; rfl
          have h1 := h1 i (by rw [hy]; rfl) yj' ys'
          unfold pu_cs pu_cj pu_cu pu_cg at h1
          unfold wY_step_70 wY_step_90 wY_step_108
          rw [nI_clamp (n := i) (by omega)]
          refine ⟨hin, ?_⟩
          by_cases j2 : jb i = 2
          · rw [if_pos j2, if_pos j2, if_pos j2, if_pos j2] at h1
            exact br_t j2 ⟨hin, br_t j2 ⟨hin, nm_e ⟨hin, nm_e ⟨hin, nm_e h1⟩⟩⟩⟩
          · rw [if_neg j2, if_neg j2, if_neg j2, if_neg j2] at h1
            refine br_f j2 ⟨hin, ?_⟩
            by_cases j1 : jb i = 1
            · refine br_t j1 ⟨hin, ?_⟩
              by_cases s2 : st i = 2
              · rw [if_pos ⟨j1, s2⟩, if_pos ⟨j1, s2⟩, if_pos ⟨j1, s2⟩, if_pos ⟨j1, s2⟩] at h1
                exact br_t s2 ⟨hin, br_f j2 ⟨hin, nm_r (pu_upself s2).symm ⟨hin, nm_e ⟨hin, nm_e h1⟩⟩⟩⟩
              · rw [if_neg (fun z => s2 z.2), if_neg (fun z => s2 z.2), if_neg (fun z => s2 z.2), if_neg (fun z => s2 z.2)] at h1
                exact br_f s2 ⟨hin, nm_e ⟨hin, nm_e h1⟩⟩
            · rw [if_neg (fun z => j1 z.1), if_neg (fun z => j1 z.1), if_neg (fun z => j1 z.1), if_neg (fun z => j1 z.1)] at h1
              exact br_f j1 ⟨hin, nm_e ⟨hin, nm_e h1⟩⟩
        · exact nm_r (nI_1 i) (next (by unfold pu_rdy; rw [c]; simp) _ _)
theorem yy_step {post : Int32 → SY → Prop} {R : Nat → Nat → Nat → Bool} (hN : N ≤ 12) (hR : pu_Rok N R) (hF : pu_YF N R re) (h0 : pu_ff (pu_rdy N R st jb) N 0 = none → ∀ yj ys, post (-1) (nI N, tT, tW, tB, re, st, jb, ou, ag, wi, us, au, hu, kq, tq, pq, sq, fq, yj, ys, yo)) (h1 : ∀ w, pu_ff (pu_rdy N R st jb) N 0 = some w → ∀ yj ys, post (nI w) (nI N, tT, tW, tB, re, pu_cs st jb w, pu_cj st jb w, pu_cu st jb ou w, pu_cg st jb ag w, wi, us, au, hu, kq, tq, pq, sq, fq, yj, ys, yo)) : wpY_step post (nI N, tT, tW, tB, re, st, jb, ou, ag, wi, us, au, hu, kq, tq, pq, sq, fq, yj, ys, yo) := by
  unfold wpY_step
  exact Exists.intro (N + 1) (yy_step_lp hN hR hF N 0 yj ys (by omega) h0 h1)
end
end
section
/-! relating two units -/
def pu_sR (R : Nat → Nat → Nat → Bool) (k a b : Nat) (on : Bool) : Nat → Nat → Nat → Bool := fun k' a' b' => if k' = k ∧ a' = a ∧ b' = b then on else R k' a' b'
def pu_nR (R : Nat → Nat → Nat → Bool) (k a b : Nat) (on : Bool) : Nat → Nat → Nat → Bool := if k = 4 then pu_sR (pu_sR R k a b on) k b a on else pu_sR R k a b on
theorem pu_XF_s {R : Nat → Nat → Nat → Bool} {fo ba : Nat → Int32} {k a b : Nat} {on : Bool} {v w : Int32} (hX : pu_XF R fo ba) (ha : a < 12) (hb : b < 12) (hv : ∀ i, i < 32 → bt v i = if i = b then on else bt (fo (k * 12 + a)) i) (hw : ∀ i, i < 32 → bt w i = if i = a then on else bt (ba (k * 12 + b)) i) : pu_XF (pu_sR R k a b on) (upd fo (k * 12 + a) v) (upd ba (k * 12 + b) w) := by
  intro k' a' i hk' ha' hi
  obtain ⟨x1, x2⟩ := hX k' a' i hk' ha' hi
  constructor
  · unfold pu_sR
    by_cases c : k' * 12 + a' = k * 12 + a
    · have e1 : k' = k := by omega
      have e2 : a' = a := by omega
      subst e1 e2
      rw [pk_us, hv i hi]
      by_cases c2 : i = b
      · rw [if_pos c2, if_pos ⟨rfl, rfl, c2⟩]
      · rw [if_neg c2, if_neg (fun z => c2 z.2.2)]
        exact x1
    · rw [pk_un c, if_neg (fun z => c (by rw [z.1, z.2.1]))]
      exact x1
  · unfold pu_sR
    by_cases c : k' * 12 + a' = k * 12 + b
    · have e1 : k' = k := by omega
      have e2 : a' = b := by omega
      subst e1 e2
      rw [pk_us, hw i hi]
      by_cases c2 : i = a
      · rw [if_pos c2, if_pos ⟨rfl, c2, rfl⟩]
      · rw [if_neg c2, if_neg (fun z => c2 z.2.1)]
        exact x2
    · rw [pk_un c, if_neg (fun z => c (by rw [z.1, z.2.2]))]
      exact x2
theorem pu_YF_s {N : Nat} {R : Nat → Nat → Nat → Bool} {re : Nat → Int32} {k a b : Nat} {on : Bool} {v : Int32} (hN : N ≤ 12) (hF : pu_YF N R re) (ha : a < 12) (hb : b < 12) (hv : v = pu_bI on) : pu_YF N (pu_sR R k a b on) (upd re (k * 144 + a * 12 + b) v) := by
  subst hv
  intro k' a' b' hk' ha' hb' hne
  unfold pu_sR
  by_cases c : k' * 144 + a' * 12 + b' = k * 144 + a * 12 + b
  · have e1 : k' = k := by omega
    have e2 : a' = a := by omega
    have e3 : b' = b := by omega
    subst e1 e2 e3
    rw [pk_us, if_pos ⟨rfl, rfl, rfl⟩]
  · rw [pk_un c, if_neg (fun z => c (by rw [z.1, z.2.1, z.2.2]))]
    exact hF k' a' b' hk' ha' hb' hne
theorem pu_sR_in {N : Nat} {R : Nat → Nat → Nat → Bool} {k a b : Nat} {on : Bool} (h : ∀ k a b, R k a b = true → a < N ∧ b < N ∧ a ≠ b) (ha : a < N) (hb : b < N) (hne : a ≠ b) : ∀ k' a' b', pu_sR R k a b on k' a' b' = true → a' < N ∧ b' < N ∧ a' ≠ b' := by
  intro k' a' b' z
  unfold pu_sR at z
  by_cases c : k' = k ∧ a' = a ∧ b' = b
  · rw [c.2.1, c.2.2]; exact ⟨ha, hb, hne⟩
  · rw [if_neg c] at z
    exact h _ _ _ z
theorem pu_nR_ok {N : Nat} {R : Nat → Nat → Nat → Bool} {k a b : Nat} {on : Bool} (hR : pu_Rok N R) (ha : a < N) (hb : b < N) (hne : a ≠ b) : pu_Rok N (pu_nR R k a b on) := by
  unfold pu_nR
  by_cases k4 : k = 4
  · subst k4
    rw [if_pos rfl]
    refine ⟨pu_sR_in (pu_sR_in hR.1 ha hb hne) hb ha (Ne.symm hne), fun x y => ?_⟩
    unfold pu_sR
    by_cases c1 : x = b ∧ y = a
    · rw [if_pos ⟨rfl, c1.1, c1.2⟩]
      by_cases c3 : y = b ∧ x = a
      · rw [if_pos ⟨rfl, c3.1, c3.2⟩]
      · rw [if_neg (fun z => c3 z.2), if_pos ⟨rfl, c1.2, c1.1⟩]
    · rw [if_neg (fun z => c1 z.2)]
      by_cases c2 : x = a ∧ y = b
      · rw [if_pos ⟨rfl, c2.1, c2.2⟩, if_pos ⟨rfl, c2.2, c2.1⟩]
      · rw [if_neg (fun z => c2 z.2), if_neg (fun z => c2 ⟨z.2.2, z.2.1⟩), if_neg (fun z => c1 ⟨z.2.2, z.2.1⟩)]
        exact hR.2 x y
  · rw [if_neg k4]
    refine ⟨pu_sR_in hR.1 ha hb hne, fun x y => ?_⟩
    unfold pu_sR
    rw [if_neg (fun z => k4 z.1.symm), if_neg (fun z => k4 z.1.symm)]
    exact hR.2 x y
def pu_bad (N : Nat) (k a b : Int32) : Prop := k < 0 ∨ 5 < k ∨ (a < 0 ∨ nI N ≤ a) ∨ (b < 0 ∨ nI N ≤ b) ∨ a = b
theorem pu_vpc {N : Nat} (hN : N ≤ 12) (k a b : Int32) : pu_bad N k a b ∨ ∃ k' a' b' : Nat, k = nI k' ∧ a = nI a' ∧ b = nI b' ∧ k' < 6 ∧ a' < N ∧ b' < N ∧ a' ≠ b' := by
  by_cases k0 : k < 0
  · exact Or.inl (Or.inl k0)
  · by_cases k5 : 5 < k
    · exact Or.inl (Or.inr (Or.inl k5))
    · obtain ⟨k', hk, rfl⟩ := nI_of k0
      have hk6 : k' < 6 := by
        apply Classical.byContradiction
        intro hn
        exact k5 (nI_lt (a := 5) (by omega) hk)
      rcases pk_ix a (n := N) (by omega) with h | h | ⟨a', ha, rfl⟩
      · exact Or.inl (Or.inr (Or.inr (Or.inl (Or.inl h))))
      · exact Or.inl (Or.inr (Or.inr (Or.inl (Or.inr h))))
      · rcases pk_ix b (n := N) (by omega) with h | h | ⟨b', hb, rfl⟩
        · exact Or.inl (Or.inr (Or.inr (Or.inr (Or.inl (Or.inl h)))))
        · exact Or.inl (Or.inr (Or.inr (Or.inr (Or.inl (Or.inr h)))))
        · by_cases e : a' = b'
          · exact Or.inl (Or.inr (Or.inr (Or.inr (Or.inr (by rw [e])))))
          · exact Or.inr ⟨k', a', b', rfl, rfl, rfl, hk6, ha, hb, e⟩
theorem pu_bad_eq {N : Nat} {k : Int32} {i j : Nat} (hN : N ≤ 12) (k0 : ¬ k < 0) (k5 : ¬ 5 < k) (hi : i < N) (hj : j < N) (h : pu_bad N k (nI i) (nI j)) : nI i = nI j := by
  rcases h with z | z | (z | z) | (z | z) | z
  · exact absurd z k0
  · exact absurd z k5
  · exact absurd z (nI_pos (by omega))
  · exact absurd z (nI_ge hi (by omega))
  · exact absurd z (nI_pos (by omega))
  · exact absurd z (nI_ge hj (by omega))
  · exact z
section
variable {N : Nat} {tT tW tB pc qj qs qr : Int32} {fo ba st jb ou ag wi us au kp tr pu ps pj po : Nat → Int32}
theorem xx_vp1 {post : Int32 → Prop} {k a b : Nat} (hN : N ≤ 12) (hk : k < 6) (ha : a < N) (hb : b < N) (hne : a ≠ b) (h : post 1) : wpX_validPair post (nI N, tT, tW, tB, pc, qj, qs, qr, fo, ba, st, jb, ou, ag, wi, us, au, kp, tr, pu, ps, pj, po) (nI k) (nI a) (nI b) := by
  unfold wpX_validPair; dsimp only
  refine br_f (nI_pos (by omega)) (br_f (nI_nlt (a := 5) (b := k) (by omega) (by omega)) (xx_inR hN ha (br_f pu_l1_0 (xx_inR hN hb (br_f pu_l1_0 (br_f (fun z => hne ?_) h))))))
  exact (nI_eq (by omega) (by omega)).mp z
theorem xx_vp0 {post : Int32 → Prop} {k a b : Int32} (hN : N ≤ 12) (hb : pu_bad N k a b) (h : post 0) : wpX_validPair post (nI N, tT, tW, tB, pc, qj, qs, qr, fo, ba, st, jb, ou, ag, wi, us, au, kp, tr, pu, ps, pj, po) k a b := by
  unfold wpX_validPair; dsimp only
  by_cases k0 : k < 0
  · exact br_t k0 h
  · by_cases k5 : 5 < k
    · exact br_f k0 (br_t k5 h)
    · refine br_f k0 (br_f k5 ?_)
      rcases pk_ix a (n := N) (by omega) with z | z | ⟨i, hi, rfl⟩
      · exact xx_inR0 (Or.inl z) (br_t rfl h)
      · exact xx_inR0 (Or.inr z) (br_t rfl h)
      · refine xx_inR hN hi (br_f pu_l1_0 ?_)
        rcases pk_ix b (n := N) (by omega) with z | z | ⟨j, hj, rfl⟩
        · exact xx_inR0 (Or.inl z) (br_t rfl h)
        · exact xx_inR0 (Or.inr z) (br_t rfl h)
        · exact xx_inR hN hj (br_f pu_l1_0 (br_t (pu_bad_eq hN k0 k5 hi hj hb) h))
theorem xx_sr {post : SX → Prop} {R : Nat → Nat → Nat → Bool} {k a b : Nat} {on : Bool} {p3 : Int32} (hp : p3 = pu_bI on) (hk : k < 6) (ha : a < 12) (hb : b < 12) (hX : pu_XF R fo ba) (h : ∀ fo' ba', pu_XF (pu_sR R k a b on) fo' ba' → post (nI N, tT, tW, tB, pc, qj, qs, qr, fo', ba', st, jb, ou, ag, wi, us, au, kp, tr, pu, ps, pj, po)) : wpX_setRelation post (nI N, tT, tW, tB, pc, qj, qs, qr, fo, ba, st, jb, ou, ag, wi, us, au, kp, tr, pu, ps, pj, po) (nI k) (nI a) (nI b) p3 := by
  have e5 : nI k * 12 + nI a = nI (k * 12 + a) := by
    show nI k * nI 12 + nI a = _
    rw [pk_mul, nI_add]
  have e6 : nI k * 12 + nI b = nI (k * 12 + b) := by
    show nI k * nI 12 + nI b = _
    rw [pk_mul, nI_add]
  have i5 : vp_in (nI (k * 12 + a)) 72 := vp_in_nI (by omega) (by omega)
  have i6 : vp_in (nI (k * 12 + b)) 72 := vp_in_nI (by omega) (by omega)
  have c5 : (nI (k * 12 + a)).toNatClampNeg = k * 12 + a := nI_clamp (by omega)
  have c6 : (nI (k * 12 + b)).toNatClampNeg = k * 12 + b := nI_clamp (by omega)
  unfold wpX_setRelation; dsimp only
  refine nm_r e5 (nm_r e6 ?_)
  rw [c5, c6]
  refine pu_brc hp (fun z => ?_) (fun z => ?_)
  · refine ⟨i5, i5, nm_e ⟨i6, i6, nm_e (h _ _ (pu_XF_s hX ha hb (fun i hi => ?_) (fun i hi => ?_)))⟩⟩
    · rw [pu_bn _ _ hi, pu_b1 (by omega) hi, z]
      by_cases c : i = b
      · rw [decide_eq_true c, if_pos c]; simp
      · rw [decide_eq_false c, if_neg c]; simp
    · rw [pu_bn _ _ hi, pu_b1 (by omega) hi, z]
      by_cases c : i = a
      · rw [decide_eq_true c, if_pos c]; simp
      · rw [decide_eq_false c, if_neg c]; simp
  · refine ⟨i5, i5, nm_e ⟨i6, i6, nm_e (h _ _ (pu_XF_s hX ha hb (fun i hi => ?_) (fun i hi => ?_)))⟩⟩
    · rw [pu_or1 (by omega) hi, z]
      by_cases c : i = b
      · rw [decide_eq_true c, if_pos c]; simp
      · rw [decide_eq_false c, if_neg c]; simp
    · rw [pu_or1 (by omega) hi, z]
      by_cases c : i = a
      · rw [decide_eq_true c, if_pos c]; simp
      · rw [decide_eq_false c, if_neg c]; simp
theorem xx_r40 {post : Int32 → SX → Prop} {R : Nat → Nat → Nat → Bool} {k a b : Nat} {p3 z0 : Int32} (hz : z0 = pu_bI (!decide (p3 = 0))) (hk : k < 6) (ha : a < 12) (hb : b < 12) (hX : pu_XF R fo ba) (h : ∀ fo' ba', pu_XF (pu_nR R k a b (!decide (p3 = 0))) fo' ba' → post 0 (nI N, tT, tW, tB, pc, qj, qs, qr, fo', ba', st, jb, ou, ag, wi, us, au, kp, tr, pu, ps, pj, po)) : wX_relate_40 post (nI k) (nI a) (nI b) p3 z0 (nI b) (nI a) (nI k) (nI N) tT tW tB pc qj qs qr fo ba st jb ou ag wi us au kp tr pu ps pj po := by
  unfold pu_nR at h
  unfold wX_relate_40
  refine xx_sr hz hk ha hb hX (fun fo1 ba1 h1 => ?_)
  dsimp only
  refine pk_eq k 4 (fun c => ?_) (fun c => ?_)
  · rw [if_pos c] at h
    unfold wX_relate_62
    by_cases p0 : p3 = 0
    · refine br_t p0 (xx_sr (on := !decide (p3 = 0)) (by rw [decide_eq_true p0]; exact pu_bI0.symm) hk hb ha h1 (fun fo2 ba2 h2 => h fo2 ba2 h2))
    · refine br_f p0 (xx_sr (on := !decide (p3 = 0)) (by rw [decide_eq_false p0]; exact pu_bI1.symm) hk hb ha h1 (fun fo2 ba2 h2 => h fo2 ba2 h2))
  · rw [if_neg c] at h
    exact h fo1 ba1 h1
theorem xx_rlt {post : Int32 → SX → Prop} {R : Nat → Nat → Nat → Bool} {k a b : Nat} {p3 : Int32} (hN : N ≤ 12) (hk : k < 6) (ha : a < N) (hb : b < N) (hne : a ≠ b) (hX : pu_XF R fo ba) (h1 : pu_ex (fun x => !decide (jb x = 0)) N = true → ∀ qj qs qr, post (-6) (nI N, tT, tW, tB, pc, qj, qs, qr, fo, ba, st, jb, ou, ag, wi, us, au, kp, tr, pu, ps, pj, po)) (h0 : pu_ex (fun x => !decide (jb x = 0)) N = false → ∀ qj qs qr fo' ba', pu_XF (pu_nR R k a b (!decide (p3 = 0))) fo' ba' → post 0 (nI N, tT, tW, tB, pc, qj, qs, qr, fo', ba', st, jb, ou, ag, wi, us, au, kp, tr, pu, ps, pj, po)) : wpX_relate post (nI N, tT, tW, tB, pc, qj, qs, qr, fo, ba, st, jb, ou, ag, wi, us, au, kp, tr, pu, ps, pj, po) (nI k) (nI a) (nI b) p3 := by
  unfold wpX_relate; dsimp only
  refine xx_vp1 hN hk ha hb hne (br_f pu_l1_0 (xx_lpq hN (fun qj' qs' qr' hq => ?_)))
  dsimp only
  refine pu_bz (f := fun x => !decide (jb x = 0)) hN (fun i hi => (hq i hi).1) (fun c => ?_) (fun c => h1 c _ _ _)
  by_cases p0 : p3 = 0
  · exact br_t p0 (xx_r40 (by rw [decide_eq_true p0]; exact pu_bI0.symm) hk (by omega) (by omega) hX (fun fo' ba' hx' => h0 c _ _ _ fo' ba' hx'))
  · exact br_f p0 (xx_r40 (by rw [decide_eq_false p0]; exact pu_bI1.symm) hk (by omega) (by omega) hX (fun fo' ba' hx' => h0 c _ _ _ fo' ba' hx'))
end
section
variable {N : Nat} {tT tW tB : Int32} {re st jb ou ag wi us au hu kq tq pq sq fq yj ys yo : Nat → Int32}
theorem yy_r89 {post : Int32 → SY → Prop} {R : Nat → Nat → Nat → Bool} {k a b : Nat} {p3 z0 : Int32} (hz : z0 = pu_bI (!decide (p3 = 0))) (hN : N ≤ 12) (hk : k < 6) (ha : a < 12) (hb : b < 12) (hF : pu_YF N R re) (h : ∀ re', pu_YF N (pu_nR R k a b (!decide (p3 = 0))) re' → post 0 (nI N, tT, tW, tB, re', st, jb, ou, ag, wi, us, au, hu, kq, tq, pq, sq, fq, yj, ys, yo)) : wY_relate_89 post (nI k) (nI a) (nI b) p3 z0 (nI (k * 144 + a * 12 + b)) (nI N) tT tW tB re st jb ou ag wi us au hu kq tq pq sq fq yj ys yo := by
  have ev : ((nI k * 144) + (nI b * 12)) + nI a = nI (k * 144 + b * 12 + a) := by
    show ((nI k * nI 144) + (nI b * nI 12)) + nI a = _
    rw [pk_mul, pk_mul, nI_add, nI_add]
  have i1 : vp_in (nI (k * 144 + a * 12 + b)) 864 := vp_in_nI (by omega) (by omega)
  have i2 : vp_in (nI (k * 144 + b * 12 + a)) 864 := vp_in_nI (by omega) (by omega)
  subst hz
  unfold pu_nR at h
  unfold wY_relate_89
  rw [ev, nI_clamp (n := k * 144 + a * 12 + b) (by omega), nI_clamp (n := k * 144 + b * 12 + a) (by omega), pu_vn0, pu_vn1, pu_vnb]
  refine ⟨i1, nm_e (pk_eq k 4 (fun c => ?_) (fun c => ?_))⟩
  · rw [if_pos c] at h
    by_cases p0 : p3 = 0
    · refine br_t p0 ⟨i2, nm_e (h _ (pu_YF_s hN (pu_YF_s hN hF ha hb rfl) hb ha ?_))⟩
      rw [decide_eq_true p0]; exact pu_bI0.symm
    · refine br_f p0 ⟨i2, nm_e (h _ (pu_YF_s hN (pu_YF_s hN hF ha hb rfl) hb ha ?_))⟩
      rw [decide_eq_false p0]; exact pu_bI1.symm
  · rw [if_neg c] at h
    exact h _ (pu_YF_s hN hF ha hb rfl)
theorem yy_r35 {post : Int32 → SY → Prop} {R : Nat → Nat → Nat → Bool} {k a b : Nat} {p3 : Int32} (hN : N ≤ 12) (hk : k < 6) (ha : a < 12) (hb : b < 12) (hF : pu_YF N R re) (h1 : pu_ex (fun x => !decide (jb x = 0)) N = true → post (-6) (nI N, tT, tW, tB, re, st, jb, ou, ag, wi, us, au, hu, kq, tq, pq, sq, fq, yj, ys, yo)) (h0 : pu_ex (fun x => !decide (jb x = 0)) N = false → ∀ re', pu_YF N (pu_nR R k a b (!decide (p3 = 0))) re' → post 0 (nI N, tT, tW, tB, re', st, jb, ou, ag, wi, us, au, hu, kq, tq, pq, sq, fq, yj, ys, yo)) : ∀ (m i : Nat), i + m = N → (∀ j, j < i → (!decide (jb j = 0)) = false) → wY_relate_35 post (nI k) (nI a) (nI b) p3 (nI N) tT tW tB re st jb ou ag wi us au hu kq tq pq sq fq yj ys yo (m + 1) (nI i) := by
  intro m
  induction m with
  | zero =>
    intro i hi hn
    have e : i = N := by omega
    subst e
    have ev : ((nI k * 144) + (nI a * 12)) + nI b = nI (k * 144 + a * 12 + b) := by
      show ((nI k * nI 144) + (nI a * nI 12)) + nI b = _
      rw [pk_mul, pk_mul, nI_add, nI_add]
    have h0 := h0 (pu_ex_no hn)
    rw [wY_relate_35]; dsimp only
    rw [ev]
    refine br_t (nI_le (Nat.le_refl _) (by omega)) ?_
    by_cases p0 : p3 = 0
    · exact br_t p0 (yy_r89 (by rw [decide_eq_true p0]; exact pu_bI0.symm) hN hk ha hb hF h0)
    · exact br_f p0 (yy_r89 (by rw [decide_eq_false p0]; exact pu_bI1.symm) hN hk ha hb hF h0)
  | succ m ih =>
    intro i hi hn
    have hin : vp_in (nI i) 12 := vp_in_nI (by omega) (by omega)
    rw [wY_relate_35]; dsimp only
    rw [nI_clamp (n := i) (by omega)]
    refine br_f (nI_ge (by omega) (by omega)) ⟨hin, ?_⟩
    by_cases c : jb i = 0
    · refine br_t c (nm_r (nI_1 i) (ih (i + 1) (by omega) (fun j hj => ?_)))
      by_cases e : j = i
      · subst e; rw [decide_eq_true c]; rfl
      · exact hn j (by omega)
    · exact br_f c (h1 (pu_ex_t (i := i) (by omega) (by rw [decide_eq_false c]; rfl)))
theorem yy_rlt {post : Int32 → SY → Prop} {R : Nat → Nat → Nat → Bool} {k a b : Nat} {p3 : Int32} (hN : N ≤ 12) (hk : k < 6) (ha : a < N) (hb : b < N) (hne : a ≠ b) (hF : pu_YF N R re) (h1 : pu_ex (fun x => !decide (jb x = 0)) N = true → post (-6) (nI N, tT, tW, tB, re, st, jb, ou, ag, wi, us, au, hu, kq, tq, pq, sq, fq, yj, ys, yo)) (h0 : pu_ex (fun x => !decide (jb x = 0)) N = false → ∀ re', pu_YF N (pu_nR R k a b (!decide (p3 = 0))) re' → post 0 (nI N, tT, tW, tB, re', st, jb, ou, ag, wi, us, au, hu, kq, tq, pq, sq, fq, yj, ys, yo)) : wpY_relate post (nI N, tT, tW, tB, re, st, jb, ou, ag, wi, us, au, hu, kq, tq, pq, sq, fq, yj, ys, yo) (nI k) (nI a) (nI b) p3 := by
  unfold wpY_relate; dsimp only
  refine br_f (nI_pos (by omega)) (br_f (nI_nlt (a := 5) (b := k) (by omega) (by omega)) (yy_inR hN ha (br_f pu_l1_0 (yy_inR hN hb (br_f pu_l1_0 (br_f (fun z => hne ?_) (Exists.intro (N + 1) (yy_r35 hN hk (by omega) (by omega) hF h1 h0 N 0 (by omega) (fun j hj => absurd hj (Nat.not_lt_zero j)))))))))) 
  exact (nI_eq (by omega) (by omega)).mp z
theorem yy_rlt0 {post : Int32 → SY → Prop} {k a b p3 : Int32} (hN : N ≤ 12) (hb : pu_bad N k a b) (h : post (-1) (nI N, tT, tW, tB, re, st, jb, ou, ag, wi, us, au, hu, kq, tq, pq, sq, fq, yj, ys, yo)) : wpY_relate post (nI N, tT, tW, tB, re, st, jb, ou, ag, wi, us, au, hu, kq, tq, pq, sq, fq, yj, ys, yo) k a b p3 := by
  unfold wpY_relate; dsimp only
  by_cases k0 : k < 0
  · exact br_t k0 h
  · by_cases k5 : 5 < k
    · exact br_f k0 (br_t k5 h)
    · refine br_f k0 (br_f k5 ?_)
      rcases pk_ix a (n := N) (by omega) with z | z | ⟨i, hi, rfl⟩
      · exact yy_inR0 (Or.inl z) (br_t rfl h)
      · exact yy_inR0 (Or.inr z) (br_t rfl h)
      · refine yy_inR hN hi (br_f pu_l1_0 ?_)
        rcases pk_ix b (n := N) (by omega) with z | z | ⟨j, hj, rfl⟩
        · exact yy_inR0 (Or.inl z) (br_t rfl h)
        · exact yy_inR0 (Or.inr z) (br_t rfl h)
        · exact yy_inR hN hj (br_f pu_l1_0 (br_t (pu_bad_eq hN k0 k5 hi hj hb) h))
theorem yy_rel0 {post : Int32 → Prop} {k a b : Int32} (hN : N ≤ 12) (hb : pu_bad N k a b) (h : post 0) : wpY_related post (nI N, tT, tW, tB, re, st, jb, ou, ag, wi, us, au, hu, kq, tq, pq, sq, fq, yj, ys, yo) k a b := by
  unfold wpY_related; dsimp only
  by_cases k0 : k < 0
  · exact br_t k0 h
  · by_cases k5 : 5 < k
    · exact br_f k0 (br_t k5 h)
    · refine br_f k0 (br_f k5 ?_)
      rcases pk_ix a (n := N) (by omega) with z | z | ⟨i, hi, rfl⟩
      · exact yy_inR0 (Or.inl z) (br_t rfl h)
      · exact yy_inR0 (Or.inr z) (br_t rfl h)
      · refine yy_inR hN hi (br_f pu_l1_0 ?_)
        rcases pk_ix b (n := N) (by omega) with z | z | ⟨j, hj, rfl⟩
        · exact yy_inR0 (Or.inl z) (br_t rfl h)
        · exact yy_inR0 (Or.inr z) (br_t rfl h)
        · exact yy_inR hN hj (br_f pu_l1_0 (br_t (pu_bad_eq hN k0 k5 hi hj hb) h))
end
end
section
/-! the relation -/
def pu_G (N : Nat) (R : Nat → Nat → Nat → Bool) (tW : Int32) (fo ba re jb wi : Nat → Int32) : Prop := (N ≤ 12 ∧ 1 ≤ N) ∧ pu_Rok N R ∧ pu_XF R fo ba ∧ pu_YF N R re ∧ pu_Jok N jb ∧ pu_Wok N wi ∧ ∃ w : Nat, w < 2 ^ 31 ∧ tW = nI w
def i_Rel (k : Nat) (u : SX) (v : SY) : Prop := match u with
  | (x1, x2, x3, x4, x5, x6, x7, x8, x9, x10, x11, x12, x13, x14, x15, x16, x17, x18, x19, x20, x21, x22, x23) => match v with
    | (y1, y2, y3, y4, y5, y6, y7, y8, y9, y10, y11, y12, y13, y14, y15, y16, y17, y18, y19, y20, y21) => ∃ (N : Nat) (R : Nat → Nat → Nat → Bool), x1 = nI N ∧ y1 = nI N ∧ y2 = x2 ∧ y3 = x3 ∧ y4 = x4 ∧ y6 = x11 ∧ y7 = x12 ∧ y8 = x13 ∧ y9 = x14 ∧ y10 = x15 ∧ y11 = x16 ∧ y12 = x17 ∧ pu_G N R x3 x9 x10 y5 x12 x15
theorem i_up {k : Nat} {u : SX} {v : SY} (h : i_Rel k u v) : i_Rel (k + 5) u v := h
theorem ii_in {k N : Nat} {R : Nat → Nat → Nat → Bool} {tT tW tB : Int32} {fo ba re st jb ou ag wi us au : Nat → Int32} {pc qj qs qr : Int32} {kp tr pu ps pj po : Nat → Int32} {hu kq tq pq sq fq yj ys yo : Nat → Int32} (h : pu_G N R tW fo ba re jb wi) : i_Rel k (nI N, tT, tW, tB, pc, qj, qs, qr, fo, ba, st, jb, ou, ag, wi, us, au, kp, tr, pu, ps, pj, po) (nI N, tT, tW, tB, re, st, jb, ou, ag, wi, us, au, hu, kq, tq, pq, sq, fq, yj, ys, yo) :=
  ⟨N, R, rfl, rfl, rfl, rfl, rfl, rfl, rfl, rfl, rfl, rfl, rfl, rfl, h⟩
theorem ii_el {k : Nat} {u : SX} {v : SY} {P : SX → SY → Prop} (I : i_Rel k u v) (h : ∀ (N : Nat) (R : Nat → Nat → Nat → Bool) (tT tW tB : Int32) (fo ba re st jb ou ag wi us au : Nat → Int32) (pc qj qs qr : Int32) (kp tr pu ps pj po : Nat → Int32) (hu kq tq pq sq fq yj ys yo : Nat → Int32), pu_G N R tW fo ba re jb wi → P (nI N, tT, tW, tB, pc, qj, qs, qr, fo, ba, st, jb, ou, ag, wi, us, au, kp, tr, pu, ps, pj, po) (nI N, tT, tW, tB, re, st, jb, ou, ag, wi, us, au, hu, kq, tq, pq, sq, fq, yj, ys, yo)) : P u v := by
  obtain ⟨x1, x2, x3, x4, x5, x6, x7, x8, x9, x10, x11, x12, x13, x14, x15, x16, x17, x18, x19, x20, x21, x22, x23⟩ := u
  obtain ⟨y1, y2, y3, y4, y5, y6, y7, y8, y9, y10, y11, y12, y13, y14, y15, y16, y17, y18, y19, y20, y21⟩ := v
  obtain ⟨N, R, e1, e2, e3, e4, e5, e6, e7, e8, e9, e10, e11, e12, G⟩ := I
  subst e1 e2 e3 e4 e5 e6 e7 e8 e9 e10 e11 e12
  exact h N R _ _ _ _ _ _ _ _ _ _ _ _ _ _ _ _ _ _ _ _ _ _ _ _ _ _ _ _ _ _ _ _ G
/-! the constructors -/
def pu_clp (v lo hi : Int32) : Int32 := if lo ≤ v then (if v ≤ hi then v else hi) else lo
theorem xx_cl {post : Int32 → Prop} {u : SX} {v lo hi : Int32} (h : post (pu_clp v lo hi)) : wpX_clamp post u v lo hi := by
  obtain ⟨x1, x2, x3, x4, x5, x6, x7, x8, x9, x10, x11, x12, x13, x14, x15, x16, x17, x18, x19, x20, x21, x22, x23⟩ := u
  unfold pu_clp at h
  by_cases c : lo ≤ v
  · rw [if_pos c] at h
    by_cases d : v ≤ hi
    · rw [if_pos d] at h; exact br_t c (br_t d h)
    · rw [if_neg d] at h; exact br_t c (br_f d h)
  · rw [if_neg c] at h; exact br_f c h
theorem yy_cl {post : Int32 → Prop} {u : SY} {v lo hi : Int32} (h : post (pu_clp v lo hi)) : wpY_clamp post u v lo hi := by
  obtain ⟨x1, x2, x3, x4, x5, x6, x7, x8, x9, x10, x11, x12, x13, x14, x15, x16, x17, x18, x19, x20, x21⟩ := u
  unfold pu_clp at h
  by_cases c : lo ≤ v
  · rw [if_pos c] at h
    by_cases d : v ≤ hi
    · rw [if_pos d] at h; exact br_t c (br_t d h)
    · rw [if_neg d] at h; exact br_t c (br_f d h)
  · rw [if_neg c] at h; exact br_f c h
theorem pu_clp_n (v : Int32) (lo hi : Nat) (h : lo ≤ hi) (hh : hi < 2 ^ 31) : ∃ c : Nat, lo ≤ c ∧ c ≤ hi ∧ pu_clp v (nI lo) (nI hi) = nI c := by
  unfold pu_clp
  by_cases c : nI lo ≤ v
  · rw [if_pos c]
    by_cases d : v ≤ nI hi
    · rw [if_pos d]
      have v0 : ¬ v < 0 := by
        rw [Int32.not_lt]
        exact Int32.le_trans (nI_pos' (by omega)) c
      obtain ⟨j, hj, rfl⟩ := nI_of v0
      rw [nI_leI (by omega) hj] at c
      rw [nI_leI hj hh] at d
      exact ⟨j, c, d, rfl⟩
    · rw [if_neg d]; exact ⟨hi, h, Nat.le_refl _, rfl⟩
  · rw [if_neg c]; exact ⟨lo, Nat.le_refl _, h, rfl⟩
theorem i_vc0 (k0 : Int32) (k1 : Int32) (k2 : Int32) (k3 : Int32) : wpX_init (fun u => wpY_init (fun v => i_Rel 4 u v) k0 k1 k2 k3) k0 k1 k2 k3 := by
  obtain ⟨N, hN1, hN2, eN⟩ := pu_clp_n k0 4 12 (by omega) (by omega)
  obtain ⟨w, hw1, hw2, ew⟩ := pu_clp_n k2 1 16 (by omega) (by omega)
  unfold wpX_init
  refine xx_cl (xx_cl (xx_cl (xx_cl ?_)))
  unfold wpY_init
  refine yy_cl (yy_cl (yy_cl (yy_cl ?_)))
  have e1 : pu_clp k0 4 12 = nI N := eN
  have e2 : pu_clp k2 1 16 = nI w := ew
  rw [e1, e2]
  refine ii_in (R := fun _ _ _ => false) ⟨⟨by omega, by omega⟩, ⟨fun _ _ _ z => (nomatch z), fun _ _ => rfl⟩, fun k a i _ _ _ => ⟨b_0 i, b_0 i⟩, fun k a b _ _ _ _ => pu_bI0.symm, fun x _ => Or.inl rfl, fun x _ => ⟨0, by omega, rfl⟩, w, by omega, rfl⟩
end
section
/-! the owed statements -/
theorem i_vc_state {k : Nat} {u : SX} {v : SY} (I : i_Rel k u v) (hk : k + 5 ≤ 2564) (v1 : Int32) : wpX_state (fun r => wpY_state (fun r' => r' = r ∧ i_Rel (k + 5) u v) v v1) u v1 := by
  refine ii_el (P := fun u v => wpX_state (fun r => wpY_state (fun r' => r' = r ∧ i_Rel (k + 5) u v) v v1) u v1) I ?_
  intro N R tT tW tB fo ba re st jb ou ag wi us au pc qj qs qr kp tr pu ps pj po hu kq tq pq sq fq yj ys yo G
  have J : i_Rel (k + 5) (nI N, tT, tW, tB, pc, qj, qs, qr, fo, ba, st, jb, ou, ag, wi, us, au, kp, tr, pu, ps, pj, po) (nI N, tT, tW, tB, re, st, jb, ou, ag, wi, us, au, hu, kq, tq, pq, sq, fq, yj, ys, yo) := ii_in G
  obtain ⟨⟨hN, hN1⟩, hR, hX, hF, hJ, hW, hT⟩ := G
  unfold wpX_state wpY_state; dsimp only
  rcases pk_ix v1 (n := N) (by omega) with z | z | ⟨j, hj, rfl⟩
  · exact xx_inR0 (Or.inl z) (br_t rfl (yy_inR0 (Or.inl z) (br_t rfl ⟨rfl, J⟩)))
  · exact xx_inR0 (Or.inr z) (br_t rfl (yy_inR0 (Or.inr z) (br_t rfl ⟨rfl, J⟩)))
  · have hin : vp_in (nI j) 12 := vp_in_nI (by omega) (by omega)
    exact xx_inR hN hj (br_f pu_l1_0 ⟨hin, yy_inR hN hj (br_f pu_l1_0 ⟨hin, rfl, J⟩)⟩)
theorem i_vc_job {k : Nat} {u : SX} {v : SY} (I : i_Rel k u v) (hk : k + 5 ≤ 2564) (v1 : Int32) : wpX_job (fun r => wpY_job (fun r' => r' = r ∧ i_Rel (k + 5) u v) v v1) u v1 := by
  refine ii_el (P := fun u v => wpX_job (fun r => wpY_job (fun r' => r' = r ∧ i_Rel (k + 5) u v) v v1) u v1) I ?_
  intro N R tT tW tB fo ba re st jb ou ag wi us au pc qj qs qr kp tr pu ps pj po hu kq tq pq sq fq yj ys yo G
  have J : i_Rel (k + 5) (nI N, tT, tW, tB, pc, qj, qs, qr, fo, ba, st, jb, ou, ag, wi, us, au, kp, tr, pu, ps, pj, po) (nI N, tT, tW, tB, re, st, jb, ou, ag, wi, us, au, hu, kq, tq, pq, sq, fq, yj, ys, yo) := ii_in G
  obtain ⟨⟨hN, hN1⟩, hR, hX, hF, hJ, hW, hT⟩ := G
  unfold wpX_job wpY_job; dsimp only
  rcases pk_ix v1 (n := N) (by omega) with z | z | ⟨j, hj, rfl⟩
  · exact xx_inR0 (Or.inl z) (br_t rfl (yy_inR0 (Or.inl z) (br_t rfl ⟨rfl, J⟩)))
  · exact xx_inR0 (Or.inr z) (br_t rfl (yy_inR0 (Or.inr z) (br_t rfl ⟨rfl, J⟩)))
  · have hin : vp_in (nI j) 12 := vp_in_nI (by omega) (by omega)
    exact xx_inR hN hj (br_f pu_l1_0 ⟨hin, yy_inR hN hj (br_f pu_l1_0 ⟨hin, rfl, J⟩)⟩)
theorem i_vc_outcome {k : Nat} {u : SX} {v : SY} (I : i_Rel k u v) (hk : k + 5 ≤ 2564) (v1 : Int32) : wpX_outcome (fun r => wpY_outcome (fun r' => r' = r ∧ i_Rel (k + 5) u v) v v1) u v1 := by
  refine ii_el (P := fun u v => wpX_outcome (fun r => wpY_outcome (fun r' => r' = r ∧ i_Rel (k + 5) u v) v v1) u v1) I ?_
  intro N R tT tW tB fo ba re st jb ou ag wi us au pc qj qs qr kp tr pu ps pj po hu kq tq pq sq fq yj ys yo G
  have J : i_Rel (k + 5) (nI N, tT, tW, tB, pc, qj, qs, qr, fo, ba, st, jb, ou, ag, wi, us, au, kp, tr, pu, ps, pj, po) (nI N, tT, tW, tB, re, st, jb, ou, ag, wi, us, au, hu, kq, tq, pq, sq, fq, yj, ys, yo) := ii_in G
  obtain ⟨⟨hN, hN1⟩, hR, hX, hF, hJ, hW, hT⟩ := G
  unfold wpX_outcome wpY_outcome; dsimp only
  rcases pk_ix v1 (n := N) (by omega) with z | z | ⟨j, hj, rfl⟩
  · exact xx_inR0 (Or.inl z) (br_t rfl (yy_inR0 (Or.inl z) (br_t rfl ⟨rfl, J⟩)))
  · exact xx_inR0 (Or.inr z) (br_t rfl (yy_inR0 (Or.inr z) (br_t rfl ⟨rfl, J⟩)))
  · have hin : vp_in (nI j) 12 := vp_in_nI (by omega) (by omega)
    exact xx_inR hN hj (br_f pu_l1_0 ⟨hin, yy_inR hN hj (br_f pu_l1_0 ⟨hin, rfl, J⟩)⟩)
theorem i_vc_windowLeft {k : Nat} {u : SX} {v : SY} (I : i_Rel k u v) (hk : k + 5 ≤ 2564) (v1 : Int32) : wpX_windowLeft (fun r => wpY_windowLeft (fun r' => r' = r ∧ i_Rel (k + 5) u v) v v1) u v1 := by
  refine ii_el (P := fun u v => wpX_windowLeft (fun r => wpY_windowLeft (fun r' => r' = r ∧ i_Rel (k + 5) u v) v v1) u v1) I ?_
  intro N R tT tW tB fo ba re st jb ou ag wi us au pc qj qs qr kp tr pu ps pj po hu kq tq pq sq fq yj ys yo G
  have J : i_Rel (k + 5) (nI N, tT, tW, tB, pc, qj, qs, qr, fo, ba, st, jb, ou, ag, wi, us, au, kp, tr, pu, ps, pj, po) (nI N, tT, tW, tB, re, st, jb, ou, ag, wi, us, au, hu, kq, tq, pq, sq, fq, yj, ys, yo) := ii_in G
  obtain ⟨⟨hN, hN1⟩, hR, hX, hF, hJ, hW, hT⟩ := G
  unfold wpX_windowLeft wpY_windowLeft; dsimp only
  rcases pk_ix v1 (n := N) (by omega) with z | z | ⟨j, hj, rfl⟩
  · exact xx_inR0 (Or.inl z) (br_t rfl (yy_inR0 (Or.inl z) (br_t rfl ⟨rfl, J⟩)))
  · exact xx_inR0 (Or.inr z) (br_t rfl (yy_inR0 (Or.inr z) (br_t rfl ⟨rfl, J⟩)))
  · have hin : vp_in (nI j) 12 := vp_in_nI (by omega) (by omega)
    exact xx_inR hN hj (br_f pu_l1_0 ⟨hin, yy_inR hN hj (br_f pu_l1_0 ⟨hin, rfl, J⟩)⟩)
theorem i_vc_used {k : Nat} {u : SX} {v : SY} (I : i_Rel k u v) (hk : k + 5 ≤ 2564) (v1 : Int32) : wpX_used (fun r => wpY_used (fun r' => r' = r ∧ i_Rel (k + 5) u v) v v1) u v1 := by
  refine ii_el (P := fun u v => wpX_used (fun r => wpY_used (fun r' => r' = r ∧ i_Rel (k + 5) u v) v v1) u v1) I ?_
  intro N R tT tW tB fo ba re st jb ou ag wi us au pc qj qs qr kp tr pu ps pj po hu kq tq pq sq fq yj ys yo G
  have J : i_Rel (k + 5) (nI N, tT, tW, tB, pc, qj, qs, qr, fo, ba, st, jb, ou, ag, wi, us, au, kp, tr, pu, ps, pj, po) (nI N, tT, tW, tB, re, st, jb, ou, ag, wi, us, au, hu, kq, tq, pq, sq, fq, yj, ys, yo) := ii_in G
  obtain ⟨⟨hN, hN1⟩, hR, hX, hF, hJ, hW, hT⟩ := G
  unfold wpX_used wpY_used; dsimp only
  rcases pk_ix v1 (n := N) (by omega) with z | z | ⟨j, hj, rfl⟩
  · exact xx_inR0 (Or.inl z) (br_t rfl (yy_inR0 (Or.inl z) (br_t rfl ⟨rfl, J⟩)))
  · exact xx_inR0 (Or.inr z) (br_t rfl (yy_inR0 (Or.inr z) (br_t rfl ⟨rfl, J⟩)))
  · have hin : vp_in (nI j) 12 := vp_in_nI (by omega) (by omega)
    exact xx_inR hN hj (br_f pu_l1_0 ⟨hin, yy_inR hN hj (br_f pu_l1_0 ⟨hin, rfl, J⟩)⟩)
theorem i_vc_age {k : Nat} {u : SX} {v : SY} (I : i_Rel k u v) (hk : k + 5 ≤ 2564) (v1 : Int32) : wpX_age (fun r => wpY_age (fun r' => r' = r ∧ i_Rel (k + 5) u v) v v1) u v1 := by
  refine ii_el (P := fun u v => wpX_age (fun r => wpY_age (fun r' => r' = r ∧ i_Rel (k + 5) u v) v v1) u v1) I ?_
  intro N R tT tW tB fo ba re st jb ou ag wi us au pc qj qs qr kp tr pu ps pj po hu kq tq pq sq fq yj ys yo G
  have J : i_Rel (k + 5) (nI N, tT, tW, tB, pc, qj, qs, qr, fo, ba, st, jb, ou, ag, wi, us, au, kp, tr, pu, ps, pj, po) (nI N, tT, tW, tB, re, st, jb, ou, ag, wi, us, au, hu, kq, tq, pq, sq, fq, yj, ys, yo) := ii_in G
  obtain ⟨⟨hN, hN1⟩, hR, hX, hF, hJ, hW, hT⟩ := G
  unfold wpX_age wpY_age; dsimp only
  rcases pk_ix v1 (n := N) (by omega) with z | z | ⟨j, hj, rfl⟩
  · exact xx_inR0 (Or.inl z) (br_t rfl (yy_inR0 (Or.inl z) (br_t rfl ⟨rfl, J⟩)))
  · exact xx_inR0 (Or.inr z) (br_t rfl (yy_inR0 (Or.inr z) (br_t rfl ⟨rfl, J⟩)))
  · have hin : vp_in (nI j) 12 := vp_in_nI (by omega) (by omega)
    by_cases c : st (nI j).toNatClampNeg = 1
    · exact xx_inR hN hj (br_f pu_l1_0 ⟨hin, br_t c ⟨hin, yy_inR hN hj (br_f pu_l1_0 ⟨hin, br_t c ⟨hin, rfl, J⟩⟩)⟩⟩)
    · exact xx_inR hN hj (br_f pu_l1_0 ⟨hin, br_f c (yy_inR hN hj (br_f pu_l1_0 ⟨hin, br_f c ⟨rfl, J⟩⟩))⟩)
theorem i_vc_autoRestart {k : Nat} {u : SX} {v : SY} (I : i_Rel k u v) (hk : k + 5 ≤ 2564) (v1 : Int32) : wpX_autoRestart (fun r => wpY_autoRestart (fun r' => r' = r ∧ i_Rel (k + 5) u v) v v1) u v1 := by
  refine ii_el (P := fun u v => wpX_autoRestart (fun r => wpY_autoRestart (fun r' => r' = r ∧ i_Rel (k + 5) u v) v v1) u v1) I ?_
  intro N R tT tW tB fo ba re st jb ou ag wi us au pc qj qs qr kp tr pu ps pj po hu kq tq pq sq fq yj ys yo G
  have J : i_Rel (k + 5) (nI N, tT, tW, tB, pc, qj, qs, qr, fo, ba, st, jb, ou, ag, wi, us, au, kp, tr, pu, ps, pj, po) (nI N, tT, tW, tB, re, st, jb, ou, ag, wi, us, au, hu, kq, tq, pq, sq, fq, yj, ys, yo) := ii_in G
  obtain ⟨⟨hN, hN1⟩, hR, hX, hF, hJ, hW, hT⟩ := G
  unfold wpX_autoRestart wpY_autoRestart; dsimp only
  rcases pk_ix v1 (n := N) (by omega) with z | z | ⟨j, hj, rfl⟩
  · exact xx_inR0 (Or.inl z) (br_t rfl (yy_inR0 (Or.inl z) (br_t rfl ⟨rfl, J⟩)))
  · exact xx_inR0 (Or.inr z) (br_t rfl (yy_inR0 (Or.inr z) (br_t rfl ⟨rfl, J⟩)))
  · have hin : vp_in (nI j) 12 := vp_in_nI (by omega) (by omega)
    by_cases c : au (nI j).toNatClampNeg = 0
    · exact xx_inR hN hj (br_f pu_l1_0 ⟨hin, br_t c (yy_inR hN hj (br_f pu_l1_0 ⟨hin, br_t c ⟨rfl, J⟩⟩))⟩)
    · exact xx_inR hN hj (br_f pu_l1_0 ⟨hin, br_f c (yy_inR hN hj (br_f pu_l1_0 ⟨hin, br_f c ⟨rfl, J⟩⟩))⟩)
theorem i_vc_related {k : Nat} {u : SX} {v : SY} (I : i_Rel k u v) (hk : k + 5 ≤ 2564) (v1 : Int32) (v2 : Int32) (v3 : Int32) : wpX_related (fun r => wpY_related (fun r' => r' = r ∧ i_Rel (k + 5) u v) v v1 v2 v3) u v1 v2 v3 := by
  refine ii_el (P := fun u v => wpX_related (fun r => wpY_related (fun r' => r' = r ∧ i_Rel (k + 5) u v) v v1 v2 v3) u v1 v2 v3) I ?_
  intro N R tT tW tB fo ba re st jb ou ag wi us au pc qj qs qr kp tr pu ps pj po hu kq tq pq sq fq yj ys yo G
  have J : i_Rel (k + 5) (nI N, tT, tW, tB, pc, qj, qs, qr, fo, ba, st, jb, ou, ag, wi, us, au, kp, tr, pu, ps, pj, po) (nI N, tT, tW, tB, re, st, jb, ou, ag, wi, us, au, hu, kq, tq, pq, sq, fq, yj, ys, yo) := ii_in G
  obtain ⟨⟨hN, hN1⟩, hR, hX, hF, hJ, hW, hT⟩ := G
  rcases pu_vpc hN v1 v2 v3 with hb | ⟨k', a', b', rfl, rfl, rfl, hk', ha', hb', hne⟩
  · unfold wpX_related; dsimp only
    exact xx_vp0 hN hb (br_t rfl (yy_rel0 hN hb ⟨rfl, J⟩))
  · have e5 : nI k' * 12 + nI a' = nI (k' * 12 + a') := by
      show nI k' * nI 12 + nI a' = _
      rw [pk_mul, nI_add]
    unfold wpX_related; dsimp only
    rw [e5, nI_clamp (n := k' * 12 + a') (by omega)]
    refine xx_vp1 hN hk' ha' hb' hne (br_f pu_l1_0 ⟨vp_in_nI (by omega) (by omega), xx_has (by omega) ?_⟩)
    rw [(hX k' a' b' hk' (by omega) (by omega)).1]
    refine pu_br (fun z => yy_rel rfl hN hR hF hk' (by omega) (by omega) ⟨by rw [z]; exact pu_bI0, J⟩) (fun z => yy_rel rfl hN hR hF hk' (by omega) (by omega) ⟨by rw [z]; exact pu_bI1, J⟩)
theorem i_vc_setRestart {k : Nat} {u : SX} {v : SY} (I : i_Rel k u v) (hk : k + 5 ≤ 2564) (v1 : Int32) (v2 : Int32) : wpX_setRestart (fun r u' => wpY_setRestart (fun r' v' => r' = r ∧ i_Rel (k + 5) u' v') v v1 v2) u v1 v2 := by
  refine ii_el (P := fun u v => wpX_setRestart (fun r u' => wpY_setRestart (fun r' v' => r' = r ∧ i_Rel (k + 5) u' v') v v1 v2) u v1 v2) I ?_
  intro N R tT tW tB fo ba re st jb ou ag wi us au pc qj qs qr kp tr pu ps pj po hu kq tq pq sq fq yj ys yo G
  have J : i_Rel (k + 5) (nI N, tT, tW, tB, pc, qj, qs, qr, fo, ba, st, jb, ou, ag, wi, us, au, kp, tr, pu, ps, pj, po) (nI N, tT, tW, tB, re, st, jb, ou, ag, wi, us, au, hu, kq, tq, pq, sq, fq, yj, ys, yo) := ii_in G
  obtain ⟨⟨hN, hN1⟩, hR, hX, hF, hJ, hW, hT⟩ := G
  unfold wpX_setRestart wpY_setRestart; dsimp only
  rcases pk_ix v1 (n := N) (by omega) with z | z | ⟨j, hj, rfl⟩
  · exact xx_inR0 (Or.inl z) (br_t rfl (yy_inR0 (Or.inl z) (br_t rfl ⟨rfl, J⟩)))
  · exact xx_inR0 (Or.inr z) (br_t rfl (yy_inR0 (Or.inr z) (br_t rfl ⟨rfl, J⟩)))
  · have hin : vp_in (nI j) 12 := vp_in_nI (by omega) (by omega)
    by_cases c : v2 = 0
    · exact xx_inR hN hj (br_f pu_l1_0 (br_t c ⟨hin, nm_e (yy_inR hN hj (br_f pu_l1_0 (br_t c ⟨hin, nm_e ⟨rfl, ii_in ⟨⟨hN, hN1⟩, hR, hX, hF, hJ, hW, hT⟩⟩⟩)))⟩))
    · exact xx_inR hN hj (br_f pu_l1_0 (br_f c ⟨hin, nm_e (yy_inR hN hj (br_f pu_l1_0 (br_f c ⟨hin, nm_e ⟨rfl, ii_in ⟨⟨hN, hN1⟩, hR, hX, hF, hJ, hW, hT⟩⟩⟩)))⟩))
theorem i_vc_relate {k : Nat} {u : SX} {v : SY} (I : i_Rel k u v) (hk : k + 5 ≤ 2564) (v1 : Int32) (v2 : Int32) (v3 : Int32) (v4 : Int32) : wpX_relate (fun r u' => wpY_relate (fun r' v' => r' = r ∧ i_Rel (k + 5) u' v') v v1 v2 v3 v4) u v1 v2 v3 v4 := by
  refine ii_el (P := fun u v => wpX_relate (fun r u' => wpY_relate (fun r' v' => r' = r ∧ i_Rel (k + 5) u' v') v v1 v2 v3 v4) u v1 v2 v3 v4) I ?_
  intro N R tT tW tB fo ba re st jb ou ag wi us au pc qj qs qr kp tr pu ps pj po hu kq tq pq sq fq yj ys yo G
  have J : i_Rel (k + 5) (nI N, tT, tW, tB, pc, qj, qs, qr, fo, ba, st, jb, ou, ag, wi, us, au, kp, tr, pu, ps, pj, po) (nI N, tT, tW, tB, re, st, jb, ou, ag, wi, us, au, hu, kq, tq, pq, sq, fq, yj, ys, yo) := ii_in G
  obtain ⟨⟨hN, hN1⟩, hR, hX, hF, hJ, hW, hT⟩ := G
  rcases pu_vpc hN v1 v2 v3 with hb | ⟨k', a', b', rfl, rfl, rfl, hk', ha', hb', hne⟩
  · unfold wpX_relate; dsimp only
    exact xx_vp0 hN hb (br_t rfl (yy_rlt0 hN hb ⟨rfl, J⟩))
  · refine xx_rlt hN hk' ha' hb' hne hX (fun c qj1 qs1 qr1 => ?_) (fun c qj1 qs1 qr1 fo1 ba1 hX1 => ?_)
    · exact yy_rlt hN hk' ha' hb' hne hF (fun _ => ⟨rfl, ii_in ⟨⟨hN, hN1⟩, hR, hX, hF, hJ, hW, hT⟩⟩) (fun z => by rw [c] at z; exact (nomatch z))
    · exact yy_rlt hN hk' ha' hb' hne hF (fun z => by rw [c] at z; exact (nomatch z)) (fun _ re1 hF1 => ⟨rfl, ii_in ⟨⟨hN, hN1⟩, pu_nR_ok hR ha' hb' hne, hX1, hF1, hJ, hW, hT⟩⟩)
theorem i_vc_request {k : Nat} {u : SX} {v : SY} (I : i_Rel k u v) (hk : k + 5 ≤ 2564) (v1 : Int32) (v2 : Int32) (v3 : Int32) : wpX_request (fun r u' => wpY_request (fun r' v' => r' = r ∧ i_Rel (k + 5) u' v') v v1 v2 v3) u v1 v2 v3 := by
  refine ii_el (P := fun u v => wpX_request (fun r u' => wpY_request (fun r' v' => r' = r ∧ i_Rel (k + 5) u' v') v v1 v2 v3) u v1 v2 v3) I ?_
  intro N R tT tW tB fo ba re st jb ou ag wi us au pc qj qs qr kp tr pu ps pj po hu kq tq pq sq fq yj ys yo G
  have J : i_Rel (k + 5) (nI N, tT, tW, tB, pc, qj, qs, qr, fo, ba, st, jb, ou, ag, wi, us, au, kp, tr, pu, ps, pj, po) (nI N, tT, tW, tB, re, st, jb, ou, ag, wi, us, au, hu, kq, tq, pq, sq, fq, yj, ys, yo) := ii_in G
  obtain ⟨⟨hN, hN1⟩, hR, hX, hF, hJ, hW, hT⟩ := G
  by_cases c1 : v1 < 1
  · exact br_t c1 (br_t c1 ⟨rfl, J⟩)
  · by_cases c4 : 4 < v1
    · exact br_f c1 (br_t c4 (br_f c1 (br_t c4 ⟨rfl, J⟩)))
    · unfold wpX_request wpY_request; dsimp only
      rcases pk_ix v2 (n := N) (by omega) with z | z | ⟨j, hj, rfl⟩
      · exact br_f c1 (br_f c4 (xx_inR0 (Or.inl z) (br_t rfl (br_f c1 (br_f c4 (yy_inR0 (Or.inl z) (br_t rfl ⟨rfl, J⟩)))))))
      · exact br_f c1 (br_f c4 (xx_inR0 (Or.inr z) (br_t rfl (br_f c1 (br_f c4 (yy_inR0 (Or.inr z) (br_t rfl ⟨rfl, J⟩)))))))
      · by_cases m0 : v3 < 0
        · exact br_f c1 (br_f c4 (xx_inR hN hj (br_f pu_l1_0 (br_t m0 (br_f c1 (br_f c4 (yy_inR hN hj (br_f pu_l1_0 (br_t m0 ⟨rfl, J⟩)))))))))
        · by_cases m1 : v3 ≤ 1
          · have n0 : ¬ v1 < 0 := fun z => c1 (Int32.lt_trans z (by decide))
            obtain ⟨kd, hkd, rfl⟩ := nI_of n0
            have hk1 : 1 ≤ kd := by
              apply Classical.byContradiction
              intro hn
              exact c1 (nI_lt (b := 1) (by omega) (by omega))
            have hk4 : kd ≤ 4 := by
              apply Classical.byContradiction
              intro hn
              exact c4 (nI_lt (a := 4) (by omega) hkd)
            obtain ⟨c, st1, jb1, ou1, j1, XT, YT⟩ := lk_tr (tT := tT) (tW := tW) (tB := tB) (fo := fo) (ba := ba) (re := re) (st := st) (ou := ou) (ag := ag) (wi := wi) (us := us) (au := au) (mode := v3) hN hR hJ hk1 hk4 hj
            refine br_f c1 (br_f c4 (xx_inR hN hj (br_f pu_l1_0 (br_f m0 (br_t m1 (XT _ pc qj qs qr kp tr pu ps pj po hX (fun pc1 qj1 qs1 qr1 kp1 tr1 pu1 ps1 pj1 po1 => ?_)))))))
            refine br_f c1 (br_f c4 (yy_inR hN hj (br_f pu_l1_0 (br_f m0 (br_t m1 (YT _ hu kq tq pq sq fq yj ys yo hF (fun hu1 kq1 tq1 pq1 sq1 fq1 yj1 ys1 yo1 => ?_)))))))
            exact ⟨rfl, ii_in ⟨⟨hN, hN1⟩, hR, hX, hF, j1, hW, hT⟩⟩
          · exact br_f c1 (br_f c4 (xx_inR hN hj (br_f pu_l1_0 (br_f m0 (br_f m1 (br_f c1 (br_f c4 (yy_inR hN hj (br_f pu_l1_0 (br_f m0 (br_f m1 ⟨rfl, J⟩)))))))))))
theorem i_vc_step {k : Nat} {u : SX} {v : SY} (I : i_Rel k u v) (hk : k + 5 ≤ 2564) : wpX_step (fun r u' => wpY_step (fun r' v' => r' = r ∧ i_Rel (k + 5) u' v') v) u := by
  refine ii_el (P := fun u v => wpX_step (fun r u' => wpY_step (fun r' v' => r' = r ∧ i_Rel (k + 5) u' v') v) u) I ?_
  intro N R tT tW tB fo ba re st jb ou ag wi us au pc qj qs qr kp tr pu ps pj po hu kq tq pq sq fq yj ys yo G
  have J : i_Rel (k + 5) (nI N, tT, tW, tB, pc, qj, qs, qr, fo, ba, st, jb, ou, ag, wi, us, au, kp, tr, pu, ps, pj, po) (nI N, tT, tW, tB, re, st, jb, ou, ag, wi, us, au, hu, kq, tq, pq, sq, fq, yj, ys, yo) := ii_in G
  obtain ⟨⟨hN, hN1⟩, hR, hX, hF, hJ, hW, hT⟩ := G
  refine xx_step hN hR hX hJ (fun e qj1 qs1 qr1 => ?_) (fun w e qj1 qs1 qr1 => ?_)
  · exact yy_step hN hR hF (fun _ yj1 ys1 => ⟨rfl, ii_in ⟨⟨hN, hN1⟩, hR, hX, hF, hJ, hW, hT⟩⟩) (fun w e2 => by rw [e] at e2; cases e2)
  · refine yy_step hN hR hF (fun e2 => by rw [e] at e2; cases e2) (fun w2 e2 yj1 ys1 => ?_)
    rw [e] at e2
    cases e2
    exact ⟨rfl, ii_in ⟨⟨hN, hN1⟩, hR, hX, hF, pu_cj_Jok hJ, hW, hT⟩⟩
theorem i_vc_finish {k : Nat} {u : SX} {v : SY} (I : i_Rel k u v) (hk : k + 5 ≤ 2564) (v1 : Int32) (v2 : Int32) : wpX_finish (fun r u' => wpY_finish (fun r' v' => r' = r ∧ i_Rel (k + 5) u' v') v v1 v2) u v1 v2 := by
  refine ii_el (P := fun u v => wpX_finish (fun r u' => wpY_finish (fun r' v' => r' = r ∧ i_Rel (k + 5) u' v') v v1 v2) u v1 v2) I ?_
  intro N R tT tW tB fo ba re st jb ou ag wi us au pc qj qs qr kp tr pu ps pj po hu kq tq pq sq fq yj ys yo G
  have J : i_Rel (k + 5) (nI N, tT, tW, tB, pc, qj, qs, qr, fo, ba, st, jb, ou, ag, wi, us, au, kp, tr, pu, ps, pj, po) (nI N, tT, tW, tB, re, st, jb, ou, ag, wi, us, au, hu, kq, tq, pq, sq, fq, yj, ys, yo) := ii_in G
  obtain ⟨⟨hN, hN1⟩, hR, hX, hF, hJ, hW, hT⟩ := G
  unfold wpX_finish wpY_finish wpX_completeJob; dsimp only
  rcases pk_ix v1 (n := N) (by omega) with z | z | ⟨j, hj, rfl⟩
  · exact xx_inR0 (Or.inl z) (br_t rfl (yy_inR0 (Or.inl z) (br_t rfl ⟨rfl, J⟩)))
  · exact xx_inR0 (Or.inr z) (br_t rfl (yy_inR0 (Or.inr z) (br_t rfl ⟨rfl, J⟩)))
  · have hin : vp_in (nI j) 12 := vp_in_nI (by omega) (by omega)
    have hc : (nI j).toNatClampNeg = j := nI_clamp (by omega)
    rw [hc]
    by_cases s1 : st j = 1
    · by_cases o0 : v2 = 0
      · obtain ⟨c, st1, jb1, ou1, wi1, us1, j1, w1, XT, YT⟩ := lk_fall (tT := tT) (tB := tB) (fo := fo) (ba := ba) (re := re) (st := st) (ou := ou) (ag := ag) (us := us) (au := au) (o := 2) hN hR hJ hW hT hj
        refine xx_inR hN hj (br_f pu_l1_0 ⟨hin, br_t s1 (br_t o0 (XT _ pc qj qs qr kp tr pu ps pj po hX (fun pc1 qj1 qs1 qr1 kp1 tr1 pu1 ps1 pj1 po1 => ?_)))⟩)
        refine yy_inR hN hj (br_f pu_l1_0 ⟨hin, br_t s1 (br_t o0 (YT _ hu kq tq pq sq fq yj ys yo hF (fun hu1 kq1 tq1 pq1 sq1 fq1 yj1 ys1 yo1 => ?_)))⟩)
        exact ⟨rfl, ii_in ⟨⟨hN, hN1⟩, hR, hX, hF, j1, w1, hT⟩⟩
      · refine xx_inR hN hj (br_f pu_l1_0 ⟨hin, br_t s1 (br_f o0 ⟨hin, nm_e ⟨hin, nm_e ⟨hin, nm_e ?_⟩⟩⟩)⟩)
        refine yy_inR hN hj (br_f pu_l1_0 ⟨hin, br_t s1 (br_f o0 ⟨hin, nm_e ⟨hin, nm_e ⟨hin, nm_e ?_⟩⟩⟩)⟩)
        exact ⟨rfl, ii_in ⟨⟨hN, hN1⟩, hR, hX, hF, pu_J0_Jok hJ j, hW, hT⟩⟩
    · exact xx_inR hN hj (br_f pu_l1_0 ⟨hin, br_f s1 (yy_inR hN hj (br_f pu_l1_0 ⟨hin, br_f s1 ⟨rfl, J⟩⟩))⟩)
theorem i_vc_die {k : Nat} {u : SX} {v : SY} (I : i_Rel k u v) (hk : k + 5 ≤ 2564) (v1 : Int32) : wpX_die (fun r u' => wpY_die (fun r' v' => r' = r ∧ i_Rel (k + 5) u' v') v v1) u v1 := by
  refine ii_el (P := fun u v => wpX_die (fun r u' => wpY_die (fun r' v' => r' = r ∧ i_Rel (k + 5) u' v') v v1) u v1) I ?_
  intro N R tT tW tB fo ba re st jb ou ag wi us au pc qj qs qr kp tr pu ps pj po hu kq tq pq sq fq yj ys yo G
  have J : i_Rel (k + 5) (nI N, tT, tW, tB, pc, qj, qs, qr, fo, ba, st, jb, ou, ag, wi, us, au, kp, tr, pu, ps, pj, po) (nI N, tT, tW, tB, re, st, jb, ou, ag, wi, us, au, hu, kq, tq, pq, sq, fq, yj, ys, yo) := ii_in G
  obtain ⟨⟨hN, hN1⟩, hR, hX, hF, hJ, hW, hT⟩ := G
  unfold wpX_die wpY_die; dsimp only
  rcases pk_ix v1 (n := N) (by omega) with z | z | ⟨j, hj, rfl⟩
  · exact xx_inR0 (Or.inl z) (br_t rfl (yy_inR0 (Or.inl z) (br_t rfl ⟨rfl, J⟩)))
  · exact xx_inR0 (Or.inr z) (br_t rfl (yy_inR0 (Or.inr z) (br_t rfl ⟨rfl, J⟩)))
  · have hin : vp_in (nI j) 12 := vp_in_nI (by omega) (by omega)
    have hc : (nI j).toNatClampNeg = j := nI_clamp (by omega)
    rw [hc]
    by_cases s2 : st j = 2
    · obtain ⟨c, st1, jb1, ou1, wi1, us1, j1, w1, XT, YT⟩ := lk_fall (tT := tT) (tB := tB) (fo := fo) (ba := ba) (re := re) (st := st) (ou := ou) (ag := ag) (us := us) (au := au) (o := 2) hN hR hJ hW hT hj
      refine xx_inR hN hj (br_f pu_l1_0 ⟨hin, br_t s2 (XT _ pc qj qs qr kp tr pu ps pj po hX (fun pc1 qj1 qs1 qr1 kp1 tr1 pu1 ps1 pj1 po1 => ?_))⟩)
      refine yy_inR hN hj (br_f pu_l1_0 ⟨hin, br_t s2 (YT _ hu kq tq pq sq fq yj ys yo hF (fun hu1 kq1 tq1 pq1 sq1 fq1 yj1 ys1 yo1 => ?_))⟩)
      exact ⟨rfl, ii_in ⟨⟨hN, hN1⟩, hR, hX, hF, j1, w1, hT⟩⟩
    · exact xx_inR hN hj (br_f pu_l1_0 ⟨hin, br_f s2 (yy_inR hN hj (br_f pu_l1_0 ⟨hin, br_f s2 ⟨rfl, J⟩⟩))⟩)
theorem i_vc_tick {k : Nat} {u : SX} {v : SY} (I : i_Rel k u v) (hk : k + 5 ≤ 2564) : wpX_tick (fun r u' => wpY_tick (fun r' v' => r' = r ∧ i_Rel (k + 5) u' v') v) u := by
  refine ii_el (P := fun u v => wpX_tick (fun r u' => wpY_tick (fun r' v' => r' = r ∧ i_Rel (k + 5) u' v') v) u) I ?_
  intro N R tT tW tB fo ba re st jb ou ag wi us au pc qj qs qr kp tr pu ps pj po hu kq tq pq sq fq yj ys yo G
  have J : i_Rel (k + 5) (nI N, tT, tW, tB, pc, qj, qs, qr, fo, ba, st, jb, ou, ag, wi, us, au, kp, tr, pu, ps, pj, po) (nI N, tT, tW, tB, re, st, jb, ou, ag, wi, us, au, hu, kq, tq, pq, sq, fq, yj, ys, yo) := ii_in G
  obtain ⟨⟨hN, hN1⟩, hR, hX, hF, hJ, hW, hT⟩ := G
  obtain ⟨c, st1, jb1, ou1, wi1, us1, j1, w1, XA, YA⟩ := lk_tick (tT := tT) (tB := tB) (fo := fo) (ba := ba) (re := re) (ag := pu_ga st ag N) (au := au) hN hR hT N 0 0 st jb ou (pu_gw wi N) (pu_gu wi us N) (by omega) hJ (pu_gw_Wok hW N)
  unfold wpX_tick; dsimp only
  refine xx_ga hN (xx_gw hN hW (Exists.intro (N + 1) (XA _ pc qj qs qr kp tr pu ps pj po hX (fun pc1 qj1 qs1 qr1 kp1 tr1 pu1 ps1 pj1 po1 => ?_))))
  have h40 := yy_gw_lp (tT := tT) (tW := tW) (tB := tB) (re := re) (st := st) (jb := jb) (ou := ou) (ag := pu_ga st ag N) (au := au) (hu := hu) (kq := kq) (tq := tq) (pq := pq) (sq := sq) (fq := fq) (yj := yj) (ys := ys) (yo := yo) (wi0 := wi) (us0 := us) hN (Exists.intro (N + 1) (YA (fun r' v' => r' = c ∧ i_Rel (k + 5) (nI N, tT, tW, tB, pc1, qj1, qs1, qr1, fo, ba, st1, jb1, ou1, pu_ga st ag N, wi1, us1, au, kp1, tr1, pu1, ps1, pj1, po1) v') hu kq tq pq sq fq yj ys yo hF (fun hu1 kq1 tq1 pq1 sq1 fq1 yj1 ys1 yo1 => ⟨rfl, ii_in ⟨⟨hN, hN1⟩, hR, hX, hF, j1, w1, hT⟩⟩))) N 0 (by omega)
  have e1 : pu_gw wi 0 = wi := pu_par_0
  have e2 : pu_gu wi us 0 = us := pu_par_0
  rw [e1, e2] at h40
  have h4 := yy_ga_lp (ag0 := ag) hN (Exists.intro (N + 1) h40) N 0 (by omega)
  have e3 : pu_ga st ag 0 = ag := pu_par_0
  rw [e3] at h4
  exact Exists.intro (N + 1) h4
theorem i_vc_ahead {k : Nat} {u : SX} {v : SY} (I : i_Rel k u v) (hk : k + 5 ≤ 2564) (v1 : Int32) : wpX_ahead (fun r u' => wpY_ahead (fun r' v' => r' = r ∧ i_Rel (k + 5) u' v') v v1) u v1 := by
  refine ii_el (P := fun u v => wpX_ahead (fun r u' => wpY_ahead (fun r' v' => r' = r ∧ i_Rel (k + 5) u' v') v v1) u v1) I ?_
  intro N R tT tW tB fo ba re st jb ou ag wi us au pc qj qs qr kp tr pu ps pj po hu kq tq pq sq fq yj ys yo G
  have J : i_Rel (k + 5) (nI N, tT, tW, tB, pc, qj, qs, qr, fo, ba, st, jb, ou, ag, wi, us, au, kp, tr, pu, ps, pj, po) (nI N, tT, tW, tB, re, st, jb, ou, ag, wi, us, au, hu, kq, tq, pq, sq, fq, yj, ys, yo) := ii_in G
  obtain ⟨⟨hN, hN1⟩, hR, hX, hF, hJ, hW, hT⟩ := G
  rcases pk_ix v1 (n := N) (by omega) with z | z | ⟨j, hj, rfl⟩
  · unfold wpX_ahead wpY_ahead; dsimp only
    exact xx_inR0 (Or.inl z) (br_t rfl (yy_inR0 (Or.inl z) (br_t rfl ⟨rfl, J⟩)))
  · unfold wpX_ahead wpY_ahead; dsimp only
    exact xx_inR0 (Or.inr z) (br_t rfl (yy_inR0 (Or.inr z) (br_t rfl ⟨rfl, J⟩)))
  · unfold wpX_ahead; dsimp only
    refine xx_inR hN hj (br_f pu_l1_0 (xx_lpq hN (fun qj1 qs1 qr1 hq => xx_ahd hN hR hX hJ hq hj (fun r hr => ?_))))
    exact yy_ah hN hR hF hj (fun r' yj1 ys1 hr' => ⟨b_ext (fun b hb => by rw [hr b hb, hr' b hb]), ii_in ⟨⟨hN, hN1⟩, hR, hX, hF, hJ, hW, hT⟩⟩)
end
