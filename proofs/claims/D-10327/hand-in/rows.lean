section
/-! Int32 by its bits (rows of the kit's BITS.to-paste under other names, then our own) -/
def hb_t (x : Int32) (i : Nat) : Bool := x.toBitVec.getLsbD i
theorem hb_ext {x y : Int32} (h : ∀ i, i < 32 → hb_t x i = hb_t y i) : x = y := Int32.toBitVec_inj.mp (BitVec.eq_of_getLsbD_eq (fun i hi => h i hi))
theorem hb_or (x y : Int32) (i : Nat) : hb_t (x ||| y) i = (hb_t x i || hb_t y i) := by unfold hb_t; rw [Int32.toBitVec_or, BitVec.getLsbD_or]
theorem hb_and (x y : Int32) (i : Nat) : hb_t (x &&& y) i = (hb_t x i && hb_t y i) := by unfold hb_t; rw [Int32.toBitVec_and, BitVec.getLsbD_and]
theorem hb_xor (x y : Int32) (i : Nat) : hb_t (x ^^^ y) i = (hb_t x i ^^ hb_t y i) := by unfold hb_t; rw [Int32.toBitVec_xor, BitVec.getLsbD_xor]
theorem hb_big {x : Int32} {i : Nat} (h : 32 ≤ i) : hb_t x i = false := BitVec.getLsbD_of_ge _ _ h
theorem hb_m1 : ∀ i, i < 32 → hb_t (-1) i = true := by decide +kernel
theorem hb_0 (i : Nat) : hb_t 0 i = false := BitVec.getLsbD_zero
theorem hb_sl : ∀ n, n < 32 → ((nI n &&& 31).toBitVec.smod 32).toNat = n := by decide +kernel
theorem hb_shl (n : Nat) (hn : n < 32) (x : Int32) {i : Nat} (hi : i < 32) : hb_t (x <<< (nI n &&& 31)) i = (decide (n ≤ i) && hb_t x (i - n)) := by
  unfold hb_t
  rw [Int32.toBitVec_shiftLeft]
  show (x.toBitVec <<< ((nI n &&& 31).toBitVec.smod 32).toNat).getLsbD i = _
  rw [hb_sl n hn, BitVec.getLsbD_shiftLeft]
  rcases Nat.lt_or_ge i n with h | h
  · simp [h, Nat.not_le.mpr h]
  · simp [hi, h, Nat.not_lt.mpr h]
theorem hb_sshr (n : Nat) (hn : n < 32) (x : Int32) {i : Nat} (hi : i < 32) : hb_t (x >>> (nI n &&& 31)) i = if n + i < 32 then hb_t x (n + i) else hb_t x 31 := by
  unfold hb_t
  rw [Int32.toBitVec_shiftRight]
  show (x.toBitVec.sshiftRight ((nI n &&& 31).toBitVec.smod 32).toNat).getLsbD i = _
  rw [hb_sl n hn, BitVec.getLsbD_sshiftRight, BitVec.msb_eq_getLsbD_last]
  simp [hi]
theorem hb_1 (i : Nat) : hb_t 1 i = decide (i = 0) := by
  rcases Nat.lt_or_ge i 32 with h | h
  · exact (by decide +kernel : ∀ i, i < 32 → hb_t 1 i = decide (i = 0)) i h
  · rw [hb_big h, decide_eq_false (by omega)]
theorem hb_full (i : Nat) : hb_t 1048575 i = decide (i < 20) := by
  rcases Nat.lt_or_ge i 32 with h | h
  · exact (by decide +kernel : ∀ i, i < 32 → hb_t 1048575 i = decide (i < 20)) i h
  · rw [hb_big h, decide_eq_false (by omega)]
theorem hb_one {k i : Nat} (hk : k < 32) (hi : i < 32) : hb_t ((1 : Int32) <<< (nI k &&& 31)) i = decide (i = k) := by
  rw [hb_shl k hk 1 hi, hb_1]
  apply Bool.eq_iff_iff.mpr
  simp only [Bool.and_eq_true, decide_eq_true_eq]
  omega
theorem hb_msk : ∀ k, k < 20 → ∀ i, i < 32 → hb_t (((1 : Int32) <<< (nI k &&& 31)) - 1) i = decide (i < k) := by decide +kernel
theorem hb_eqP {x y : Int32} (h : ∀ i, hb_t x i = true ↔ hb_t y i = true) : x = y := hb_ext (fun i _ => Bool.eq_iff_iff.mpr (h i))
theorem hb_bit (x : Int32) {k : Nat} (hk : k < 32) : (x >>> (nI k &&& 31)) &&& 1 = if hb_t x k = true then 1 else 0 := by
  apply hb_ext
  intro i hi
  rw [hb_and, hb_sshr k hk x hi, hb_1]
  by_cases h0 : i = 0
  · subst h0
    rw [if_pos (show k + 0 < 32 by omega), Nat.add_zero]
    by_cases h : hb_t x k = true
    · rw [if_pos h, h]; rfl
    · rw [if_neg h, Bool.eq_false_iff.mpr h]; rfl
  · rw [decide_eq_false h0, Bool.and_false]
    split
    · rw [hb_1, decide_eq_false h0]
    · rw [hb_0]
theorem hb_is0 (x : Int32) {k : Nat} (hk : k < 32) : ((x >>> (nI k &&& 31)) &&& 1) = 0 ↔ hb_t x k = false := by
  rw [hb_bit x hk]
  cases hb_t x k <;> decide
theorem hb_is1 (x : Int32) {k : Nat} (hk : k < 32) : ((x >>> (nI k &&& 31)) &&& 1) = 1 ↔ hb_t x k = true := by
  rw [hb_bit x hk]
  cases hb_t x k <;> decide
theorem hb_v (x : Int32) {k : Nat} (hk : k < 32) : ((x >>> (nI k &&& 31)) &&& 1) = nI (if hb_t x k = true then 1 else 0) := by
  rw [hb_bit x hk]
  cases hb_t x k <;> rfl
theorem hb_setP (x : Int32) {k : Nat} (hk : k < 32) (i : Nat) : hb_t (x ||| ((1 : Int32) <<< (nI k &&& 31))) i = true ↔ hb_t x i = true ∨ i = k := by
  rcases Nat.lt_or_ge i 32 with h | h
  · rw [hb_or, hb_one hk h, Bool.or_eq_true, decide_eq_true_eq]
  · rw [hb_big h, hb_big h]
    constructor
    · intro z; cases z
    · intro z
      rcases z with z | z
      · cases z
      · omega
theorem hb_dif (x y : Int32) {i : Nat} (hi : i < 32) : hb_t (x &&& (y ^^^ (-1))) i = (hb_t x i && !hb_t y i) := by
  rw [hb_and, hb_xor, hb_m1 i hi]
  cases hb_t x i <;> cases hb_t y i <;> rfl
theorem hb_clrP (x : Int32) {k : Nat} (hk : k < 32) (i : Nat) : hb_t (x &&& (((1 : Int32) <<< (nI k &&& 31)) ^^^ (-1))) i = true ↔ hb_t x i = true ∧ i ≠ k := by
  rcases Nat.lt_or_ge i 32 with h | h
  · rw [hb_dif _ _ h, hb_one hk h, Bool.and_eq_true, Bool.not_eq_true', decide_eq_false_iff_not]
  · rw [hb_big h, hb_big h]
    constructor
    · intro z; cases z
    · intro z; cases z.1
theorem hb_andP (x y : Int32) (i : Nat) : hb_t (x &&& y) i = true ↔ hb_t x i = true ∧ hb_t y i = true := by rw [hb_and, Bool.and_eq_true]
theorem hb_difP (x y : Int32) (i : Nat) : hb_t (x &&& (y ^^^ (-1))) i = true ↔ hb_t x i = true ∧ ¬ hb_t y i = true := by
  rcases Nat.lt_or_ge i 32 with h | h
  · rw [hb_dif _ _ h, Bool.and_eq_true, Bool.not_eq_true', Bool.not_eq_true]
  · rw [hb_big h, hb_big h]
    constructor
    · intro z; cases z
    · intro z; cases z.1
theorem hb_sub (x y : Int32) : (x &&& (y ^^^ (-1))) = 0 ↔ ∀ i, hb_t x i = true → hb_t y i = true := by
  constructor
  · intro h i hx
    by_cases hy : hb_t y i = true
    · exact hy
    · have := (hb_difP x y i).mpr ⟨hx, hy⟩
      rw [h, hb_0] at this
      cases this
  · intro h
    apply hb_eqP
    intro i
    rw [hb_difP, hb_0]
    constructor
    · intro z; exact absurd (h i z.1) z.2
    · intro z; cases z
theorem hb_32 {x : Int32} {i : Nat} (h : hb_t x i = true) : i < 32 := by
  rcases Nat.lt_or_ge i 32 with z | z
  · exact z
  · rw [hb_big z] at h; cases h
/-! counting -/
def hc_n (f : Nat → Bool) : Nat → Nat
  | 0 => 0
  | k + 1 => hc_n f k + (if f k = true then 1 else 0)
theorem hc_s (f : Nat → Bool) (k : Nat) : hc_n f (k + 1) = hc_n f k + (if f k = true then 1 else 0) := rfl
theorem hc_le (f : Nat → Bool) (m : Nat) : hc_n f m ≤ m := by
  induction m with
  | zero => exact Nat.le_refl 0
  | succ m ih => rw [hc_s]; split <;> omega
theorem hc_cg {f g : Nat → Bool} {m : Nat} (h : ∀ i, i < m → f i = g i) : hc_n f m = hc_n g m := by
  induction m with
  | zero => rfl
  | succ m ih => rw [hc_s, hc_s, ih (fun i hi => h i (by omega)), h m (by omega)]
theorem hc_add {f g : Nat → Bool} {m k : Nat} (hk : k < m) (hf : f k = false) (hg : g k = true) (h : ∀ i, i ≠ k → f i = g i) : hc_n g m = hc_n f m + 1 := by
  induction m with
  | zero => omega
  | succ m ih =>
    rw [hc_s, hc_s]
    by_cases e : k = m
    · subst e
      rw [hc_cg (f := f) (g := g) (fun i hi => h i (by omega)), hf, hg]
      rfl
    · rw [ih (by omega), h m (by omega)]
      omega
theorem hc_lt {f : Nat → Bool} {m k : Nat} (hk : k < m) (hf : f k = false) : hc_n f m < m := by
  induction m with
  | zero => omega
  | succ m ih =>
    rw [hc_s]
    by_cases e : k = m
    · subst e
      have := hc_le f k
      rw [hf]
      simp only [Bool.false_eq_true, if_false]
      omega
    · have := ih (by omega)
      split <;> omega
/-- pigeons -/
theorem hp_pig : ∀ (m c : Nat) (R : Nat → Nat → Prop), (∀ y, y < c → ∃ x, x < m ∧ R y x) → (∀ y y' x, y < c → y' < c → R y x → R y' x → y = y') → c ≤ m := by
  intro m
  induction m with
  | zero =>
    intro c R h _
    rcases Nat.lt_or_ge 0 c with z | z
    · obtain ⟨x, hx, _⟩ := h 0 z
      omega
    · exact z
  | succ m ih =>
    intro c R h hi
    by_cases e : ∃ y, y < c ∧ R y m
    · obtain ⟨y0, hy0, r0⟩ := e
      have t := ih (c - 1) (fun y x => R (if y < y0 then y else y + 1) x) (fun y hy => by
        obtain ⟨x, hx, hr⟩ := h (if y < y0 then y else y + 1) (by split <;> omega)
        refine ⟨x, ?_, hr⟩
        rcases Nat.lt_or_ge x m with z | z
        · exact z
        · have e : x = m := by omega
          rw [e] at hr
          have t := hi _ y0 _ (by split <;> omega) hy0 hr r0
          split at t <;> omega) (fun y y' x hy hy' h1 h2 => by
        have t := hi _ _ _ (by split <;> omega) (by split <;> omega) h1 h2
        split at t <;> split at t <;> omega)
      omega
    · have t := ih c R (fun y hy => by
        obtain ⟨x, hx, hr⟩ := h y hy
        refine ⟨x, ?_, hr⟩
        rcases Nat.lt_or_ge x m with z | z
        · exact z
        · have e' : x = m := by omega
          rw [e'] at hr
          exact absurd ⟨y, hy, hr⟩ e) hi
      omega
/-! encodings: none is 0, a place y is y + 1 -/
def he_I : Nat → Int32
  | 0 => -1
  | n + 1 => nI n
def he_A (f : Nat → Nat) : Nat → Int32 := fun j => he_I (f j)
def hn_A (f : Nat → Nat) : Nat → Int32 := fun j => nI (f j)
def hf_u (f : Nat → Nat) (k v : Nat) : Nat → Nat := fun j => if j = k then v else f j
theorem hf_s {f : Nat → Nat} {k v : Nat} : hf_u f k v k = v := if_pos rfl
theorem hf_n {f : Nat → Nat} {k v j : Nat} (h : j ≠ k) : hf_u f k v j = f j := if_neg h
theorem he_neg {v : Nat} (h : v < 2 ^ 31) : he_I v < 0 ↔ v = 0 := by
  cases v with
  | zero => exact ⟨fun _ => rfl, fun _ => by decide⟩
  | succ v => exact ⟨fun z => absurd z (nI_pos (by omega)), fun z => absurd z (by omega)⟩
theorem he_nn {v : Nat} (h : v < 2 ^ 31) : 0 ≤ he_I v ↔ v ≠ 0 := by
  cases v with
  | zero => exact ⟨fun z => absurd z (by decide), fun z => absurd rfl z⟩
  | succ v => exact ⟨fun _ => by omega, fun _ => nI_pos' (by omega)⟩
theorem he_eq {v c : Nat} (hv : v < 2 ^ 31) (hc : c < 2 ^ 31) : he_I v = nI c ↔ v = c + 1 := by
  cases v with
  | zero =>
    constructor
    · intro e
      have := nI_pos hc
      rw [← e] at this
      exact absurd (by decide) this
    · intro e; omega
  | succ v =>
    have := nI_eq (a := v) (b := c) (by omega) hc
    constructor
    · intro e; rw [this.mp e]
    · intro e; exact this.mpr (by omega)
theorem he_m1 {v : Nat} (h : v < 2 ^ 31) : he_I v = -1 ↔ v = 0 := by
  cases v with
  | zero => exact ⟨fun _ => rfl, fun _ => rfl⟩
  | succ v =>
    constructor
    · intro e
      have := nI_pos (n := v) (by omega)
      rw [show nI v = -1 from e] at this
      exact absurd (by decide) this
    · intro e; omega
theorem he_b : ∀ v, v ≤ 100 → (he_I v).toInt8.toInt32 = he_I v := by decide +kernel
theorem hn_b : ∀ v, v ≤ 100 → (nI v).toInt8.toInt32 = nI v := by decide +kernel
theorem he_up (f : Nat → Nat) (k v : Nat) : upd (he_A f) k (he_I v) = he_A (hf_u f k v) := by
  funext j
  unfold upd he_A hf_u
  split <;> rfl
theorem hn_up (f : Nat → Nat) (k v : Nat) : upd (hn_A f) k (nI v) = hn_A (hf_u f k v) := by
  funext j
  unfold upd hn_A hf_u
  split <;> rfl
theorem he_upb (f : Nat → Nat) (k v : Nat) (h : v ≤ 100) : upd (he_A f) k (he_I v).toInt8.toInt32 = he_A (hf_u f k v) := by rw [he_b v h, he_up]
theorem hn_upb (f : Nat → Nat) (k v : Nat) (h : v ≤ 100) : upd (hn_A f) k (nI v).toInt8.toInt32 = hn_A (hf_u f k v) := by rw [hn_b v h, hn_up]
theorem he_upp (f : Nat → Nat) (k v : Nat) (h : v ≤ 99) : upd (he_A f) k (nI v).toInt8.toInt32 = he_A (hf_u f k (v + 1)) := he_upb f k (v + 1) (by omega)
theorem he_upn (f : Nat → Nat) (k v : Nat) (h : v ≤ 100) : upd (he_A f) k (vp_nar .byte (he_I v)) = he_A (hf_u f k v) := by rw [vp_nar_byte, he_upb f k v h]
theorem hn_upn (f : Nat → Nat) (k v : Nat) (h : v ≤ 100) : upd (hn_A f) k (vp_nar .byte (nI v)) = hn_A (hf_u f k v) := by rw [vp_nar_byte, hn_upb f k v h]
/-! the two spaces -/
def hs_p (sb : Int32) (b n : Nat) : Prop := (sb = 0 ∧ b = 0 ∧ n = 20) ∨ (sb = 1 ∧ b = 20 ∧ n = 0)
theorem hs_n {sb : Int32} {b n : Nat} (h : hs_p sb b n) (c : Nat) : ((1 - sb) * 20) + nI c = nI (n + c) := by
  rcases h with ⟨rfl, rfl, rfl⟩ | ⟨rfl, rfl, rfl⟩
  · rw [show ((1 - 0 : Int32) * 20) = nI 20 by decide, nI_add]
  · rw [show ((1 - 1 : Int32) * 20) = nI 0 by decide, nI_add]
theorem hs_b {sb : Int32} {b n : Nat} (h : hs_p sb b n) (c : Nat) : (sb * 20) + nI c = nI (b + c) := by
  rcases h with ⟨rfl, rfl, rfl⟩ | ⟨rfl, rfl, rfl⟩
  · rw [show ((0 : Int32) * 20) = nI 0 by decide, nI_add]
  · rw [show ((1 : Int32) * 20) = nI 20 by decide, nI_add]
theorem hs_f {sb : Int32} {b n : Nat} (h : hs_p sb b n) : hs_p (1 - sb) n b := by
  rcases h with ⟨rfl, rfl, rfl⟩ | ⟨rfl, rfl, rfl⟩
  · exact Or.inr ⟨by decide, rfl, rfl⟩
  · exact Or.inl ⟨by decide, rfl, rfl⟩
theorem hs_o {sb : Int32} {b n : Nat} (h : hs_p sb b n) : (b = 0 ∧ n = 20) ∨ (b = 20 ∧ n = 0) := by
  rcases h with ⟨_, hb, hn⟩ | ⟨_, hb, hn⟩
  · exact Or.inl ⟨hb, hn⟩
  · exact Or.inr ⟨hb, hn⟩
end
section
/-! the pure picture: closed sets, what lives, the heap's invariant, the copying's invariant -/
def hh_cl (b us : Nat) (K A B : Nat → Nat) (X : Nat → Prop) : Prop :=
  ∀ x, b ≤ x → x < b + us → X x → (K x = 0 → ∀ y, A x = y + 1 → X y) ∧ (K x ≠ 2 → ∀ y, B x = y + 1 → X y) ∧ (K x = 2 → ∀ k, A x = k + 1 → X k → ∀ y, B x = y + 1 → X y)
def hh_lv (b us : Nat) (K A B : Nat → Nat) (Z : Nat → Prop) (x : Nat) : Prop := ∀ X : Nat → Prop, (∀ z, Z z → X z) → hh_cl b us K A B X → X x
def hh_sd (q : Nat) (PL R Q : Nat → Nat) (z : Nat) : Prop := (∃ r, r < 4 ∧ R r = z + 1) ∨ (∃ i, i < q ∧ z = PL (Q i))
theorem hl_sd {b us : Nat} {K A B : Nat → Nat} {Z : Nat → Prop} {z : Nat} (h : Z z) : hh_lv b us K A B Z z := fun X hz _ => hz z h
theorem hl_cl {b us : Nat} {K A B : Nat → Nat} {Z : Nat → Prop} : hh_cl b us K A B (hh_lv b us K A B Z) :=
  fun x h1 h2 hx => ⟨fun hk y hy X hz hc => (hc x h1 h2 (hx X hz hc)).1 hk y hy, fun hk y hy X hz hc => (hc x h1 h2 (hx X hz hc)).2.1 hk y hy, fun hk k hk' hlk y hy X hz hc => (hc x h1 h2 (hx X hz hc)).2.2 hk k hk' (hlk X hz hc) y hy⟩
theorem hl_mo {b us : Nat} {K A B : Nat → Nat} {Z Z' : Nat → Prop} (h : ∀ z, Z z → Z' z) {x : Nat} (hx : hh_lv b us K A B Z x) : hh_lv b us K A B Z' x :=
  fun X hz hc => hx X (fun z hz' => hz z (h z hz')) hc
def hh_ve (b : Nat) (N K A B N' K' A' B' : Nat → Nat) : Prop := ∀ x, b ≤ x → x < b + 20 → N' x = N x ∧ K' x = K x ∧ A' x = A x ∧ B' x = B x
theorem hv_r {b : Nat} {N K A B : Nat → Nat} : hh_ve b N K A B N K A B := fun _ _ _ => ⟨rfl, rfl, rfl, rfl⟩
theorem hv_t {b : Nat} {N K A B N' K' A' B' N'' K'' A'' B'' : Nat → Nat} (h : hh_ve b N K A B N' K' A' B') (h' : hh_ve b N' K' A' B' N'' K'' A'' B'') : hh_ve b N K A B N'' K'' A'' B'' :=
  fun x h1 h2 => ⟨(h' x h1 h2).1.trans (h x h1 h2).1, (h' x h1 h2).2.1.trans (h x h1 h2).2.1, (h' x h1 h2).2.2.1.trans (h x h1 h2).2.2.1, (h' x h1 h2).2.2.2.trans (h x h1 h2).2.2.2⟩
theorem hv_s {b : Nat} {N K A B N' K' A' B' : Nat → Nat} (h : hh_ve b N K A B N' K' A' B') : hh_ve b N' K' A' B' N K A B :=
  fun x h1 h2 => ⟨(h x h1 h2).1.symm, (h x h1 h2).2.1.symm, (h x h1 h2).2.2.1.symm, (h x h1 h2).2.2.2.symm⟩
theorem hl_cg {b us : Nat} {N K A B N' K' A' B' : Nat → Nat} {X : Nat → Prop} (hu : us ≤ 20) (h : hh_ve b N K A B N' K' A' B') (hc : hh_cl b us K' A' B' X) : hh_cl b us K A B X := by
  intro x h1 h2 hx
  have t := hc x h1 h2 hx
  obtain ⟨_, e2, e3, e4⟩ := h x h1 (by omega)
  rw [e2, e3, e4] at t
  exact t
theorem hl_ve {b us : Nat} {N K A B N' K' A' B' : Nat → Nat} {Z : Nat → Prop} {x : Nat} (hu : us ≤ 20) (h : hh_ve b N K A B N' K' A' B') (hx : hh_lv b us K A B Z x) : hh_lv b us K' A' B' Z x :=
  fun X hz hc => hx X hz (hl_cg hu h hc)
/-- the fields of the space in use are in range -/
def hh_fz (b us : Nat) (N K A B : Nat → Nat) : Prop := ∀ x, b ≤ x → x < b + us → N x < 20 ∧ K x ≤ 2 ∧ (∀ y, A x = y + 1 → b ≤ y ∧ y < b + us) ∧ (∀ y, B x = y + 1 → b ≤ y ∧ y < b + us)
def hh_ok (p w : Int32) (b us q : Nat) (PL N K A B R Q : Nat → Nat) : Prop :=
  us ≤ 20 ∧ hh_fz b us N K A B
  ∧ (∀ x, b ≤ x → x < b + us → PL (N x) = x ∧ hb_t p (N x) = true)
  ∧ (∀ o, hb_t p o = true → o < 20 ∧ b ≤ PL o ∧ PL o < b + us ∧ N (PL o) = o)
  ∧ (∀ r, r < 4 → ∀ y, R r = y + 1 → b ≤ y ∧ y < b + us)
  ∧ q ≤ 20 ∧ (∀ i, i < q → hb_t p (Q i) = true) ∧ (∀ i j, i < q → j < q → Q i = Q j → i = j)
  ∧ (∀ o, hb_t w o = true → hb_t p o = true)
  ∧ hc_n (hb_t p) 20 = us
theorem ho_ve {p w : Int32} {b us q : Nat} {PL N K A B R Q N' K' A' B' : Nat → Nat} (h : hh_ok p w b us q PL N K A B R Q) (v : hh_ve b N K A B N' K' A' B') : hh_ok p w b us q PL N' K' A' B' R Q := by
  obtain ⟨h1, h2, h3, h4, h5⟩ := h
  refine ⟨h1, ?_, ?_, ?_, h5⟩
  · intro x a1 a2
    obtain ⟨e1, e2, e3, e4⟩ := v x a1 (by omega)
    rw [e1, e2, e3, e4]
    exact h2 x a1 a2
  · intro x a1 a2
    rw [(v x a1 (by omega)).1]
    exact h3 x a1 a2
  · intro o ho
    obtain ⟨a1, a2, a3, a4⟩ := h4 o ho
    rw [(v (PL o) a2 (by omega)).1]
    exact ⟨a1, a2, a3, a4⟩
/-- all live objects' numbers -/
def hh_al (b us q : Nat) (PL N K A B R Q : Nat → Nat) (r : Int32) : Prop := ∀ k, hb_t r k = true ↔ ∃ x, b ≤ x ∧ x < b + us ∧ hh_lv b us K A B (hh_sd q PL R Q) x ∧ N x = k
theorem ha_ve {b us q : Nat} {PL N K A B R Q N' K' A' B' : Nat → Nat} {r : Int32} (hu : us ≤ 20) (v : hh_ve b N K A B N' K' A' B') (h : hh_al b us q PL N K A B R Q r) : hh_al b us q PL N' K' A' B' R Q r := by
  intro k
  rw [h k]
  constructor
  · intro ⟨x, a1, a2, a3, a4⟩
    exact ⟨x, a1, a2, hl_ve hu v a3, by rw [(v x a1 (by omega)).1]; exact a4⟩
  · intro ⟨x, a1, a2, a3, a4⟩
    exact ⟨x, a1, a2, hl_ve hu (hv_s v) a3, by rw [(v x a1 (by omega)).1] at a4; exact a4⟩
theorem ha_eq {b us q : Nat} {PL N K A B R Q : Nat → Nat} {r r' : Int32} (h : hh_al b us q PL N K A B R Q r) (h' : hh_al b us q PL N K A B R Q r') : r = r' :=
  hb_eqP (fun i => (h i).trans (h' i).symm)
/-! copying -/
def hh_ci (b n us : Nat) (X : Nat → Prop) (N0 K0 A0 B0 : Nat → Nat) (c : Nat) (N K A B P : Nat → Nat) : Prop :=
  (∀ y, y < c → ∃ x, b ≤ x ∧ x < b + us ∧ P x = n + y + 1 ∧ N (n + y) = N0 x ∧ K (n + y) = K0 x ∧ A (n + y) = A0 x ∧ B (n + y) = B0 x)
  ∧ (∀ x, x < 40 → P x ≠ 0 → b ≤ x ∧ x < b + us ∧ X x ∧ ∃ y, y < c ∧ P x = n + y + 1)
  ∧ (∀ x x', x < 40 → x' < 40 → P x ≠ 0 → P x = P x' → x = x')
  ∧ hh_ve b N0 K0 A0 B0 N K A B
def hh_ev (sb : Int32) (b n us : Nat) (N0 K0 A0 B0 : Nat → Nat) (X : Nat → Prop) : Prop := hs_p sb b n ∧ us ≤ 20 ∧ hh_fz b us N0 K0 A0 B0 ∧ hh_cl b us K0 A0 B0 X
def hh_ex (P P' : Nat → Nat) (c c' : Nat) : Prop := (∀ z, z < 40 → P z ≠ 0 → P' z = P z) ∧ c ≤ c' ∧ (c' = c → ∀ z, P' z = P z)
theorem hx_r {P : Nat → Nat} {c : Nat} : hh_ex P P c c := ⟨fun _ _ _ => rfl, Nat.le_refl c, fun _ _ => rfl⟩
theorem hx_t {P P' P'' : Nat → Nat} {c c' c'' : Nat} (h : hh_ex P P' c c') (h' : hh_ex P' P'' c' c'') : hh_ex P P'' c c'' := by
  obtain ⟨a1, a2, a3⟩ := h
  obtain ⟨b1, b2, b3⟩ := h'
  refine ⟨fun z hz h0 => ?_, by omega, fun e z => ?_⟩
  · have e := a1 z hz h0
    rw [b1 z hz (by rw [e]; exact h0), e]
  · rw [b3 (by omega) z, a3 (by omega) z]
theorem hx_k {P P' : Nat → Nat} {c c' z : Nat} (h : hh_ex P P' c c') (hz : z < 40) (h0 : P z ≠ 0) : P' z ≠ 0 := by rw [h.1 z hz h0]; exact h0
section
variable {sb : Int32} {b n us c c' : Nat} {X X' : Nat → Prop} {N0 K0 A0 B0 N K A B P N' K' A' B' P' : Nat → Nat}
theorem hi_mo (h : hh_ci b n us X N0 K0 A0 B0 c N K A B P) (hX : ∀ x, X x → X' x) : hh_ci b n us X' N0 K0 A0 B0 c N K A B P :=
  ⟨h.1, fun x hx h0 => ⟨(h.2.1 x hx h0).1, (h.2.1 x hx h0).2.1, hX x (h.2.1 x hx h0).2.2.1, (h.2.1 x hx h0).2.2.2⟩, h.2.2⟩
theorem hi_le (h : hh_ci b n us X N0 K0 A0 B0 c N K A B P) : c ≤ us := by
  refine hp_pig us c (fun y x => P (b + x) = n + y + 1) (fun y hy => ?_) (fun y y' x _ _ h1 h2 => by omega)
  obtain ⟨x, a1, a2, a3, _⟩ := h.1 y hy
  exact ⟨x - b, by omega, by rw [show b + (x - b) = x by omega]; exact a3⟩
theorem hi_lt (h : hh_ci b n us X N0 K0 A0 B0 c N K A B P) {x : Nat} (h1 : b ≤ x) (h2 : x < b + us) (h0 : P x = 0) : c < us := by
  refine hp_pig us (c + 1) (fun y z => hf_u P x (n + c + 1) (b + z) = n + y + 1) (fun y hy => ?_) (fun y y' x _ _ h1 h2 => by omega)
  by_cases e : y = c
  · refine ⟨x - b, by omega, ?_⟩
    rw [show b + (x - b) = x by omega, hf_s, e]
  · obtain ⟨z, a1, a2, a3, _⟩ := h.1 y (by omega)
    refine ⟨z - b, by omega, ?_⟩
    rw [show b + (z - b) = z by omega, hf_n (fun g => by rw [g] at a3; omega), a3]
theorem hi_P (hu : us ≤ 20) (ho : (b = 0 ∧ n = 20) ∨ (b = 20 ∧ n = 0)) (h : hh_ci b n us X N0 K0 A0 B0 c N K A B P) {x : Nat} (hx : x < 40) : P x ≤ 40 := by
  by_cases e : P x = 0
  · omega
  · obtain ⟨_, _, _, y, hy, e'⟩ := h.2.1 x hx e
    have := hi_le h
    omega
theorem hi_cp (hu : us ≤ 20) (ho : (b = 0 ∧ n = 20) ∨ (b = 20 ∧ n = 0)) (h : hh_ci b n us X N0 K0 A0 B0 c N K A B P) {x : Nat} (h1 : b ≤ x) (h2 : x < b + us) (hX : X x) (h0 : P x = 0) :
    hh_ci b n us X N0 K0 A0 B0 (c + 1) (hf_u N (n + c) (N x)) (hf_u K (n + c) (K x)) (hf_u A (n + c) (A x)) (hf_u B (n + c) (B x)) (hf_u P x (n + c + 1)) := by
  have hc := hi_lt h h1 h2 h0
  obtain ⟨i1, i2, i3, i4⟩ := h
  refine ⟨fun y hy => ?_, fun z hz hz0 => ?_, fun z z' hz hz' hz0 e => ?_, fun z hz1 hz2 => ?_⟩
  · by_cases e : y = c
    · subst e
      obtain ⟨e1, e2, e3, e4⟩ := i4 x h1 (by omega)
      exact ⟨x, h1, h2, hf_s, by rw [hf_s, e1], by rw [hf_s, e2], by rw [hf_s, e3], by rw [hf_s, e4]⟩
    · obtain ⟨x', a1, a2, a3, a4, a5, a6, a7⟩ := i1 y (by omega)
      have g : n + y ≠ n + c := by omega
      exact ⟨x', a1, a2, by rw [hf_n (fun g => by rw [g] at a3; omega)]; exact a3, by rw [hf_n g]; exact a4, by rw [hf_n g]; exact a5, by rw [hf_n g]; exact a6, by rw [hf_n g]; exact a7⟩
  · by_cases e : z = x
    · subst e
      exact ⟨h1, h2, hX, c, by omega, hf_s⟩
    · rw [hf_n e] at hz0 ⊢
      obtain ⟨a1, a2, a3, y, hy, a4⟩ := i2 z hz hz0
      exact ⟨a1, a2, a3, y, by omega, a4⟩
  · by_cases e1 : z = x
    · by_cases e2 : z' = x
      · omega
      · rw [e1, hf_s, hf_n e2] at e
        obtain ⟨_, _, _, y, hy, a4⟩ := i2 z' hz' (by omega)
        omega
    · rw [hf_n e1] at hz0 e
      by_cases e2 : z' = x
      · rw [e2, hf_s] at e
        obtain ⟨_, _, _, y, hy, a4⟩ := i2 z hz hz0
        omega
      · rw [hf_n e2] at e
        exact i3 z z' hz hz' hz0 e
  · have g : z ≠ n + c := by omega
    rw [hf_n g, hf_n g, hf_n g, hf_n g]
    exact i4 z hz1 hz2
theorem hi_ex {x v : Nat} (h0 : P x = 0) : hh_ex P (hf_u P x v) c (c + 1) :=
  ⟨fun z _ hz => hf_n (fun g => hz (by rw [g]; exact h0)), by omega, fun e => absurd e (by omega)⟩
/-- what is scanned is closed but for pairs -/
def hh_sc (b n us : Nat) (K0 A0 B0 : Nat → Nat) (sc : Nat) (P : Nat → Nat) : Prop :=
  ∀ x y, b ≤ x → x < b + us → P x = n + y + 1 → y < sc → (K0 x = 0 → ∀ z, A0 x = z + 1 → P z ≠ 0) ∧ (K0 x ≠ 2 → ∀ z, B0 x = z + 1 → P z ≠ 0)
def hh_pc (b us : Nat) (K0 A0 B0 : Nat → Nat) (P : Nat → Nat) : Prop :=
  ∀ x, b ≤ x → x < b + us → P x ≠ 0 → K0 x = 2 → ∀ k, A0 x = k + 1 → P k ≠ 0 → ∀ z, B0 x = z + 1 → P z ≠ 0
theorem hh_at (hu : us ≤ 20) (ho : (b = 0 ∧ n = 20) ∨ (b = 20 ∧ n = 0)) (h : hh_ci b n us X N0 K0 A0 B0 c N K A B P) (h' : hh_ci b n us X' N0 K0 A0 B0 c' N' K' A' B' P') (e : hh_ex P P' c c') {x y : Nat} (h1 : b ≤ x) (h2 : x < b + us) (hx : P' x = n + y + 1) (hy : y < c) : P x = n + y + 1 := by
  obtain ⟨x0, a1, a2, a3, _⟩ := h.1 y hy
  have t := e.1 x0 (by omega) (by omega)
  have g := h'.2.2.1 x x0 (by omega) (by omega) (by omega) (by omega)
  rw [g]; exact a3
theorem hc_ex (hu : us ≤ 20) (ho : (b = 0 ∧ n = 20) ∨ (b = 20 ∧ n = 0)) (hf : hh_fz b us N0 K0 A0 B0) (h : hh_ci b n us X N0 K0 A0 B0 c N K A B P) (h' : hh_ci b n us X' N0 K0 A0 B0 c' N' K' A' B' P') (e : hh_ex P P' c c') {sc : Nat} (hs : sc ≤ c) (s : hh_sc b n us K0 A0 B0 sc P) : hh_sc b n us K0 A0 B0 sc P' := by
  intro x y h1 h2 hx hy
  have g := hh_at hu ho h h' e h1 h2 hx (by omega)
  obtain ⟨s1, s2⟩ := s x y h1 h2 g hy
  obtain ⟨_, _, f1, f2⟩ := hf x h1 h2
  refine ⟨fun hk z hz => ?_, fun hk z hz => ?_⟩
  · have := f1 z hz
    exact hx_k e (by omega) (s1 hk z hz)
  · have := f2 z hz
    exact hx_k e (by omega) (s2 hk z hz)
theorem hc_st (hu : us ≤ 20) (ho : (b = 0 ∧ n = 20) ∨ (b = 20 ∧ n = 0)) (h : hh_ci b n us X N0 K0 A0 B0 c N K A B P) {sc x0 : Nat} (s : hh_sc b n us K0 A0 B0 sc P) (h1 : b ≤ x0) (h2 : x0 < b + us) (h3 : P x0 = n + sc + 1)
    (s1 : K0 x0 = 0 → ∀ z, A0 x0 = z + 1 → P z ≠ 0) (s2 : K0 x0 ≠ 2 → ∀ z, B0 x0 = z + 1 → P z ≠ 0) : hh_sc b n us K0 A0 B0 (sc + 1) P := by
  intro x y a1 a2 hx hy
  by_cases e : y = sc
  · have g := h.2.2.1 x x0 (by omega) (by omega) (by omega) (by omega)
    rw [g]
    exact ⟨s1, s2⟩
  · exact s x y a1 a2 hx (by omega)
theorem hc_cl (hu : us ≤ 20) (ho : (b = 0 ∧ n = 20) ∨ (b = 20 ∧ n = 0)) (h : hh_ci b n us X N0 K0 A0 B0 c N K A B P) (s : hh_sc b n us K0 A0 B0 c P) (q : hh_pc b us K0 A0 B0 P) : hh_cl b us K0 A0 B0 (fun x => P x ≠ 0) := by
  intro x h1 h2 hx
  obtain ⟨_, _, _, y, hy, e⟩ := h.2.1 x (by omega) hx
  obtain ⟨s1, s2⟩ := s x y h1 h2 e hy
  exact ⟨s1, s2, q x h1 h2 hx⟩
theorem hc_of {sc : Nat} (h : hh_cl b us K0 A0 B0 (fun x => P x ≠ 0)) : hh_sc b n us K0 A0 B0 sc P := by
  intro x y h1 h2 hx _
  have t := h x h1 h2 (by dsimp only; omega)
  exact ⟨t.1, t.2.1⟩
end
end
section
/-! the heap behind a cleaning -/
def hh_mv (P : Nat → Nat) : Nat → Nat
  | 0 => 0
  | x + 1 => P x
def hh_md (b n us : Nat) (K0 A0 B0 P A B : Nat → Nat) (y : Nat) : Prop := ∀ x, b ≤ x → x < b + us → P x = n + y + 1 →
  (A (n + y) = hh_mv P (A0 x) ∨ (K0 x = 1 ∧ A (n + y) = 0)) ∧ (B (n + y) = hh_mv P (B0 x) ∨ (K0 x = 2 ∧ A (n + y) = 0 ∧ B (n + y) = 0))
section
variable {b n us c q q0 : Nat} {X : Nat → Prop} {p w p' w' : Int32} {N0 K0 A0 B0 N K A B A1 B1 P PL PL' R R0 Q Q0 : Nat → Nat}
theorem hw_mv (i : hh_ci b n us X N0 K0 A0 B0 c N K A1 B1 P) {v z : Nat} (h : hh_mv P v = z + 1) (hv : ∀ y, v = y + 1 → y < 40) : n ≤ z ∧ z < n + c := by
  cases v with
  | zero => exact absurd (show (0 : Nat) = z + 1 from h) (by omega)
  | succ y =>
    have h' : P y = z + 1 := h
    obtain ⟨_, _, _, y', hy', e⟩ := i.2.1 y (hv y rfl) (by omega)
    omega
theorem hw_ok (ho : (b = 0 ∧ n = 20) ∨ (b = 20 ∧ n = 0)) (k : hh_ok p w b us q0 PL N0 K0 A0 B0 R0 Q0)
    (i : hh_ci b n us X N0 K0 A0 B0 c N K A1 B1 P)
    (sd : ∀ z, hh_sd q PL R0 Q z → P z ≠ 0)
    (md : ∀ y, y < c → hh_md b n us K0 A0 B0 P A B y) (rt : ∀ r, r < 4 → R r = hh_mv P (R0 r))
    (pp : ∀ k, hb_t p' k = true ↔ ∃ y, y < c ∧ N (n + y) = k) (pl : ∀ y, y < c → PL' (N (n + y)) = n + y) (ct : hc_n (hb_t p') 20 = c)
    (hq : q ≤ 20) (hQ : ∀ i, i < q → hb_t p (Q i) = true) (hI : ∀ i j, i < q → j < q → Q i = Q j → i = j)
    (hw : ∀ o, hb_t w' o = true → hb_t p' o = true) : hh_ok p' w' n c q PL' N K A B R Q := by
  obtain ⟨k1, k2, k3, k4, k5, _⟩ := k
  have hc := hi_le i
  have src : ∀ x, n ≤ x → x < n + c → ∃ y x0, y < c ∧ x = n + y ∧ b ≤ x0 ∧ x0 < b + us ∧ P x0 = n + y + 1 ∧ N x = N0 x0 ∧ K x = K0 x0 := by
    intro x h1 h2
    obtain ⟨x0, a1, a2, a3, a4, a5, _⟩ := i.1 (x - n) (by omega)
    rw [show n + (x - n) = x by omega] at a4 a5
    exact ⟨x - n, x0, by omega, by omega, a1, a2, a3, a4, a5⟩
  refine ⟨by omega, fun x h1 h2 => ?_, fun x h1 h2 => ?_, fun o ho' => ?_, fun r hr y hy => ?_, hq, fun j hj => ?_, hI, hw, ct⟩
  · obtain ⟨y, x0, hy, rfl, a1, a2, a3, a4, a5⟩ := src x h1 h2
    obtain ⟨f1, f2, f3, f4⟩ := k2 x0 a1 a2
    obtain ⟨m1, m2⟩ := md y hy x0 a1 a2 a3
    refine ⟨by omega, by omega, fun z hz => ?_, fun z hz => ?_⟩
    · rcases m1 with m1 | m1
      · rw [m1] at hz
        exact hw_mv i hz (fun y e => by have := f3 y e; omega)
      · omega
    · rcases m2 with m2 | m2
      · rw [m2] at hz
        exact hw_mv i hz (fun y e => by have := f4 y e; omega)
      · omega
  · obtain ⟨y, x0, hy, rfl, _⟩ := src x h1 h2
    exact ⟨pl y hy, (pp _).mpr ⟨y, hy, rfl⟩⟩
  · obtain ⟨y, hy, e⟩ := (pp o).mp ho'
    obtain ⟨x0, a1, a2, a3, a4, _⟩ := i.1 y hy
    have f1 := (k2 x0 a1 a2).1
    have e' := pl y hy
    rw [e] at e'
    rw [e']
    exact ⟨by omega, by omega, by omega, e⟩
  · rw [rt r hr] at hy
    exact hw_mv i hy (fun y e => by have := k5 r hr y e; omega)
  · have h0 := sd (PL (Q j)) (Or.inr ⟨j, hj, rfl⟩)
    obtain ⟨g1, g2, g3, g4⟩ := k4 (Q j) (hQ j hj)
    obtain ⟨_, _, _, y, hy, e⟩ := i.2.1 (PL (Q j)) (by omega) h0
    obtain ⟨x0, a1, a2, a3, a4, _⟩ := i.1 y hy
    have g := i.2.2.1 _ _ (by omega) (by omega) h0 (e.trans a3.symm)
    rw [← g, g4] at a4
    exact (pp _).mpr ⟨y, hy, a4⟩
theorem hw_lv (ho : (b = 0 ∧ n = 20) ∨ (b = 20 ∧ n = 0)) (k : hh_ok p w b us q0 PL N0 K0 A0 B0 R0 Q0)
    (i : hh_ci b n us (hh_lv b us K0 A0 B0 (hh_sd q PL R0 Q)) N0 K0 A0 B0 c N K A1 B1 P)
    (cl : hh_cl b us K0 A0 B0 (fun x => P x ≠ 0)) (sd : ∀ z, hh_sd q PL R0 Q z → P z ≠ 0)
    (md : ∀ y, y < c → hh_md b n us K0 A0 B0 P A B y) (rt : ∀ r, r < 4 → R r = hh_mv P (R0 r))
    (pl : ∀ y, y < c → PL' (N (n + y)) = n + y)
    (hQ : ∀ i, i < q → hb_t p (Q i) = true) :
    ∀ x, n ≤ x → x < n + c → hh_lv n c K A B (hh_sd q PL' R Q) x := by
  obtain ⟨k1, k2, k3, k4, k5, _⟩ := k
  intro x h1 h2 X' hz hc
  obtain ⟨x0, a1, a2, a3, _⟩ := i.1 (x - n) (by omega)
  have hx0 := (i.2.1 x0 (by omega) (by omega)).2.2.1
  have at_ : ∀ x, b ≤ x → x < b + us → ∀ y, P x = n + y + 1 → y < c ∧ N (n + y) = N0 x ∧ K (n + y) = K0 x := by
    intro x g1 g2 y e
    obtain ⟨_, _, _, y', hy', e'⟩ := i.2.1 x (by omega) (by omega)
    have hy : y < c := by omega
    obtain ⟨x1, b1, b2, b3, b4, b5, _⟩ := i.1 y hy
    have g := i.2.2.1 x x1 (by omega) (by omega) (by omega) (by omega)
    rw [g]
    exact ⟨hy, b4, b5⟩
  have key := hx0 (fun x => ∃ y, P x = n + y + 1 ∧ X' (n + y)) (fun z hz' => ?_) (fun x g1 g2 hx => ?_)
  · obtain ⟨y, e, hy⟩ := key
    rw [show x = n + y by omega]
    exact hy
  · have h0 := sd z hz'
    rcases hz' with ⟨r, hr, e⟩ | ⟨j, hj, e⟩
    · have g := k5 r hr z e
      obtain ⟨_, _, _, y, hy, e'⟩ := i.2.1 z (by omega) h0
      refine ⟨y, e', hz _ (Or.inl ⟨r, hr, ?_⟩)⟩
      rw [rt r hr, e]
      exact e'
    · obtain ⟨g1, g2, g3, g4⟩ := k4 (Q j) (hQ j hj)
      rw [← e] at g2 g3 g4
      obtain ⟨_, _, _, y, hy, e'⟩ := i.2.1 z (by omega) h0
      refine ⟨y, e', hz _ (Or.inr ⟨j, hj, ?_⟩)⟩
      have t := (at_ z g2 g3 y e').2.1
      have t' := pl y hy
      rw [t, g4] at t'
      exact t'.symm
  · obtain ⟨y, e, hX⟩ := hx
    obtain ⟨hy, _, eK⟩ := at_ x g1 g2 y e
    obtain ⟨c1, c2, c3⟩ := cl x g1 g2 (by dsimp only; omega)
    obtain ⟨_, _, f3, f4⟩ := k2 x g1 g2
    obtain ⟨m1, m2⟩ := md y hy x g1 g2 e
    obtain ⟨d1, d2, d3⟩ := hc (n + y) (by omega) (by omega) hX
    rw [eK] at d1 d2 d3
    refine ⟨fun hk z hz' => ?_, fun hk z hz' => ?_, fun hk kk hkk hXk z hz' => ?_⟩
    · have g := f3 z hz'
      obtain ⟨_, _, _, y', hy', e'⟩ := i.2.1 z (by omega) (c1 hk z hz')
      refine ⟨y', e', d1 hk _ ?_⟩
      rcases m1 with m1 | m1
      · rw [m1, hz']; exact e'
      · omega
    · have g := f4 z hz'
      obtain ⟨_, _, _, y', hy', e'⟩ := i.2.1 z (by omega) (c2 hk z hz')
      refine ⟨y', e', d2 hk _ ?_⟩
      rcases m2 with m2 | m2
      · rw [m2, hz']; exact e'
      · omega
    · obtain ⟨yk, ek, hXk'⟩ := hXk
      have g := f4 z hz'
      have gk := f3 kk hkk
      obtain ⟨_, _, _, y', hy', e'⟩ := i.2.1 z (by omega) (c3 hk kk hkk (by dsimp only; omega) z hz')
      have eA : A (n + y) = (n + yk) + 1 := by
        rcases m1 with m1 | m1
        · rw [m1, hkk]; exact ek
        · omega
      refine ⟨y', e', d3 hk (n + yk) eA hXk' _ ?_⟩
      rcases m2 with m2 | m2
      · rw [m2, hz']; exact e'
      · omega
end
end
section
/-! the walk: copy, isCopied, lookAtPairs -/
theorem hz_le {v b us : Nat} (h : ∀ y, v = y + 1 → b ≤ y ∧ y < b + us) (hb : b + us ≤ 40) : v ≤ 40 := by
  cases v with
  | zero => omega
  | succ y => have := h y rfl; omega
section
variable {post : St1 → Prop} {p w sb fu fs fq : Int32} {a1 a7 a8 : Nat → Int32} {b n us c : Nat} {X : Nat → Prop} {N0 K0 A0 B0 N K A B P : Nat → Nat}
theorem hi_at (hu : us ≤ 20) (ho : (b = 0 ∧ n = 20) ∨ (b = 20 ∧ n = 0)) (i : hh_ci b n us X N0 K0 A0 B0 c N K A B P) {x y : Nat} (h1 : b ≤ x) (h2 : x < b + us) (hx : P x = n + y + 1) (hy : y < c) :
    N (n + y) = N0 x ∧ K (n + y) = K0 x ∧ A (n + y) = A0 x ∧ B (n + y) = B0 x := by
  obtain ⟨x0, a1, a2, a3, a4⟩ := i.1 y hy
  have g := i.2.2.1 x x0 (by omega) (by omega) (by omega) (by omega)
  rw [g]
  exact a4
theorem wk_copy (ev : hh_ev sb b n us N0 K0 A0 B0 X) (i : hh_ci b n us X N0 K0 A0 B0 c N K A B P) (v : Nat) (hv : ∀ y, v = y + 1 → b ≤ y ∧ y < b + us ∧ X y)
    (H : ∀ (c' : Nat) (N' K' A' B' P' : Nat → Nat), hh_ci b n us X N0 K0 A0 B0 c' N' K' A' B' P' → hh_ex P P' c c' → (∀ y, v = y + 1 → P' y ≠ 0) → post (p, w, sb, fu, nI c', fs, fq, a1, hn_A N', hn_A K', he_A A', he_A B', he_A P', a7, a8)) :
    wpX_copy post (p, w, sb, fu, nI c, fs, fq, a1, hn_A N, hn_A K, he_A A, he_A B, he_A P, a7, a8) (he_I v) := by
  obtain ⟨hs, hu, hf, _⟩ := ev
  have ho := hs_o hs
  cases v with
  | zero => exact br_t (show (-1 : Int32) < 0 by decide) (H c N K A B P i hx_r (fun y e => absurd e (by omega)))
  | succ x =>
    obtain ⟨h1, h2, hX⟩ := hv x rfl
    have hP := hi_P hu ho i (x := x) (by omega)
    have hcl : (he_I (x + 1)).toNatClampNeg = x := nI_clamp (n := x) (by omega)
    unfold wpX_copy
    dsimp only
    rw [hcl]
    refine br_f (show ¬ nI x < 0 from nI_pos (by omega)) ⟨pk_in x 40 (by omega), ?_⟩
    by_cases h0 : P x = 0
    · have hc := hi_lt i h1 h2 h0
      obtain ⟨e1, e2, e3, e4⟩ := i.2.2.2 x h1 (by omega)
      obtain ⟨f1, f2, f3, f4⟩ := hf x h1 h2
      have g3 := hz_le f3 (by omega)
      have g4 := hz_le f4 (by omega)
      refine br_t ((he_neg (by omega)).mpr h0) (nm_r (hs_n hs c) (nm_r (nI_1 c) ⟨pk_in x 40 (by omega), nm_r (he_upp P x (n + c) (by omega)) ⟨pk_in x 40 (by omega), pk_in (n + c) 40 (by omega), ?_⟩⟩))
      rw [nI_clamp (show n + c < 2 ^ 31 by omega)]
      refine nm_r (hn_upn N (n + c) (N x) (by omega)) ⟨pk_in x 40 (by omega), pk_in (n + c) 40 (by omega), nm_r (hn_upn K (n + c) (K x) (by omega)) ⟨pk_in x 40 (by omega), pk_in (n + c) 40 (by omega), nm_r (he_upn A (n + c) (A x) (by omega)) ⟨pk_in x 40 (by omega), pk_in (n + c) 40 (by omega), nm_r (he_upn B (n + c) (B x) (by omega)) ?_⟩⟩⟩
      exact H (c + 1) _ _ _ _ _ (hi_cp hu ho i h1 h2 hX h0) (hi_ex h0) (fun y e => by
        have e' : y = x := by omega
        rw [e', hf_s]
        omega)
    · exact br_f (fun z => h0 ((he_neg (by omega)).mp z)) (H c N K A B P i hx_r (fun y e => by
        have e' : y = x := by omega
        rw [e']
        exact h0))
theorem wk_isC {post : Int32 → Prop} {fc : Int32} {a2 a3 a4 a5 : Nat → Int32} (v : Nat) (hv : ∀ y, v = y + 1 → y < 40) (hP : ∀ y, y < 40 → P y ≤ 40) (H0 : (∀ y, v = y + 1 → P y = 0) → post 0) (H1 : ∀ y, v = y + 1 → P y ≠ 0 → post 1) :
    wpX_isCopied post (p, w, sb, fu, fc, fs, fq, a1, a2, a3, a4, a5, he_A P, a7, a8) (he_I v) := by
  cases v with
  | zero => exact br_t (show (-1 : Int32) < 0 by decide) (H0 (fun y e => absurd e (by omega)))
  | succ x =>
    have hx := hv x rfl
    have hPx := hP x hx
    have hcl : (he_I (x + 1)).toNatClampNeg = x := nI_clamp (n := x) (by omega)
    unfold wpX_isCopied
    dsimp only
    rw [hcl]
    refine br_f (show ¬ nI x < 0 from nI_pos (by omega)) ⟨pk_in x 40 (by omega), ?_⟩
    by_cases h0 : P x = 0
    · exact br_t ((he_neg (by omega)).mpr h0) (H0 (fun y e => by
        have e' : y = x := by omega
        rw [e']
        exact h0))
    · exact br_f (fun z => h0 ((he_neg (by omega)).mp z)) (H1 x rfl h0)
theorem wk_look {sc : Nat} (ev : hh_ev sb b n us N0 K0 A0 B0 X) (i : hh_ci b n us X N0 K0 A0 B0 c N K A B P) (hsc : sc ≤ c)
    (H : ∀ (c' : Nat) (N' K' A' B' P' : Nat → Nat), hh_ci b n us X N0 K0 A0 B0 c' N' K' A' B' P' → hh_ex P P' c c' → (c' = c → ∀ y, y < sc → ∀ x, b ≤ x → x < b + us → P x = n + y + 1 → K0 x = 2 → ∀ k, A0 x = k + 1 → P k ≠ 0 → ∀ z, B0 x = z + 1 → P z ≠ 0) → post (p, w, sb, fu, nI c', nI sc, fq, a1, hn_A N', hn_A K', he_A A', he_A B', he_A P', a7, a8)) :
    wpX_lookAtPairs post (p, w, sb, fu, nI c, nI sc, fq, a1, hn_A N, hn_A K, he_A A, he_A B, he_A P, a7, a8) := by
  obtain ⟨hs, hu, hf, hcl⟩ := id ev
  have ho := hs_o hs
  have hc20 := hi_le i
  refine lp7 (fun m j c N K A B P => wX_lookAtPairs_2 post m (nI j) p w sb fu (nI c) (nI sc) fq a1 (hn_A N) (hn_A K) (he_A A) (he_A B) (he_A P) a7 a8)
    (fun j c' N' K' A' B' P' => j ≤ sc ∧ hh_ci b n us X N0 K0 A0 B0 c' N' K' A' B' P' ∧ hh_ex P P' c c' ∧ (c' = c → ∀ y, y < j → ∀ x, b ≤ x → x < b + us → P x = n + y + 1 → K0 x = 2 → ∀ k, A0 x = k + 1 → P k ≠ 0 → ∀ z, B0 x = z + 1 → P z ≠ 0))
    (fun j _ _ _ _ _ _ => sc - j) (fun m j c' N' K' A' B' P' hI hw => ?_) 0 c N K A B P ⟨Nat.zero_le _, i, hx_r, fun _ y hy => absurd hy (by omega)⟩
  obtain ⟨hj, i', ex, hp⟩ := hI
  refine pk_le sc j (fun z => ?_) (fun z => nm_r (hs_n hs j) ⟨pk_in (n + j) 40 (by omega), ?_⟩)
  · have e : j = sc := by omega
    rw [e] at hp
    exact H c' N' K' A' B' P' i' ex hp
  · rw [nI_clamp (show n + j < 2 ^ 31 by omega)]
    have hc' := ex.2.1
    have hcu := hi_le i'
    obtain ⟨x, x1, x2, xP, xN, xK, xA, xB⟩ := i'.1 j (by omega)
    obtain ⟨f1, f2, f3, f4⟩ := hf x x1 x2
    have same : c' = c → ∀ x', b ≤ x' → x' < b + us → P x' = n + j + 1 → x' = x := fun e x' g1 g2 g3 =>
      i'.2.2.1 x' x (by omega) (by omega) (by have := ex.2.2 e x'; omega) (by have := ex.2.2 e x'; omega)
    refine pk_eq (K' (n + j)) 2 (fun hk => ⟨pk_in (n + j) 40 (by omega), ?_⟩) (fun hk => nm_r (nI_1 j) (hw (j + 1) c' N' K' A' B' P' ⟨by omega, i', ex, ?_⟩ (by omega)))
    · refine wk_isC (A' (n + j)) (fun y e => by have := f3 y (by omega); omega) (fun y hy => hi_P hu ho i' hy) (fun h0 => br_t rfl (nm_r (nI_1 j) (hw (j + 1) c' N' K' A' B' P' ⟨by omega, i', ex, ?_⟩ (by omega)))) (fun y hy hPy => br_f (by decide) ⟨pk_in (n + j) 40 (by omega), ?_⟩)
      · intro e y hy x' g1 g2 g3 g4 k gk hPk z hz
        by_cases ej : y = j
        · rw [ej] at g3
          have t := same e x' g1 g2 g3
          rw [t] at gk
          have t2 := h0 k (by omega)
          rw [ex.2.2 e k] at t2
          exact absurd t2 hPk
        · exact hp e y (by omega) x' g1 g2 g3 g4 k gk hPk z hz
      · have gy := f3 y (by omega)
        refine wk_copy ev i' (B' (n + j)) (fun z hz => ?_) (fun c'' N'' K'' A'' B'' P'' i'' ex' hcp => nm_r (nI_1 j) (hw (j + 1) c'' N'' K'' A'' B'' P'' ⟨by omega, i'', hx_t ex ex', ?_⟩ (by omega)))
        · have gz := f4 z (by omega)
          exact ⟨gz.1, gz.2, (hcl x x1 x2 (i'.2.1 x (by omega) (by omega)).2.2.1).2.2 (by omega) y (by omega) (i'.2.1 y (by omega) hPy).2.2.1 z (by omega)⟩
        · intro e y' hy' x' g1 g2 g3 g4 k gk hPk z hz
          have hm := ex'.2.1
          have e1 : c' = c := by omega
          by_cases ej : y' = j
          · rw [ej] at g3
            have t := same e1 x' g1 g2 g3
            rw [t] at hz
            have t2 := hcp z (by omega)
            rw [ex'.2.2 (by omega) z, ex.2.2 e1 z] at t2
            exact t2
          · exact hp e1 y' (by omega) x' g1 g2 g3 g4 k gk hPk z hz
    · intro e y hy x' g1 g2 g3 g4 k gk hPk z hz
      by_cases ej : y = j
      · rw [ej] at g3
        have t := same e x' g1 g2 g3
        rw [t] at g4
        omega
      · exact hp e y (by omega) x' g1 g2 g3 g4 k gk hPk z hz
end
end
section
/-! the walk: spread, copyLiving, living -/
section
variable {post : St1 → Prop} {p w sb fu fs fq : Int32} {a1 a7 a8 : Nat → Int32} {b n us c : Nat} {X : Nat → Prop} {N0 K0 A0 B0 N K A B P : Nat → Nat}
theorem wk_s78 {J4 : Int32 → Int32 → Int32 → Int32 → Int32 → Int32 → Int32 → Int32 → Int32 → (Nat → Int32) → (Nat → Int32) → (Nat → Int32) → (Nat → Int32) → (Nat → Int32) → (Nat → Int32) → (Nat → Int32) → (Nat → Int32) → Prop}
    {J23 : Int32 → Int32 → Int32 → Int32 → Int32 → Int32 → Int32 → (Nat → Int32) → (Nat → Int32) → (Nat → Int32) → (Nat → Int32) → (Nat → Int32) → (Nat → Int32) → (Nat → Int32) → (Nat → Int32) → Prop} {z1 z2 : Int32} {x y : Nat}
    (ev : hh_ev sb b n us N0 K0 A0 B0 X) (i : hh_ci b n us X N0 K0 A0 B0 c N K A B P) (hy : y < c) (x1 : b ≤ x) (x2 : x < b + us) (xP : P x = n + y + 1)
    (H : ∀ (c' : Nat) (N' K' A' B' P' : Nat → Nat), hh_ci b n us X N0 K0 A0 B0 c' N' K' A' B' P' → hh_ex P P' c c' → (K0 x ≠ 2 → ∀ z, B0 x = z + 1 → P' z ≠ 0) → J23 p w sb fu (nI c') fs fq a1 (hn_A N') (hn_A K') (he_A A') (he_A B') (he_A P') a7 a8) :
    wX_spread_78 post J4 J23 z1 z2 (nI (n + y)) p w sb fu (nI c) fs fq a1 (hn_A N) (hn_A K) (he_A A) (he_A B) (he_A P) a7 a8 := by
  obtain ⟨hs, hu, hf, hcl⟩ := id ev
  have ho := hs_o hs
  have hcu := hi_le i
  obtain ⟨xN, xK, xA, xB⟩ := hi_at hu ho i x1 x2 xP hy
  obtain ⟨f1, f2, f3, f4⟩ := hf x x1 x2
  unfold wX_spread_78
  rw [nI_clamp (show n + y < 2 ^ 31 by omega)]
  refine ⟨pk_in (n + y) 40 (by omega), pk_eq (K (n + y)) 2 (fun hk => H c N K A B P i hx_r (fun g => absurd (by omega) g)) (fun hk => ⟨pk_in (n + y) 40 (by omega), ?_⟩)⟩
  refine wk_copy ev i (B (n + y)) (fun z hz => ?_) (fun c' N' K' A' B' P' i' ex hcp => H c' N' K' A' B' P' i' ex (fun _ z hz => hcp z (by omega)))
  have gz := f4 z (by omega)
  exact ⟨gz.1, gz.2, (hcl x x1 x2 (i.2.1 x (by omega) (by omega)).2.2.1).2.1 (by omega) z (by omega)⟩
theorem wk_s23 {J4 : Int32 → Int32 → Int32 → Int32 → Int32 → Int32 → Int32 → Int32 → Int32 → (Nat → Int32) → (Nat → Int32) → (Nat → Int32) → (Nat → Int32) → (Nat → Int32) → (Nat → Int32) → (Nat → Int32) → (Nat → Int32) → Prop} {z1 : Int32} {rd sc : Nat}
    (ev : hh_ev sb b n us N0 K0 A0 B0 X) (i : hh_ci b n us X N0 K0 A0 B0 c N K A B P) (hsc : sc ≤ c) (hS : hh_sc b n us K0 A0 B0 sc P)
    (H : ∀ (c1 c2 : Nat) (N' K' A' B' P' : Nat → Nat), c ≤ c1 → c1 ≤ c2 → hh_ci b n us X N0 K0 A0 B0 c2 N' K' A' B' P' → hh_ex P P' c c2 → hh_sc b n us K0 A0 B0 c1 P' → (c2 = c1 → hh_pc b us K0 A0 B0 P') → J4 z1 (nI (rd + 1)) p w sb fu (nI c2) (nI c1) fq a1 (hn_A N') (hn_A K') (he_A A') (he_A B') (he_A P') a7 a8) :
    ∃ f, wX_spread_23 post J4 z1 (nI rd) f p w sb fu (nI c) (nI sc) fq a1 (hn_A N) (hn_A K) (he_A A) (he_A B) (he_A P) a7 a8 := by
  obtain ⟨hs, hu, hf, hcl⟩ := id ev
  have ho := hs_o hs
  refine lp7 (fun m c sc N K A B P => wX_spread_23 post J4 z1 (nI rd) m p w sb fu (nI c) (nI sc) fq a1 (hn_A N) (hn_A K) (he_A A) (he_A B) (he_A P) a7 a8)
    (fun c' sc' N' K' A' B' P' => sc' ≤ c' ∧ hh_ci b n us X N0 K0 A0 B0 c' N' K' A' B' P' ∧ hh_ex P P' c c' ∧ hh_sc b n us K0 A0 B0 sc' P')
    (fun _ sc' _ _ _ _ _ => 20 - sc') (fun m c' sc' N' K' A' B' P' hI hw => ?_) c sc N K A B P ⟨hsc, i, hx_r, hS⟩
  obtain ⟨hsc', i', ex, hS'⟩ := hI
  have hcu := hi_le i'
  have hcc := ex.2.1
  refine pk_le c' sc' (fun z => ?_) (fun z => nm_r (hs_n hs sc') (nm_r (nI_1 sc') ⟨pk_in (n + sc') 40 (by omega), ?_⟩))
  · refine wk_look ev i' hsc' (fun c'' N'' K'' A'' B'' P'' i'' ex'' hpc => nm_r (nI_1 rd) (H sc' c'' N'' K'' A'' B'' P'' (by omega) (by have := ex''.2.1; omega) i'' (hx_t ex ex'') (hc_ex hu ho hf i' i'' ex'' hsc' hS') (fun e => ?_)))
    intro x g1 g2 g3 g4 k gk hPk z' hz'
    have e' : c'' = c' := by omega
    rw [ex''.2.2 e' x] at g3
    rw [ex''.2.2 e' k] at hPk
    rw [ex''.2.2 e' z']
    obtain ⟨_, _, _, y, hy, ey⟩ := i'.2.1 x (by omega) g3
    exact hpc e' y (by omega) x g1 g2 ey g4 k gk hPk z' hz'
  · rw [nI_clamp (show n + sc' < 2 ^ 31 by omega)]
    obtain ⟨x, x1, x2, xP, xN, xK, xA, xB⟩ := i'.1 sc' (by omega)
    obtain ⟨f1, f2, f3, f4⟩ := hf x x1 x2
    have hXx := (i'.2.1 x (by omega) (by omega)).2.2.1
    refine pk_eq (K' (n + sc')) 0 (fun hk => ⟨pk_in (n + sc') 40 (by omega), ?_⟩) (fun hk => ?_)
    · refine wk_copy ev i' (A' (n + sc')) (fun z' hz' => ?_) (fun c'' N'' K'' A'' B'' P'' i'' ex'' hcp => ?_)
      · have gz := f3 z' (by omega)
        exact ⟨gz.1, gz.2, (hcl x x1 x2 hXx).1 (by omega) z' (by omega)⟩
      · have h2 := ex''.2.1
        have xP'' : P'' x = n + sc' + 1 := by rw [ex''.1 x (by omega) (by omega)]; exact xP
        refine wk_s78 ev i'' (by omega) x1 x2 xP'' (fun c3 N3 K3 A3 B3 P3 i3 ex3 hB => hw c3 (sc' + 1) N3 K3 A3 B3 P3 ⟨?_, i3, hx_t ex (hx_t ex'' ex3), ?_⟩ (by omega))
        · have := ex3.2.1
          omega
        · have xP3 : P3 x = n + sc' + 1 := by rw [ex3.1 x (by omega) (by omega)]; exact xP''
          refine hc_st hu ho i3 (hc_ex hu ho hf i' i3 (hx_t ex'' ex3) hsc' hS') x1 x2 xP3 (fun _ z' hz' => ?_) hB
          have gz := f3 z' (by omega)
          exact hx_k ex3 (by omega) (hcp z' (by omega))
    · refine wk_s78 ev i' (by omega) x1 x2 xP (fun c3 N3 K3 A3 B3 P3 i3 ex3 hB => hw c3 (sc' + 1) N3 K3 A3 B3 P3 ⟨?_, i3, hx_t ex ex3, ?_⟩ (by omega))
      · have := ex3.2.1
        omega
      · have xP3 : P3 x = n + sc' + 1 := by rw [ex3.1 x (by omega) (by omega)]; exact xP
        exact hc_st hu ho i3 (hc_ex hu ho hf i' i3 ex3 hsc' hS') x1 x2 xP3 (fun g => absurd g (by omega)) hB
theorem wk_spread {sc : Nat} (ev : hh_ev sb b n us N0 K0 A0 B0 X) (i : hh_ci b n us X N0 K0 A0 B0 c N K A B P) (hsc : sc ≤ c) (hS : hh_sc b n us K0 A0 B0 sc P)
    (H : ∀ (c' : Nat) (N' K' A' B' P' : Nat → Nat), hh_ci b n us X N0 K0 A0 B0 c' N' K' A' B' P' → hh_ex P P' c c' → hh_cl b us K0 A0 B0 (fun x => P' x ≠ 0) → post (p, w, sb, fu, nI c', nI c', fq, a1, hn_A N', hn_A K', he_A A', he_A B', he_A P', a7, a8)) :
    wpX_spread post (p, w, sb, fu, nI c, nI sc, fq, a1, hn_A N, hn_A K, he_A A, he_A B, he_A P, a7, a8) := by
  obtain ⟨hs, hu, hf, hcl⟩ := id ev
  have ho := hs_o hs
  refine lp9 (fun m bf rd c sc N K A B P => wX_spread_4 post m (he_I bf) (nI rd) p w sb fu (nI c) (nI sc) fq a1 (hn_A N) (hn_A K) (he_A A) (he_A B) (he_A P) a7 a8)
    (fun bf rd c' sc' N' K' A' B' P' => rd ≤ 21 ∧ sc' ≤ c' ∧ hh_ci b n us X N0 K0 A0 B0 c' N' K' A' B' P' ∧ hh_ex P P' c c' ∧ hh_sc b n us K0 A0 B0 sc' P' ∧ (rd = 0 → bf = 0) ∧ (1 ≤ rd → rd ≤ bf ∧ bf ≤ sc' + 1 ∧ (c' = sc' → hh_pc b us K0 A0 B0 P')))
    (fun _ rd _ _ _ _ _ _ _ => 21 - rd) (fun m bf rd c' sc' N' K' A' B' P' hI hw => ?_) 0 0 c sc N K A B P ⟨by omega, hsc, i, hx_r, hS, fun _ => rfl, fun h => absurd h (by omega)⟩
  obtain ⟨h1, h2, i', ex, hS', h0, hR⟩ := hI
  have hcu := hi_le i'
  have fin : 1 ≤ rd → c' = sc' → post (p, w, sb, fu, nI c', nI sc', fq, a1, hn_A N', hn_A K', he_A A', he_A B', he_A P', a7, a8) := by
    intro g e
    have hpc := (hR g).2.2 e
    rw [← e] at hS' ⊢
    exact H c' N' K' A' B' P' i' ex (hc_cl hu ho i' hS' hpc)
  have hbf : bf ≤ 21 := by
    rcases Nat.lt_or_ge 0 rd with g | g
    · have := hR g
      omega
    · have := h0 (by omega)
      omega
  refine pk_lt 20 rd (fun z => fin (by omega) (by have := hR (by omega); omega)) (fun z => ?_)
  refine ek_if (he_eq (show bf < 2 ^ 31 by omega) (show c' < 2 ^ 31 by omega)) (fun e => ?_) (fun e => ?_)
  · have g : 1 ≤ rd := by
      rcases Nat.lt_or_ge 0 rd with g | g
      · exact g
      · have := h0 (by omega)
        omega
    exact fin g (by have := hR g; omega)
  · refine wk_s23 ev i' h2 hS' (fun c1 c2 N2 K2 A2 B2 P2 g1 g2 i2 ex2 hS2 hpc => hw (c' + 1) (rd + 1) c2 c1 N2 K2 A2 B2 P2 ⟨by omega, g2, i2, hx_t ex ex2, hS2, fun g => absurd g (by omega), fun _ => ⟨?_, by omega, hpc⟩⟩ (by omega))
    rcases Nat.lt_or_ge 0 rd with g | g
    · have := hR g
      omega
    · omega
end
section
variable {p w sb fu fc fs : Int32} {b n us q : Nat} {PL N K A B P R Q : Nat → Nat}
theorem hk_ev (hs : hs_p sb b n) (k : hh_ok p w b us q PL N K A B R Q) (Z : Nat → Prop) : hh_ev sb b n us N K A B (hh_lv b us K A B Z) := ⟨hs, k.1, k.2.1, hl_cl⟩
theorem wk_cl33 {post : St1 → Prop} (hs : hs_p sb b n) (k : hh_ok p w b us q PL N K A B R Q) (hP : ∀ j, j < 40 → P j = 0)
    (H : ∀ (c' : Nat) (N' K' A' B' P' : Nat → Nat), hh_ci b n us (hh_lv b us K A B (hh_sd q PL R Q)) N K A B c' N' K' A' B' P' → (∀ z, hh_sd q PL R Q z → P' z ≠ 0) → hh_cl b us K A B (fun x => P' x ≠ 0) → post (p, w, sb, fu, nI c', nI c', nI q, hn_A PL, hn_A N', hn_A K', he_A A', he_A B', he_A P', he_A R, hn_A Q)) :
    ∃ f, wX_copyLiving_33 post f 0 p w sb fu 0 0 (nI q) (hn_A PL) (hn_A N) (hn_A K) (he_A A) (he_A B) (he_A P) (he_A R) (hn_A Q) := by
  have ev := hk_ev hs k (hh_sd q PL R Q)
  have ho := hs_o hs
  obtain ⟨k1, k2, k3, k4, k5, k6, k7, k8, _⟩ := id k
  refine lp7 (fun m r c N K A B P => wX_copyLiving_33 post m (nI r) p w sb fu (nI c) 0 (nI q) (hn_A PL) (hn_A N) (hn_A K) (he_A A) (he_A B) (he_A P) (he_A R) (hn_A Q))
    (fun r c' N' K' A' B' P' => r ≤ 4 ∧ hh_ci b n us (hh_lv b us K A B (hh_sd q PL R Q)) N K A B c' N' K' A' B' P' ∧ (∀ j, j < r → ∀ z, R j = z + 1 → P' z ≠ 0))
    (fun r _ _ _ _ _ _ => 4 - r) (fun m r c' N' K' A' B' P' hI hw => ?_) 0 0 N K A B P ⟨by omega, ⟨fun y hy => absurd hy (by omega), fun x hx h => absurd (hP x hx) h, fun x x' hx _ h => absurd (hP x hx) h, hv_r⟩, fun j hj => absurd hj (by omega)⟩
  obtain ⟨hr, i', hC⟩ := hI
  refine pk_le 4 r (fun z => ?_) (fun z => ⟨pk_in r 4 (by omega), ?_⟩)
  · have e : r = 4 := by omega
    subst e
    refine lp7 (fun m r c N K A B P => wX_copyLiving_56 post m (nI r) p w sb fu (nI c) 0 (nI q) (hn_A PL) (hn_A N) (hn_A K) (he_A A) (he_A B) (he_A P) (he_A R) (hn_A Q))
      (fun r c' N' K' A' B' P' => r ≤ q ∧ hh_ci b n us (hh_lv b us K A B (hh_sd q PL R Q)) N K A B c' N' K' A' B' P' ∧ (∀ j, j < 4 → ∀ z, R j = z + 1 → P' z ≠ 0) ∧ (∀ j, j < r → P' (PL (Q j)) ≠ 0))
      (fun r _ _ _ _ _ _ => q - r) (fun m r c' N' K' A' B' P' hI hw => ?_) 0 c' N' K' A' B' P' ⟨by omega, i', hC, fun j hj => absurd hj (by omega)⟩
    obtain ⟨hr, i', hC, hD⟩ := hI
    refine pk_le q r (fun z => ?_) (fun z => ⟨pk_in r 20 (by omega), ?_⟩)
    · have e : r = q := by omega
      subst e
      refine wk_spread (sc := 0) ev i' (Nat.zero_le _) (fun x y _ _ _ hy => absurd hy (by omega)) (fun c2 N2 K2 A2 B2 P2 i2 ex2 cl2 => H c2 N2 K2 A2 B2 P2 i2 (fun z hz => ?_) cl2)
      rcases hz with ⟨j, hj, ez⟩ | ⟨j, hj, ez⟩
      · have := k5 j hj z ez
        exact hx_k ex2 (by omega) (hC j hj z ez)
      · have := k4 (Q j) (k7 j hj)
        rw [ez]
        exact hx_k ex2 (by omega) (hD j hj)
    · rw [nI_clamp (show r < 2 ^ 31 by omega)]
      have g := k4 (Q r) (k7 r (by omega))
      refine ⟨pk_in (Q r) 20 (by omega), ?_⟩
      show wpX_copy _ _ (nI (PL (nI (Q r)).toNatClampNeg))
      rw [nI_clamp (show Q r < 2 ^ 31 by omega)]
      refine wk_copy ev i' (PL (Q r) + 1) (fun y e => ?_) (fun c2 N2 K2 A2 B2 P2 i2 ex2 hcp => nm_r (nI_1 r) (hw (r + 1) c2 N2 K2 A2 B2 P2 ⟨by omega, i2, fun j hj z ez => ?_, fun j hj => ?_⟩ (by omega)))
      · have e' : y = PL (Q r) := by omega
        rw [e']
        exact ⟨g.2.1, g.2.2.1, hl_sd (Or.inr ⟨r, by omega, rfl⟩)⟩
      · have := k5 j hj z ez
        exact hx_k ex2 (by omega) (hC j hj z ez)
      · by_cases ej : j = r
        · rw [ej]
          exact hcp _ rfl
        · have := k4 (Q j) (k7 j (by omega))
          exact hx_k ex2 (by omega) (hD j (by omega))
  · rw [nI_clamp (show r < 2 ^ 31 by omega)]
    refine wk_copy ev i' (R r) (fun y e => ?_) (fun c2 N2 K2 A2 B2 P2 i2 ex2 hcp => nm_r (nI_1 r) (hw (r + 1) c2 N2 K2 A2 B2 P2 ⟨by omega, i2, fun j hj z ez => ?_⟩ (by omega)))
    · have := k5 r (by omega) y e
      exact ⟨this.1, this.2, hl_sd (Or.inl ⟨r, by omega, e⟩)⟩
    · by_cases ej : j = r
      · rw [ej] at ez
        exact hcp z ez
      · have := k5 j (by omega) z ez
        exact hx_k ex2 (by omega) (hC j (by omega) z ez)
theorem wk_cL {post : St1 → Prop} (hs : hs_p sb b n) (k : hh_ok p w b us q PL N K A B R Q)
    (H : ∀ (c' : Nat) (N' K' A' B' P' : Nat → Nat), hh_ci b n us (hh_lv b us K A B (hh_sd q PL R Q)) N K A B c' N' K' A' B' P' → (∀ z, hh_sd q PL R Q z → P' z ≠ 0) → hh_cl b us K A B (fun x => P' x ≠ 0) → post (p, w, sb, fu, nI c', nI c', nI q, hn_A PL, hn_A N', hn_A K', he_A A', he_A B', he_A P', he_A R, hn_A Q)) :
    wpX_copyLiving post (p, w, sb, fu, fc, fs, nI q, hn_A PL, hn_A N, hn_A K, he_A A, he_A B, he_A P, he_A R, hn_A Q) := by
  refine pk_loop (fun m i s => wX_copyLiving_2 post p w sb fu fc fs (nI q) m (nI i) (hn_A PL) (hn_A N) (hn_A K) (he_A A) (he_A B) (he_A s) (he_A R) (hn_A Q)) (fun i s => ∀ j, j < i → s j = 0) 40 0 P (by omega) (fun j hj => absurd hj (by omega))
    (fun m s h => pk_le 40 40 (fun _ => wk_cl33 hs k h H) (fun z => absurd z (by omega)))
    (fun m i s hi h hw => pk_le 40 i (fun z => absurd z (by omega)) (fun _ => ⟨pk_in i 40 hi, ?_⟩))
  rw [nI_clamp (show i < 2 ^ 31 by omega)]
  refine nm_r (he_up s i 0) (nm_r (nI_1 i) (hw _ (fun j hj => ?_)))
  by_cases e : j = i
  · rw [e, hf_s]
  · rw [hf_n e]
    exact h j (by omega)
theorem wk_living {post : Int32 → St1 → Prop} (hs : hs_p sb b n) (k : hh_ok p w b us q PL N K A B R Q)
    (H : ∀ (r : Int32) (fc' fs' : Int32) (N' K' A' B' P' : Nat → Nat), hh_al b us q PL N K A B R Q r → hh_ve b N K A B N' K' A' B' → post r (p, w, sb, fu, fc', fs', nI q, hn_A PL, hn_A N', hn_A K', he_A A', he_A B', he_A P', he_A R, hn_A Q)) :
    wpX_living post (p, w, sb, fu, fc, fs, nI q, hn_A PL, hn_A N, hn_A K, he_A A, he_A B, he_A P, he_A R, hn_A Q) := by
  have ho := hs_o hs
  obtain ⟨k1, k2, _⟩ := id k
  refine wk_cL hs k (fun c N' K' A' B' P' i sd cl => ?_)
  have hcu := hi_le i
  refine lp2 (fun m r j => wX_living_8 post p w sb fu (nI c) (nI c) (nI q) (hn_A PL) (hn_A N') (hn_A K') (he_A A') (he_A B') (he_A P') (he_A R) (hn_A Q) m r (nI j))
    (fun r j => j ≤ c ∧ ∀ k, hb_t r k = true ↔ ∃ y, y < j ∧ N' (n + y) = k) (fun _ j => c - j) (fun m r j hI hw => ?_) 0 0 ⟨by omega, fun k => ?_⟩
  · obtain ⟨hj, hr⟩ := hI
    refine pk_le c j (fun z => ?_) (fun z => ?_)
    · have e : j = c := by omega
      subst e
      refine H r _ _ N' K' A' B' P' (fun o => ?_) i.2.2.2
      rw [hr o]
      constructor
      · intro ⟨y, hy, e⟩
        obtain ⟨x, x1, x2, xP, xN, _⟩ := i.1 y hy
        exact ⟨x, x1, x2, (i.2.1 x (by omega) (by omega)).2.2.1, by omega⟩
      · intro ⟨x, x1, x2, hl, e⟩
        obtain ⟨_, _, _, y, hy, ey⟩ := i.2.1 x (by omega) (hl _ sd cl)
        exact ⟨y, hy, by rw [(hi_at k1 ho i x1 x2 ey hy).1]; exact e⟩
    · rw [hs_n hs j, nI_clamp (show n + j < 2 ^ 31 by omega)]
      obtain ⟨x, x1, x2, xP, xN, _⟩ := i.1 j (by omega)
      have hN := (k2 x x1 x2).1
      refine ⟨pk_in (n + j) 40 (by omega), nm_e (nm_r (nI_1 j) (hw _ (j + 1) ⟨by omega, fun o => ?_⟩ (by omega)))⟩
      show hb_t (r ||| ((1 : Int32) <<< (nI (N' (n + j)) &&& 31))) o = true ↔ _
      rw [hb_setP r (show N' (n + j) < 32 by omega) o, hr o]
      constructor
      · intro g
        rcases g with ⟨y, hy, e⟩ | e
        · exact ⟨y, by omega, e⟩
        · exact ⟨j, by omega, e.symm⟩
      · intro ⟨y, hy, e⟩
        by_cases ej : y = j
        · right
          rw [← e, ej]
        · exact Or.inl ⟨y, by omega, e⟩
  · rw [hb_0]
    constructor
    · intro g; cases g
    · intro ⟨y, hy, _⟩; omega
end
end
section
/-! the walk: ones, has, rescue -/
theorem wk_ones {post : Int32 → Prop} (x : Int32) (H : post (nI (hc_n (hb_t x) 20))) : wpX_ones post () x := by
  refine pk_loop (fun m j s => wX_ones_4 post x m s (nI j)) (fun j s => s = nI (hc_n (hb_t x) j)) 20 0 0 (by omega) rfl
    (fun m s h => pk_le 20 20 (fun _ => by rw [h]; exact H) (fun z => absurd z (by omega)))
    (fun m j s hj h hw => pk_le 20 j (fun z => absurd z (by omega)) (fun _ => nm_e (nm_r (nI_1 j) (hw _ ?_))))
  rw [h, hb_v x (show j < 32 by omega), nI_add, hc_s]
section
variable {p w sb fu fc fs fq : Int32} {a1 a2 a3 a4 a5 a6 a7 a8 : Nat → Int32}
theorem wk_has {post : Int32 → Prop} {k : Nat} (hp : ∀ o, hb_t p o = true → o < 20) (hk : k < 2 ^ 31) (H0 : hb_t p k = false → post 0) (H1 : hb_t p k = true → post 1) :
    wpX_has post (p, w, sb, fu, fc, fs, fq, a1, a2, a3, a4, a5, a6, a7, a8) (nI k) := by
  refine br_f (nI_pos hk) (pk_le 20 k (fun z => H0 ?_) (fun z => ek_if (hb_is0 p (show k < 32 by omega)) H0 (fun g => H1 (eq_true_of_ne_false g))))
  cases h : hb_t p k
  · rfl
  · have := hp k h
    omega
end
/-- the first loop of rescue, at o -/
def hh_rj (p w : Int32) (q : Nat) (PL Q P : Nat → Nat) (o : Nat) (w' : Int32) (q' : Nat) (Q' : Nat → Nat) : Prop :=
  o ≤ 20 ∧ q ≤ q' ∧ q' ≤ 20 ∧ (∀ i, i < q → Q' i = Q i) ∧ (∀ i, i < q' → hb_t p (Q' i) = true) ∧ (∀ i j, i < q' → j < q' → Q' i = Q' j → i = j)
  ∧ (∀ i, q ≤ i → i < q' → Q' i < o) ∧ (∀ k, hb_t w' k = true → hb_t w k = true) ∧ (∀ k, o ≤ k → hb_t w' k = hb_t w k) ∧ (∀ k, k < o → hb_t w' k = true → P (PL k) ≠ 0)
  ∧ q' = q + hc_n (fun k => hb_t w k && !hb_t w' k) o
section
variable {p w w' : Int32} {q q' o : Nat} {PL Q P Q' : Nat → Nat}
theorem hj_skip (h : hh_rj p w q PL Q P o w' q' Q') (ho : o < 20) (g : hb_t w' o = true → P (PL o) ≠ 0) : hh_rj p w q PL Q P (o + 1) w' q' Q' := by
  obtain ⟨h1, h2, h3, h4, h5, h6, h7, h8, h9, h10, h11⟩ := h
  refine ⟨by omega, h2, h3, h4, h5, h6, fun i a b => by have := h7 i a b; omega, h8, fun k hk => h9 k (by omega), fun k hk hw => ?_, ?_⟩
  · by_cases e : k = o
    · rw [e] at hw ⊢
      exact g hw
    · exact h10 k (by omega) hw
  · rw [hc_s]
    rw [h9 o (Nat.le_refl o)]
    cases hb_t w o
    · exact h11
    · exact h11
theorem hj_take (h : hh_rj p w q PL Q P o w' q' Q') (ho : o < 20) (hp : ∀ o, hb_t p o = true → o < 20) (hpo : hb_t p o = true) (hwo : hb_t w' o = true) (hP : P (PL o) = 0) (hq : ∀ i, i < q → P (PL (Q i)) ≠ 0) :
    q' < 20 ∧ hh_rj p w q PL Q P (o + 1) (w' &&& (((1 : Int32) <<< (nI o &&& 31)) ^^^ (-1))) (q' + 1) (hf_u Q' q' o) := by
  obtain ⟨h1, h2, h3, h4, h5, h6, h7, h8, h9, h10, h11⟩ := h
  have ne : ∀ i, i < q' → Q' i ≠ o := by
    intro i hi e
    rcases Nat.lt_or_ge i q with g | g
    · have t := hq i g
      rw [← h4 i g, e] at t
      exact t hP
    · have := h7 i g hi
      omega
  have inj : ∀ i j, i < q' + 1 → j < q' + 1 → hf_u Q' q' o i = hf_u Q' q' o j → i = j := by
    intro i j hi hj e
    by_cases ei : i = q'
    · by_cases ej : j = q'
      · omega
      · rw [ei, hf_s, hf_n ej] at e
        exact absurd e.symm (ne j (by omega))
    · rw [hf_n ei] at e
      by_cases ej : j = q'
      · rw [ej, hf_s] at e
        exact absurd e (ne i (by omega))
      · rw [hf_n ej] at e
        exact h6 i j (by omega) (by omega) e
  have pr : ∀ i, i < q' + 1 → hb_t p (hf_u Q' q' o i) = true := by
    intro i hi
    by_cases ei : i = q'
    · rw [ei, hf_s]
      exact hpo
    · rw [hf_n ei]
      exact h5 i (by omega)
  have lim : q' + 1 ≤ 20 := hp_pig 20 (q' + 1) (fun i k => hf_u Q' q' o i = k) (fun i hi => ⟨_, hp _ (pr i hi), rfl⟩) (fun i j k hi hj e1 e2 => inj i j hi hj (e1.trans e2.symm))
  refine ⟨by omega, by omega, by omega, lim, fun i hi => ?_, pr, inj, fun i a b => ?_, fun k hk => ?_, fun k hk => ?_, fun k hk hw => ?_, ?_⟩
  · rw [hf_n (by omega)]
    exact h4 i hi
  · by_cases ei : i = q'
    · rw [ei, hf_s]
      omega
    · rw [hf_n ei]
      have := h7 i a (by omega)
      omega
  · exact h8 k ((hb_clrP w' (by omega) k).mp hk).1
  · rw [← h9 k (by omega)]
    apply Bool.eq_iff_iff.mpr
    rw [hb_clrP w' (show o < 32 by omega) k]
    exact ⟨fun t => t.1, fun t => ⟨t, by omega⟩⟩
  · have t := (hb_clrP w' (show o < 32 by omega) k).mp hw
    exact h10 k (by omega) t.1
  · rw [hc_s]
    have e1 : hb_t (w' &&& (((1 : Int32) <<< (nI o &&& 31)) ^^^ (-1))) o = false := by
      cases e : hb_t (w' &&& (((1 : Int32) <<< (nI o &&& 31)) ^^^ (-1))) o
      · rfl
      · exact absurd rfl ((hb_clrP w' (show o < 32 by omega) o).mp e).2
    rw [e1, ← h9 o (Nat.le_refl o), hwo]
    rw [hc_cg (g := fun k => hb_t w k && !hb_t w' k) (fun i hi => ?_)]
    · rw [← Nat.add_assoc, ← h11]
      rfl
    · have _t := hi
      have e2 : hb_t (w' &&& (((1 : Int32) <<< (nI o &&& 31)) ^^^ (-1))) i = hb_t w' i := by
        apply Bool.eq_iff_iff.mpr
        rw [hb_clrP w' (show o < 32 by omega) i]
        exact ⟨fun t => t.1, fun t => ⟨t, by omega⟩⟩
      rw [e2]
end
section
variable {p w sb fu : Int32} {b n us q c : Nat} {PL N K A B P R Q N1 K1 A1 B1 : Nat → Nat} {post : St1 → Prop}
theorem wk_rs93 {w' : Int32} {q' : Nat} {Q' : Nat → Nat} (hs : hs_p sb b n) (k : hh_ok p w b us q PL N K A B R Q)
    (i : hh_ci b n us (hh_lv b us K A B (hh_sd q PL R Q)) N K A B c N1 K1 A1 B1 P) (sd : ∀ z, hh_sd q PL R Q z → P z ≠ 0) (cl : hh_cl b us K A B (fun x => P x ≠ 0))
    (hq : q ≤ q') (hq' : q' ≤ 20) (hQ : ∀ i, i < q → Q' i = Q i) (hp : ∀ i, i < q' → hb_t p (Q' i) = true)
    (H : ∀ (c' : Nat) (N' K' A' B' P' : Nat → Nat), hh_ci b n us (hh_lv b us K A B (hh_sd q' PL R Q')) N K A B c' N' K' A' B' P' → hh_ex P P' c c' → (∀ z, hh_sd q' PL R Q' z → P' z ≠ 0) → hh_cl b us K A B (fun x => P' x ≠ 0) → post (p, w', sb, fu, nI c', nI c', nI q', hn_A PL, hn_A N', hn_A K', he_A A', he_A B', he_A P', he_A R, hn_A Q')) :
    ∃ f, wX_rescue_93 post f 0 p w' sb fu (nI c) (nI c) (nI q') (hn_A PL) (hn_A N1) (hn_A K1) (he_A A1) (he_A B1) (he_A P) (he_A R) (hn_A Q') := by
  have ev := hk_ev hs k (hh_sd q' PL R Q')
  have ho := hs_o hs
  obtain ⟨k1, k2, k3, k4, k5, k6, k7, k8, _⟩ := id k
  have i0 : hh_ci b n us (hh_lv b us K A B (hh_sd q' PL R Q')) N K A B c N1 K1 A1 B1 P := hi_mo i (fun x hx => hl_mo (fun z hz => by
    rcases hz with h | ⟨j, hj, e⟩
    · exact Or.inl h
    · exact Or.inr ⟨j, by omega, by rw [hQ j hj]; exact e⟩) hx)
  refine lp7 (fun m r c' N K A B P => wX_rescue_93 post m (nI r) p w' sb fu (nI c') (nI c) (nI q') (hn_A PL) (hn_A N) (hn_A K) (he_A A) (he_A B) (he_A P) (he_A R) (hn_A Q'))
    (fun r c' N' K' A' B' P' => r ≤ q' ∧ hh_ci b n us (hh_lv b us K A B (hh_sd q' PL R Q')) N K A B c' N' K' A' B' P' ∧ hh_ex P P' c c' ∧ (∀ j, j < r → P' (PL (Q' j)) ≠ 0))
    (fun r _ _ _ _ _ _ => q' - r) (fun m r c' N' K' A' B' P' hI hw => ?_) 0 c N1 K1 A1 B1 P ⟨by omega, i0, hx_r, fun j hj => absurd hj (by omega)⟩
  obtain ⟨hr, i', ex, hD⟩ := hI
  refine pk_le q' r (fun z => ?_) (fun z => ⟨pk_in r 20 (by omega), ?_⟩)
  · have e : r = q' := by omega
    subst e
    refine wk_spread (sc := c) ev i' ex.2.1 (hc_ex k1 ho k2 i0 i' ex (Nat.le_refl c) (hc_of cl)) (fun c2 N2 K2 A2 B2 P2 i2 ex2 cl2 => H c2 N2 K2 A2 B2 P2 i2 (hx_t ex ex2) (fun z hz => ?_) cl2)
    rcases hz with ⟨j, hj, ez⟩ | ⟨j, hj, ez⟩
    · have := k5 j hj z ez
      exact hx_k (hx_t ex ex2) (by omega) (sd z (Or.inl ⟨j, hj, ez⟩))
    · have := k4 (Q' j) (hp j hj)
      rw [ez]
      exact hx_k ex2 (by omega) (hD j hj)
  · rw [nI_clamp (show r < 2 ^ 31 by omega)]
    have g := k4 (Q' r) (hp r (by omega))
    refine ⟨pk_in (Q' r) 20 (by omega), ?_⟩
    show wpX_copy _ _ (nI (PL (nI (Q' r)).toNatClampNeg))
    rw [nI_clamp (show Q' r < 2 ^ 31 by omega)]
    refine wk_copy ev i' (PL (Q' r) + 1) (fun y e => ?_) (fun c2 N2 K2 A2 B2 P2 i2 ex2 hcp => nm_r (nI_1 r) (hw (r + 1) c2 N2 K2 A2 B2 P2 ⟨by omega, i2, hx_t ex ex2, fun j hj => ?_⟩ (by omega)))
    · have e' : y = PL (Q' r) := by omega
      rw [e']
      exact ⟨g.2.1, g.2.2.1, hl_sd (Or.inr ⟨r, by omega, rfl⟩)⟩
    · by_cases ej : j = r
      · rw [ej]
        exact hcp _ rfl
      · have := k4 (Q' j) (hp j (by omega))
        exact hx_k ex2 (by omega) (hD j (by omega))
theorem wk_rescue (hs : hs_p sb b n) (k : hh_ok p w b us q PL N K A B R Q)
    (i : hh_ci b n us (hh_lv b us K A B (hh_sd q PL R Q)) N K A B c N1 K1 A1 B1 P) (sd : ∀ z, hh_sd q PL R Q z → P z ≠ 0) (cl : hh_cl b us K A B (fun x => P x ≠ 0))
    (H : ∀ (w' : Int32) (q' c' : Nat) (Q' N' K' A' B' P' : Nat → Nat), hh_ci b n us (hh_lv b us K A B (hh_sd q' PL R Q')) N K A B c' N' K' A' B' P' → (∀ z, hh_sd q' PL R Q' z → P' z ≠ 0) → (∀ z, hh_sd q PL R Q z → P' z ≠ 0) → hh_cl b us K A B (fun x => P' x ≠ 0) →
      q' ≤ 20 → (∀ i, i < q' → hb_t p (Q' i) = true) → (∀ i j, i < q' → j < q' → Q' i = Q' j → i = j) → (∀ k, hb_t w' k = true → hb_t w k = true) → (∀ k, hb_t w' k = true → P' (PL k) ≠ 0) → q' = q + hc_n (fun k => hb_t w k && !hb_t w' k) 20 →
      post (p, w', sb, fu, nI c', nI c', nI q', hn_A PL, hn_A N', hn_A K', he_A A', he_A B', he_A P', he_A R, hn_A Q')) :
    wpX_rescue post (p, w, sb, fu, nI c, nI c, nI q, hn_A PL, hn_A N1, hn_A K1, he_A A1, he_A B1, he_A P, he_A R, hn_A Q) := by
  have ho := hs_o hs
  obtain ⟨k1, k2, k3, k4, k5, k6, k7, k8, k9, k10⟩ := id k
  refine lp4 (fun m o w' q' Q' => wX_rescue_2 post p sb fu (nI c) (nI c) m (nI o) w' (nI q') (hn_A PL) (hn_A N1) (hn_A K1) (he_A A1) (he_A B1) (he_A P) (he_A R) (hn_A Q'))
    (fun o w' q' Q' => hh_rj p w q PL Q P o w' q' Q') (fun o _ _ _ => 20 - o) (fun m o w' q' Q' hI hw => ?_) 0 w q Q ⟨by omega, by omega, k6, fun _ _ => rfl, k7, k8, fun i a b => absurd a (by omega), fun _ h => h, fun _ _ => rfl, fun _ h => absurd h (by omega), rfl⟩
  have h1 := hI.1
  refine pk_le 20 o (fun z => ?_) (fun z => wk_has (fun o h => (k4 o h).1) (by omega) (fun g => br_t rfl ?_) (fun g => br_f (by decide) ?_))
  · have e : o = 20 := by omega
    subst e
    obtain ⟨_, h2, h3, h4, h5, h6, h7, h8, h9, h10, h11⟩ := hI
    refine wk_rs93 hs k i sd cl h2 h3 h4 h5 (fun c2 N2 K2 A2 B2 P2 i2 ex2 sd2 cl2 => H w' q' c2 Q' N2 K2 A2 B2 P2 i2 sd2 (fun z hz => ?_) cl2 h3 h5 h6 h8 (fun o ho' => ?_) h11)
    · have hz40 : z < 40 := by
        rcases hz with ⟨j, hj, ez⟩ | ⟨j, hj, ez⟩
        · have := k5 j hj z ez
          omega
        · have := k4 (Q j) (k7 j hj)
          omega
      exact hx_k ex2 hz40 (sd z hz)
    · have := k4 o (k9 o (h8 o ho'))
      exact hx_k ex2 (by omega) (h10 o (by omega) ho')
  · refine br_t rfl (nm_r (nI_1 o) (hw (o + 1) w' q' Q' (hj_skip hI (by omega) (fun t => ?_)) (by omega)))
    rw [k9 o (hI.2.2.2.2.2.2.2.1 o t)] at g
    cases g
  · refine ek_if (hb_is0 w' (show o < 32 by omega)) (fun t => br_t rfl (nm_r (nI_1 o) (hw (o + 1) w' q' Q' (hj_skip hI (by omega) (fun t' => by rw [t] at t'; cases t')) (by omega)))) (fun t => ⟨pk_in o 20 (by omega), ?_⟩)
    have gk := k4 o g
    rw [nI_clamp (show o < 2 ^ 31 by omega)]
    refine wk_isC (PL o + 1) (fun y e => by omega) (fun y hy => hi_P k1 ho i hy) (fun h0 => br_t rfl (br_f (by decide) ?_)) (fun y e h0 => br_f (by decide) (br_t rfl (nm_r (nI_1 o) (hw (o + 1) w' q' Q' (hj_skip hI (by omega) (fun _ => ?_)) (by omega)))))
    · obtain ⟨hq20, hI'⟩ := hj_take hI (by omega) (fun o h => (k4 o h).1) g (eq_true_of_ne_false t) (h0 _ rfl) (fun j hj => sd _ (Or.inr ⟨j, hj, rfl⟩))
      refine ⟨pk_in q' 20 hq20, ?_⟩
      rw [nI_clamp (show q' < 2 ^ 31 by omega)]
      exact nm_r (hn_upb Q' q' o (by omega)) (nm_r (nI_1 q') (nm_e (nm_r (nI_1 o) (hw (o + 1) _ (q' + 1) _ hI' (by omega)))))
    · have e' : y = PL o := by omega
      rw [← e']
      exact h0
end
end
section
/-! the walk: moved, mend, clean -/
section
variable {p w sb fu fc fs fq : Int32} {a1 a2 a3 a4 a5 a7 a8 : Nat → Int32} {P : Nat → Nat}
theorem wk_moved {post : Int32 → Prop} (v : Nat) (hv : ∀ y, v = y + 1 → y < 40) (H : post (he_I (hh_mv P v))) :
    wpX_moved post (p, w, sb, fu, fc, fs, fq, a1, a2, a3, a4, a5, he_A P, a7, a8) (he_I v) := by
  cases v with
  | zero => exact br_f (show ¬ (0 : Int32) ≤ -1 by decide) H
  | succ x =>
    have hx := hv x rfl
    have hcl : (he_I (x + 1)).toNatClampNeg = x := nI_clamp (n := x) (by omega)
    unfold wpX_moved
    dsimp only
    rw [hcl]
    exact br_t (show 0 ≤ nI x from nI_pos' (by omega)) ⟨pk_in x 40 (by omega), H⟩
end
section
variable {post : St1 → Prop} {p w sb fu fs fq : Int32} {a1 a7 a8 : Nat → Int32} {b n us c : Nat} {X : Nat → Prop} {N0 K0 A0 B0 N K A B P : Nat → Nat}
theorem wk_m100 {J : Int32 → (Nat → Int32) → (Nat → Int32) → (Nat → Int32) → (Nat → Int32) → (Nat → Int32) → (Nat → Int32) → (Nat → Int32) → (Nat → Int32) → Prop} {z2 : Int32} {a2 a3 a6 : Nat → Int32} {fc : Int32} {j x va vb : Nat}
    (hx : x < 40) (ha : va ≤ 100) (hb : vb ≤ 100) (H : J (nI (j + 1)) a1 a2 a3 (he_A (hf_u A x va)) (he_A (hf_u B x vb)) a6 a7 a8) :
    wX_mend_100 post J z2 (nI j) (nI x) (he_I va) (he_I vb) p w sb fu fc fs fq a1 a2 a3 (he_A A) (he_A B) a6 a7 a8 := by
  unfold wX_mend_100
  rw [nI_clamp (show x < 2 ^ 31 by omega)]
  exact ⟨pk_in x 40 hx, nm_r (he_upb A x va ha) ⟨pk_in x 40 hx, nm_r (he_upb B x vb hb) (nm_r (nI_1 j) H)⟩⟩
theorem wk_m81 {J : Int32 → (Nat → Int32) → (Nat → Int32) → (Nat → Int32) → (Nat → Int32) → (Nat → Int32) → (Nat → Int32) → (Nat → Int32) → (Nat → Int32) → Prop} {z2 : Int32} {a2 a6 : Nat → Int32} {fc : Int32} {j x va vb : Nat}
    (hx : x < 40) (hk : K x ≤ 2) (ha : va ≤ 100) (hb : vb ≤ 100) (H : ∀ vb', vb' = vb ∨ (K x = 2 ∧ va = 0 ∧ vb' = 0) → J (nI (j + 1)) a1 a2 (hn_A K) (he_A (hf_u A x va)) (he_A (hf_u B x vb')) a6 a7 a8) :
    wX_mend_81 post J z2 (nI j) (nI x) (he_I va) (he_I vb) p w sb fu fc fs fq a1 a2 (hn_A K) (he_A A) (he_A B) a6 a7 a8 := by
  unfold wX_mend_81
  rw [nI_clamp (show x < 2 ^ 31 by omega)]
  refine ⟨pk_in x 40 hx, pk_eq (K x) 2 (fun e => ek_if (he_nn (show va < 2 ^ 31 by omega)) (fun g => wk_m100 hx ha hb (H vb (Or.inl rfl))) (fun g => ?_)) (fun e => wk_m100 hx ha hb (H vb (Or.inl rfl)))⟩
  exact wk_m100 (vb := 0) hx ha (by omega) (H 0 (Or.inr ⟨e, by omega, rfl⟩))
theorem wk_mend {fst : Nat} (ev : hh_ev sb b n us N0 K0 A0 B0 X) (i : hh_ci b n us X N0 K0 A0 B0 c N K A B P)
    (H : ∀ (A' B' : Nat → Nat), (∀ y, y < c → hh_md b n us K0 A0 B0 P A' B' y) → post (p, w, sb, fu, nI c, fs, fq, a1, hn_A N, hn_A K, he_A A', he_A B', he_A P, a7, a8)) :
    wpX_mend post (p, w, sb, fu, nI c, fs, fq, a1, hn_A N, hn_A K, he_A A, he_A B, he_A P, a7, a8) (nI fst) := by
  obtain ⟨hs, hu, hf, hcl⟩ := id ev
  have ho := hs_o hs
  have hcu := hi_le i
  refine nm_r (hs_n hs fst) ?_
  refine lp3 (fun m j A B => wX_mend_14 post (nI (n + fst)) p w sb fu (nI c) fs fq m (nI j) a1 (hn_A N) (hn_A K) (he_A A) (he_A B) (he_A P) a7 a8)
    (fun j A' B' => j ≤ c ∧ (∀ y, y < j → hh_md b n us K0 A0 B0 P A' B' y) ∧ (∀ y, j ≤ y → A' (n + y) = A (n + y) ∧ B' (n + y) = B (n + y)))
    (fun j _ _ => c - j) (fun m j A' B' hI hw => ?_) 0 A B ⟨by omega, fun y hy => absurd hy (by omega), fun _ _ => ⟨rfl, rfl⟩⟩
  obtain ⟨hj, hM, hO⟩ := hI
  refine pk_le c j (fun z => ?_) (fun z => nm_r (hs_n hs j) ⟨pk_in (n + j) 40 (by omega), ?_⟩)
  · have e : j = c := by omega
    rw [e] at hM
    exact H A' B' hM
  · rw [nI_clamp (show n + j < 2 ^ 31 by omega)]
    obtain ⟨x, x1, x2, xP, xN, xK, xA, xB⟩ := i.1 j (by omega)
    obtain ⟨f1, f2, f3, f4⟩ := hf x x1 x2
    obtain ⟨oA, oB⟩ := hO j (Nat.le_refl j)
    have eA : A' (n + j) = A0 x := by omega
    have eB : B' (n + j) = B0 x := by omega
    have mv : ∀ v, (∀ y, v = y + 1 → b ≤ y ∧ y < b + us) → hh_mv P v ≤ 40 := by
      intro v hv
      cases v with
      | zero => exact Nat.zero_le _
      | succ y =>
        have := hv y rfl
        exact hi_P hu ho i (x := y) (by omega)
    have gA := mv (A0 x) f3
    have gB := mv (B0 x) f4
    have nx : ∀ va vb, (va = hh_mv P (A0 x) ∨ (K0 x = 1 ∧ va = 0)) → (vb = hh_mv P (B0 x) ∨ (K0 x = 2 ∧ va = 0 ∧ vb = 0)) →
        wX_mend_14 post (nI (n + fst)) p w sb fu (nI c) fs fq m (nI (j + 1)) a1 (hn_A N) (hn_A K) (he_A (hf_u A' (n + j) va)) (he_A (hf_u B' (n + j) vb)) (he_A P) a7 a8 := by
      intro va vb hva hvb
      refine hw (j + 1) _ _ ⟨by omega, fun y hy => ?_, fun y hy => ?_⟩ (by omega)
      · by_cases ey : y = j
        · subst ey
          intro x' g1 g2 g3
          have g := i.2.2.1 x' x (by omega) (by omega) (by omega) (by omega)
          rw [g, hf_s, hf_s]
          exact ⟨hva, hvb⟩
        · intro x' g1 g2 g3
          rw [hf_n (by omega), hf_n (by omega)]
          exact hM y (by omega) x' g1 g2 g3
      · rw [hf_n (by omega), hf_n (by omega)]
        exact hO y (by omega)
    refine wk_moved (A' (n + j)) (fun y e => by have := f3 y (by omega); omega) ⟨pk_in (n + j) 40 (by omega), wk_moved (B' (n + j)) (fun y e => by have := f4 y (by omega); omega) ⟨pk_in (n + j) 40 (by omega), ?_⟩⟩
    rw [eA, eB]
    refine pk_eq (K (n + j)) 1 (fun hk => br_c (fun _ => ?_) (fun _ => ?_)) (fun hk => ?_)
    · exact wk_m81 (by omega) (by omega) (by omega) (by omega) (fun vb' hv => nx _ _ (Or.inl rfl) (by rw [← xK]; exact hv))
    · exact wk_m81 (va := 0) (by omega) (by omega) (by omega) (by omega) (fun vb' hv => nx _ _ (Or.inr ⟨by omega, rfl⟩) (by rw [← xK]; exact hv))
    · exact wk_m81 (by omega) (by omega) (by omega) (by omega) (fun vb' hv => nx _ _ (Or.inl rfl) (by rw [← xK]; exact hv))
end
/-- what a cleaning does -/
def hh_cr (p w p' w' : Int32) (b n us c q q' : Nat) (PL N K A B R Q PL' N' K' A' B' R' Q' : Nat → Nat) : Prop :=
  c ≤ us ∧ (∀ k, hb_t p' k = true → hb_t p k = true ∧ K' (PL' k) = K (PL k))
  ∧ (∀ x, b ≤ x → x < b + us → hh_lv b us K A B (hh_sd q PL R Q) x → hb_t p' (N x) = true)
  ∧ (∀ x, n ≤ x → x < n + c → hh_lv n c K' A' B' (hh_sd q' PL' R' Q') x)
  ∧ (∀ k, hb_t w' k = true → hb_t w k = true) ∧ q' = q + hc_n (fun k => hb_t w k && !hb_t w' k) 20
section
variable {p w sb fc fs : Int32} {b n us q : Nat} {PL N K A B P R Q : Nat → Nat}
theorem wk_c81 {post : Int32 → St1 → Prop} {x2 fs' fq : Int32} {w' : Int32} {c : Nat} {X : Nat → Prop} {N1 K1 A1 B1 : Nat → Nat} {a3 a4 a5 a6 a7 a8 : Nat → Int32} (hs : hs_p sb b n) (k : hh_ok p w b us q PL N K A B R Q) (i : hh_ci b n us X N K A B c N1 K1 A1 B1 P)
    (H : ∀ (p' : Int32) (PL' : Nat → Nat), (∀ k, hb_t p' k = true ↔ ∃ y, y < c ∧ N1 (n + y) = k) → (∀ y, y < c → PL' (N1 (n + y)) = n + y) → hc_n (hb_t p') 20 = c → post (x2 - nI c) (p', w' &&& p', 1 - sb, nI c, nI c, fs', fq, hn_A PL', hn_A N1, a3, a4, a5, a6, a7, a8)) :
    ∃ f, wX_clean_81 post x2 w' (1 - sb) (nI c) (nI c) fs' fq f 0 0 (hn_A PL) (hn_A N1) a3 a4 a5 a6 a7 a8 := by
  obtain ⟨k1, k2, k3, _⟩ := id k
  have ho := hs_o hs
  have hcu := hi_le i
  have inj : ∀ y y', y < c → y' < c → N1 (n + y) = N1 (n + y') → y = y' := by
    intro y y' hy hy' e
    obtain ⟨x, g1, g2, g3, g4, _⟩ := i.1 y hy
    obtain ⟨x', g1', g2', g3', g4', _⟩ := i.1 y' hy'
    have t := (k3 x g1 g2).1
    have t' := (k3 x' g1' g2').1
    rw [← g4] at t
    rw [← g4'] at t'
    rw [e] at t
    have ex : x = x' := t.symm.trans t'
    rw [ex] at g3
    omega
  refine lp3 (fun m j p' PL' => wX_clean_81 post x2 w' (1 - sb) (nI c) (nI c) fs' fq m (nI j) p' (hn_A PL') (hn_A N1) a3 a4 a5 a6 a7 a8)
    (fun j p' PL' => j ≤ c ∧ (∀ k, hb_t p' k = true ↔ ∃ y, y < j ∧ N1 (n + y) = k) ∧ (∀ y, y < j → PL' (N1 (n + y)) = n + y) ∧ hc_n (hb_t p') 20 = j)
    (fun j _ _ => c - j) (fun m j p' PL' hI hw => ?_) 0 0 PL ⟨by omega, fun k => ?_, fun y hy => absurd hy (by omega), by decide +kernel⟩
  · obtain ⟨hj, h1, h2, h3⟩ := hI
    refine pk_le c j (fun z => ?_) (fun z => nm_r (hs_n hs j) ⟨pk_in (n + j) 40 (by omega), ?_⟩)
    · have e : j = c := by omega
      subst e
      exact nm_e (H p' PL' h1 h2 h3)
    · rw [nI_clamp (show n + j < 2 ^ 31 by omega)]
      obtain ⟨x, g1, g2, g3, g4, _⟩ := i.1 j (by omega)
      have hN := (k2 x g1 g2).1
      have hset := hb_setP p' (show N1 (n + j) < 32 by omega)
      refine nm_e ⟨pk_in (n + j) 40 (by omega), pk_in (N1 (n + j)) 20 (by omega), nm_r (e' := hn_A (hf_u PL' (N1 (n + j)) (n + j))) ?_ (nm_r (nI_1 j) (hw (j + 1) _ _ ⟨by omega, fun o => ?_, fun y hy => ?_, ?_⟩ (by omega)))⟩
      · show upd (hn_A PL') (nI (N1 (n + j))).toNatClampNeg _ = _
        rw [nI_clamp (show N1 (n + j) < 2 ^ 31 by omega)]
        exact hn_upb PL' _ (n + j) (by omega)
      · refine (hset o).trans ?_
        rw [h1 o]
        constructor
        · intro g
          rcases g with ⟨y, hy, e⟩ | e
          · exact ⟨y, by omega, e⟩
          · exact ⟨j, by omega, e.symm⟩
        · intro ⟨y, hy, e⟩
          by_cases ej : y = j
          · right
            rw [← e, ej]
          · exact Or.inl ⟨y, by omega, e⟩
      · by_cases ej : y = j
        · rw [ej, hf_s]
        · rw [hf_n (fun g => ej (inj y j (by omega) (by omega) g))]
          exact h2 y (by omega)
      · have nb : hb_t p' (N1 (n + j)) = false := by
          cases g : hb_t p' (N1 (n + j))
          · rfl
          · obtain ⟨y, hy, e⟩ := (h1 _).mp g
            have := inj y j (by omega) (by omega) e
            omega
        refine Eq.trans (hc_add (f := hb_t p') (k := N1 (n + j)) (by omega) nb ((hset _).mpr (Or.inr rfl)) (fun o hne => ?_)) (by rw [h3])
        apply Bool.eq_iff_iff.mpr
        exact ⟨fun g => (hset o).mpr (Or.inl g), fun g => by
          rcases (hset o).mp g with g | g
          · exact g
          · exact absurd g hne⟩
  · rw [hb_0]
    constructor
    · intro g; cases g
    · intro ⟨y, hy, _⟩; omega
theorem wk_clean {post : Int32 → St1 → Prop} (hs : hs_p sb b n) (k : hh_ok p w b us q PL N K A B R Q)
    (H : ∀ (p' w' fs' : Int32) (c q' : Nat) (PL' N' K' A' B' P' R' Q' : Nat → Nat), hh_ok p' w' n c q' PL' N' K' A' B' R' Q' → hh_cr p w p' w' b n us c q q' PL N K A B R Q PL' N' K' A' B' R' Q' → post (nI (us - c)) (p', w', 1 - sb, nI c, nI c, fs', nI q', hn_A PL', hn_A N', hn_A K', he_A A', he_A B', he_A P', he_A R', hn_A Q')) :
    wpX_clean post (p, w, sb, nI us, fc, fs, nI q, hn_A PL, hn_A N, hn_A K, he_A A, he_A B, he_A P, he_A R, hn_A Q) := by
  obtain ⟨k1, k2, k3, k4, k5, k6, k7, k8, k9, k10⟩ := id k
  have ho := hs_o hs
  refine wk_cL hs k (fun c1 N1 K1 A1 B1 P1 i1 sd1 cl1 => ?_)
  refine wk_rescue hs k i1 sd1 cl1 (fun w2 q2 c Q2 N2 K2 A2 B2 P2 i2 sd2 sd0 cl2 r1 r2 r3 r4 r5 r6 => ?_)
  refine wk_mend (hk_ev hs k (hh_sd q2 PL R Q2)) i2 (fun A3 B3 md => ?_)
  refine wk_ones p ?_
  rw [k10]
  have hcu := hi_le i2
  refine pk_loop (fun m r s => wX_clean_28 post (nI us) p w2 sb (nI us) (nI c) (nI c) (nI q2) m (nI r) (hn_A PL) (hn_A N2) (hn_A K2) (he_A A3) (he_A B3) (he_A P2) (he_A s) (hn_A Q2))
    (fun r s => (∀ j, j < r → s j = hh_mv P2 (R j)) ∧ (∀ j, r ≤ j → s j = R j)) 4 0 R (by omega) ⟨fun j hj => absurd hj (by omega), fun _ _ => rfl⟩
    (fun m s h => pk_le 4 4 (fun _ => nm_e ?_) (fun z => absurd z (by omega)))
    (fun m r s hr h hw => pk_le 4 r (fun z => absurd z (by omega)) (fun _ => ⟨pk_in r 4 hr, ?_⟩))
  · refine wk_c81 hs k i2 (fun p' PL' h1 h2 h3 => ?_)
    rw [pk_sub hcu]
    have sub : ∀ o, hb_t w2 o = true → hb_t p' o = true := by
      intro o ho'
      have g := k4 o (k9 o (r4 o ho'))
      obtain ⟨_, _, _, y, hy, ey⟩ := i2.2.1 (PL o) (by omega) (r5 o ho')
      have t := (hi_at k1 ho i2 g.2.1 g.2.2.1 ey hy).1
      exact (h1 o).mpr ⟨y, hy, by rw [t]; exact g.2.2.2⟩
    have hw : ∀ o, hb_t (w2 &&& p') o = true ↔ hb_t w2 o = true := fun o => by
      rw [hb_andP]
      exact ⟨fun g => g.1, fun g => ⟨g, sub o g⟩⟩
    have ok' := hw_ok (w' := w2 &&& p') ho k i2 sd2 md h.1 h1 h2 h3 r1 r2 r3 (fun o g => ((hb_andP w2 p' o).mp g).2)
    refine H p' (w2 &&& p') _ c q2 PL' N2 K2 A3 B3 P2 s Q2 ok' ⟨hcu, fun o g => ?_, fun x x1 x2 hl => ?_, hw_lv ho k i2 cl2 sd2 md h.1 h2 r2, fun o g => r4 o ((hw o).mp g), ?_⟩
    · obtain ⟨y, hy, e⟩ := (h1 o).mp g
      obtain ⟨x, x1, x2, xP, xN, xK, _⟩ := i2.1 y hy
      have t := k3 x x1 x2
      have eo : N x = o := by omega
      rw [eo] at t
      have t' := h2 y hy
      rw [e] at t'
      rw [t', t.1]
      exact ⟨t.2, xK⟩
    · obtain ⟨_, _, _, y, hy, ey⟩ := i2.2.1 x (by omega) (hl _ sd0 cl2)
      exact (h1 _).mpr ⟨y, hy, (hi_at k1 ho i2 x1 x2 ey hy).1⟩
    · rw [r6]
      congr 1
      refine hc_cg (fun o _ => ?_)
      rw [Bool.eq_iff_iff.mpr (hw o)]
  · rw [nI_clamp (show r < 2 ^ 31 by omega)]
    refine wk_moved (s r) (fun y e => ?_) ⟨pk_in r 4 hr, ?_⟩
    · rw [h.2 r (Nat.le_refl r)] at e
      have := k5 r hr y e
      omega
    · rw [h.2 r (Nat.le_refl r)]
      have g : hh_mv P2 (R r) ≤ 100 := by
        have t := k5 r hr
        cases e : R r with
        | zero => exact Nat.zero_le _
        | succ y =>
          have := t y e
          have := hi_P k1 ho i2 (x := y) (by omega)
          show P2 y ≤ 100
          omega
      refine nm_r (he_upb s r _ g) (nm_r (nI_1 r) (hw _ ⟨fun j hj => ?_, fun j hj => ?_⟩))
      · by_cases ej : j = r
        · rw [ej, hf_s]
        · rw [hf_n ej]
          exact h.1 j (by omega)
      · rw [hf_n (by omega)]
        exact h.2 j (by omega)
end
end
section
/-! the walk: the small methods -/
def hh_nv (N : Nat → Nat) : Nat → Nat
  | 0 => 0
  | y + 1 => N y + 1
def hh_fd (p : Int32) (PL N A B : Nat → Nat) (k wh : Nat) : Nat := if hb_t p k = true then (if wh = 0 then hh_nv N (A (PL k)) else if wh = 1 then hh_nv N (B (PL k)) else 0) else 0
def hh_rt (N R : Nat → Nat) (r : Nat) : Nat := if r < 4 then hh_nv N (R r) else 0
section
variable {p w sb fu fc fs fq : Int32} {a1 a2 a3 a4 a5 a6 a7 a8 : Nat → Int32} {b n us q : Nat} {PL N K A B P R Q : Nat → Nat}
theorem wk_numAt {post : Int32 → Prop} (v : Nat) (hv : ∀ y, v = y + 1 → y < 40) (H : post (he_I (hh_nv N v))) :
    wpX_numberAt post (p, w, sb, fu, fc, fs, fq, a1, hn_A N, a3, a4, a5, a6, a7, a8) (he_I v) := by
  cases v with
  | zero => exact br_f (show ¬ (0 : Int32) ≤ -1 by decide) H
  | succ x =>
    have hx := hv x rfl
    have hcl : (he_I (x + 1)).toNatClampNeg = x := nI_clamp (n := x) (by omega)
    unfold wpX_numberAt
    dsimp only
    rw [hcl]
    exact br_t (show 0 ≤ nI x from nI_pos' (by omega)) ⟨pk_in x 40 (by omega), H⟩
theorem wk_placeFor {post : Int32 → Prop} (v : Nat) (hv : ∀ y, v = y + 1 → y < 20) (H : post (he_I (hh_nv PL v))) :
    wpX_placeFor post (p, w, sb, fu, fc, fs, fq, hn_A PL, a2, a3, a4, a5, a6, a7, a8) (he_I v) := by
  cases v with
  | zero => exact br_t rfl H
  | succ x =>
    have hx := hv x rfl
    have hcl : (he_I (x + 1)).toNatClampNeg = x := nI_clamp (n := x) (by omega)
    unfold wpX_placeFor
    dsimp only
    rw [hcl]
    exact br_f (fun e => absurd ((he_m1 (v := x + 1) (by omega)).mp e) (by omega)) ⟨pk_in x 20 (by omega), H⟩
theorem wk_isRoot {post : Int32 → Prop} {r : Nat} (hr : r < 2 ^ 31) (H0 : 4 ≤ r → post 0) (H1 : r < 4 → post 1) : wpX_isRoot post () (nI r) :=
  br_f (nI_pos hr) (pk_le 4 r H0 H1)
theorem wk_kind {post : Int32 → Prop} {k : Nat} (o : hh_ok p w b us q PL N K A B R Q) (ho : b + us ≤ 40) (hk : k < 2 ^ 31) (H0 : hb_t p k = false → post (-1)) (H1 : hb_t p k = true → post (nI (K (PL k)))) :
    wpX_kind post (p, w, sb, fu, fc, fs, fq, hn_A PL, a2, hn_A K, a4, a5, a6, a7, a8) (nI k) := by
  obtain ⟨k1, k2, k3, k4, _⟩ := id o
  unfold wpX_kind
  dsimp only
  refine wk_has (fun o h => (k4 o h).1) hk (fun g => br_t rfl (H0 g)) (fun g => br_f (by decide) ?_)
  have t := k4 k g
  rw [nI_clamp hk]
  refine ⟨pk_in k 20 t.1, pk_in (PL k) 40 (by omega), ?_⟩
  show post (nI (K (nI (PL k)).toNatClampNeg))
  rw [nI_clamp (show PL k < 2 ^ 31 by omega)]
  exact H1 g
theorem wk_field {post : Int32 → Prop} {k wh : Nat} (o : hh_ok p w b us q PL N K A B R Q) (ho : b + us ≤ 40) (hk : k < 2 ^ 31) (hw : wh < 2 ^ 31) (H : post (he_I (hh_fd p PL N A B k wh))) :
    wpX_field post (p, w, sb, fu, fc, fs, fq, hn_A PL, hn_A N, a3, he_A A, he_A B, a6, a7, a8) (nI k) (nI wh) := by
  obtain ⟨k1, k2, k3, k4, _⟩ := id o
  unfold hh_fd at H
  unfold wpX_field
  dsimp only
  refine wk_has (fun o h => (k4 o h).1) hk (fun g => br_t rfl ?_) (fun g => br_f (by decide) (br_f (nI_pos hw) (pk_le wh 1 (fun z => pk_eq wh 0 (fun e => ?_) (fun e => ?_)) (fun z => ?_))))
  · rw [if_neg (by rw [g]; decide)] at H
    exact H
  · rw [if_pos g, if_pos e] at H
    have t := k4 k g
    have f := k2 (PL k) t.2.1 t.2.2.1
    rw [nI_clamp hk]
    refine ⟨pk_in k 20 t.1, pk_in (PL k) 40 (by omega), ?_⟩
    show wpX_numberAt _ _ (he_I (A (nI (PL k)).toNatClampNeg))
    rw [nI_clamp (show PL k < 2 ^ 31 by omega)]
    exact wk_numAt _ (fun y e => by have := f.2.2.1 y e; omega) H
  · rw [if_pos g, if_neg e, if_pos (by omega)] at H
    have t := k4 k g
    have f := k2 (PL k) t.2.1 t.2.2.1
    rw [nI_clamp hk]
    refine ⟨pk_in k 20 t.1, pk_in (PL k) 40 (by omega), ?_⟩
    show wpX_numberAt _ _ (he_I (B (nI (PL k)).toNatClampNeg))
    rw [nI_clamp (show PL k < 2 ^ 31 by omega)]
    exact wk_numAt _ (fun y e => by have := f.2.2.2 y e; omega) H
  · rw [if_pos g, if_neg (by omega), if_neg (by omega)] at H
    exact H
theorem wk_rootOf {post : Int32 → Prop} {r : Nat} (o : hh_ok p w b us q PL N K A B R Q) (ho : b + us ≤ 40) (hr : r < 2 ^ 31) (H : post (he_I (hh_rt N R r))) :
    wpX_rootOf post (p, w, sb, fu, fc, fs, fq, a1, hn_A N, a3, a4, a5, a6, he_A R, a8) (nI r) := by
  obtain ⟨k1, k2, k3, k4, k5, _⟩ := id o
  unfold hh_rt at H
  unfold wpX_rootOf
  dsimp only
  refine wk_isRoot hr (fun g => br_t rfl ?_) (fun g => br_f (by decide) ⟨pk_in r 4 g, ?_⟩)
  · rw [if_neg (by omega)] at H
    exact H
  · rw [if_pos g] at H
    rw [nI_clamp hr]
    exact wk_numAt _ (fun y e => by have := k5 r g y e; omega) H
theorem hf_pr {k wh y : Nat} (o : hh_ok p w b us q PL N K A B R Q) (h : hh_fd p PL N A B k wh = y + 1) : hb_t p y = true ∧ y < 20 := by
  obtain ⟨k1, k2, k3, k4, _⟩ := id o
  unfold hh_fd at h
  have cs : ∀ v, (∀ z, v = z + 1 → b ≤ z ∧ z < b + us) → hh_nv N v = y + 1 → hb_t p y = true ∧ y < 20 := by
    intro v hv e
    cases v with
    | zero => exact absurd (show (0 : Nat) = y + 1 from e) (by omega)
    | succ z =>
      have t := hv z rfl
      have e' : N z + 1 = y + 1 := e
      rw [show y = N z by omega]
      exact ⟨(k3 z t.1 t.2).2, (k2 z t.1 t.2).1⟩
  by_cases g : hb_t p k = true
  · have t := k4 k g
    have f := k2 (PL k) t.2.1 t.2.2.1
    rw [if_pos g] at h
    by_cases e0 : wh = 0
    · rw [if_pos e0] at h
      exact cs _ f.2.2.1 h
    · rw [if_neg e0] at h
      by_cases e1 : wh = 1
      · rw [if_pos e1] at h
        exact cs _ f.2.2.2 h
      · rw [if_neg e1] at h
        omega
  · rw [if_neg g] at h
    omega
theorem hr_pr {r y : Nat} (o : hh_ok p w b us q PL N K A B R Q) (h : hh_rt N R r = y + 1) : hb_t p y = true ∧ y < 20 := by
  obtain ⟨k1, k2, k3, k4, k5, _⟩ := id o
  unfold hh_rt at h
  by_cases g : r < 4
  · rw [if_pos g] at h
    cases e : R r with
    | zero =>
      rw [e] at h
      exact absurd (show (0 : Nat) = y + 1 from h) (by omega)
    | succ z =>
      rw [e] at h
      have t := k5 r g z e
      have e' : N z + 1 = y + 1 := h
      rw [show y = N z by omega]
      exact ⟨(k3 z t.1 t.2).2, (k2 z t.1 t.2).1⟩
  · rw [if_neg g] at h
    omega
theorem hs_40 (hs : hs_p sb b n) (o : hh_ok p w b us q PL N K A B R Q) : b + us ≤ 40 := by
  have := hs_o hs
  have := o.1
  omega
end
section
variable {p w sb fc fs : Int32} {b n us q : Nat} {PL N K A B P R Q : Nat → Nat}
theorem wk_watch {post : Int32 → St1 → Prop} {k : Nat} (o : hh_ok p w b us q PL N K A B R Q) (hk : k < 2 ^ 31)
    (H0 : hb_t p k = false → post 0 (p, w, sb, nI us, fc, fs, nI q, hn_A PL, hn_A N, hn_A K, he_A A, he_A B, he_A P, he_A R, hn_A Q))
    (H1 : hb_t p k = true → post 1 (p, w ||| ((1 : Int32) <<< (nI k &&& 31)), sb, nI us, fc, fs, nI q, hn_A PL, hn_A N, hn_A K, he_A A, he_A B, he_A P, he_A R, hn_A Q)) :
    wpX_watch post (p, w, sb, nI us, fc, fs, nI q, hn_A PL, hn_A N, hn_A K, he_A A, he_A B, he_A P, he_A R, hn_A Q) (nI k) := by
  unfold wpX_watch
  dsimp only
  exact wk_has (fun j h => (o.2.2.2.1 j h).1) hk (fun g => br_t rfl (H0 g)) (fun g => br_f (by decide) (nm_e (H1 g)))
theorem wk_heldBy {post : Int32 → St1 → Prop} {k : Nat} (hs : hs_p sb b n) (o : hh_ok p w b us q PL N K A B R Q) (hk : k < 2 ^ 31)
    (H : ∀ (r fc' fs' : Int32) (N' K' A' B' P' : Nat → Nat), hh_ve b N K A B N' K' A' B' → (hb_t p k = false → r = 0) → (∀ r0, hh_al b us q PL N K A B R Q r0 → ∀ i, hb_t r i = true → hb_t r0 i = true) →
      post r (p, w, sb, nI us, fc', fs', nI q, hn_A PL, hn_A N', hn_A K', he_A A', he_A B', he_A P', he_A R, hn_A Q)) :
    wpX_heldBy post (p, w, sb, nI us, fc, fs, nI q, hn_A PL, hn_A N, hn_A K, he_A A, he_A B, he_A P, he_A R, hn_A Q) (nI k) := by
  have h40 := hs_40 hs o
  unfold wpX_heldBy
  dsimp only
  refine wk_has (fun j h => (o.2.2.2.1 j h).1) hk (fun g => br_t rfl (H 0 fc fs N K A B P hv_r (fun _ => rfl) (fun r0 _ i h => by rw [hb_0] at h; cases h))) (fun g => br_f (by decide) ?_)
  have t := o.2.2.2.1 k g
  refine wk_living hs o (fun r1 fc1 fs1 N1 K1 A1 B1 P1 al1 v1 => ⟨pk_in k 20 t.1, nm_r (e' := nI (PL k)) (by rw [nI_clamp hk]; rfl) ?_⟩)
  have o1 := ho_ve o v1
  have f1 := o1.2.1 (PL k) t.2.1 t.2.2.1
  rw [nI_clamp (show PL k < 2 ^ 31 by omega)]
  have i40 := pk_in (x := nI (PL k)) (PL k) 40 (by omega)
  refine ⟨i40, nm_e ⟨i40, nm_e ⟨i40, nm_r (he_up A1 (PL k) 0) ⟨i40, nm_r (he_up B1 (PL k) 0) ?_⟩⟩⟩⟩
  have o2 : hh_ok p w b us q PL N1 K1 (hf_u A1 (PL k) 0) (hf_u B1 (PL k) 0) R Q := by
    obtain ⟨k1, k2, k3⟩ := o1
    refine ⟨k1, fun x x1 x2 => ?_, k3⟩
    obtain ⟨g1, g2, g3, g4⟩ := k2 x x1 x2
    refine ⟨g1, g2, fun y e => ?_, fun y e => ?_⟩
    · by_cases ex : x = PL k
      · rw [ex, hf_s] at e
        omega
      · rw [hf_n ex] at e
        exact g3 y e
    · by_cases ex : x = PL k
      · rw [ex, hf_s] at e
        omega
      · rw [hf_n ex] at e
        exact g4 y e
  refine wk_living hs o2 (fun r2 fc2 fs2 N2 K2 A2 B2 P2 al2 v2 => ⟨i40, nm_r (he_upn A2 (PL k) (A1 (PL k)) (by have := hz_le f1.2.2.1 h40; omega)) ⟨i40, nm_r (he_upn B2 (PL k) (B1 (PL k)) (by have := hz_le f1.2.2.2 h40; omega)) ?_⟩⟩)
  refine H _ fc2 fs2 N2 K2 _ _ P2 (hv_t v1 ?_) (fun z => by rw [g] at z; cases z) (fun r0 al0 i h => ?_)
  · intro x x1 x2
    obtain ⟨e1, e2, e3, e4⟩ := v2 x x1 x2
    refine ⟨e1, e2, ?_, ?_⟩
    · by_cases ex : x = PL k
      · rw [ex, hf_s]
      · rw [hf_n ex, e3, hf_n ex]
    · by_cases ex : x = PL k
      · rw [ex, hf_s]
      · rw [hf_n ex, e4, hf_n ex]
  · rw [ha_eq al0 al1]
    exact ((hb_difP r1 r2 i).mp h).1
theorem wk_root {post : Int32 → St1 → Prop} {r v : Nat} (o : hh_ok p w b us q PL N K A B R Q) (h40 : b + us ≤ 40) (hr : r < 2 ^ 31) (hv : v < 2 ^ 31)
    (H0 : ¬ (r < 4 ∧ (∀ y, v = y + 1 → hb_t p y = true)) → post 0 (p, w, sb, nI us, fc, fs, nI q, hn_A PL, hn_A N, hn_A K, he_A A, he_A B, he_A P, he_A R, hn_A Q))
    (H1 : r < 4 → (∀ y, v = y + 1 → hb_t p y = true) → post 1 (p, w, sb, nI us, fc, fs, nI q, hn_A PL, hn_A N, hn_A K, he_A A, he_A B, he_A P, he_A (hf_u R r (hh_nv PL v)), hn_A Q)) :
    wpX_root post (p, w, sb, nI us, fc, fs, nI q, hn_A PL, hn_A N, hn_A K, he_A A, he_A B, he_A P, he_A R, hn_A Q) (nI r) (he_I v) := by
  have go : r < 4 → (∀ y, v = y + 1 → hb_t p y = true) → wX_root_22 post (nI r) (he_I v) p w sb (nI us) fc fs (nI q) (hn_A PL) (hn_A N) (hn_A K) (he_A A) (he_A B) (he_A P) (he_A R) (hn_A Q) := by
    intro hr4 hp
    refine wk_placeFor v (fun y e => (o.2.2.2.1 y (hp y e)).1) ⟨pk_in r 4 hr4, ?_⟩
    rw [nI_clamp hr]
    refine nm_r (he_upb R r _ ?_) (H1 hr4 hp)
    cases v with
    | zero => exact Nat.zero_le _
    | succ y =>
      have := o.2.2.2.1 y (hp y rfl)
      show PL y + 1 ≤ 100
      omega
  unfold wpX_root
  dsimp only
  refine wk_isRoot hr (fun g => br_t rfl (H0 (fun z => by omega))) (fun g => br_f (by decide) (ek_if (he_m1 hv) (fun e => go g (fun y e' => absurd e' (by omega))) (fun e => ?_)))
  obtain ⟨y, rfl⟩ : ∃ y, v = y + 1 := ⟨v - 1, by omega⟩
  refine wk_has (k := y) (fun j h => (o.2.2.2.1 j h).1) (by omega) (fun g' => br_t rfl (H0 (fun z => ?_))) (fun g' => br_f (by decide) (go g (fun y' e' => by rw [show y' = y by omega]; exact g')))
  rw [z.2 y rfl] at g'
  cases g'
theorem wk_point {post : Int32 → St1 → Prop} {k wh v : Nat} (o : hh_ok p w b us q PL N K A B R Q) (h40 : b + us ≤ 40) (hk : k < 2 ^ 31) (hw : wh < 2 ^ 31) (hv : v < 2 ^ 31)
    (H0 : ¬ (hb_t p k = true ∧ (∀ y, v = y + 1 → hb_t p y = true) ∧ wh < 2) → post 0 (p, w, sb, nI us, fc, fs, nI q, hn_A PL, hn_A N, hn_A K, he_A A, he_A B, he_A P, he_A R, hn_A Q))
    (H1 : hb_t p k = true → (∀ y, v = y + 1 → hb_t p y = true) → wh = 0 → post 1 (p, w, sb, nI us, fc, fs, nI q, hn_A PL, hn_A N, hn_A K, he_A (hf_u A (PL k) (hh_nv PL v)), he_A B, he_A P, he_A R, hn_A Q))
    (H2 : hb_t p k = true → (∀ y, v = y + 1 → hb_t p y = true) → wh = 1 → post 1 (p, w, sb, nI us, fc, fs, nI q, hn_A PL, hn_A N, hn_A K, he_A A, he_A (hf_u B (PL k) (hh_nv PL v)), he_A P, he_A R, hn_A Q)) :
    wpX_point post (p, w, sb, nI us, fc, fs, nI q, hn_A PL, hn_A N, hn_A K, he_A A, he_A B, he_A P, he_A R, hn_A Q) (nI k) (nI wh) (he_I v) := by
  have go : hb_t p k = true → (∀ y, v = y + 1 → hb_t p y = true) → wX_point_21 post (nI k) (nI wh) (he_I v) p w sb (nI us) fc fs (nI q) (hn_A PL) (hn_A N) (hn_A K) (he_A A) (he_A B) (he_A P) (he_A R) (hn_A Q) := by
    intro g hp
    have t := o.2.2.2.1 k g
    have bd : hh_nv PL v ≤ 100 := by
      cases v with
      | zero => exact Nat.zero_le _
      | succ y =>
        have := o.2.2.2.1 y (hp y rfl)
        show PL y + 1 ≤ 100
        omega
    unfold wX_point_21
    rw [nI_clamp hk]
    refine br_f (nI_pos hw) (pk_le wh 1 (fun z => pk_eq wh 0 (fun e => ⟨pk_in k 20 t.1, wk_placeFor v (fun y e => (o.2.2.2.1 y (hp y e)).1) ⟨pk_in (PL k) 40 (by omega), nm_r (e' := he_A (hf_u A (PL k) (hh_nv PL v))) ?_ (H1 g hp e)⟩⟩) (fun e => ⟨pk_in k 20 t.1, wk_placeFor v (fun y e => (o.2.2.2.1 y (hp y e)).1) ⟨pk_in (PL k) 40 (by omega), nm_r (e' := he_A (hf_u B (PL k) (hh_nv PL v))) ?_ (H2 g hp (by omega))⟩⟩)) (fun z => H0 (fun g => by omega)))
    · show upd _ (nI (PL k)).toNatClampNeg _ = _
      rw [nI_clamp (show PL k < 2 ^ 31 by omega)]
      exact he_upb A (PL k) _ bd
    · show upd _ (nI (PL k)).toNatClampNeg _ = _
      rw [nI_clamp (show PL k < 2 ^ 31 by omega)]
      exact he_upb B (PL k) _ bd
  unfold wpX_point
  dsimp only
  refine wk_has (fun j h => (o.2.2.2.1 j h).1) hk (fun g => br_t rfl (H0 (fun z => by rw [z.1] at g; cases g))) (fun g => br_f (by decide) (ek_if (he_m1 hv) (fun e => go g (fun y e' => absurd e' (by omega))) (fun e => ?_)))
  obtain ⟨y, rfl⟩ : ∃ y, v = y + 1 := ⟨v - 1, by omega⟩
  refine wk_has (k := y) (fun j h => (o.2.2.2.1 j h).1) (by omega) (fun g' => br_t rfl (H0 (fun z => ?_))) (fun g' => br_f (by decide) (go g (fun y' e' => by rw [show y' = y by omega]; exact g')))
  rw [z.2.1 y rfl] at g'
  cases g'
theorem wk_take {post : Int32 → St1 → Prop} {r : Nat} (o : hh_ok p w b us q PL N K A B R Q) (h40 : b + us ≤ 40) (hr : r < 2 ^ 31)
    (H0 : 4 ≤ r ∨ q = 0 → post (-1) (p, w, sb, nI us, fc, fs, nI q, hn_A PL, hn_A N, hn_A K, he_A A, he_A B, he_A P, he_A R, hn_A Q))
    (H1 : r < 4 → 0 < q → ∀ Q' : Nat → Nat, (∀ i, i < q - 1 → Q' i = Q (i + 1)) → post (nI (Q 0)) (p, w, sb, nI us, fc, fs, nI (q - 1), hn_A PL, hn_A N, hn_A K, he_A A, he_A B, he_A P, he_A (hf_u R r (PL (Q 0) + 1)), hn_A Q')) :
    wpX_take post (p, w, sb, nI us, fc, fs, nI q, hn_A PL, hn_A N, hn_A K, he_A A, he_A B, he_A P, he_A R, hn_A Q) (nI r) := by
  obtain ⟨k1, k2, k3, k4, k5, k6, k7, k8, _⟩ := id o
  unfold wpX_take
  dsimp only
  refine wk_isRoot hr (fun g => br_t rfl (H0 (Or.inl g))) (fun g => br_f (by decide) (pk_eq q 0 (fun e => H0 (Or.inr e)) (fun e => nm_r (e' := nI (Q 0)) rfl (nm_r (e' := nI (q - 1)) (pk_sub (a := q) (b := 1) (by omega)) ?_))))
  have t := k4 (Q 0) (k7 0 (by omega))
  refine lp2 (fun m j Q' => wX_take_35 post (nI r) (nI (Q 0)) p w sb (nI us) fc fs (nI (q - 1)) m (nI j) (hn_A PL) (hn_A N) (hn_A K) (he_A A) (he_A B) (he_A P) (he_A R) (hn_A Q'))
    (fun j Q' => j ≤ q - 1 ∧ (∀ i, i < j → Q' i = Q (i + 1)) ∧ (∀ i, j ≤ i → Q' i = Q i)) (fun j _ => q - j) (fun m j Q' hI hw => ?_) 0 Q ⟨by omega, fun i hi => absurd hi (by omega), fun _ _ => rfl⟩
  obtain ⟨hj, h1, h2⟩ := hI
  refine pk_le (q - 1) j (fun z => ⟨pk_in (Q 0) 20 t.1, pk_in r 4 g, ?_⟩) (fun z => ?_)
  · rw [nI_clamp hr, nI_clamp (show Q 0 < 2 ^ 31 by omega)]
    have ej : j = q - 1 := by omega
    subst ej
    exact nm_r (he_upn R r (PL (Q 0) + 1) (by omega)) (H1 g (by omega) Q' h1)
  · rw [nI_1 j, nI_clamp (show j + 1 < 2 ^ 31 by omega), nI_clamp (show j < 2 ^ 31 by omega)]
    have e2 : Q' (j + 1) = Q (j + 1) := h2 (j + 1) (by omega)
    have t2 := k4 (Q (j + 1)) (k7 (j + 1) (by omega))
    refine ⟨pk_in (j + 1) 20 (by omega), pk_in j 20 (by omega), nm_r (hn_upn Q' j (Q' (j + 1)) (by omega)) (nm_e (hw (j + 1) _ ⟨by omega, fun i hi => ?_, fun i hi => ?_⟩ (by omega)))⟩
    · by_cases ei : i = j
      · rw [ei, hf_s, e2]
      · rw [hf_n ei]
        exact h1 i (by omega)
    · rw [hf_n (by omega)]
      exact h2 i (by omega)
theorem wk_make {post : Int32 → St1 → Prop} {r kv : Nat} (hs : hs_p sb b n) (o : hh_ok p w b us q PL N K A B R Q) (hr : r < 2 ^ 31) (hkv : kv < 2 ^ 31)
    (H0 : kv = 0 ∨ 3 < kv ∨ 4 ≤ r → post (-1) (p, w, sb, nI us, fc, fs, nI q, hn_A PL, hn_A N, hn_A K, he_A A, he_A B, he_A P, he_A R, hn_A Q))
    (H1 : 0 < kv → kv ≤ 3 → r < 4 → (∀ j, j < 20 → hb_t p j = true) → post (-2) (p, w, sb, nI us, fc, fs, nI q, hn_A PL, hn_A N, hn_A K, he_A A, he_A B, he_A P, he_A R, hn_A Q))
    (H2 : 0 < kv → kv ≤ 3 → r < 4 → ∀ x, x < 20 → hb_t p x = false → (∀ j, j < x → hb_t p j = true) → us < 20 → post (nI x) (p ||| ((1 : Int32) <<< (nI x &&& 31)), w &&& (((1 : Int32) <<< (nI x &&& 31)) ^^^ (-1)), sb, nI (us + 1), fc, fs, nI q, hn_A (hf_u PL x (b + us)), hn_A (hf_u N (b + us) x), hn_A (hf_u K (b + us) (kv - 1)), he_A (hf_u A (b + us) 0), he_A (hf_u B (b + us) 0), he_A P, he_A (hf_u R r (b + us + 1)), hn_A Q)) :
    wpX_make post (p, w, sb, nI us, fc, fs, nI q, hn_A PL, hn_A N, hn_A K, he_A A, he_A B, he_A P, he_A R, hn_A Q) (he_I kv) (nI r) := by
  obtain ⟨k1, k2, k3, k4, k5, k6, k7, k8, k9, k10⟩ := id o
  have ho := hs_o hs
  cases kv with
  | zero => exact br_t (show (-1 : Int32) < 0 by decide) (H0 (Or.inl rfl))
  | succ kd =>
    refine br_f (nI_pos (n := kd) (by omega)) (pk_lt 2 kd (fun g => H0 (Or.inr (Or.inl (by omega)))) (fun g => wk_isRoot hr (fun g' => br_t rfl (H0 (Or.inr (Or.inr g')))) (fun g' => br_f (by decide) ?_)))
    refine lp1 (fun m x => wX_make_20 post (nI kd) (nI r) p w sb (nI us) fc fs (nI q) (hn_A PL) (hn_A N) (hn_A K) (he_A A) (he_A B) (he_A P) (he_A R) (hn_A Q) m (nI x))
      (fun x => x ≤ 20 ∧ ∀ j, j < x → hb_t p j = true) (fun x => 20 - x) (fun m x hI hw => ?_) 0 ⟨by omega, fun j hj => absurd hj (by omega)⟩
    obtain ⟨hx, hall⟩ := hI
    refine pk_le 20 x (fun z => H1 (by omega) (by omega) g' (fun j hj => hall j (by omega))) (fun z => wk_has (fun j h => (k4 j h).1) (by omega) (fun t => br_t rfl ?_) (fun t => br_f (by decide) (nm_r (nI_1 x) (hw (x + 1) ⟨by omega, fun j hj => ?_⟩ (by omega)))))
    · have hus : us < 20 := by
        rw [← k10]
        exact hc_lt (k := x) (by omega) t
      refine nm_r (hs_b hs us) (nm_r (nI_1 us) (nm_e (nm_e ⟨pk_in x 20 (by omega), ?_⟩)))
      rw [nI_clamp (show x < 2 ^ 31 by omega), nI_clamp (show b + us < 2 ^ 31 by omega), nI_clamp hr]
      have i40 := pk_in (x := nI (b + us)) (b + us) 40 (by omega)
      exact nm_r (hn_upb PL x (b + us) (by omega)) ⟨i40, nm_r (hn_upb N (b + us) x (by omega)) ⟨i40, nm_r (hn_upb K (b + us) kd (by omega)) ⟨i40, nm_r (he_up A (b + us) 0) ⟨i40, nm_r (he_up B (b + us) 0) ⟨pk_in r 4 g', nm_r (he_upp R r (b + us) (by omega)) (H2 (by omega) (by omega) g' x (by omega) t hall hus)⟩⟩⟩⟩⟩
    · by_cases e : j = x
      · rw [e]; exact t
      · exact hall j (by omega)
end
end
section
/-! longs as Nats (rows of the kit's BITS.to-paste under other names), base-4 digits -/
theorem hq_tb (n : Nat) : (lN n).toBitVec = BitVec.ofNat 64 n := rfl
theorem hq_inj {a b : Int64} (h : a.toBitVec = b.toBitVec) : a = b := Int64.toBitVec_inj.mp h
theorem hq_c : ∀ k, k < 64 → ((nI k).toInt64 &&& 63) = lN k := by decide +kernel
theorem hq_sm : ∀ k, k < 64 → (BitVec.ofNat 64 k).smod 64 = BitVec.ofNat 64 k := by decide +kernel
theorem hq_shl (n : Nat) {k : Nat} (hk : k < 64) : lN n <<< ((nI k).toInt64 &&& 63) = lN (n * 2 ^ k) := by
  rw [hq_c k hk]
  apply hq_inj
  rw [Int64.toBitVec_shiftLeft, hq_tb, hq_tb, hq_tb, hq_sm k hk]
  apply BitVec.eq_of_toNat_eq
  rw [BitVec.shiftLeft_eq', BitVec.toNat_shiftLeft, BitVec.toNat_ofNat, BitVec.toNat_ofNat, BitVec.toNat_ofNat, Nat.mod_eq_of_lt (show k < 2 ^ 64 by omega), Nat.shiftLeft_eq, Nat.mul_mod, Nat.mod_mod, ← Nat.mul_mod]
theorem hq_tn {n : Nat} (h : n < 2 ^ 64) : (UInt64.ofNat n).toNat = n := Nat.mod_eq_of_lt h
theorem hq_and {a b c : Nat} (ha : a < 2 ^ 64) (hb : b < 2 ^ 64) (hc : a &&& b = c) : lN a &&& lN b = lN c := by
  subst hc
  have h : UInt64.ofNat a &&& UInt64.ofNat b = UInt64.ofNat (a &&& b) := UInt64.toNat_inj.mp (by rw [UInt64.toNat_and, hq_tn ha, hq_tn hb, hq_tn (Nat.and_lt_two_pow a hb)])
  have h2 := congrArg UInt64.toInt64 h
  exact h2
theorem hq_or {k p a b : Nat} (hp : 2 ^ k = p) (ha : a < p) (h : b * p + a < 2 ^ 64) : lN (b * p) ||| lN a = lN (b * p + a) := by
  subst hp
  have h1 : b * 2 ^ k ||| a = b * 2 ^ k + a := by rw [← Nat.shiftLeft_eq, Nat.shiftLeft_add_eq_or_of_lt ha]
  have h3 : UInt64.ofNat (b * 2 ^ k) ||| UInt64.ofNat a = UInt64.ofNat (b * 2 ^ k + a) := UInt64.toNat_inj.mp (by rw [UInt64.toNat_or, hq_tn (by omega), hq_tn (by omega), hq_tn h, h1])
  have h2 := congrArg UInt64.toInt64 h3
  exact h2
theorem hq_or' {k p a b : Nat} (hp : 2 ^ k = p) (ha : a < p) (h : a + b * p < 2 ^ 64) : lN a ||| lN (b * p) = lN (a + b * p) := by
  rw [Int64.or_comm, hq_or hp ha (by omega), Nat.add_comm]
theorem hq_shr {a d : Nat} {D : Int64} (hD : (D.toBitVec.smod 64).toNat = d) (h : a < 2 ^ 62) : lN a >>> D = lN (a / 2 ^ d) := by
  have hd : a / 2 ^ d ≤ a := Nat.div_le_self _ _
  apply Int64.toInt_inj.mp
  have e : (lN a >>> D).toInt = (lN a).toInt >>> d := by
    rw [← hD]
    exact BitVec.toInt_sshiftRight ..
  rw [e, Int.shiftRight_eq_div_pow, pk_lT (by omega), pk_lT (by omega)]
  rfl
theorem hq_sl : ∀ n, n < 64 → (((nI n).toInt64 &&& 63).toBitVec.smod 64).toNat = n := by decide +kernel
def hd_s (d : Nat → Nat) : Nat → Nat
  | 0 => 0
  | j + 1 => hd_s d j + d j * 2 ^ (2 * j)
theorem hd_1 (d : Nat → Nat) (j : Nat) : hd_s d (j + 1) = hd_s d j + d j * 2 ^ (2 * j) := rfl
theorem hd_4 (j : Nat) : 2 ^ (2 * (j + 1)) = 4 * 2 ^ (2 * j) := by
  rw [show 2 * (j + 1) = 2 * j + 2 by omega, Nat.pow_add]
  omega
theorem hd_lt {d : Nat → Nat} (hd : ∀ k, d k < 4) (j : Nat) : hd_s d j < 2 ^ (2 * j) := by
  induction j with
  | zero => exact Nat.one_pos
  | succ j ih =>
    rw [hd_1, hd_4]
    have h1 := hd j
    have h2 : d j * 2 ^ (2 * j) ≤ 3 * 2 ^ (2 * j) := Nat.mul_le_mul_right _ (by omega)
    omega
theorem hd_dg {d : Nat → Nat} (hd : ∀ k, d k < 4) {j k : Nat} (hk : k < j) : hd_s d j / 2 ^ (2 * k) % 4 = d k := by
  induction j with
  | zero => omega
  | succ j ih =>
    have pos : 0 < 2 ^ (2 * k) := Nat.pow_pos (by decide)
    rw [hd_1]
    by_cases e : k = j
    · subst e
      rw [Nat.add_mul_div_right _ _ pos, Nat.div_eq_of_lt (hd_lt hd k), Nat.zero_add, Nat.mod_eq_of_lt (hd k)]
    · have e2 : d j * 2 ^ (2 * j) = 4 * (d j * 2 ^ (2 * (j - k - 1))) * 2 ^ (2 * k) := by
        rw [show 2 * j = 2 + 2 * (j - k - 1) + 2 * k by omega, Nat.pow_add, Nat.pow_add]
        generalize 2 ^ (2 * (j - k - 1)) = u
        generalize 2 ^ (2 * k) = t
        rw [← Nat.mul_assoc, show (2 : Nat) ^ 2 = 4 from rfl, Nat.mul_left_comm (d j) 4 u]
      rw [e2, Nat.add_mul_div_right _ _ pos, Nat.add_mul_mod_self_left, ih (by omega)]
theorem hd_40 {d : Nat → Nat} (hd : ∀ k, d k < 4) {j : Nat} (hj : j ≤ 20) : hd_s d j < 2 ^ 40 := by
  have h1 := hd_lt hd j
  have h2 : 2 ^ (2 * j) ≤ 2 ^ 40 := Nat.pow_le_pow_right (by decide) (by omega)
  omega
theorem hd_put {d : Nat → Nat} (hd : ∀ k, d k < 4) {j : Nat} (hj : j < 20) : lN (hd_s d j) ||| (lN (d j) <<< ((2 * nI j).toInt64 &&& 63)) = lN (hd_s d (j + 1)) := by
  have e : (2 : Int32) * nI j = nI (2 * j) := pk_mul 2 j
  rw [e, hq_shl (d j) (show 2 * j < 64 by omega), hd_1]
  have h := hd_40 hd (show j + 1 ≤ 20 by omega)
  rw [hd_1] at h
  exact hq_or' rfl (hd_lt hd j) (by omega)
theorem hd_get {d : Nat → Nat} (hd : ∀ k, d k < 4) {k : Nat} (hk : k < 20) : (((lN (hd_s d 20)) >>> ((2 * nI k).toInt64 &&& 63)) &&& 3).toInt32 = nI (d k) := by
  have e : (2 : Int32) * nI k = nI (2 * k) := pk_mul 2 k
  have h := hd_40 hd (show 20 ≤ 20 by omega)
  rw [e, hq_shr (hq_sl (2 * k) (by omega)) (by omega)]
  have h2 : hd_s d 20 / 2 ^ (2 * k) ≤ hd_s d 20 := Nat.div_le_self _ _
  have h3 : lN (hd_s d 20 / 2 ^ (2 * k)) &&& 3 = lN (d k) := hq_and (b := 3) (by omega) (by decide) (by
    rw [show (3 : Nat) = 2 ^ 2 - 1 from rfl, Nat.and_two_pow_sub_one_eq_mod]
    exact hd_dg hd hk)
  rw [h3]
  exact lN_i (d k)
/-! how the heap's invariant goes on -/
section
variable {p w w' : Int32} {b us q : Nat} {PL N K A B R Q A' B' R' Q' : Nat → Nat}
theorem ho_fl (o : hh_ok p w b us q PL N K A B R Q) (hA : ∀ x, b ≤ x → x < b + us → ∀ y, A' x = y + 1 → b ≤ y ∧ y < b + us) (hB : ∀ x, b ≤ x → x < b + us → ∀ y, B' x = y + 1 → b ≤ y ∧ y < b + us) : hh_ok p w b us q PL N K A' B' R Q :=
  ⟨o.1, fun x x1 x2 => ⟨(o.2.1 x x1 x2).1, (o.2.1 x x1 x2).2.1, hA x x1 x2, hB x x1 x2⟩, o.2.2⟩
theorem ho_rt (o : hh_ok p w b us q PL N K A B R Q) (hR : ∀ r, r < 4 → ∀ y, R' r = y + 1 → b ≤ y ∧ y < b + us) : hh_ok p w b us q PL N K A B R' Q :=
  ⟨o.1, o.2.1, o.2.2.1, o.2.2.2.1, hR, o.2.2.2.2.2⟩
theorem ho_w (o : hh_ok p w b us q PL N K A B R Q) (hw : ∀ k, hb_t w' k = true → hb_t p k = true) : hh_ok p w' b us q PL N K A B R Q :=
  ⟨o.1, o.2.1, o.2.2.1, o.2.2.2.1, o.2.2.2.2.1, o.2.2.2.2.2.1, o.2.2.2.2.2.2.1, o.2.2.2.2.2.2.2.1, hw, o.2.2.2.2.2.2.2.2.2⟩
theorem ho_nv (o : hh_ok p w b us q PL N K A B R Q) {v : Nat} (hv : ∀ y, v = y + 1 → hb_t p y = true) : ∀ y, hh_nv PL v = y + 1 → b ≤ y ∧ y < b + us := by
  intro y e
  cases v with
  | zero => exact absurd (show (0 : Nat) = y + 1 from e) (by omega)
  | succ z =>
    have t := o.2.2.2.1 z (hv z rfl)
    have e' : PL z + 1 = y + 1 := e
    omega
theorem ho_nn (o : hh_ok p w b us q PL N K A B R Q) {v : Nat} (hv : ∀ y, v = y + 1 → hb_t p y = true) : hh_nv N (hh_nv PL v) = v := by
  cases v with
  | zero => rfl
  | succ z =>
    have t := o.2.2.2.1 z (hv z rfl)
    show N (PL z) + 1 = z + 1
    rw [t.2.2.2]
theorem ho_up {F : Nat → Nat} {k v : Nat} (h : ∀ x, b ≤ x → x < b + us → ∀ y, F x = y + 1 → b ≤ y ∧ y < b + us) (hv : ∀ y, v = y + 1 → b ≤ y ∧ y < b + us) : ∀ x, b ≤ x → x < b + us → ∀ y, hf_u F k v x = y + 1 → b ≤ y ∧ y < b + us := by
  intro x x1 x2 y e
  by_cases ex : x = k
  · rw [ex, hf_s] at e
    exact hv y e
  · rw [hf_n ex] at e
    exact h x x1 x2 y e
theorem ho_ur {r v : Nat} (h : ∀ r, r < 4 → ∀ y, R r = y + 1 → b ≤ y ∧ y < b + us) (hv : ∀ y, v = y + 1 → b ≤ y ∧ y < b + us) : ∀ j, j < 4 → ∀ y, hf_u R r v j = y + 1 → b ≤ y ∧ y < b + us := by
  intro j hj y e
  by_cases ex : j = r
  · rw [ex, hf_s] at e
    exact hv y e
  · rw [hf_n ex] at e
    exact h j hj y e
theorem ho_tk (o : hh_ok p w b us q PL N K A B R Q) (hq : 0 < q) (h : ∀ i, i < q - 1 → Q' i = Q (i + 1)) : hh_ok p w b us (q - 1) PL N K A B R Q' := by
  obtain ⟨k1, k2, k3, k4, k5, k6, k7, k8, k9⟩ := o
  refine ⟨k1, k2, k3, k4, k5, by omega, fun i hi => ?_, fun i j hi hj e => ?_, k9⟩
  · rw [h i hi]
    exact k7 (i + 1) (by omega)
  · rw [h i hi, h j hj] at e
    have := k8 (i + 1) (j + 1) (by omega) (by omega) e
    omega
theorem ho_mk (o : hh_ok p w b us q PL N K A B R Q) {x r kd : Nat} (hx : x < 20) (hpx : hb_t p x = false) (hus : us < 20) (hkd : kd ≤ 2) :
    hh_ok (p ||| ((1 : Int32) <<< (nI x &&& 31))) (w &&& (((1 : Int32) <<< (nI x &&& 31)) ^^^ (-1))) b (us + 1) q (hf_u PL x (b + us)) (hf_u N (b + us) x) (hf_u K (b + us) kd) (hf_u A (b + us) 0) (hf_u B (b + us) 0) (hf_u R r (b + us + 1)) Q := by
  obtain ⟨k1, k2, k3, k4, k5, k6, k7, k8, k9, k10⟩ := o
  have st := hb_setP p (show x < 32 by omega)
  have cl := hb_clrP w (show x < 32 by omega)
  have ne : ∀ k, hb_t p k = true → k ≠ x := fun k h e => by rw [e, hpx] at h; cases h
  refine ⟨by omega, fun z z1 z2 => ?_, fun z z1 z2 => ?_, fun k hk => ?_, ho_ur (fun j hj y e => ?_) (fun y e => by omega), k6, fun i hi => (st _).mpr (Or.inl (k7 i hi)), k8, fun k hk => (st k).mpr (Or.inl (k9 k ((cl k).mp hk).1)), ?_⟩
  · by_cases e : z = b + us
    · rw [e, hf_s, hf_s, hf_s, hf_s]
      exact ⟨hx, hkd, fun y e => by omega, fun y e => by omega⟩
    · rw [hf_n e, hf_n e, hf_n e, hf_n e]
      obtain ⟨f1, f2, f3, f4⟩ := k2 z z1 (by omega)
      exact ⟨f1, f2, fun y e => by have := f3 y e; omega, fun y e => by have := f4 y e; omega⟩
  · by_cases e : z = b + us
    · rw [e, hf_s, hf_s]
      exact ⟨rfl, (st x).mpr (Or.inr rfl)⟩
    · obtain ⟨t1, t2⟩ := k3 z z1 (by omega)
      rw [hf_n e, hf_n (ne _ t2)]
      exact ⟨t1, (st _).mpr (Or.inl t2)⟩
  · by_cases e : k = x
    · rw [e, hf_s, hf_s]
      exact ⟨hx, by omega, by omega, rfl⟩
    · rcases (st k).mp hk with h | h
      · obtain ⟨t1, t2, t3, t4⟩ := k4 k h
        rw [hf_n e, hf_n (by omega)]
        exact ⟨t1, t2, by omega, t4⟩
      · exact absurd h e
  · have := k5 j hj y e
    omega
  · refine Eq.trans (hc_add (f := hb_t p) hx hpx ((st x).mpr (Or.inr rfl)) (fun i hi => ?_)) (by rw [k10])
    apply Bool.eq_iff_iff.mpr
    exact ⟨fun g => (st i).mpr (Or.inl g), fun g => by
      rcases (st i).mp g with g | g
      · exact g
      · exact absurd g hi⟩
end
/-- a good state -/
def hh_gd (u : St1) : Prop := ∃ (p w sb fc fs : Int32) (b n us q : Nat) (PL N K A B P R Q : Nat → Nat), hs_p sb b n ∧ hh_ok p w b us q PL N K A B R Q ∧ u = (p, w, sb, nI us, fc, fs, nI q, hn_A PL, hn_A N, hn_A K, he_A A, he_A B, he_A P, he_A R, hn_A Q)
theorem hg_mk {p w sb fc fs : Int32} {b n us q : Nat} {PL N K A B P R Q : Nat → Nat} (hs : hs_p sb b n) (o : hh_ok p w b us q PL N K A B R Q) : hh_gd (p, w, sb, nI us, fc, fs, nI q, hn_A PL, hn_A N, hn_A K, he_A A, he_A B, he_A P, he_A R, hn_A Q) :=
  ⟨p, w, sb, fc, fs, b, n, us, q, PL, N, K, A, B, P, R, Q, hs, o, rfl⟩
end
section
/-! the law's methods: points, takes, makes -/
section
variable {p w sb fu fc fs fq : Int32} {a1 a2 a3 a4 a5 a6 a7 a8 : Nat → Int32}
theorem wk_there {post : Int32 → Prop} (H : post p) : wpX_there post (p, w, sb, fu, fc, fs, fq, a1, a2, a3, a4, a5, a6, a7, a8) := H
theorem wk_watched {post : Int32 → Prop} (H : post w) : wpX_watched post (p, w, sb, fu, fc, fs, fq, a1, a2, a3, a4, a5, a6, a7, a8) := H
theorem wk_queued {post : Int32 → Prop} (H : post fq) : wpX_queued post (p, w, sb, fu, fc, fs, fq, a1, a2, a3, a4, a5, a6, a7, a8) := H
theorem wk_objects {post : Int32 → Prop} {m : Nat} (h : hc_n (hb_t p) 20 = m) (H : post (nI m)) : wpX_objects post (p, w, sb, fu, fc, fs, fq, a1, a2, a3, a4, a5, a6, a7, a8) :=
  wk_ones p (by rw [h]; exact H)
end
theorem wk_alive {p w sb fu fc fs : Int32} {b n us q : Nat} {PL N K A B P R Q : Nat → Nat} {post : Int32 → St1 → Prop} (hs : hs_p sb b n) (k : hh_ok p w b us q PL N K A B R Q)
    (H : ∀ (r : Int32) (fc' fs' : Int32) (N' K' A' B' P' : Nat → Nat), hh_al b us q PL N K A B R Q r → hh_ve b N K A B N' K' A' B' → post r (p, w, sb, fu, fc', fs', nI q, hn_A PL, hn_A N', hn_A K', he_A A', he_A B', he_A P', he_A R, hn_A Q)) :
    wpX_alive post (p, w, sb, fu, fc, fs, nI q, hn_A PL, hn_A N, hn_A K, he_A A, he_A B, he_A P, he_A R, hn_A Q) := by
  unfold wpX_alive
  dsimp only
  exact wk_living hs k H
theorem hb_no {p : Int32} {k : Nat} (hp : ∀ o, hb_t p o = true → o < 20) (hk : 20 ≤ k) : ¬ hb_t p k = true := fun h => by
  have := hp k h
  omega
theorem wl_points {post : Int32 → St1 → Prop} {u : St1} {k wh v : Nat} (g : hh_gd u) (hk : k < 2 ^ 31) (hw : wh < 2 ^ 31) (hv : v < 2 ^ 31) (H : ∀ u', hh_gd u' → post 1 u') : wpL_points post u (nI k) (nI wh) (he_I v) := by
  obtain ⟨p, w, sb, fc, fs, b, n, us, q, PL, N, K, A, B, P, R, Q, hs, o, rfl⟩ := g
  have h40 := hs_40 hs o
  have hp : ∀ j, hb_t p j = true → j < 20 := fun j h => (o.2.2.2.1 j h).1
  unfold wpL_points
  dsimp only
  refine wk_there (wk_field o h40 hk hw ?_)
  have yes : hb_t p k = true → (∀ y, v = y + 1 → hb_t p y = true) → wh < 2 → wL_points_60 post (nI k) (nI wh) (he_I v) (he_I (hh_fd p PL N A B k wh)) 1 p w sb (nI us) fc fs (nI q) (hn_A PL) (hn_A N) (hn_A K) (he_A A) (he_A B) (he_A P) (he_A R) (hn_A Q) := by
    intro g1 g2 g3
    unfold wL_points_60
    refine wk_point o h40 hk hw hv (fun z => absurd ⟨g1, g2, g3⟩ z) (fun _ _ e => br_t rfl ?_) (fun _ _ e => br_t rfl ?_)
    · have o' := ho_fl (A' := hf_u A (PL k) (hh_nv PL v)) (B' := B) o (ho_up (fun x x1 x2 => (o.2.1 x x1 x2).2.2.1) (ho_nv o g2)) (fun x x1 x2 => (o.2.1 x x1 x2).2.2.2)
      refine wk_field o' h40 hk hw (br_f (by decide) (br_t ?_ (H _ (hg_mk hs o'))))
      unfold hh_fd
      rw [if_pos g1, if_pos e, hf_s, ho_nn o g2]
    · have o' := ho_fl (A' := A) (B' := hf_u B (PL k) (hh_nv PL v)) o (fun x x1 x2 => (o.2.1 x x1 x2).2.2.1) (ho_up (fun x x1 x2 => (o.2.1 x x1 x2).2.2.2) (ho_nv o g2))
      refine wk_field o' h40 hk hw (br_f (by decide) (br_t ?_ (H _ (hg_mk hs o'))))
      unfold hh_fd
      rw [if_pos g1, if_neg (by omega), if_pos e, hf_s, ho_nn o g2]
  have no : ¬ (hb_t p k = true ∧ (∀ y, v = y + 1 → hb_t p y = true) ∧ wh < 2) → wL_points_60 post (nI k) (nI wh) (he_I v) (he_I (hh_fd p PL N A B k wh)) 0 p w sb (nI us) fc fs (nI q) (hn_A PL) (hn_A N) (hn_A K) (he_A A) (he_A B) (he_A P) (he_A R) (hn_A Q) := by
    intro g0
    unfold wL_points_60
    exact wk_point o h40 hk hw hv (fun _ => br_t rfl (wk_field o h40 hk hw (br_t rfl (br_t rfl (H _ (hg_mk hs o)))))) (fun a1 a2 a3 => absurd ⟨a1, a2, by omega⟩ g0) (fun a1 a2 a3 => absurd ⟨a1, a2, by omega⟩ g0)
  refine pk_le 20 k (fun z => no (fun t => hb_no hp z t.1)) (fun z => ek_if (hb_is1 p (show k < 32 by omega)) (fun g1 => pk_le 2 wh (fun z2 => no (fun t => by omega)) (fun z2 => ek_if (he_neg hv) (fun e => yes g1 (fun y e' => by omega) z2) (fun e => ?_))) (fun g1 => no (fun t => g1 t.1)))
  obtain ⟨y, rfl⟩ : ∃ y, v = y + 1 := ⟨v - 1, by omega⟩
  exact pk_le 20 y (fun z3 => no (fun t => hb_no hp z3 (t.2.1 y rfl))) (fun z3 => ek_if (hb_is1 p (show y < 32 by omega)) (fun g2 => yes g1 (fun y' e' => by rw [show y' = y by omega]; exact g2) z2) (fun g2 => no (fun t => g2 (t.2.1 y rfl))))
theorem wl_takes {post : Int32 → St1 → Prop} {u : St1} {r : Nat} (g : hh_gd u) (hr : r < 2 ^ 31) (H : ∀ u', hh_gd u' → post 1 u') : wpL_takes post u (nI r) := by
  obtain ⟨p, w, sb, fc, fs, b, n, us, q, PL, N, K, A, B, P, R, Q, hs, o, rfl⟩ := g
  have h40 := hs_40 hs o
  have hq := o.2.2.2.2.2.1
  unfold wpL_takes
  dsimp only
  refine wk_queued (wk_take o h40 hr (fun z => ?_) (fun hr4 hq0 Q' hQ' => ?_))
  · have d : wL_takes_20 post (nI q) (-1) p w sb (nI us) fc fs (nI q) (hn_A PL) (hn_A N) (hn_A K) (he_A A) (he_A B) (he_A P) (he_A R) (hn_A Q) := br_t rfl (wk_queued (br_t rfl (H _ (hg_mk hs o))))
    exact pk_eq q 0 (fun _ => d) (fun z' => pk_le r 3 (fun z'' => by omega) (fun _ => d))
  · have t := o.2.2.2.1 (Q 0) (o.2.2.2.2.2.2.1 0 hq0)
    have o1 := ho_tk o hq0 hQ'
    have o' := ho_rt (R' := hf_u R r (PL (Q 0) + 1)) o1 (ho_ur o.2.2.2.2.1 (fun y e => by omega))
    refine pk_eq q 0 (fun e => absurd e (by omega)) (fun _ => pk_le r 3 (fun _ => wk_rootOf o' h40 hr (br_t ?_ (wk_there (br_t ((hb_is1 p (show Q 0 < 32 by omega)).mpr (o.2.2.2.2.2.2.1 0 hq0)) (wk_queued (br_t ?_ ?_)))))) (fun z => absurd z (by omega)))
    · unfold hh_rt
      rw [if_pos hr4, hf_s]
      show nI (N (PL (Q 0))) = nI (Q 0)
      rw [t.2.2.2]
    · exact (pk_sub (a := q) (b := 1) (by omega)).symm
    · refine wk_alive hs o' (fun r2 fc' fs' N' K' A' B' P' al v => br_t ((hb_is1 r2 (show Q 0 < 32 by omega)).mpr ((al _).mpr ⟨PL (Q 0), t.2.1, t.2.2.1, hl_sd (Or.inl ⟨r, hr4, hf_s⟩), t.2.2.2⟩)) (H _ (hg_mk hs (ho_ve o' v))))
theorem wl_m111 {post : Int32 → St1 → Prop} {p w sb fc fs : Int32} {b n us q : Nat} {PL N K A B P R Q : Nat → Nat} {kd r x : Nat} {z p0 : Int32} (hs : hs_p sb b n) (o : hh_ok p w b us q PL N K A B R Q) (hr : r < 4) (hx : x < 20) (h1 : hb_t p x = true) (h2 : p = p0 ||| ((1 : Int32) <<< (nI x &&& 31)))
    (h3 : R r = PL x + 1) (h4 : K (PL x) = kd) (h5 : A (PL x) = 0) (h6 : B (PL x) = 0) (H : ∀ u', hh_gd u' → post 1 u') :
    wL_makes_111 post (nI kd) (nI r) z p0 (nI x) 1 p w sb (nI us) fc fs (nI q) (hn_A PL) (hn_A N) (hn_A K) (he_A A) (he_A B) (he_A P) (he_A R) (hn_A Q) := by
  have h40 := hs_40 hs o
  have t := o.2.2.2.1 x h1
  have hf : ∀ wh, hh_fd p PL N A B x wh = 0 := by
    intro wh
    unfold hh_fd
    rw [if_pos h1, h5, h6]
    split
    · rfl
    · split <;> rfl
  unfold wL_makes_111
  refine br_f (by decide) (wk_there (br_t h2 (wk_rootOf o h40 (by omega) (br_t ?_ (wk_kind o h40 (by omega) (fun g => by rw [h1] at g; cases g) (fun _ => br_t (by rw [h4]) (wk_field (wh := 0) o h40 (by omega) (by omega) (br_t (by rw [hf]; rfl) (wk_field (wh := 1) o h40 (by omega) (by omega) (br_t (by rw [hf]; rfl) ?_))))))))))
  · unfold hh_rt
    rw [if_pos hr, h3]
    show nI (N (PL x)) = nI x
    rw [t.2.2.2]
  · refine br_c (fun _ => H _ (hg_mk hs o)) (fun _ => wk_clean hs o (fun p' w' fs' c q' PL' N' K' A' B' P' R' Q' o' cr => br_f (nI_pos ?_) (wk_there (br_t ((hb_is1 p' (show x < 32 by omega)).mpr ?_) (H _ (hg_mk (hs_f hs) o'))))))
    · have := o.1
      omega
    · have := cr.2.2.1 (PL x) t.2.1 t.2.2.1 (hl_sd (Or.inl ⟨r, hr, h3⟩))
      rw [t.2.2.2] at this
      exact this
theorem wl_makes {post : Int32 → St1 → Prop} {u : St1} {r kv : Nat} {z : Int32} (g : hh_gd u) (hr : r < 2 ^ 31) (hkv : kv < 2 ^ 31) (H : ∀ u', hh_gd u' → post 1 u') : wpL_makes post u (he_I kv) (nI r) z := by
  obtain ⟨p, w, sb, fc, fs, b, n, us, q, PL, N, K, A, B, P, R, Q, hs, o, rfl⟩ := g
  have h40 := hs_40 hs o
  unfold wpL_makes
  dsimp only
  refine wk_there (wk_make hs o hr hkv (fun z => ?_) (fun k0 k3 r4 hall => ?_) (fun k0 k3 r4 x hx hpx hall hus => ?_))
  · have d : wL_makes_28 post p (-1) p w sb (nI us) fc fs (nI q) (hn_A PL) (hn_A N) (hn_A K) (he_A A) (he_A B) (he_A P) (he_A R) (hn_A Q) := br_t rfl (wk_there (br_t rfl (H _ (hg_mk hs o))))
    refine ek_if (he_neg hkv) (fun _ => d) (fun e => ?_)
    obtain ⟨kd, rfl⟩ : ∃ kd, kv = kd + 1 := ⟨kv - 1, by omega⟩
    exact pk_lt 2 kd (fun _ => d) (fun z2 => pk_le r 3 (fun z3 => by omega) (fun _ => d))
  · obtain ⟨kd, rfl⟩ : ∃ kd, kv = kd + 1 := ⟨kv - 1, by omega⟩
    refine br_f (nI_pos (n := kd) (by omega)) (pk_lt 2 kd (fun z => absurd z (by omega)) (fun _ => pk_le r 3 (fun _ => br_t ?_ (br_t rfl (wk_there (br_t rfl (H _ (hg_mk hs o)))))) (fun z => absurd z (by omega))))
    refine hb_eqP (fun i => ?_)
    rw [hb_full, decide_eq_true_eq]
    exact ⟨fun h => (o.2.2.2.1 i h).1, hall i⟩
  · obtain ⟨kd, rfl⟩ : ∃ kd, kv = kd + 1 := ⟨kv - 1, by omega⟩
    have o' := ho_mk (r := r) o hx hpx hus (show kd ≤ 2 by omega)
    refine br_f (nI_pos (n := kd) (by omega)) (pk_lt 2 kd (fun z => absurd z (by omega)) (fun _ => pk_le r 3 (fun _ => br_f ?_ (br_t ((hb_is0 p (show x < 32 by omega)).mpr hpx) (br_t ?_ (wl_m111 (x := x) hs o' r4 hx ((hb_setP p (by omega) x).mpr (Or.inr rfl)) rfl ?_ ?_ ?_ ?_ H)))) (fun z => absurd z (by omega))))
    · intro e
      rw [e, hb_full, decide_eq_false_iff_not] at hpx
      exact hpx hx
    · refine hb_ext (fun i hi => ?_)
      rw [hb_and, hb_msk x hx i hi]
      by_cases e : i < x
      · rw [decide_eq_true e, hall i e]
        rfl
      · rw [decide_eq_false e, Bool.and_false]
    · rw [hf_s, hf_s]
    · rw [hf_s, hf_s]
      rfl
    · rw [hf_s, hf_s]
    · rw [hf_s, hf_s]
end
section
/-! the law's methods: stands, cleaned -/
theorem wl_chk {p : Int32} {v : Nat} {A B : Prop} (h : ∀ y, v = y + 1 → hb_t p y = true ∧ y < 20) (hB : B) :
    (he_I v < 0 → B) ∧ (¬ he_I v < 0 → ((((p >>> (he_I v &&& 31)) &&& 1) = 0 → A) ∧ (¬ ((p >>> (he_I v &&& 31)) &&& 1) = 0 → B))) := by
  cases v with
  | zero => exact br_t (by decide) hB
  | succ y =>
    have t := h y rfl
    refine br_f (nI_pos (n := y) (by omega)) (br_f (fun e => ?_) hB)
    rw [(hb_is0 p (show y < 32 by omega)).mp e] at t
    cases t.1
section
variable {p w sb fc fs r2 : Int32} {b n us q : Nat} {PL N K A B P R Q : Nat → Nat} {post : Int32 → St1 → Prop}
theorem wl_s144 {J : Int32 → Int32 → Int32 → Int32 → Int32 → Int32 → Int32 → Int32 → Int32 → (Nat → Int32) → (Nat → Int32) → (Nat → Int32) → (Nat → Int32) → (Nat → Int32) → (Nat → Int32) → (Nat → Int32) → (Nat → Int32) → Prop} {x3 : Int32} {k : Nat}
    (hs : hs_p sb b n) (o : hh_ok p w b us q PL N K A B R Q) (al : hh_al b us q PL N K A B R Q r2) (hk : k < 2 ^ 31)
    (H : ∀ (fc' fs' : Int32) (N' K' A' B' P' : Nat → Nat), hh_ve b N K A B N' K' A' B' → J x3 (nI (k + 1)) p w sb (nI us) fc' fs' (nI q) (hn_A PL) (hn_A N') (hn_A K') (he_A A') (he_A B') (he_A P') (he_A R) (hn_A Q)) :
    wL_stands_144 post J p r2 x3 (nI k) p w sb (nI us) fc fs (nI q) (hn_A PL) (hn_A N) (hn_A K) (he_A A) (he_A B) (he_A P) (he_A R) (hn_A Q) := by
  unfold wL_stands_144
  exact wk_heldBy hs o hk (fun r fc' fs' N' K' A' B' P' v _ hsub => br_t ((hb_sub r r2).mpr (hsub r2 al)) (nm_r (nI_1 k) (H fc' fs' N' K' A' B' P' v)))
theorem wl_s74 {J : Int32 → Int32 → Int32 → Int32 → Int32 → Int32 → Int32 → Int32 → Int32 → (Nat → Int32) → (Nat → Int32) → (Nat → Int32) → (Nat → Int32) → (Nat → Int32) → (Nat → Int32) → (Nat → Int32) → (Nat → Int32) → Prop} {x3 z : Int32} {k va vb vr : Nat}
    (hs : hs_p sb b n) (o : hh_ok p w b us q PL N K A B R Q) (al : hh_al b us q PL N K A B R Q r2) (hk : k < 2 ^ 31)
    (ha : ∀ y, va = y + 1 → hb_t p y = true ∧ y < 20) (hb : ∀ y, vb = y + 1 → hb_t p y = true ∧ y < 20) (hr : ∀ y, vr = y + 1 → hb_t p y = true ∧ y < 20)
    (hz : z = 0 → va = 0 ∧ vb = 0 ∧ hb_t p k = false)
    (H : ∀ (fc' fs' : Int32) (N' K' A' B' P' : Nat → Nat), hh_ve b N K A B N' K' A' B' → J x3 (nI (k + 1)) p w sb (nI us) fc' fs' (nI q) (hn_A PL) (hn_A N') (hn_A K') (he_A A') (he_A B') (he_A P') (he_A R) (hn_A Q)) :
    wL_stands_74 post J p r2 x3 (nI k) (he_I va) (he_I vb) (he_I vr) z p w sb (nI us) fc fs (nI q) (hn_A PL) (hn_A N) (hn_A K) (he_A A) (he_A B) (he_A P) (he_A R) (hn_A Q) := by
  unfold wL_stands_74
  refine wl_chk ha ?_
  unfold wL_stands_90
  refine wl_chk hb ?_
  unfold wL_stands_104
  refine wl_chk hr ?_
  unfold wL_stands_120
  refine br_c (fun e => ?_) (fun _ => wl_s144 hs o al hk H)
  obtain ⟨e1, e2, e3⟩ := hz e
  rw [e1, e2]
  refine br_f (by decide) (br_f (by decide) (wk_heldBy hs o hk (fun r fc' fs' N' K' A' B' P' v h0 _ => br_t (h0 e3) (wl_s144 hs (ho_ve o v) (ha_ve o.1 v al) hk (fun fc2 fs2 N2 K2 A2 B2 P2 v2 => H fc2 fs2 N2 K2 A2 B2 P2 (hv_t v v2))))))
end
theorem wl_stands {post : Int32 → St1 → Prop} {u : St1} (g : hh_gd u) (H : ∀ u', hh_gd u' → post 1 u') : wpL_stands post u := by
  obtain ⟨p, w, sb, fc, fs, b, n, us, q, PL, N, K, A, B, P, R, Q, hs, o, rfl⟩ := g
  have h40 := hs_40 hs o
  unfold wpL_stands
  dsimp only
  refine wk_there (wk_alive hs o (fun r2 fc1 fs1 N1 K1 A1 B1 P1 al v1 => ?_))
  refine lp8 (fun m k fc fs N K A B P => wL_stands_15 post p r2 m (nI (hc_n (hb_t p) k)) (nI k) p w sb (nI us) fc fs (nI q) (hn_A PL) (hn_A N) (hn_A K) (he_A A) (he_A B) (he_A P) (he_A R) (hn_A Q))
    (fun k fc' fs' N' K' A' B' P' => k ≤ 20 ∧ hh_ve b N K A B N' K' A' B') (fun k _ _ _ _ _ _ _ => 20 - k) (fun m k fc2 fs2 N2 K2 A2 B2 P2 hI hw => ?_) 0 fc1 fs1 N1 K1 A1 B1 P1 ⟨by omega, v1⟩
  obtain ⟨hk, v⟩ := hI
  have o2 := ho_ve o v
  have al2 := ha_ve o.1 v al
  refine pk_le 20 k (fun z => ?_) (fun z => nm_r (e' := nI (hc_n (hb_t p) (k + 1))) ?_ ?_)
  · have e : k = 20 := by omega
    subst e
    refine br_t ((hb_sub r2 p).mpr (fun i hi => ?_)) (wk_objects rfl (br_t rfl (wk_watched (br_t ((hb_sub w p).mpr o.2.2.2.2.2.2.2.2.1) (H _ (hg_mk hs o2))))))
    obtain ⟨x, x1, x2, _, e⟩ := (al i).mp hi
    rw [← e]
    exact (o.2.2.1 x x1 x2).2
  · rw [hb_v p (show k < 32 by omega), nI_add, hc_s]
  · have e5 : nI k - nI k / 5 * 5 = nI (k % 5) := pk_rem (a := k) (d := 5) (by omega) (by omega) (by omega)
    rw [e5]
    have nx : ∀ (fc' fs' : Int32) (N' K' A' B' P' : Nat → Nat), hh_ve b N2 K2 A2 B2 N' K' A' B' → wL_stands_15 post p r2 m (nI (hc_n (hb_t p) (k + 1))) (nI (k + 1)) p w sb (nI us) fc' fs' (nI q) (hn_A PL) (hn_A N') (hn_A K') (he_A A') (he_A B') (he_A P') (he_A R) (hn_A Q) :=
      fun fc' fs' N' K' A' B' P' v' => hw (k + 1) fc' fs' N' K' A' B' P' ⟨by omega, hv_t v v'⟩ (by omega)
    refine wk_field (wh := 0) o2 h40 (by omega) (by omega) (wk_field (wh := 1) o2 h40 (by omega) (by omega) ⟨by decide, wk_rootOf o2 h40 (by omega) (ek_if (hb_is1 p (show k < 32 by omega)) (fun t => ?_) (fun t => ?_))⟩)
    · exact wl_s74 hs o2 al2 (by omega) (fun y e => hf_pr o2 e) (fun y e => hf_pr o2 e) (fun y e => hr_pr o2 e) (fun e => absurd e (by decide)) nx
    · refine wl_s74 hs o2 al2 (by omega) (fun y e => hf_pr o2 e) (fun y e => hf_pr o2 e) (fun y e => hr_pr o2 e) (fun e => ⟨?_, ?_, Bool.eq_false_iff.mpr t⟩) nx
      · unfold hh_fd
        rw [if_neg t]
      · unfold hh_fd
        rw [if_neg t]
theorem hk_3 : ∀ k, k ≤ 2 → (nI k).toInt64 &&& 3 = lN k := by decide +kernel
section
variable {p w sb fc fs p0 w0 : Int32} {b n us q : Nat} {PL N K A B P R Q : Nat → Nat} {post : Int32 → St1 → Prop}
/-- the second loop of cleaned -/
theorem wl_c122 {q0 : Nat} {d : Nat → Nat} (hs : hs_p sb b n) (o : hh_ok p w b us q PL N K A B R Q) (hl : ∀ x, b ≤ x → x < b + us → hh_lv b us K A B (hh_sd q PL R Q) x)
    (hd : ∀ k, d k < 4) (hdk : ∀ k, hb_t p k = true → d k = K (PL k)) (hq : q = q0 + hc_n (fun k => hb_t w0 k && !hb_t w k) 20) (H : ∀ u', hh_gd u' → post 1 u') :
    ∃ f, wL_cleaned_122 post w0 (lN (hd_s d 20)) p w p w sb (nI us) fc fs (nI q) (hn_A PL) (hn_A N) (hn_A K) (he_A A) (he_A B) (he_A P) (he_A R) (hn_A Q) f (nI q0) 0 := by
  have h40 := hs_40 hs o
  refine pk_loop (fun m j s => wL_cleaned_122 post w0 (lN (hd_s d 20)) p w p w sb (nI us) fc fs (nI q) (hn_A PL) (hn_A N) (hn_A K) (he_A A) (he_A B) (he_A P) (he_A R) (hn_A Q) m s (nI j))
    (fun j s => s = nI (q0 + hc_n (fun k => hb_t w0 k && !hb_t w k) j)) 20 0 (nI q0) (by omega) rfl
    (fun m s h => pk_le 20 20 (fun _ => wk_queued (br_t (by rw [h, hq]) ?_)) (fun z => absurd z (by omega)))
    (fun m j s hj h hw => pk_le 20 j (fun z => absurd z (by omega)) (fun _ => nm_r (e' := nI (q0 + hc_n (fun k => hb_t w0 k && !hb_t w k) (j + 1))) ?_ ?_))
  · refine wk_clean hs o (fun p' w' fs' c q' PL' N' K' A' B' P' R' Q' o' cr => ?_)
    have ep : p' = p := hb_eqP (fun i => ⟨fun t => (cr.2.1 i t).1, fun t => by
      have g := o.2.2.2.1 i t
      have t' := cr.2.2.1 (PL i) g.2.1 g.2.2.1 (hl _ g.2.1 g.2.2.1)
      rw [g.2.2.2] at t'
      exact t'⟩)
    have ec : c = us := by
      have e1 := o'.2.2.2.2.2.2.2.2.2
      have e2 := o.2.2.2.2.2.2.2.2.2
      rw [ep] at e1
      omega
    refine br_t ?_ (wk_there (br_t ep (H _ (hg_mk (hs_f hs) o'))))
    rw [ec, Nat.sub_self]
    rfl
  · rw [h, hb_v _ (show j < 32 by omega), nI_add, hc_s, hb_dif _ _ (show j < 32 by omega), Nat.add_assoc]
  · have nx := hw _ (rfl : nI (q0 + hc_n (fun k => hb_t w0 k && !hb_t w k) (j + 1)) = _)
    refine ek_if (hb_is1 p (show j < 32 by omega)) (fun t => ?_) (fun t => ?_)
    · unfold wL_cleaned_161
      refine wk_kind o h40 (by omega) (fun t' => by rw [t] at t'; cases t') (fun _ => br_f (by decide) (br_t ?_ (nm_r (nI_1 j) nx)))
      rw [hd_get hd hj, hdk j t]
    · unfold wL_cleaned_161
      exact wk_kind o h40 (by omega) (fun _ => br_t rfl (br_t rfl (nm_r (nI_1 j) nx))) (fun t' => absurd t' t)
end
theorem wl_cleaned {post : Int32 → St1 → Prop} {u : St1} (g : hh_gd u) (H : ∀ u', hh_gd u' → post 1 u') : wpL_cleaned post u := by
  obtain ⟨p, w, sb, fc, fs, b, n, us, q, PL, N, K, A, B, P, R, Q, hs, o0, rfl⟩ := g
  have h40 := hs_40 hs o0
  unfold wpL_cleaned
  dsimp only
  refine wk_objects o0.2.2.2.2.2.2.2.2.2 (wk_alive hs o0 (fun r2 fc1 fs1 N1 K1 A1 B1 P1 al0 v1 => wk_watched (wk_queued ?_)))
  have o := ho_ve o0 v1
  have al := ha_ve o0.1 v1 al0
  have hK : ∀ k, hb_t p k = true → K1 (PL k) ≤ 2 := fun k t => by
    have g := o.2.2.2.1 k t
    exact (o.2.1 (PL k) g.2.1 g.2.2.1).2.1
  have hd : ∀ k, (if hb_t p k = true then K1 (PL k) else 3) < 4 := by
    intro k
    split
    · rename_i t
      have := hK k t
      omega
    · omega
  refine pk_loop (fun m j s => wL_cleaned_27 post (nI us) r2 w (nI q) p w sb (nI us) fc1 fs1 (nI q) (hn_A PL) (hn_A N1) (hn_A K1) (he_A A1) (he_A B1) (he_A P1) (he_A R) (hn_A Q) m s (nI j))
    (fun j s => s = lN (hd_s (fun k => if hb_t p k = true then K1 (PL k) else 3) j)) 20 0 0 (by omega) rfl
    (fun m s h => pk_le 20 20 (fun _ => wk_clean hs o (fun p' w' fs' c q' PL' N' K' A' B' P' R' Q' o' cr => wk_there (wk_watched (wk_alive (hs_f hs) o' (fun r3 fc2 fs2 N2 K2 A2 B2 P2 al2 v2 => br_t ?_ (br_t ?_ (wk_objects o'.2.2.2.2.2.2.2.2.2 (br_t ?_ (br_t ?_ ?_))))))))) (fun z => absurd z (by omega)))
    (fun m j s hj h hw => pk_le 20 j (fun z => absurd z (by omega)) (fun _ => ?_))
  · refine hb_eqP (fun i => ?_)
    rw [al2 i]
    constructor
    · intro t
      have g := o'.2.2.2.1 i t
      exact ⟨PL' i, g.2.1, g.2.2.1, cr.2.2.2.1 _ g.2.1 g.2.2.1, g.2.2.2⟩
    · intro ⟨x, x1, x2, _, e⟩
      rw [← e]
      exact (o'.2.2.1 x x1 x2).2
  · refine (hb_sub r2 p').mpr (fun i hi => ?_)
    obtain ⟨x, x1, x2, hl, e⟩ := (al i).mp hi
    rw [← e]
    exact cr.2.2.1 x x1 x2 hl
  · have hc := cr.1
    rw [pk_sub (show us - c ≤ us by omega), show us - (us - c) = c by omega]
  · exact (hb_sub w' w).mpr cr.2.2.2.2.1
  · rw [h]
    have hu' := o'.1
    refine wl_c122 (hs_f hs) (ho_ve o' v2) (fun x x1 x2 => hl_ve hu' v2 (cr.2.2.2.1 x x1 x2)) hd (fun k t => ?_) cr.2.2.2.2.2 H
    obtain ⟨t1, t2⟩ := cr.2.1 k t
    have g := o'.2.2.2.1 k t
    rw [if_pos t1, (v2 (PL' k) g.2.1 (by omega)).2.1, t2]
  · rw [h]
    have put := hd_put hd hj
    refine wk_kind o h40 (by omega) (fun t => nm_r (e' := lN (hd_s (fun k => if hb_t p k = true then K1 (PL k) else 3) (j + 1))) ?_ (nm_r (nI_1 j) (hw _ rfl))) (fun t => nm_r (e' := lN (hd_s (fun k => if hb_t p k = true then K1 (PL k) else 3) (j + 1))) ?_ (nm_r (nI_1 j) (hw _ rfl)))
    · rw [← put, if_neg (by rw [t]; decide)]
      rfl
    · rw [← put, if_pos t, hk_3 _ (hK j t)]
end
section
/-! the law's loop -/
abbrev hJ_T : Type := Int32 → Int32 → Int32 → Int32 → Int32 → Int32 → Int32 → Int32 → (Nat → Int32) → (Nat → Int32) → (Nat → Int32) → (Nat → Int32) → (Nat → Int32) → (Nat → Int32) → (Nat → Int32) → (Nat → Int32) → Prop
section
variable {post : Int32 → Prop} {L : Nat} {xs : Nat → Int32} {J : hJ_T} {i kc ks : Nat} {f1 f2 f3 f4 f5 f6 f7 : Int32} {a1 a2 a3 a4 a5 a6 a7 a8 : Nat → Int32}
theorem wa_342 (g : hh_gd (f1, f2, f3, f4, f5, f6, f7, a1, a2, a3, a4, a5, a6, a7, a8)) (HJ : ∀ (f1 f2 f3 f4 f5 f6 f7 : Int32) (a1 a2 a3 a4 a5 a6 a7 a8 : Nat → Int32), hh_gd (f1, f2, f3, f4, f5, f6, f7, a1, a2, a3, a4, a5, a6, a7, a8) → J (nI (i + 4)) f1 f2 f3 f4 f5 f6 f7 a1 a2 a3 a4 a5 a6 a7 a8) :
    wL_law_342 post L xs J (nI i) 1 kc ks f1 f2 f3 f4 f5 f6 f7 a1 a2 a3 a4 a5 a6 a7 a8 := by
  unfold wL_law_342
  refine br_f (by decide) (wl_stands g (fun u' g' => ?_))
  obtain ⟨f1', f2', f3', f4', f5', f6', f7', a1', a2', a3', a4', a5', a6', a7', a8'⟩ := u'
  exact br_f (by decide) (nm_r (e' := nI (i + 4)) (nI_add i 4) (HJ _ _ _ _ _ _ _ _ _ _ _ _ _ _ _ g'))
theorem wa_268 {op k : Nat} (hop : op < 2 ^ 31) (hk : k < 2 ^ 31) (g : hh_gd (f1, f2, f3, f4, f5, f6, f7, a1, a2, a3, a4, a5, a6, a7, a8)) (HJ : ∀ (f1 f2 f3 f4 f5 f6 f7 : Int32) (a1 a2 a3 a4 a5 a6 a7 a8 : Nat → Int32), hh_gd (f1, f2, f3, f4, f5, f6, f7, a1, a2, a3, a4, a5, a6, a7, a8) → J (nI (i + 4)) f1 f2 f3 f4 f5 f6 f7 a1 a2 a3 a4 a5 a6 a7 a8) :
    wL_law_268 post L xs J (nI i) (nI op) (nI k) 1 kc ks f1 f2 f3 f4 f5 f6 f7 a1 a2 a3 a4 a5 a6 a7 a8 := by
  have t342 := wa_342 (post := post) (L := L) (xs := xs) (kc := kc) (ks := ks) g HJ
  obtain ⟨p, w, sb, fc, fs, b, n, us, q, PL, N, K, A, B, P, R, Q, hs, o, e⟩ := g
  cases e
  have hp : ∀ j, hb_t f1 j = true → j < 20 := fun j h => (o.2.2.2.1 j h).1
  have no : hb_t f1 k = false → wL_law_299 post L xs J (nI i) (nI k) 1 0 kc ks f1 f2 f3 (nI us) f5 f6 (nI q) (hn_A PL) (hn_A N) (hn_A K) (he_A A) (he_A B) (he_A P) (he_A R) (hn_A Q) := by
    intro t
    unfold wL_law_299
    exact br_f (by decide) (wk_watch o hk (fun _ => br_t rfl (br_t rfl t342)) (fun t' => by rw [t] at t'; cases t'))
  have yes : k < 20 → hb_t f1 k = true → wL_law_299 post L xs J (nI i) (nI k) 1 1 kc ks f1 f2 f3 (nI us) f5 f6 (nI q) (hn_A PL) (hn_A N) (hn_A K) (he_A A) (he_A B) (he_A P) (he_A R) (hn_A Q) := by
    intro hk20 t
    unfold wL_law_299
    have st := hb_setP f2 (show k < 32 by omega)
    have o' := ho_w (w' := f2 ||| ((1 : Int32) <<< (nI k &&& 31))) o (fun j hj => by
      rcases (st j).mp hj with h | h
      · exact o.2.2.2.2.2.2.2.2.1 j h
      · rw [h]; exact t)
    exact br_f (by decide) (wk_watch o hk (fun t' => by rw [t] at t'; cases t') (fun _ => br_t rfl (br_f (by decide) (wk_watched (br_t ((hb_is1 _ (show k < 32 by omega)).mpr ((st k).mpr (Or.inr rfl))) (wa_342 (post := post) (L := L) (xs := xs) (kc := kc) (ks := ks) (hg_mk hs o') HJ))))))
  unfold wL_law_268
  exact pk_eq op 13 (fun _ => pk_le 20 k (fun z => no (Bool.eq_false_iff.mpr (hb_no hp z))) (fun z => wk_there (ek_if (hb_is1 f1 (show k < 32 by omega)) (fun t => yes z t) (fun t => no (Bool.eq_false_iff.mpr t))))) (fun _ => t342)
theorem wa_236 {op k r v : Nat} {x8 z : Int32} (hop : op < 2 ^ 31) (hk : k < 2 ^ 31) (hr : r < 2 ^ 31) (g : hh_gd (f1, f2, f3, f4, f5, f6, f7, a1, a2, a3, a4, a5, a6, a7, a8))
    (h : r < 4 → ¬ x8 = 0 → ∀ ψ : Int32 → Prop, ψ (he_I v) → wpX_rootOf ψ (f1, f2, f3, f4, f5, f6, f7, a1, a2, a3, a4, a5, a6, a7, a8) (nI r)) (HJ : ∀ (f1 f2 f3 f4 f5 f6 f7 : Int32) (a1 a2 a3 a4 a5 a6 a7 a8 : Nat → Int32), hh_gd (f1, f2, f3, f4, f5, f6, f7, a1, a2, a3, a4, a5, a6, a7, a8) → J (nI (i + 4)) f1 f2 f3 f4 f5 f6 f7 a1 a2 a3 a4 a5 a6 a7 a8) :
    wL_law_236 post L xs J (nI i) (nI op) (nI k) (he_I v) (nI r) x8 z z kc ks f1 f2 f3 f4 f5 f6 f7 a1 a2 a3 a4 a5 a6 a7 a8 := by
  have t268 := wa_268 (post := post) (L := L) (xs := xs) (kc := kc) (ks := ks) hop hk g HJ
  unfold wL_law_236
  exact br_t rfl (pk_le 4 r (fun _ => t268) (fun hr4 => br_c (fun _ => t268) (fun h8 => h hr4 h8 _ (br_t rfl t268))))
theorem wa_174 {op k r v : Nat} (hop : op < 2 ^ 31) (hk : k < 2 ^ 31) (hr : r < 2 ^ 31) (hv : v < 2 ^ 31) (g : hh_gd (f1, f2, f3, f4, f5, f6, f7, a1, a2, a3, a4, a5, a6, a7, a8)) (HJ : ∀ (f1 f2 f3 f4 f5 f6 f7 : Int32) (a1 a2 a3 a4 a5 a6 a7 a8 : Nat → Int32), hh_gd (f1, f2, f3, f4, f5, f6, f7, a1, a2, a3, a4, a5, a6, a7, a8) → J (nI (i + 4)) f1 f2 f3 f4 f5 f6 f7 a1 a2 a3 a4 a5 a6 a7 a8) :
    wL_law_174 post L xs J (nI i) (nI op) (nI k) (he_I v) (nI r) 1 kc ks f1 f2 f3 f4 f5 f6 f7 a1 a2 a3 a4 a5 a6 a7 a8 := by
  have g0 := g
  obtain ⟨p, w, sb, fc, fs, b, n, us, q, PL, N, K, A, B, P, R, Q, hs, o, e⟩ := g
  cases e
  have h40 := hs_40 hs o
  have hp : ∀ j, hb_t f1 j = true → j < 20 := fun j h => (o.2.2.2.1 j h).1
  have no : ¬ (∀ y, v = y + 1 → hb_t f1 y = true) → wL_law_205 post L xs J (nI i) (nI op) (nI k) (he_I v) (nI r) 1 0 kc ks f1 f2 f3 (nI us) f5 f6 (nI q) (hn_A PL) (hn_A N) (hn_A K) (he_A A) (he_A B) (he_A P) (he_A R) (hn_A Q) := by
    intro t
    have d := wa_236 (post := post) (L := L) (xs := xs) (kc := kc) (ks := ks) (J := J) (i := i) (v := v) (x8 := 0) (z := 0) hop hk hr g0 (fun _ h => absurd rfl h) HJ
    unfold wL_law_205
    exact br_f (by decide) (wk_root o h40 hr hv (fun _ => br_c (fun _ => d) (fun _ => br_t rfl d)) (fun _ h => absurd h t))
  have yes : (∀ y, v = y + 1 → hb_t f1 y = true) → wL_law_205 post L xs J (nI i) (nI op) (nI k) (he_I v) (nI r) 1 1 kc ks f1 f2 f3 (nI us) f5 f6 (nI q) (hn_A PL) (hn_A N) (hn_A K) (he_A A) (he_A B) (he_A P) (he_A R) (hn_A Q) := by
    intro t
    unfold wL_law_205
    refine br_f (by decide) (wk_root o h40 hr hv (fun h => ?_) (fun hr4 _ => ?_))
    · have hr4 : 4 ≤ r := by
        rcases Nat.lt_or_ge r 4 with z | z
        · exact absurd ⟨z, t⟩ h
        · exact z
      exact pk_le 4 r (fun _ => wa_236 (post := post) (L := L) (xs := xs) (kc := kc) (ks := ks) (z := 0) hop hk hr g0 (fun h => absurd h (by omega)) HJ) (fun z => absurd z (by omega))
    · have o' := ho_rt (R' := hf_u R r (hh_nv PL v)) o (ho_ur o.2.2.2.2.1 (ho_nv o t))
      refine pk_le 4 r (fun z => absurd z (by omega)) (fun _ => br_f (by decide) (wa_236 (post := post) (L := L) (xs := xs) (kc := kc) (ks := ks) (z := 1) hop hk hr (hg_mk hs o') (fun _ _ ψ hψ => wk_rootOf o' h40 hr ?_) HJ))
      unfold hh_rt
      rw [if_pos hr4, hf_s, ho_nn o t]
      exact hψ
  unfold wL_law_174
  refine ek_if (he_m1 hv) (fun e => yes (fun y e' => absurd e' (by omega))) (fun e => ?_)
  obtain ⟨y, rfl⟩ : ∃ y, v = y + 1 := ⟨v - 1, by omega⟩
  exact pk_le 20 y (fun z => no (fun t => hb_no hp z (t y rfl))) (fun z => wk_there (ek_if (hb_is1 f1 (show y < 32 by omega)) (fun t => yes (fun y' e' => by rw [show y' = y by omega]; exact t)) (fun t => no (fun t' => t (t' y rfl)))))
theorem wa_160 {op k r v : Nat} (hop : op < 2 ^ 31) (hk : k < 2 ^ 31) (hr : r < 2 ^ 31) (hv : v < 2 ^ 31) (g : hh_gd (f1, f2, f3, f4, f5, f6, f7, a1, a2, a3, a4, a5, a6, a7, a8)) (HJ : ∀ (f1 f2 f3 f4 f5 f6 f7 : Int32) (a1 a2 a3 a4 a5 a6 a7 a8 : Nat → Int32), hh_gd (f1, f2, f3, f4, f5, f6, f7, a1, a2, a3, a4, a5, a6, a7, a8) → J (nI (i + 4)) f1 f2 f3 f4 f5 f6 f7 a1 a2 a3 a4 a5 a6 a7 a8) :
    wL_law_160 post L xs J (nI i) (nI op) (nI k) (he_I v) (nI r) 1 kc ks f1 f2 f3 f4 f5 f6 f7 a1 a2 a3 a4 a5 a6 a7 a8 := by
  unfold wL_law_160
  exact pk_eq op 11 (fun _ => wa_174 (post := post) (L := L) (xs := xs) (kc := kc) (ks := ks) hop hk hr hv g HJ) (fun _ => pk_eq op 12 (fun _ => wa_174 (post := post) (L := L) (xs := xs) (kc := kc) (ks := ks) hop hk hr hv g HJ) (fun _ => wa_268 (post := post) (L := L) (xs := xs) (kc := kc) (ks := ks) hop hk g HJ))
theorem wa_136 {op k r v : Nat} (hop : op < 2 ^ 31) (hk : k < 2 ^ 31) (hr : r < 2 ^ 31) (hv : v < 2 ^ 31) (g : hh_gd (f1, f2, f3, f4, f5, f6, f7, a1, a2, a3, a4, a5, a6, a7, a8)) (HJ : ∀ (f1 f2 f3 f4 f5 f6 f7 : Int32) (a1 a2 a3 a4 a5 a6 a7 a8 : Nat → Int32), hh_gd (f1, f2, f3, f4, f5, f6, f7, a1, a2, a3, a4, a5, a6, a7, a8) → J (nI (i + 4)) f1 f2 f3 f4 f5 f6 f7 a1 a2 a3 a4 a5 a6 a7 a8) :
    wL_law_136 post L xs J (nI i) (nI op) (nI k) (he_I v) (nI r) kc ks f1 f2 f3 f4 f5 f6 f7 a1 a2 a3 a4 a5 a6 a7 a8 := by
  have d : wL_law_148 post L xs J (nI i) (nI op) (nI k) (he_I v) (nI r) kc ks f1 f2 f3 f4 f5 f6 f7 a1 a2 a3 a4 a5 a6 a7 a8 := by
    unfold wL_law_148
    refine wl_cleaned g (fun u' g' => ?_)
    obtain ⟨f1', f2', f3', f4', f5', f6', f7', a1', a2', a3', a4', a5', a6', a7', a8'⟩ := u'
    exact br_f (by decide) (wa_160 (post := post) (L := L) (xs := xs) (kc := kc) (ks := ks) hop hk hr hv g' HJ)
  unfold wL_law_136
  exact pk_eq op 14 (fun _ => d) (fun _ => pk_eq op 15 (fun _ => d) (fun _ => wa_160 (post := post) (L := L) (xs := xs) (kc := kc) (ks := ks) hop hk hr hv g HJ))
theorem wa_108 {op k r v : Nat} (hop : op < 2 ^ 31) (hk : k < 2 ^ 31) (hr : r < 2 ^ 31) (hv : v < 2 ^ 31) (g : hh_gd (f1, f2, f3, f4, f5, f6, f7, a1, a2, a3, a4, a5, a6, a7, a8)) (HJ : ∀ (f1 f2 f3 f4 f5 f6 f7 : Int32) (a1 a2 a3 a4 a5 a6 a7 a8 : Nat → Int32), hh_gd (f1, f2, f3, f4, f5, f6, f7, a1, a2, a3, a4, a5, a6, a7, a8) → J (nI (i + 4)) f1 f2 f3 f4 f5 f6 f7 a1 a2 a3 a4 a5 a6 a7 a8) :
    wL_law_108 post L xs J (nI i) (nI op) (nI k) (he_I v) (nI r) 1 kc ks f1 f2 f3 f4 f5 f6 f7 a1 a2 a3 a4 a5 a6 a7 a8 := by
  have d : wL_law_127 post L xs J (nI i) (nI op) (nI k) (he_I v) (nI r) kc ks f1 f2 f3 f4 f5 f6 f7 a1 a2 a3 a4 a5 a6 a7 a8 := by
    unfold wL_law_127
    refine wl_takes g hr (fun u' g' => ?_)
    obtain ⟨f1', f2', f3', f4', f5', f6', f7', a1', a2', a3', a4', a5', a6', a7', a8'⟩ := u'
    exact br_f (by decide) (wa_136 (post := post) (L := L) (xs := xs) (kc := kc) (ks := ks) hop hk hr hv g' HJ)
  unfold wL_law_108
  exact br_f (by decide) (pk_eq op 9 (fun _ => d) (fun _ => pk_eq op 10 (fun _ => d) (fun _ => wa_136 (post := post) (L := L) (xs := xs) (kc := kc) (ks := ks) hop hk hr hv g HJ)))
theorem wa_80 {op k r v kv : Nat} {z : Int32} (hop : op < 2 ^ 31) (hk : k < 2 ^ 31) (hr : r < 2 ^ 31) (hv : v < 2 ^ 31) (hkv : kv < 2 ^ 31) (g : hh_gd (f1, f2, f3, f4, f5, f6, f7, a1, a2, a3, a4, a5, a6, a7, a8)) (HJ : ∀ (f1 f2 f3 f4 f5 f6 f7 : Int32) (a1 a2 a3 a4 a5 a6 a7 a8 : Nat → Int32), hh_gd (f1, f2, f3, f4, f5, f6, f7, a1, a2, a3, a4, a5, a6, a7, a8) → J (nI (i + 4)) f1 f2 f3 f4 f5 f6 f7 a1 a2 a3 a4 a5 a6 a7 a8) :
    wL_law_80 post L xs J (nI i) (nI op) (nI k) (he_I v) (nI r) z (nI r) (he_I kv) kc ks f1 f2 f3 f4 f5 f6 f7 a1 a2 a3 a4 a5 a6 a7 a8 := by
  unfold wL_law_80
  refine wl_makes g hr hkv (fun u' g' => ?_)
  obtain ⟨f1', f2', f3', f4', f5', f6', f7', a1', a2', a3', a4', a5', a6', a7', a8'⟩ := u'
  exact wa_108 (post := post) (L := L) (xs := xs) (kc := kc) (ks := ks) hop hk hr hv g' HJ
theorem wa_pick {a d : Nat} (hL : L < 2 ^ 31) (ha : a < 2 ^ 31) (hd : d < 2 ^ 31) (h0 : 0 < d) (H : ∀ t, t < d → post (nI t)) : wpL_pick post L xs () (nI a) (nI d) := by
  have key : ∀ x : Int32, post ((x &&& 2147483647) - (x &&& 2147483647) / nI d * nI d) := by
    intro x
    obtain ⟨j, hj, e⟩ := pk_andE x (m := 2147483647) 31 (by decide)
    rw [e, pk_rem hj h0 hd]
    exact H _ (Nat.mod_lt _ h0)
  exact pk_le L a (fun _ => ⟨nI_ne0 h0 hd, key 0⟩) (fun z => ⟨pk_in a L z, nm_e ⟨nI_ne0 h0 hd, key _⟩⟩)
end
theorem wa_loop {L : Nat} {xs : Nat → Int32} {kc ks : Nat} (hL : L ≤ 260) {f1 f2 f3 f4 f5 f6 f7 : Int32} {a1 a2 a3 a4 a5 a6 a7 a8 : Nat → Int32} (g : hh_gd (f1, f2, f3, f4, f5, f6, f7, a1, a2, a3, a4, a5, a6, a7, a8)) : ∃ f, wL_law_10 (fun r => r = 1) L xs kc ks f 0 f1 f2 f3 f4 f5 f6 f7 a1 a2 a3 a4 a5 a6 a7 a8 := by
  refine lp16 (fun m i f1 f2 f3 f4 f5 f6 f7 a1 a2 a3 a4 a5 a6 a7 a8 => wL_law_10 (fun r => r = 1) L xs kc ks m (nI i) f1 f2 f3 f4 f5 f6 f7 a1 a2 a3 a4 a5 a6 a7 a8) (fun i f1 f2 f3 f4 f5 f6 f7 a1 a2 a3 a4 a5 a6 a7 a8 => i ≤ L + 3 ∧ hh_gd (f1, f2, f3, f4, f5, f6, f7, a1, a2, a3, a4, a5, a6, a7, a8)) (fun i _ _ _ _ _ _ _ _ _ _ _ _ _ _ _ => L + 4 - i) (fun m i f1 f2 f3 f4 f5 f6 f7 a1 a2 a3 a4 a5 a6 a7 a8 hI hw => ?_) 0 f1 f2 f3 f4 f5 f6 f7 a1 a2 a3 a4 a5 a6 a7 a8 ⟨by omega, g⟩
  obtain ⟨hi, g⟩ := hI
  have e1 : nI i + 1 = nI (i + 1) := nI_add i 1
  have e2 : nI i + 2 = nI (i + 2) := nI_add i 2
  have e3 : nI i + 3 = nI (i + 3) := nI_add i 3
  refine pk_le L i (fun z => wl_cleaned g (fun u' g' => ?_)) (fun z => ?_)
  · obtain ⟨f1', f2', f3', f4', f5', f6', f7', a1', a2', a3', a4', a5', a6', a7', a8'⟩ := u'
    rfl
  · rw [e1, e2, e3]
    have HJ : ∀ (f1 f2 f3 f4 f5 f6 f7 : Int32) (a1 a2 a3 a4 a5 a6 a7 a8 : Nat → Int32), hh_gd (f1, f2, f3, f4, f5, f6, f7, a1, a2, a3, a4, a5, a6, a7, a8) → wL_law_10 (fun r => r = 1) L xs kc ks m (nI (i + 4)) f1 f2 f3 f4 f5 f6 f7 a1 a2 a3 a4 a5 a6 a7 a8 :=
      fun f1 f2 f3 f4 f5 f6 f7 a1 a2 a3 a4 a5 a6 a7 a8 g' => hw (i + 4) f1 f2 f3 f4 f5 f6 f7 a1 a2 a3 a4 a5 a6 a7 a8 ⟨by omega, g'⟩ (by omega)
    refine wa_pick (d := 16) (by omega) (by omega) (by omega) (by omega) (fun op hop => wa_pick (d := 21) (by omega) (by omega) (by omega) (by omega) (fun k hk => wa_pick (d := 22) (by omega) (by omega) (by omega) (by omega) (fun v hv => nm_r (e' := he_I v) ?_ (wa_pick (d := 5) (by omega) (by omega) (by omega) (by omega) (fun r hr => ?_)))))
    · cases v with
      | zero => decide
      | succ y => exact nI_pred y
    · have e4 : he_I v - he_I v / 4 * 4 = he_I (if v = 0 then 0 else (v - 1) % 4 + 1) := by
        cases v with
        | zero => decide
        | succ y => exact pk_rem (a := y) (d := 4) (by omega) (by omega) (by omega)
      have e5 : nI r - nI r / 3 * 3 = nI (r % 3) := pk_rem (a := r) (d := 3) (by omega) (by omega) (by omega)
      have b4 : (if v = 0 then 0 else (v - 1) % 4 + 1) < 2 ^ 31 := by split <;> omega
      rw [e4, e5]
      refine pk_lt 4 op (fun z1 => pk_lt 8 op (fun z2 => wa_108 (L := L) (xs := xs) (kc := kc) (ks := ks) (by omega) (by omega) (by omega) (by omega) g HJ) (fun z2 => ⟨by decide, wl_points g (by omega) (by omega) (by omega) (fun u' g' => ?_)⟩)) (fun z1 => ⟨by decide, br_c (fun _ => wa_80 (L := L) (xs := xs) (kc := kc) (ks := ks) (by omega) (by omega) (by omega) (by omega) b4 g HJ) (fun _ => wa_80 (L := L) (xs := xs) (kc := kc) (ks := ks) (by omega) (by omega) (by omega) (by omega) b4 g HJ)⟩)
      obtain ⟨f1', f2', f3', f4', f5', f6', f7', a1', a2', a3', a4', a5', a6', a7', a8'⟩ := u'
      exact wa_108 (L := L) (xs := xs) (kc := kc) (ks := ks) (by omega) (by omega) (by omega) (by omega) g' HJ
end
section
/-! the owed statement -/
theorem wa_init {post : St1 → Prop} (H : ∀ R : Nat → Nat, (∀ r, r < 4 → R r = 0) → post (0, 0, 0, 0, 0, 0, 0, hn_A (fun _ => 0), hn_A (fun _ => 0), hn_A (fun _ => 0), he_A (fun _ => 1), he_A (fun _ => 1), he_A (fun _ => 1), he_A R, hn_A (fun _ => 0))) :
    wpX_init post 8 244 (0, 0, 0, 0, 0, 0, 0) := by
  refine ⟨by decide, by decide, by decide, by decide, by decide, by decide, by decide, by decide, by decide, by decide, by decide, by decide, by decide, by decide, by decide, by decide, ?_⟩
  refine pk_loop (fun m i s => wX_init_69 post 8 244 8 244 0 0 0 0 0 0 0 m (nI i) (hn_A (fun _ => 0)) (hn_A (fun _ => 0)) (hn_A (fun _ => 0)) (he_A (fun _ => 1)) (he_A (fun _ => 1)) (he_A (fun _ => 1)) (he_A s) (hn_A (fun _ => 0))) (fun i s => ∀ j, j < i → s j = 0) 4 0 (fun _ => 1) (by omega) (fun j hj => absurd hj (by omega))
    (fun m s h => pk_le 4 4 (fun _ => H s h) (fun z => absurd z (by omega)))
    (fun m i s hi h hw => pk_le 4 i (fun z => absurd z (by omega)) (fun _ => ⟨pk_in i 4 hi, ?_⟩))
  rw [nI_clamp (show i < 2 ^ 31 by omega)]
  refine nm_r (he_up s i 0) (nm_r (nI_1 i) (hw _ (fun j hj => ?_)))
  by_cases e : j = i
  · rw [e, hf_s]
  · rw [hf_n e]
    exact h j (by omega)
theorem i_vc (xs : Nat → Int32) (L : Nat) (hL : L ≤ 260) : wpL_law (fun r => r = 1) L xs := by
  refine ⟨8, 244, by omega, by omega, wa_init (fun R hR => ?_)⟩
  refine wa_loop hL (hg_mk (p := 0) (w := 0) (sb := 0) (fc := 0) (fs := 0) (b := 0) (n := 20) (us := 0) (q := 0) (Or.inl ⟨rfl, rfl, rfl⟩) ⟨by omega, fun x x1 x2 => absurd x2 (by omega), fun x x1 x2 => absurd x2 (by omega), fun o h => ?_, fun r hr y e => ?_, by omega, fun i hi => absurd hi (by omega), fun i j hi => absurd hi (by omega), fun o h => h, by decide +kernel⟩)
  · rw [hb_0] at h
    cases h
  · rw [hR r hr] at e
    omega
end
