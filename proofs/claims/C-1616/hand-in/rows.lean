section
/-! rows pasted from kit/rows (starting text) -/
theorem pk_us {f : Nat → Int32} {k : Nat} {x : Int32} : upd f k x k = x := if_pos rfl
theorem pk_un {f : Nat → Int32} {k j : Nat} {x : Int32} (h : j ≠ k) : upd f k x j = f j := if_neg h
theorem pk_sub {a b : Nat} (h : b ≤ a) : nI a - nI b = nI (a - b) := by
  obtain ⟨c, rfl⟩ : ∃ c, a = c + b := ⟨a - b, by omega⟩
  rw [← nI_add, Int32.add_sub_cancel, Nat.add_sub_cancel]
theorem pk_m1 (n : Nat) : nI (n + 1) + (-1) = nI n := by
  rw [← nI_1, Int32.add_assoc, show (1 : Int32) + (-1) = 0 from rfl, Int32.add_zero]
theorem pk_mul (a b : Nat) : nI a * nI b = nI (a * b) := (Int32.ofNat_mul a b).symm
theorem pk_div {a d : Nat} (ha : a < 2 ^ 31) (h0 : 0 < d) (hd : d < 2 ^ 31) : nI a / nI d = nI (a / d) := by
  apply Int32.toInt_inj.mp
  rw [lg_idiv_nonneg (by rw [nI_toInt ha]; omega) (by rw [nI_toInt hd]; omega), nI_toInt ha, nI_toInt hd, nI_toInt (Nat.lt_of_le_of_lt (Nat.div_le_self a d) ha)]
  first | rfl | exact (Int.natCast_ediv _ _).symm
theorem pk_le {x y : Int32} {A B : Prop} (a b : Nat) (f : a ≤ b → A) (g : b < a → B) (hx : x = nI a := by rfl) (hy : y = nI b := by rfl) (ha : a < 2 ^ 31 := by omega) (hb : b < 2 ^ 31 := by omega) : (x ≤ y → A) ∧ (¬ x ≤ y → B) := by
  subst hx hy
  rw [nI_leI ha hb]
  exact ⟨f, fun z => g (by omega)⟩
theorem pk_lt {x y : Int32} {A B : Prop} (a b : Nat) (f : a < b → A) (g : b ≤ a → B) (hx : x = nI a := by rfl) (hy : y = nI b := by rfl) (ha : a < 2 ^ 31 := by omega) (hb : b < 2 ^ 31 := by omega) : (x < y → A) ∧ (¬ x < y → B) := by
  subst hx hy
  rw [nI_ltI ha hb]
  exact ⟨f, fun z => g (by omega)⟩
theorem pk_eq {x y : Int32} {A B : Prop} (a b : Nat) (f : a = b → A) (g : a ≠ b → B) (hx : x = nI a := by rfl) (hy : y = nI b := by rfl) (ha : a < 2 ^ 31 := by omega) (hb : b < 2 ^ 31 := by omega) : (x = y → A) ∧ (¬ x = y → B) := by
  subst hx hy
  rw [nI_eq ha hb]
  exact ⟨f, g⟩
theorem pk_in {x : Int32} (n N : Nat) (h : n < N) (hx : x = nI n := by rfl) (hN : N < 2 ^ 31 := by omega) : vp_in x N := by
  subst hx
  exact vp_in_nI h hN
theorem pk_cl {x : Int32} (n : Nat) (hx : x = nI n := by rfl) (h : n < 2 ^ 31 := by omega) : x.toNatClampNeg = n := by
  subst hx
  exact nI_clamp h
def bt (x : Int32) (i : Nat) : Bool := x.toBitVec.getLsbD i
theorem b_ext {x y : Int32} (h : ∀ i, i < 32 → bt x i = bt y i) : x = y := Int32.toBitVec_inj.mp (BitVec.eq_of_getLsbD_eq (fun i hi => h i hi))
theorem b_or (x y : Int32) (i : Nat) : bt (x ||| y) i = (bt x i || bt y i) := by unfold bt; rw [Int32.toBitVec_or, BitVec.getLsbD_or]
theorem b_and (x y : Int32) (i : Nat) : bt (x &&& y) i = (bt x i && bt y i) := by unfold bt; rw [Int32.toBitVec_and, BitVec.getLsbD_and]
theorem b_big {x : Int32} {i : Nat} (h : 32 ≤ i) : bt x i = false := BitVec.getLsbD_of_ge _ _ h
theorem b_0 (i : Nat) : bt 0 i = false := BitVec.getLsbD_zero
theorem s_l : ∀ n, n < 32 → ((nI n &&& 31).toBitVec.smod 32).toNat = n := by decide +kernel
theorem b_shl (n : Nat) (hn : n < 32) (x : Int32) {i : Nat} (hi : i < 32) : bt (x <<< (nI n &&& 31)) i = (decide (n ≤ i) && bt x (i - n)) := by
  unfold bt
  rw [Int32.toBitVec_shiftLeft]
  show (x.toBitVec <<< ((nI n &&& 31).toBitVec.smod 32).toNat).getLsbD i = _
  rw [s_l n hn, BitVec.getLsbD_shiftLeft]
  rcases Nat.lt_or_ge i n with h | h
  · simp [h, Nat.not_le.mpr h]
  · simp [hi, h, Nat.not_lt.mpr h]
theorem b_sshr (n : Nat) (hn : n < 32) (x : Int32) {i : Nat} (hi : i < 32) : bt (x >>> (nI n &&& 31)) i = if n + i < 32 then bt x (n + i) else bt x 31 := by
  unfold bt
  rw [Int32.toBitVec_shiftRight]
  show (x.toBitVec.sshiftRight ((nI n &&& 31).toBitVec.smod 32).toNat).getLsbD i = _
  rw [s_l n hn, BitVec.getLsbD_sshiftRight, BitVec.msb_eq_getLsbD_last]
  simp [hi]
end
section
/-! bits, ranges, least sets, counts: plain rows -/
theorem gp_b1 : ∀ i, i < 32 → bt 1 i = decide (i = 0) := by decide +kernel
theorem gp_bit (s : Int32) {x : Nat} (hx : x < 32) : ((s >>> (nI x &&& 31)) &&& 1) = if bt s x = true then 1 else 0 := by
  apply b_ext
  intro i hi
  rw [b_and, gp_b1 i hi, b_sshr x hx s hi]
  by_cases h0 : i = 0
  · subst h0
    have e : (if x + 0 < 32 then bt s (x + 0) else bt s 31) = bt s x := by rw [Nat.add_zero, if_pos hx]
    rw [e]
    cases bt s x <;> decide +kernel
  · rw [decide_eq_false h0, Bool.and_false]
    cases bt s x
    · exact (b_0 i).symm
    · show false = bt 1 i
      rw [gp_b1 i hi, decide_eq_false h0]
theorem gp_t0 {s : Int32} {x : Nat} (hx : x < 32) : ((s >>> (nI x &&& 31)) &&& 1) = 0 ↔ bt s x = false := by
  rw [gp_bit s hx]
  cases bt s x <;> decide
theorem gp_t1 {s : Int32} {x : Nat} (hx : x < 32) : ((s >>> (nI x &&& 31)) &&& 1) = 1 ↔ bt s x = true := by
  rw [gp_bit s hx]
  cases bt s x <;> decide
theorem gp_nt0 {s : Int32} {x : Nat} (hx : x < 32) (h : bt s x = true) : ¬ ((s >>> (nI x &&& 31)) &&& 1) = 0 := by
  rw [gp_t0 hx, h]
  decide
theorem gp_sh {j : Nat} (hj : j < 32) (i : Nat) : bt ((1 : Int32) <<< (nI j &&& 31)) i = decide (i = j) := by
  rcases Nat.lt_or_ge i 32 with h | h
  · rw [b_shl j hj _ h]
    by_cases e : j ≤ i
    · rw [decide_eq_true e, Bool.true_and, gp_b1 _ (by omega)]
      exact decide_eq_decide.mpr (by omega)
    · rw [decide_eq_false e, Bool.false_and, decide_eq_false (by omega)]
  · rw [b_big h, decide_eq_false (by omega)]
theorem gp_sh' {j : Nat} (hj : j < 32) (i : Nat) : bt ((1 : Int32) <<< (nI j &&& 31)) i = true ↔ i = j := by
  rw [gp_sh hj]
  exact decide_eq_true_iff
theorem gp_orb {s : Int32} {j : Nat} (hj : j < 32) (i : Nat) : bt (s ||| ((1 : Int32) <<< (nI j &&& 31))) i = true ↔ (bt s i = true ∨ i = j) := by
  rw [b_or, Bool.or_eq_true, gp_sh' hj]
theorem gp_bf {b : Bool} (h : ¬ b = true) : b = false := by cases b <;> simp_all
theorem gp_0n (i : Nat) : ¬ bt 0 i = true := by rw [b_0]; decide
theorem gp_4095 : ∀ i, i < 32 → bt 4095 i = decide (i < 12) := by decide +kernel
theorem gp_full {s : Int32} (h : ∀ i, bt s i = true → i < 12) (ha : ∀ i, i < 12 → bt s i = true) : s = 4095 := by
  apply b_ext
  intro i hi
  rw [gp_4095 i hi]
  by_cases h2 : i < 12
  · rw [ha i h2, decide_eq_true h2]
  · rw [decide_eq_false h2]
    exact gp_bf (fun z => h2 (h i z))
/-! ===== numbers ===== -/
theorem gp_ix (x w : Nat) : (2 : Int32) * nI x + nI w = nI (2 * x + w) := by
  rw [← nI_add, ← pk_mul]
  rfl
theorem gp_ix0 (x : Nat) : (2 : Int32) * nI x = nI (2 * x) := pk_mul 2 x
theorem gp_ix1 (x : Nat) : (2 : Int32) * nI x + 1 = nI (2 * x + 1) := gp_ix x 1
theorem gp_cl {x : Nat} (h : x < 1000) : (nI x).toNatClampNeg = x := nI_clamp (by omega)
theorem gp_inj {x y : Nat} (hx : x < 1000) (hy : y < 1000) (h : nI x = nI y) : x = y := (nI_eq (by omega) (by omega)).mp h
theorem gp_nm1 {x : Nat} (hx : x < 1000) : ¬ nI x = -1 := fun h => nI_pos (n := x) (by omega) (by rw [h]; decide)
/-! ===== links: -1 or a place ===== -/
def gp_Rg (a : Int32) : Prop := a = -1 ∨ ∃ j : Nat, j < 12 ∧ a = nI j
theorem gp_Rg_m1 : gp_Rg (-1) := Or.inl rfl
theorem gp_Rg_n {j : Nat} (h : j < 12) : gp_Rg (nI j) := Or.inr ⟨j, h, rfl⟩
theorem gp_Rg_0 : gp_Rg 0 := Or.inr ⟨0, by decide, rfl⟩
theorem gp_Rg_neg {a : Int32} (h : gp_Rg a) (hn : a < 0) : a = -1 := by
  rcases h with h | ⟨j, hj, rfl⟩
  · exact h
  · exact absurd hn (nI_pos (by omega))
theorem gp_Rg_pos {a : Int32} (h : gp_Rg a) (hn : ¬ a < 0) : ∃ j : Nat, j < 12 ∧ a = nI j := by
  rcases h with h | h
  · rw [h] at hn
    exact absurd (by decide) hn
  · exact h
theorem gp_i8t : ∀ j, j < 12 → (nI j).toInt8.toInt32 = nI j := by decide +kernel
theorem gp_Rg_i8 {a : Int32} (h : gp_Rg a) : a.toInt8.toInt32 = a := by
  rcases h with rfl | ⟨j, hj, rfl⟩
  · decide
  · exact gp_i8t j hj
theorem gp_Rg_nar {a : Int32} (h : gp_Rg a) : vp_nar .byte a = a := by
  rw [vp_nar_byte]
  exact gp_Rg_i8 h
theorem gp_Rg_u {a : Nat → Int32} (h : ∀ e, gp_Rg (a e)) {k : Nat} {x : Int32} (hx : gp_Rg x) : ∀ e, gp_Rg (upd a k x e) := by
  intro e
  by_cases he : e = k
  · rw [he, pk_us]
    exact hx
  · rw [pk_un he]
    exact h e
/-! ===== least sets over a graph of 12 places, edge e (below 24) leaves place e / 2 ===== -/
def gp_Cl (G : Nat → Int32) (S : Nat → Prop) : Prop := ∀ e j : Nat, e < 24 → j < 12 → G e = nI j → S (e / 2) → S j
def gp_Rch (G : Nat → Int32) (A : Nat → Prop) (i : Nat) : Prop := ∀ S : Nat → Prop, gp_Cl G S → (∀ x, A x → S x) → S i
theorem gp_Rch_0 {G : Nat → Int32} {A : Nat → Prop} {i : Nat} (h : A i) : gp_Rch G A i := fun _ _ h0 => h0 i h
theorem gp_Rch_s {G : Nat → Int32} {A : Nat → Prop} : gp_Cl G (gp_Rch G A) := fun e j he hj hG h S hC h0 => hC e j he hj hG (h S hC h0)
theorem gp_Rch_lt {G : Nat → Int32} {A : Nat → Prop} (hA : ∀ i, A i → i < 12) {i : Nat} (h : gp_Rch G A i) : i < 12 := h (fun i => i < 12) (fun _ _ _ hj _ _ => hj) hA
theorem gp_Rch_le {G : Nat → Int32} {A B : Nat → Prop} (hA : ∀ i, A i → B i) {i : Nat} (h : gp_Rch G A i) : gp_Rch G B i := h _ gp_Rch_s (fun x hx => gp_Rch_0 (hA x hx))
/-- the bits of r are what can be come to from A -/
def gp_Is (r : Int32) (G : Nat → Int32) (A : Nat → Prop) : Prop := ∀ i, bt r i = true ↔ gp_Rch G A i
def gp_Sp (G : Nat → Int32) (s t : Int32) : Prop := (∀ i, bt s i = true → bt t i = true) ∧ (∀ S, gp_Cl G S → (∀ i, bt s i = true → S i) → ∀ i, bt t i = true → S i)
def gp_Clo (G : Nat → Int32) (s t : Int32) : Prop := gp_Sp G s t ∧ gp_Cl G (fun i => bt t i = true)
theorem gp_Clo_Is {G : Nat → Int32} {s t : Int32} {A : Nat → Prop} (h : gp_Clo G s t) (hA : ∀ i, bt s i = true ↔ A i) : gp_Is t G A := by
  intro i
  constructor
  · intro hi
    exact h.1.2 _ gp_Rch_s (fun x hx => gp_Rch_0 ((hA x).mp hx)) i hi
  · intro hi
    exact hi _ h.2 (fun x hx => h.1.1 x ((hA x).mpr hx))
theorem gp_Sp_r {G : Nat → Int32} {s : Int32} : gp_Sp G s s := ⟨fun _ h => h, fun _ _ h => h⟩
theorem gp_Sp_t {G : Nat → Int32} {s t v : Int32} (h : gp_Sp G s t) (k : gp_Sp G t v) : gp_Sp G s v := ⟨fun i hi => k.1 i (h.1 i hi), fun S hC h0 => k.2 S hC (h.2 S hC h0)⟩
theorem gp_Sp_lt {G : Nat → Int32} {s t : Int32} (h : gp_Sp G s t) (hs : ∀ i, bt s i = true → i < 12) : ∀ i, bt t i = true → i < 12 := h.2 (fun i => i < 12) (fun _ _ _ hj _ _ => hj) hs
/-- a round over the edges below k, begun at s, stands at t -/
def gp_Pk (G : Nat → Int32) (s t : Int32) (k : Nat) : Prop := gp_Sp G s t ∧ (∀ e j, e < k → j < 12 → G e = nI j → bt s (e / 2) = true → bt t j = true)
theorem gp_Pk_0 {G : Nat → Int32} {s : Int32} : gp_Pk G s s 0 := ⟨gp_Sp_r, fun e _ he => absurd he (Nat.not_lt_zero e)⟩
theorem gp_Pk_skip {G : Nat → Int32} {s t : Int32} {k : Nat} (h : gp_Pk G s t k) (hk : bt t (k / 2) = false ∨ G k < 0) : gp_Pk G s t (k + 1) := by
  refine ⟨h.1, fun e j he hj hG hb => ?_⟩
  by_cases hek : e = k
  · subst hek
    rcases hk with hk | hk
    · rw [h.1.1 _ hb] at hk
      cases hk
    · rw [hG] at hk
      exact absurd hk (nI_pos (by omega))
  · exact h.2 e j (by omega) hj hG hb
theorem gp_Pk_add {G : Nat → Int32} {s t : Int32} {k j : Nat} (h : gp_Pk G s t k) (hk : k < 24) (hb : bt t (k / 2) = true) (hj : j < 12) (hG : G k = nI j) : gp_Pk G s (t ||| ((1 : Int32) <<< (nI j &&& 31))) (k + 1) := by
  refine ⟨⟨fun i hi => (gp_orb (by omega) i).mpr (Or.inl (h.1.1 i hi)), fun S hC h0 i hi => ?_⟩, fun e j2 he hj2 hG2 hb2 => (gp_orb (by omega) j2).mpr ?_⟩
  · rcases (gp_orb (by omega) i).mp hi with hi | hi
    · exact h.1.2 S hC h0 i hi
    · rw [hi]
      exact hC k j hk hj hG (h.1.2 S hC h0 _ hb)
  · by_cases hek : e = k
    · subst hek
      right
      rw [hG] at hG2
      exact (gp_inj (by omega) (by omega) hG2).symm
    · exact Or.inl (h.2 e j2 (by omega) hj2 hG2 hb2)
theorem gp_Pk_cl {G : Nat → Int32} {s t : Int32} (h : gp_Pk G s t 24) (hs : ∀ i, bt t i = true → bt s i = true) : gp_Cl G (fun i => bt t i = true) := fun e j he hj hG hb => h.2 e j he hj hG (hs _ hb)
/-! ===== counts ===== -/
def gp_ct (f : Nat → Bool) : Nat → Nat
  | 0 => 0
  | n + 1 => gp_ct f n + (if f n = true then 1 else 0)
theorem gp_ct_s (f : Nat → Bool) (n : Nat) : gp_ct f (n + 1) = gp_ct f n + (if f n = true then 1 else 0) := rfl
theorem gp_ct_t {f : Nat → Bool} {n : Nat} (h : f n = true) : gp_ct f (n + 1) = gp_ct f n + 1 := by rw [gp_ct_s, if_pos h]
theorem gp_ct_f {f : Nat → Bool} {n : Nat} (h : f n = false) : gp_ct f (n + 1) = gp_ct f n := by
  rw [gp_ct_s, if_neg (by rw [h]; decide)]
  rfl
theorem gp_ct_n (f : Nat → Bool) : ∀ n, gp_ct f n ≤ n := by
  intro n
  induction n with
  | zero => exact Nat.le_refl 0
  | succ n ih =>
    rw [gp_ct_s]
    split <;> omega
theorem gp_ct_m (f : Nat → Bool) : ∀ n m, n ≤ m → gp_ct f n ≤ gp_ct f m := by
  intro n m h
  induction m with
  | zero =>
    have : n = 0 := by omega
    subst this
    exact Nat.le_refl _
  | succ m ih =>
    by_cases hm : n = m + 1
    · subst hm
      exact Nat.le_refl _
    · have := ih (by omega)
      rw [gp_ct_s]
      omega
theorem gp_ct_all (f : Nat → Bool) : ∀ n, n ≤ gp_ct f n → ∀ i, i < n → f i = true := by
  intro n
  induction n with
  | zero =>
    intro _ i hi
    omega
  | succ n ih =>
    intro h i hi
    have h1 := gp_ct_n f n
    cases hf : f n
    · rw [gp_ct_f hf] at h
      omega
    · rw [gp_ct_t hf] at h
      by_cases hin : i = n
      · rw [hin]
        exact hf
      · exact ih (by omega) i (by omega)
theorem gp_ct_le {f g : Nat → Bool} : ∀ n, (∀ i, i < n → f i = true → g i = true) → gp_ct f n ≤ gp_ct g n := by
  intro n
  induction n with
  | zero =>
    intro _
    exact Nat.le_refl 0
  | succ n ih =>
    intro h
    have h1 := ih (fun i hi => h i (by omega))
    cases hf : f n
    · rw [gp_ct_f hf, gp_ct_s]
      omega
    · rw [gp_ct_t hf, gp_ct_t (h n (by omega) hf)]
      omega
theorem gp_ct_lt {f g : Nat → Bool} : ∀ n, (∀ i, i < n → f i = true → g i = true) → ∀ k, k < n → f k = false → g k = true → gp_ct f n < gp_ct g n := by
  intro n
  induction n with
  | zero =>
    intro _ k hk
    omega
  | succ n ih =>
    intro h k hk hf hg
    have hle := gp_ct_le n (fun i hi => h i (by omega))
    by_cases hkn : k = n
    · subst hkn
      rw [gp_ct_f hf, gp_ct_t hg]
      omega
    · have h1 := ih (fun i hi => h i (by omega)) k (by omega) hf hg
      cases hf2 : f n
      · rw [gp_ct_f hf2, gp_ct_s]
        omega
      · rw [gp_ct_t hf2, gp_ct_t (h n (by omega) hf2)]
        omega
theorem gp_ct_cut {g : Nat → Bool} {y : Nat} : ∀ m, y < m → g y = true → gp_ct (fun i => g i && !decide (i = y)) m + 1 = gp_ct g m := by
  have low : ∀ m, m ≤ y → gp_ct (fun i => g i && !decide (i = y)) m = gp_ct g m := by
    intro m
    induction m with
    | zero =>
      intro _
      rfl
    | succ m ih =>
      intro h
      have e : (g m && !decide (m = y)) = g m := by
        rw [decide_eq_false (by omega)]
        simp
      rw [gp_ct_s, gp_ct_s, ih (by omega), e]
  intro m
  induction m with
  | zero =>
    intro h
    omega
  | succ m ih =>
    intro h hg
    by_cases e : y = m
    · subst e
      have e2 : (fun i => g i && !decide (i = y)) y = false := by
        show (g y && !decide (y = y)) = false
        simp
      rw [gp_ct_f e2, gp_ct_t hg, low y (Nat.le_refl y)]
    · have e2 : (g m && !decide (m = y)) = g m := by
        rw [decide_eq_false (by omega)]
        simp
      have h1 := ih (by omega) hg
      rw [gp_ct_s, gp_ct_s, e2]
      omega
theorem gp_ct_inj {P : Nat → Nat → Prop} (hP : ∀ x x' y, P x y → P x' y → x = x') {m : Nat} {f : Nat → Bool} : ∀ n (g : Nat → Bool), (∀ x, x < n → f x = true → ∃ y, y < m ∧ g y = true ∧ P x y) → gp_ct f n ≤ gp_ct g m := by
  intro n
  induction n with
  | zero =>
    intro g _
    exact Nat.zero_le _
  | succ n ih =>
    intro g h
    cases hf : f n
    · rw [gp_ct_f hf]
      exact ih g (fun x hx => h x (by omega))
    · obtain ⟨y, hy, hg, hp⟩ := h n (by omega) hf
      have h1 := ih (fun i => g i && !decide (i = y)) (fun x hx hfx => by
        obtain ⟨y', hy', hg', hp'⟩ := h x (by omega) hfx
        refine ⟨y', hy', ?_, hp'⟩
        show (g y' && !decide (y' = y)) = true
        have hne : y' ≠ y := by
          intro e
          rw [e] at hp'
          have := hP x n y hp' hp
          omega
        rw [hg', decide_eq_false hne]
        rfl)
      have h2 := gp_ct_cut m hy hg
      rw [gp_ct_t hf]
      omega
/-! ===== a set that is not closed grows ===== -/
theorem gp_grow {G : Nat → Int32} {s t : Int32} (h : gp_Pk G s t 24) (ht : ∀ i, bt t i = true → i < 12) : gp_Cl G (fun i => bt t i = true) ∨ gp_ct (bt s) 12 + 1 ≤ gp_ct (bt t) 12 := by
  by_cases hs : ∀ i, bt t i = true → bt s i = true
  · exact Or.inl (gp_Pk_cl h hs)
  · right
    obtain ⟨i, hi⟩ := Classical.not_forall.mp hs
    obtain ⟨h1, h2⟩ := Classical.not_imp.mp hi
    exact gp_ct_lt 12 (fun i _ => h.1.1 i) i (ht i h1) (gp_bf h2) h1
theorem gp_fullcl {G : Nat → Int32} {t : Int32} (h : 12 ≤ gp_ct (bt t) 12) : gp_Cl G (fun i => bt t i = true) := fun _ j _ hj _ _ => gp_ct_all _ 12 h j hj
end
section
/-! the relation, and its plain laws -/
section
variable {W W' C P : Nat → Nat → Prop} {a b a' b' : Int32} {V L yv yt dv dl ov ot hd yh : Nat → Int32} {A B S : Nat → Prop}
def gp_One (a : Int32) (i : Nat) : Prop := i < 12 ∧ a = nI i
def gp_Many (a : Int32) (hd : Nat → Int32) (i : Nat) : Prop := i < 12 ∧ (a = nI i ∨ ∃ h, h < 4 ∧ hd h = nI i)
theorem gp_one_pos (h : gp_Rg a) (h0 : 0 ≤ a) : ∀ i, bt ((1 : Int32) <<< (a &&& 31)) i = true ↔ gp_One a i := by
  obtain ⟨j, hj, rfl⟩ := gp_Rg_pos h (Int32.not_lt.mpr h0)
  intro i
  rw [gp_sh' (by omega)]
  constructor
  · intro e
    rw [e]
    exact ⟨hj, rfl⟩
  · intro e
    have h1 := e.1
    exact (gp_inj (by omega) (by omega) e.2).symm
theorem gp_one_neg (h : gp_Rg a) (h0 : ¬ 0 ≤ a) : ∀ i, bt 0 i = true ↔ gp_One a i := by
  have e := gp_Rg_neg h (Int32.not_le.mp h0)
  intro i
  constructor
  · intro z
    exact absurd z (gp_0n i)
  · intro z
    have h1 := z.1
    have h2 := z.2
    rw [e] at h2
    exact absurd h2.symm (gp_nm1 (by omega))
/-- two links lead to related places, or both nowhere -/
def gp_PE (W : Nat → Nat → Prop) (a b : Int32) : Prop := (a = -1 ∧ b = -1) ∨ ∃ x y : Nat, x < 12 ∧ y < 12 ∧ a = nI x ∧ b = nI y ∧ W x y
theorem gp_PE_1 : gp_PE W (-1) (-1) := Or.inl ⟨rfl, rfl⟩
theorem gp_PE_l (h : gp_PE W a b) : gp_Rg a := by
  rcases h with ⟨h, _⟩ | ⟨x, y, hx, hy, h, _, _⟩
  · exact Or.inl h
  · exact Or.inr ⟨x, hx, h⟩
theorem gp_PE_r (h : gp_PE W a b) : gp_Rg b := by
  rcases h with ⟨_, h⟩ | ⟨x, y, hx, hy, _, h, _⟩
  · exact Or.inl h
  · exact Or.inr ⟨y, hy, h⟩
theorem gp_PE_m (h : gp_PE W a b) (hW : ∀ x y, x < 12 → y < 12 → a = nI x → W x y → W' x y) : gp_PE W' a b := by
  rcases h with h | ⟨x, y, hx, hy, h1, h2, h3⟩
  · exact Or.inl h
  · exact Or.inr ⟨x, y, hx, hy, h1, h2, hW x y hx hy h1 h3⟩
theorem gp_PE_f (h : gp_PE W a b) : gp_PE (fun y x => W x y) b a := by
  rcases h with ⟨h, h'⟩ | ⟨x, y, hx, hy, h1, h2, h3⟩
  · exact Or.inl ⟨h', h⟩
  · exact Or.inr ⟨y, x, hy, hx, h2, h1, h3⟩
theorem gp_PE_i {x : Nat} (h : gp_PE W (nI x) b) (hx : x < 12) : ∃ y, y < 12 ∧ b = nI y ∧ W x y := by
  rcases h with ⟨h, _⟩ | ⟨x', y, hx', hy, h1, h2, h3⟩
  · exact absurd h (gp_nm1 (by omega))
  · have e := gp_inj (by omega) (by omega) h1
    subst e
    exact ⟨y, hy, h2, h3⟩
theorem gp_PE_n (h : gp_PE W a b) : a < 0 ↔ b < 0 := by
  rcases h with ⟨h, h'⟩ | ⟨x, y, hx, hy, h1, h2, h3⟩
  · rw [h, h']
  · rw [h1, h2]
    exact ⟨fun z => absurd z (nI_pos (by omega)), fun z => absurd z (nI_pos (by omega))⟩
theorem gp_PE_z (h : gp_PE W a b) : 0 ≤ a ↔ 0 ≤ b := by
  rw [← Int32.not_lt, ← Int32.not_lt, gp_PE_n h]
def gp_Bj (P : Nat → Nat → Prop) : Prop := ∀ x y x' y' : Nat, P x y → P x' y' → (x = x' ↔ y = y')
theorem gp_Bj_m (h : gp_Bj P) (hW : ∀ x y, W x y → P x y) : gp_Bj W := fun x y x' y' h1 h2 => h x y x' y' (hW _ _ h1) (hW _ _ h2)
theorem gp_PE_e (hP : gp_Bj P) (h : gp_PE P a b) (h' : gp_PE P a' b') : a = a' ↔ b = b' := by
  rcases h with ⟨h1, h2⟩ | ⟨x, y, hx, hy, h1, h2, h3⟩
  · rcases h' with ⟨k1, k2⟩ | ⟨x', y', hx', hy', k1, k2, k3⟩
    · rw [h1, h2, k1, k2]
    · rw [h1, h2, k1, k2]
      exact ⟨fun z => absurd z.symm (gp_nm1 (by omega)), fun z => absurd z.symm (gp_nm1 (by omega))⟩
  · rcases h' with ⟨k1, k2⟩ | ⟨x', y', hx', hy', k1, k2, k3⟩
    · rw [h1, h2, k1, k2]
      exact ⟨fun z => absurd z (gp_nm1 (by omega)), fun z => absurd z (gp_nm1 (by omega))⟩
    · rw [h1, h2, k1, k2, nI_eq (by omega) (by omega), nI_eq (by omega) (by omega)]
      exact hP x y x' y' h3 k3
/-- related places hold one value, and their links are related -/
def gp_G (W : Nat → Nat → Prop) (V L yv yt : Nat → Int32) : Prop := ∀ x y : Nat, W x y → x < 12 ∧ y < 12 ∧ V x = yv y ∧ ∀ w, w < 2 → gp_PE W (L (2 * x + w)) (yt (2 * y + w))
theorem gp_G_f (h : gp_G W V L yv yt) : gp_G (fun y x => W x y) yv yt V L := by
  intro y x hw
  obtain ⟨h1, h2, h3, h4⟩ := h x y hw
  exact ⟨h2, h1, h3.symm, fun w hw2 => gp_PE_f (h4 w hw2)⟩
theorem gp_tr (hG : gp_G W V L yv yt) (hA : ∀ x, A x → ∃ y, B y ∧ W x y) {x : Nat} (h : gp_Rch L A x) : ∃ y, gp_Rch yt B y ∧ W x y := by
  refine h (fun x => ∃ y, gp_Rch yt B y ∧ W x y) ?_ ?_
  · intro e j he hj hL hS
    obtain ⟨y, hy, hw⟩ := hS
    obtain ⟨hx, hy12, _, hE⟩ := hG _ _ hw
    have h2 := hE (e % 2) (Nat.mod_lt _ (by decide))
    rw [show 2 * (e / 2) + e % 2 = e from by omega, hL] at h2
    obtain ⟨y', hy', ey, hw'⟩ := gp_PE_i h2 hj
    exact ⟨y', gp_Rch_s (2 * y + e % 2) y' (by omega) hy' ey (by rw [show (2 * y + e % 2) / 2 = y from by omega]; exact hy), hw'⟩
  · intro x hx
    obtain ⟨y, hb, hw⟩ := hA x hx
    exact ⟨y, gp_Rch_0 hb, hw⟩
theorem gp_tr' (hG : gp_G W V L yv yt) (hA : ∀ y, B y → ∃ x, A x ∧ W x y) {y : Nat} (h : gp_Rch yt B y) : ∃ x, gp_Rch L A x ∧ W x y := gp_tr (gp_G_f hG) hA h
theorem gp_eqv (hG : gp_G W V L yv yt) (hB : gp_Bj W) (hA : ∀ x, A x → ∃ y, B y ∧ W x y) (hA' : ∀ y, B y → ∃ x, A x ∧ W x y) {x y : Nat} (hw : W x y) : gp_Rch L A x ↔ gp_Rch yt B y := by
  constructor
  · intro h
    obtain ⟨y', h1, h2⟩ := gp_tr hG hA h
    have e := (hB x y x y' hw h2).mp rfl
    rw [e]
    exact h1
  · intro h
    obtain ⟨x', h1, h2⟩ := gp_tr' hG hA' h
    have e := (hB x y x' y hw h2).mpr rfl
    rw [e]
    exact h1
theorem gp_G_cut (hG : gp_G W V L yv yt) (hS : gp_Cl L S) : gp_G (fun x y => W x y ∧ S x) V L yv yt := by
  intro x y h
  obtain ⟨h1, h2, h3, h4⟩ := hG x y h.1
  refine ⟨h1, h2, h3, fun w hw => gp_PE_m (h4 w hw) (fun x' y' hx' _ e hw' => ⟨hw', hS (2 * x + w) x' (by omega) hx' e ?_⟩)⟩
  rw [show (2 * x + w) / 2 = x from by omega]
  exact h.2
theorem gp_oneA (h : gp_PE W a b) : ∀ x, gp_One a x → ∃ y, gp_One b y ∧ W x y := by
  intro x hx
  have h2 := hx.2
  rw [h2] at h
  obtain ⟨y, hy, e, hw⟩ := gp_PE_i h hx.1
  exact ⟨y, ⟨hy, e⟩, hw⟩
theorem gp_oneB (h : gp_PE W a b) : ∀ y, gp_One b y → ∃ x, gp_One a x ∧ W x y := gp_oneA (gp_PE_f h)
theorem gp_manyA (h : gp_PE W a b) (hh : ∀ h, h < 4 → gp_PE W (hd h) (yh h)) : ∀ x, gp_Many a hd x → ∃ y, gp_Many b yh y ∧ W x y := by
  intro x hx
  rcases hx.2 with h2 | ⟨k, hk, h2⟩
  · rw [h2] at h
    obtain ⟨y, hy, e, hw⟩ := gp_PE_i h hx.1
    exact ⟨y, ⟨hy, Or.inl e⟩, hw⟩
  · have h3 := hh k hk
    rw [h2] at h3
    obtain ⟨y, hy, e, hw⟩ := gp_PE_i h3 hx.1
    exact ⟨y, ⟨hy, Or.inr ⟨k, hk, e⟩⟩, hw⟩
theorem gp_manyB (h : gp_PE W a b) (hh : ∀ h, h < 4 → gp_PE W (hd h) (yh h)) : ∀ y, gp_Many b yh y → ∃ x, gp_Many a hd x ∧ W x y := gp_manyA (gp_PE_f h) (fun k hk => gp_PE_f (hh k hk))
theorem gp_ct_eq {f g : Nat → Bool} (hB : gp_Bj P) (hP : ∀ x y, P x y → x < 12 ∧ y < 12) (h1 : ∀ x, x < 12 → f x = true → ∃ y, g y = true ∧ P x y) (h2 : ∀ y, y < 12 → g y = true → ∃ x, f x = true ∧ P x y) : gp_ct f 12 = gp_ct g 12 := by
  apply Nat.le_antisymm
  · refine gp_ct_inj (P := P) (fun x x' y k1 k2 => (hB x y x' y k1 k2).mpr rfl) 12 g (fun x hx hf => ?_)
    obtain ⟨y, h3, h4⟩ := h1 x hx hf
    exact ⟨y, (hP x y h4).2, h3, h4⟩
  · refine gp_ct_inj (P := fun y x => P x y) (fun y y' x k1 k2 => (hB x y x y' k1 k2).mp rfl) 12 f (fun y hy hg => ?_)
    obtain ⟨x, h3, h4⟩ := h2 y hy hg
    exact ⟨x, (hP x y h4).1, h3, h4⟩
theorem gp_Rch_cg {G G' : Nat → Int32} (h : ∀ x w, w < 2 → gp_Rch G A x → G' (2 * x + w) = G (2 * x + w)) (i : Nat) : gp_Rch G A i ↔ gp_Rch G' A i := by
  have key : ∀ e, gp_Rch G A (e / 2) → G' e = G e := by
    intro e he
    have h2 := h (e / 2) (e % 2) (Nat.mod_lt _ (by decide)) he
    rw [show 2 * (e / 2) + e % 2 = e from by omega] at h2
    exact h2
  constructor
  · intro hi
    refine (hi (fun i => gp_Rch G A i ∧ gp_Rch G' A i) (fun e j he hj hG hS => ⟨gp_Rch_s e j he hj hG hS.1, gp_Rch_s e j he hj ?_ hS.2⟩) (fun x hx => ⟨gp_Rch_0 hx, gp_Rch_0 hx⟩)).2
    rw [key e hS.1]
    exact hG
  · intro hi
    refine hi (gp_Rch G A) (fun e j he hj hG hS => gp_Rch_s e j he hj ?_ hS) (fun x hx => gp_Rch_0 hx)
    rw [← key e hS]
    exact hG
end
theorem gp_andc {a b c d : Prop} (h : a ↔ b) (k : a → (c ↔ d)) : (a ∧ c) ↔ (b ∧ d) := ⟨fun z => ⟨h.mp z.1, (k z.1).mp z.2⟩, fun z => ⟨h.mpr z.1, (k (h.mpr z.1)).mpr z.2⟩⟩
/-! ===== the relation: W the working pairs of places, C the committed ones ===== -/
def gp_RW (W C : Nat → Nat → Prop) (dr cm tk rt : Int32) (V L dv dl hd : Nat → Int32) (yr yo : Int32) (yv yt yh ov ot : Nat → Int32) : Prop :=
  gp_Bj (fun x y => W x y ∨ C x y) ∧ gp_G W V L yv yt ∧ gp_G C dv dl ov ot ∧ gp_PE W rt yr ∧ (∀ h, h < 4 → gp_PE W (hd h) (yh h)) ∧ gp_PE C dr yo ∧ gp_Is cm dl (gp_One dr) ∧ (∀ x y, C x y → bt cm x = true) ∧ (∀ x y, W x y → bt tk x = true) ∧ (∀ x, bt tk x = true → x < 12) ∧ (∀ x, bt cm x = true → bt tk x = true)
def gp_R (dr cm tk rt : Int32) (V L dv dl hd : Nat → Int32) (yr yo : Int32) (yv yt yh ov ot : Nat → Int32) : Prop := ∃ W C : Nat → Nat → Prop, gp_RW W C dr cm tk rt V L dv dl hd yr yo yv yt yh ov ot
/-- a place differs from its committed picture -/
def gp_Df (c : Int32) (V L v l : Nat → Int32) (x : Nat) : Prop := ¬ (bt c x = true ∧ V x = v x ∧ L (2 * x) = l (2 * x) ∧ L (2 * x + 1) = l (2 * x + 1))
section
variable {W C : Nat → Nat → Prop} {dr cm tk rt yr yo r r' co : Int32} {V L dv dl hd yv yt yh ov ot : Nat → Int32}
theorem gp_cmco (R : gp_RW W C dr cm tk rt V L dv dl hd yr yo yv yt yh ov ot) (hco : gp_Is co ot (gp_One yo)) {x y : Nat} (hw : W x y ∨ C x y) : bt cm x = true ↔ bt co y = true := by
  obtain ⟨hB, hW, hC, hrt, hhd, hdr, hcm, hCc, hWt, ht, hct⟩ := R
  rw [hcm x, hco y]
  constructor
  · intro h
    obtain ⟨y', h1, h2⟩ := gp_tr hC (gp_oneA hdr) h
    rw [(hB x y x y' hw (Or.inr h2)).mp rfl]
    exact h1
  · intro h
    obtain ⟨x', h1, h2⟩ := gp_tr' hC (gp_oneB hdr) h
    rw [(hB x y x' y hw (Or.inr h2)).mpr rfl]
    exact h1
theorem gp_rr (R : gp_RW W C dr cm tk rt V L dv dl hd yr yo yv yt yh ov ot) (hr : gp_Is r L (gp_One rt)) (hr' : gp_Is r' yt (gp_One yr)) {x y : Nat} (hw : W x y) : bt r x = true ↔ bt r' y = true := by
  obtain ⟨hB, hW, hC, hrt, hhd, hdr, hcm, hCc, hWt, ht, hct⟩ := R
  rw [hr x, hr' y]
  exact gp_eqv hW (gp_Bj_m hB (fun _ _ h => Or.inl h)) (gp_oneA hrt) (gp_oneB hrt) hw
theorem gp_r1 (R : gp_RW W C dr cm tk rt V L dv dl hd yr yo yv yt yh ov ot) (hr : gp_Is r L (gp_One rt)) (hr' : gp_Is r' yt (gp_One yr)) {x : Nat} (h : bt r x = true) : ∃ y, bt r' y = true ∧ W x y := by
  obtain ⟨hB, hW, hC, hrt, hhd, hdr, hcm, hCc, hWt, ht, hct⟩ := R
  obtain ⟨y, h1, h2⟩ := gp_tr hW (gp_oneA hrt) ((hr x).mp h)
  exact ⟨y, (hr' y).mpr h1, h2⟩
theorem gp_r2 (R : gp_RW W C dr cm tk rt V L dv dl hd yr yo yv yt yh ov ot) (hr : gp_Is r L (gp_One rt)) (hr' : gp_Is r' yt (gp_One yr)) {y : Nat} (h : bt r' y = true) : ∃ x, bt r x = true ∧ W x y := by
  obtain ⟨hB, hW, hC, hrt, hhd, hdr, hcm, hCc, hWt, ht, hct⟩ := R
  obtain ⟨x, h1, h2⟩ := gp_tr' hW (gp_oneB hrt) ((hr' y).mp h)
  exact ⟨x, (hr x).mpr h1, h2⟩
theorem gp_W12 (R : gp_RW W C dr cm tk rt V L dv dl hd yr yo yv yt yh ov ot) : ∀ x y, W x y → x < 12 ∧ y < 12 := fun x y h => ⟨(R.2.1 x y h).1, (R.2.1 x y h).2.1⟩
theorem gp_C12 (R : gp_RW W C dr cm tk rt V L dv dl hd yr yo yv yt yh ov ot) : ∀ x y, C x y → x < 12 ∧ y < 12 := fun x y h => ⟨(R.2.2.1 x y h).1, (R.2.2.1 x y h).2.1⟩
theorem gp_ctr (R : gp_RW W C dr cm tk rt V L dv dl hd yr yo yv yt yh ov ot) (hr : gp_Is r L (gp_One rt)) (hr' : gp_Is r' yt (gp_One yr)) : gp_ct (bt r) 12 = gp_ct (bt r') 12 :=
  gp_ct_eq (P := W) (gp_Bj_m R.1 (fun _ _ h => Or.inl h)) (gp_W12 R) (fun _ _ h => gp_r1 R hr hr' h) (fun _ _ h => gp_r2 R hr hr' h)
theorem gp_c1 (R : gp_RW W C dr cm tk rt V L dv dl hd yr yo yv yt yh ov ot) (hco : gp_Is co ot (gp_One yo)) {x : Nat} (h : bt cm x = true) : ∃ y, bt co y = true ∧ C x y := by
  obtain ⟨hB, hW, hC, hrt, hhd, hdr, hcm, hCc, hWt, ht, hct⟩ := R
  obtain ⟨y, h1, h2⟩ := gp_tr hC (gp_oneA hdr) ((hcm x).mp h)
  exact ⟨y, (hco y).mpr h1, h2⟩
theorem gp_c2 (R : gp_RW W C dr cm tk rt V L dv dl hd yr yo yv yt yh ov ot) (hco : gp_Is co ot (gp_One yo)) {y : Nat} (h : bt co y = true) : ∃ x, bt cm x = true ∧ C x y := by
  obtain ⟨hB, hW, hC, hrt, hhd, hdr, hcm, hCc, hWt, ht, hct⟩ := R
  obtain ⟨x, h1, h2⟩ := gp_tr' hC (gp_oneB hdr) ((hco y).mp h)
  exact ⟨x, (hcm x).mpr h1, h2⟩
theorem gp_ctc (R : gp_RW W C dr cm tk rt V L dv dl hd yr yo yv yt yh ov ot) (hco : gp_Is co ot (gp_One yo)) : gp_ct (bt cm) 12 = gp_ct (bt co) 12 :=
  gp_ct_eq (P := C) (gp_Bj_m R.1 (fun _ _ h => Or.inr h)) (gp_C12 R) (fun _ _ h => gp_c1 R hco h) (fun _ _ h => gp_c2 R hco h)
theorem gp_df (R : gp_RW W C dr cm tk rt V L dv dl hd yr yo yv yt yh ov ot) (hco : gp_Is co ot (gp_One yo)) {x y : Nat} (hw : W x y) : gp_Df cm V L dv dl x ↔ gp_Df co yv yt ov ot y := by
  have hcc := gp_cmco R hco (Or.inl hw)
  have hc1 := fun h => gp_c1 R hco (x := x) h
  obtain ⟨hB, hW, hC, hrt, hhd, hdr, hcm, hCc, hWt, ht, hct⟩ := R
  refine not_congr (gp_andc hcc (fun hx => ?_))
  obtain ⟨y', _, hxy⟩ := hc1 hx
  have e := (hB x y x y' (Or.inl hw) (Or.inr hxy)).mp rfl
  rw [← e] at hxy
  obtain ⟨_, _, v1, p1⟩ := hW x y hw
  obtain ⟨_, _, v2, p2⟩ := hC x y hxy
  have q : ∀ w, w < 2 → (L (2 * x + w) = dl (2 * x + w) ↔ yt (2 * y + w) = ot (2 * y + w)) := fun w hw2 => gp_PE_e hB (gp_PE_m (p1 w hw2) (fun _ _ _ _ _ h => Or.inl h)) (gp_PE_m (p2 w hw2) (fun _ _ _ _ _ h => Or.inr h))
  have q0 := q 0 (by decide)
  have q1 := q 1 (by decide)
  rw [Nat.add_zero, Nat.add_zero] at q0
  rw [v1, v2, q0, q1]
end
end
section
/-! the plain laws of commit, abort, make and the small calls -/
section
variable {W C : Nat → Nat → Prop} {dr cm tk rt yr yo r r' co : Int32} {V L dv dl hd yv yt yh ov ot : Nat → Int32}
/-- as many changed places on both sides -/
theorem gp_ctd (R : gp_RW W C dr cm tk rt V L dv dl hd yr yo yv yt yh ov ot) (hr : gp_Is r L (gp_One rt)) (hr' : gp_Is r' yt (gp_One yr)) (hco : gp_Is co ot (gp_One yo)) {f g : Nat → Bool} (hf : ∀ x, x < 12 → (f x = true ↔ bt r x = true ∧ gp_Df cm V L dv dl x)) (hg : ∀ y, y < 12 → (g y = true ↔ bt r' y = true ∧ gp_Df co yv yt ov ot y)) : gp_ct f 12 = gp_ct g 12 := by
  refine gp_ct_eq (P := W) (gp_Bj_m R.1 (fun _ _ h => Or.inl h)) (gp_W12 R) (fun x hx h => ?_) (fun y hy h => ?_)
  · have h0 := (hf x hx).mp h
    obtain ⟨y, h1, h2⟩ := gp_r1 R hr hr' h0.1
    exact ⟨y, (hg y (gp_W12 R x y h2).2).mpr ⟨h1, (gp_df R hco h2).mp h0.2⟩, h2⟩
  · have h0 := (hg y hy).mp h
    obtain ⟨x, h1, h2⟩ := gp_r2 R hr hr' h0.1
    exact ⟨x, (hf x (gp_W12 R x y h2).1).mpr ⟨h1, (gp_df R hco h2).mpr h0.2⟩, h2⟩
theorem gp_commitR (R : gp_RW W C dr cm tk rt V L dv dl hd yr yo yv yt yh ov ot) (hr : gp_Is r L (gp_One rt)) (hr' : gp_Is r' yt (gp_One yr)) {dv' dl' ov' ot' : Nat → Int32}
    (hx : ∀ x, x < 12 → bt r x = true → dv' x = V x ∧ ∀ w, w < 2 → dl' (2 * x + w) = L (2 * x + w))
    (hy : ∀ y, y < 12 → bt r' y = true → ov' y = yv y ∧ ∀ w, w < 2 → ot' (2 * y + w) = yt (2 * y + w)) :
    gp_R rt r tk rt V L dv' dl' hd yr yr yv yt yh ov' ot' := by
  have hrr := fun x y h => gp_rr R hr hr' (x := x) (y := y) h
  obtain ⟨hB, hW, hC, hrt, hhd, hdr, hcm, hCc, hWt, ht, hct⟩ := R
  have hcl : gp_Cl L (fun x => bt r x = true) := fun e j he hj hG hS => (hr j).mpr (gp_Rch_s e j he hj hG ((hr _).mp hS))
  have hcut := gp_G_cut hW hcl
  refine ⟨W, fun x y => W x y ∧ bt r x = true, ?_, hW, ?_, hrt, hhd, ?_, ?_, fun x y h => h.2, hWt, ht, ?_⟩
  · refine gp_Bj_m hB (fun x y h => Or.inl ?_)
    rcases h with h | h
    · exact h
    · exact h.1
  · intro x y h
    obtain ⟨h1, h2, h3, h4⟩ := hcut x y h
    have ex := hx x h1 h.2
    have ey := hy y h2 ((hrr x y h.1).mp h.2)
    refine ⟨h1, h2, ?_, fun w hw => ?_⟩
    · rw [ex.1, ey.1]
      exact h3
    · rw [ex.2 w hw, ey.2 w hw]
      exact h4 w hw
  · exact gp_PE_m hrt (fun x y hx2 _ e hw => ⟨hw, (hr x).mpr (gp_Rch_0 ⟨hx2, e⟩)⟩)
  · intro i
    rw [hr i]
    refine gp_Rch_cg (fun x w hw h => ?_) i
    exact (hx x (gp_Rch_lt (fun _ h => h.1) h) ((hr x).mpr h)).2 w hw
  · intro x h
    obtain ⟨y, _, h2⟩ := gp_tr hW (gp_oneA hrt) ((hr x).mp h)
    exact hWt x y h2
theorem gp_abortR (R : gp_RW W C dr cm tk rt V L dv dl hd yr yo yv yt yh ov ot) (hco : gp_Is co ot (gp_One yo)) {hd' yh' yv' yt' : Nat → Int32}
    (hx : ∀ h, h < 4 → hd' h = -1) (hy : ∀ h, h < 4 → yh' h = -1)
    (hz : ∀ y, y < 12 → bt co y = true → yv' y = ov y ∧ ∀ w, w < 2 → yt' (2 * y + w) = ot (2 * y + w)) :
    gp_R dr cm cm dr dv dl dv dl hd' yo yo yv' yt' yh' ov ot := by
  have hcc := fun x y h => gp_cmco R hco (x := x) (y := y) h
  obtain ⟨hB, hW, hC, hrt, hhd, hdr, hcm, hCc, hWt, ht, hct⟩ := R
  refine ⟨C, C, ?_, ?_, hC, hdr, ?_, hdr, hcm, hCc, hCc, fun x h => ht x (hct x h), fun x h => h⟩
  · exact gp_Bj_m hB (fun x y h => Or.inr (h.elim id id))
  · intro x y h
    obtain ⟨h1, h2, h3, h4⟩ := hC x y h
    have ey := hz y h2 ((hcc x y (Or.inr h)).mp (hCc x y h))
    refine ⟨h1, h2, ?_, fun w hw => ?_⟩
    · rw [ey.1]
      exact h3
    · rw [ey.2 w hw]
      exact h4 w hw
  · intro h hh
    rw [hx h hh, hy h hh]
    exact gp_PE_1
theorem gp_ctm (R : gp_RW W C dr cm tk rt V L dv dl hd yr yo yv yt yh ov ot) (hr : gp_Is r L (gp_Many rt hd)) (hr' : gp_Is r' yt (gp_Many yr yh)) (hco : gp_Is co ot (gp_One yo)) : gp_ct (bt (r ||| cm)) 12 = gp_ct (bt (r' ||| co)) 12 := by
  refine gp_ct_eq (P := fun x y => W x y ∨ C x y) R.1 (fun x y h => h.elim (gp_W12 R x y) (gp_C12 R x y)) (fun x hx h => ?_) (fun y hy h => ?_)
  · rw [b_or, Bool.or_eq_true] at h
    rcases h with h | h
    · obtain ⟨y, h1, h2⟩ := gp_tr R.2.1 (gp_manyA R.2.2.2.1 R.2.2.2.2.1) ((hr x).mp h)
      exact ⟨y, by rw [b_or, Bool.or_eq_true]; exact Or.inl ((hr' y).mpr h1), Or.inl h2⟩
    · obtain ⟨y, h1, h2⟩ := gp_c1 R hco h
      exact ⟨y, by rw [b_or, Bool.or_eq_true]; exact Or.inr h1, Or.inr h2⟩
  · rw [b_or, Bool.or_eq_true] at h
    rcases h with h | h
    · obtain ⟨x, h1, h2⟩ := gp_tr' R.2.1 (gp_manyB R.2.2.2.1 R.2.2.2.2.1) ((hr' y).mp h)
      exact ⟨x, by rw [b_or, Bool.or_eq_true]; exact Or.inl ((hr x).mpr h1), Or.inl h2⟩
    · obtain ⟨x, h1, h2⟩ := gp_c2 R hco h
      exact ⟨x, by rw [b_or, Bool.or_eq_true]; exact Or.inr h1, Or.inr h2⟩
theorem gp_makeR (R : gp_RW W C dr cm tk rt V L dv dl hd yr yo yv yt yh ov ot) (hr : gp_Is r L (gp_Many rt hd)) (hr' : gp_Is r' yt (gp_Many yr yh)) (hco : gp_Is co ot (gp_One yo)) {x0 y0 h : Nat} (hx0 : x0 < 12) (hy0 : y0 < 12) (hh : h < 4)
    (nx : bt (r ||| cm) x0 = false) (ny : bt (r' ||| co) y0 = false) {tk' v : Int32} {V' L' yv' yt' : Nat → Int32}
    (ht1 : ∀ i, bt (r ||| cm) i = true → bt tk' i = true) (ht2 : bt tk' x0 = true) (ht3 : ∀ i, bt tk' i = true → i < 12)
    (hV : V' x0 = v ∧ ∀ w, w < 2 → L' (2 * x0 + w) = -1) (hV2 : ∀ x, x < 12 → x ≠ x0 → bt (r ||| cm) x = true → V' x = V x ∧ ∀ w, w < 2 → L' (2 * x + w) = L (2 * x + w))
    (hY : yv' y0 = v ∧ ∀ w, w < 2 → yt' (2 * y0 + w) = -1) (hY2 : ∀ y, y < 12 → y ≠ y0 → yv' y = yv y ∧ ∀ w, w < 2 → yt' (2 * y + w) = yt (2 * y + w)) :
    gp_R dr cm tk' rt V' L' dv dl (upd hd h (nI x0)) yr yo yv' yt' (upd yh h (nI y0)) ov ot := by
  have hcc := fun x y h => gp_cmco R hco (x := x) (y := y) h
  obtain ⟨hB, hW, hC, hrt, hhd, hdr, hcm, hCc, hWt, ht, hct⟩ := R
  have oX : ∀ i, bt (r ||| cm) i = true ↔ bt r i = true ∨ bt cm i = true := fun i => by rw [b_or, Bool.or_eq_true]
  have oY : ∀ i, bt (r' ||| co) i = true ↔ bt r' i = true ∨ bt co i = true := fun i => by rw [b_or, Bool.or_eq_true]
  have hcl : gp_Cl L (fun x => bt r x = true) := fun e j he hj hG hS => (hr j).mpr (gp_Rch_s e j he hj hG ((hr _).mp hS))
  have hcut := gp_G_cut hW hcl
  have hrr : ∀ x y, W x y → bt r x = true → bt r' y = true := by
    intro x y hw h1
    obtain ⟨y', h2, h3⟩ := gp_tr hW (gp_manyA hrt hhd) ((hr x).mp h1)
    rw [(hB x y x y' (Or.inl hw) (Or.inl h3)).mp rfl]
    exact (hr' y').mpr h2
  have hold : ∀ x y, ((W x y ∧ bt r x = true) ∨ C x y) → x ≠ x0 ∧ y ≠ y0 := by
    intro x y hxy
    have hU : bt (r ||| cm) x = true ∧ bt (r' ||| co) y = true := by
      rcases hxy with hxy | hxy
      · exact ⟨(oX x).mpr (Or.inl hxy.2), (oY y).mpr (Or.inl (hrr x y hxy.1 hxy.2))⟩
      · have h1 := hCc x y hxy
        exact ⟨(oX x).mpr (Or.inr h1), (oY y).mpr (Or.inr ((hcc x y (Or.inr hxy)).mp h1))⟩
    constructor
    · intro e
      rw [e, nx] at hU
      exact absurd hU.1 (by decide)
    · intro e
      rw [e, ny] at hU
      exact absurd hU.2 (by decide)
  have hin : ∀ x y, W x y → gp_Many rt hd x → (W x y ∧ bt r x = true) ∨ (x = x0 ∧ y = y0) := fun x y hw hm => Or.inl ⟨hw, (hr x).mpr (gp_Rch_0 hm)⟩
  refine ⟨fun x y => (W x y ∧ bt r x = true) ∨ (x = x0 ∧ y = y0), C, ?_, ?_, hC, ?_, ?_, hdr, hcm, hCc, ?_, ht3, fun x hx => ht1 x ((oX x).mpr (Or.inr hx))⟩
  · have q : ∀ x y, (((W x y ∧ bt r x = true) ∨ (x = x0 ∧ y = y0)) ∨ C x y) → ((W x y ∧ bt r x = true) ∨ C x y) ∨ (x = x0 ∧ y = y0) := by
      intro x y hxy
      rcases hxy with (hxy | hxy) | hxy
      · exact Or.inl (Or.inl hxy)
      · exact Or.inr hxy
      · exact Or.inl (Or.inr hxy)
    have q2 : ∀ x y, ((W x y ∧ bt r x = true) ∨ C x y) → W x y ∨ C x y := fun x y hxy => hxy.elim (fun z => Or.inl z.1) Or.inr
    intro x y x' y' h1 h2
    rcases q x y h1 with h1 | h1
    · rcases q x' y' h2 with h2 | h2
      · exact hB x y x' y' (q2 x y h1) (q2 x' y' h2)
      · have h3 := hold x y h1
        rw [h2.1, h2.2]
        exact ⟨fun z => absurd z h3.1, fun z => absurd z h3.2⟩
    · rcases q x' y' h2 with h2 | h2
      · have h3 := hold x' y' h2
        rw [h1.1, h1.2]
        exact ⟨fun z => absurd z.symm h3.1, fun z => absurd z.symm h3.2⟩
      · rw [h1.1, h1.2, h2.1, h2.2]
        exact ⟨fun _ => rfl, fun _ => rfl⟩
  · intro x y hxy
    rcases hxy with hxy | hxy
    · obtain ⟨h1, h2, h3, h4⟩ := hcut x y hxy
      have hn := hold x y (Or.inl hxy)
      have ex := hV2 x h1 hn.1 ((oX x).mpr (Or.inl hxy.2))
      have ey := hY2 y h2 hn.2
      refine ⟨h1, h2, ?_, fun w hw => ?_⟩
      · rw [ex.1, ey.1]
        exact h3
      · rw [ex.2 w hw, ey.2 w hw]
        exact gp_PE_m (h4 w hw) (fun _ _ _ _ _ z => Or.inl z)
    · rw [hxy.1, hxy.2]
      refine ⟨hx0, hy0, ?_, fun w hw => ?_⟩
      · rw [hV.1, hY.1]
      · rw [hV.2 w hw, hY.2 w hw]
        exact gp_PE_1
  · exact gp_PE_m hrt (fun x y hx _ e hw => hin x y hw ⟨hx, Or.inl e⟩)
  · intro k hk
    by_cases e : k = h
    · rw [e, pk_us, pk_us]
      exact Or.inr ⟨x0, y0, hx0, hy0, rfl, rfl, Or.inr ⟨rfl, rfl⟩⟩
    · rw [pk_un e, pk_un e]
      exact gp_PE_m (hhd k hk) (fun x y hx _ e2 hw => hin x y hw ⟨hx, Or.inr ⟨k, hk, e2⟩⟩)
  · intro x y hxy
    rcases hxy with hxy | hxy
    · exact ht1 x ((oX x).mpr (Or.inl hxy.2))
    · rw [hxy.1]
      exact ht2
/-! ===== the small calls ===== -/
theorem gp_hdR (R : gp_RW W C dr cm tk rt V L dv dl hd yr yo yv yt yh ov ot) {h : Nat} {a b : Int32} (hp : gp_PE W a b) : gp_R dr cm tk rt V L dv dl (upd hd h a) yr yo yv yt (upd yh h b) ov ot := by
  obtain ⟨hB, hW, hC, hrt, hhd, hdr, hcm, hCc, hWt, ht, hct⟩ := R
  refine ⟨W, C, hB, hW, hC, hrt, fun k hk => ?_, hdr, hcm, hCc, hWt, ht, hct⟩
  by_cases e : k = h
  · rw [e, pk_us, pk_us]
    exact hp
  · rw [pk_un e, pk_un e]
    exact hhd k hk
theorem gp_rtR (R : gp_RW W C dr cm tk rt V L dv dl hd yr yo yv yt yh ov ot) {a b : Int32} (hp : gp_PE W a b) : gp_R dr cm tk a V L dv dl hd b yo yv yt yh ov ot := by
  obtain ⟨hB, hW, hC, hrt, hhd, hdr, hcm, hCc, hWt, ht, hct⟩ := R
  exact ⟨W, C, hB, hW, hC, hp, hhd, hdr, hcm, hCc, hWt, ht, hct⟩
theorem gp_lkR (R : gp_RW W C dr cm tk rt V L dv dl hd yr yo yv yt yh ov ot) {x y w : Nat} (hw : w < 2) (hxy : W x y) {a b : Int32} (hp : gp_PE W a b) : gp_R dr cm tk rt V (upd L (2 * x + w) a) dv dl hd yr yo yv (upd yt (2 * y + w) b) yh ov ot := by
  obtain ⟨hB, hW, hC, hrt, hhd, hdr, hcm, hCc, hWt, ht, hct⟩ := R
  refine ⟨W, C, hB, fun x' y' h' => ?_, hC, hrt, hhd, hdr, hcm, hCc, hWt, ht, hct⟩
  obtain ⟨h1, h2, h3, h4⟩ := hW x' y' h'
  refine ⟨h1, h2, h3, fun w' hw' => ?_⟩
  have hb := hB x y x' y' (Or.inl hxy) (Or.inl h')
  by_cases e : x = x' ∧ w = w'
  · have e2 := hb.mp e.1
    rw [← e.1, ← e.2, ← e2, pk_us, pk_us]
    exact hp
  · have n1 : 2 * x' + w' ≠ 2 * x + w := fun z => e ⟨by omega, by omega⟩
    have n2 : 2 * y' + w' ≠ 2 * y + w := fun z => e ⟨hb.mpr (by omega), by omega⟩
    rw [pk_un n1, pk_un n2]
    exact h4 w' hw'
theorem gp_vlR (R : gp_RW W C dr cm tk rt V L dv dl hd yr yo yv yt yh ov ot) {x y : Nat} (hxy : W x y) (a : Int32) : gp_R dr cm tk rt (upd V x a) L dv dl hd yr yo (upd yv y a) yt yh ov ot := by
  obtain ⟨hB, hW, hC, hrt, hhd, hdr, hcm, hCc, hWt, ht, hct⟩ := R
  refine ⟨W, C, hB, fun x' y' h' => ?_, hC, hrt, hhd, hdr, hcm, hCc, hWt, ht, hct⟩
  obtain ⟨h1, h2, h3, h4⟩ := hW x' y' h'
  have hb := hB x y x' y' (Or.inl hxy) (Or.inl h')
  refine ⟨h1, h2, ?_, h4⟩
  by_cases e : x = x'
  · have e2 := hb.mp e
    rw [← e, ← e2, pk_us, pk_us]
  · have n1 : x' ≠ x := fun z => e z.symm
    have n2 : y' ≠ y := fun z => e (hb.mpr z.symm)
    rw [pk_un n1, pk_un n2]
    exact h3
end
end
section
/-! the component's walks: handles, links, closure, counts -/
section
variable {dr cm lc lm lr lk ld tk rt : Int32} {dv dl lp lv ll mv ml hd : Nat → Int32}
theorem gp_k0 {x : Nat} (h : x < 12) : (nI x).toNatClampNeg = x := gp_cl (by omega)
theorem gp_k2 {x : Nat} (h : x < 12) : (2 * nI x).toNatClampNeg = 2 * x := by rw [gp_ix0]; exact gp_cl (by omega)
theorem gp_k21 {x : Nat} (h : x < 12) : (2 * nI x + 1).toNatClampNeg = 2 * x + 1 := by rw [gp_ix1]; exact gp_cl (by omega)
theorem gp_k2w {x w : Nat} (h : x < 12) (hw : w < 2) : (2 * nI x + nI w).toNatClampNeg = 2 * x + w := by rw [gp_ix]; exact gp_cl (by omega)
theorem gp_k4 {x : Nat} (h : x < 4) : (nI x).toNatClampNeg = x := gp_cl (by omega)
theorem gp_v0 {x : Nat} (h : x < 12) : vp_in (nI x) 12 := vp_in_nI h (by omega)
theorem gp_v4 {x : Nat} (h : x < 4) : vp_in (nI x) 4 := vp_in_nI h (by omega)
theorem gp_v2 {x : Nat} (h : x < 12) : vp_in (2 * nI x) 24 := by rw [gp_ix0]; exact vp_in_nI (by omega) (by omega)
theorem gp_v21 {x : Nat} (h : x < 12) : vp_in (2 * nI x + 1) 24 := by rw [gp_ix1]; exact vp_in_nI (by omega) (by omega)
theorem gp_v2w {x w : Nat} (h : x < 12) (hw : w < 2) : vp_in (2 * nI x + nI w) 24 := by rw [gp_ix]; exact vp_in_nI (by omega) (by omega)
def gp_NH (p : Int32) : Prop := p < 0 ∨ 3 < p
theorem gp_hc (p : Int32) : gp_NH p ∨ ∃ h : Nat, h < 4 ∧ p = nI h := by
  by_cases h0 : p < 0
  · exact Or.inl (Or.inl h0)
  · by_cases h3 : 3 < p
    · exact Or.inl (Or.inr h3)
    · obtain ⟨j, hj, e⟩ := nI_of2 (M := 3) (n := 3) (by decide) h0 (Int32.not_lt.mp h3)
      exact Or.inr ⟨j, by omega, e⟩
def gp_NW (p : Int32) : Prop := p < 0 ∨ ¬ p ≤ 1
theorem gp_wc (p : Int32) : gp_NW p ∨ ∃ w : Nat, w < 2 ∧ p = nI w := by
  by_cases h0 : p < 0
  · exact Or.inl (Or.inl h0)
  · by_cases h3 : p ≤ 1
    · obtain ⟨j, hj, e⟩ := nI_of2 (M := 1) (n := 1) (by decide) h0 h3
      exact Or.inr ⟨j, by omega, e⟩
    · exact Or.inl (Or.inr h3)
theorem gp_xh0 {post : Int32 → Prop} {p : Int32} (h : gp_NH p) (k : post 0) : wpX_isHandle post (dr, cm, lc, lm, lr, lk, ld, tk, rt, dv, dl, lp, lv, ll, mv, ml, hd) p := by
  by_cases h0 : p < 0
  · exact br_t h0 k
  · exact br_f h0 (br_t (h.resolve_left h0) k)
theorem gp_xh1 {post : Int32 → Prop} {h : Nat} (hh : h < 4) (k : post 1) : wpX_isHandle post (dr, cm, lc, lm, lr, lk, ld, tk, rt, dv, dl, lp, lv, ll, mv, ml, hd) (nI h) :=
  br_f (nI_pos (by omega)) (br_f (nI_nlt (a := 3) (b := h) (by omega) (by decide)) k)
/-! the working state: brought in, or as on the disk -/
def gp_EL (ld : Int32) (ml dl : Nat → Int32) : Nat → Int32 := fun e => if bt ld (e / 2) = true then ml e else dl e
def gp_EV (ld : Int32) (mv dv : Nat → Int32) : Nat → Int32 := fun x => if bt ld x = true then mv x else dv x
theorem gp_EL_t {e : Nat} (h : bt ld (e / 2) = true) : gp_EL ld ml dl e = ml e := if_pos h
theorem gp_EL_f {e : Nat} (h : bt ld (e / 2) = false) : gp_EL ld ml dl e = dl e := if_neg (by rw [h]; decide)
theorem gp_EV_t {x : Nat} (h : bt ld x = true) : gp_EV ld mv dv x = mv x := if_pos h
theorem gp_EV_f {x : Nat} (h : bt ld x = false) : gp_EV ld mv dv x = dv x := if_neg (by rw [h]; decide)
theorem gp_EL_eq {F : Nat → Int32} (h : ∀ e, (bt ld (e / 2) = true → ml e = F e) ∧ (bt ld (e / 2) = false → dl e = F e)) : gp_EL ld ml dl = F := by
  funext e
  cases hb : bt ld (e / 2)
  · rw [gp_EL_f hb]
    exact (h e).2 hb
  · rw [gp_EL_t hb]
    exact (h e).1 hb
theorem gp_EV_eq {F : Nat → Int32} (h : ∀ x, (bt ld x = true → mv x = F x) ∧ (bt ld x = false → dv x = F x)) : gp_EV ld mv dv = F := by
  funext x
  cases hb : bt ld x
  · rw [gp_EV_f hb]
    exact (h x).2 hb
  · rw [gp_EV_t hb]
    exact (h x).1 hb
theorem gp_EL_Rg (h1 : ∀ e, gp_Rg (ml e)) (h2 : ∀ e, gp_Rg (dl e)) : ∀ e, gp_Rg (gp_EL ld ml dl e) := by
  intro e
  cases hb : bt ld (e / 2)
  · rw [gp_EL_f hb]
    exact h2 e
  · rw [gp_EL_t hb]
    exact h1 e
theorem gp_EL_0 : gp_EL 0 ml dl = dl := gp_EL_eq (fun e => ⟨fun h => absurd h (gp_0n _), fun _ => rfl⟩)
theorem gp_EV_0 : gp_EV 0 mv dv = dv := gp_EV_eq (fun e => ⟨fun h => absurd h (gp_0n _), fun _ => rfl⟩)
theorem gp_linkOf {post : Int32 → Prop} {x w : Nat} (hx : x < 12) (hw : w < 2) (h : post (gp_EL ld ml dl (2 * x + w))) : wpX_linkOf post (dr, cm, lc, lm, lr, lk, ld, tk, rt, dv, dl, lp, lv, ll, mv, ml, hd) (nI x) (nI w) := by
  have hc := gp_k2w hx hw
  have hi := gp_v2w hx hw
  have h2 : (2 * x + w) / 2 = x := by omega
  cases hb : bt ld x
  · rw [gp_EL_f (by rw [h2]; exact hb)] at h
    exact br_t ((gp_t0 (by omega)).mpr hb) ⟨hi, by rw [hc]; exact h⟩
  · rw [gp_EL_t (by rw [h2]; exact hb)] at h
    exact br_f (gp_nt0 (by omega) hb) ⟨hi, by rw [hc]; exact h⟩
theorem gp_c73 {post : Int32 → Prop} {J7 : Int32 → Int32 → Int32 → Prop} {J24 : Int32 → Int32 → Prop} {b r s t : Int32} {G : Nat → Int32} (hR : ∀ e, gp_Rg (G e)) {x : Nat} (hx : x < 12) (hP : gp_Pk G s t (2 * x + 1)) (hb : bt t x = true) (K : ∀ t', gp_Pk G s t' (2 * (x + 1)) → J24 t' (nI (x + 1))) : wX_closure_73 post J7 J24 t b r (nI x) (G (2 * x + 1)) dr cm lc lm lr lk ld tk rt dv dl lp lv ll mv ml hd := by
  have e2 : 2 * (x + 1) = 2 * x + 1 + 1 := by omega
  have e3 : (2 * x + 1) / 2 = x := by omega
  by_cases h : G (2 * x + 1) < 0
  · refine br_t h (nm_r (nI_1 x) (K t ?_))
    rw [e2]
    exact gp_Pk_skip hP (Or.inr h)
  · obtain ⟨j, hj, ej⟩ := gp_Rg_pos (hR _) h
    refine br_f h (nm_e (nm_r (nI_1 x) (K _ ?_)))
    rw [e2, ej]
    exact gp_Pk_add hP (by omega) (by rw [e3]; exact hb) hj ej
theorem gp_c24 {post : Int32 → Prop} {J7 : Int32 → Int32 → Int32 → Prop} {b r s : Int32} (hR : ∀ e, gp_Rg (gp_EL ld ml dl e)) (K : ∀ t, gp_Pk (gp_EL ld ml dl) s t 24 → J7 t b (r + 1)) : ∀ (n x : Nat) (t : Int32), x ≤ 12 → 12 < n + x → gp_Pk (gp_EL ld ml dl) s t (2 * x) → wX_closure_24 post J7 b r dr cm lc lm lr lk ld tk rt dv dl lp lv ll mv ml hd n t (nI x) := by
  intro n
  induction n with
  | zero =>
    intro x t h1 h2
    omega
  | succ n ih =>
    intro x t hx hn hP
    by_cases h12 : x = 12
    · subst h12
      exact br_t (Int32.le_refl _) (nm_e (K t hP))
    · have hx' : x < 12 := by omega
      have e2 : 2 * (x + 1) = 2 * x + 1 + 1 := by omega
      have e3 : (2 * x + 1) / 2 = x := by omega
      have e4 : (2 * x) / 2 = x := by omega
      have hlt : ¬ (12 : Int32) ≤ nI x := nI_ge (b := 12) hx' (by decide)
      cases hb : bt t x
      · refine br_f hlt (br_t ((gp_t0 (by omega)).mpr hb) (nm_r (nI_1 x) (ih (x + 1) t (by omega) (by omega) ?_)))
        rw [e2]
        exact gp_Pk_skip (gp_Pk_skip hP (Or.inl (by rw [e4]; exact hb))) (Or.inl (by rw [e3]; exact hb))
      · refine br_f hlt (br_f (gp_nt0 (by omega) hb) ?_)
        refine gp_linkOf (w := 0) hx' (by decide) ?_
        refine gp_linkOf (w := 1) hx' (by decide) ?_
        by_cases h : gp_EL ld ml dl (2 * x + 0) < 0
        · refine br_t h ?_
          exact gp_c73 hR hx' (gp_Pk_skip hP (Or.inr h)) hb (fun t' ht' => ih (x + 1) t' (by omega) (by omega) ht')
        · obtain ⟨j, hj, ej⟩ := gp_Rg_pos (hR _) h
          refine br_f h (nm_r (congrArg (fun z => t ||| ((1 : Int32) <<< (z &&& 31))) ej) ?_)
          exact gp_c73 hR hx' (gp_Pk_add hP (by omega) (by rw [e4]; exact hb) hj ej) ((gp_orb (by omega) x).mpr (Or.inl hb)) (fun t' ht' => ih (x + 1) t' (by omega) (by omega) ht')
theorem gp_c7 {post : Int32 → Prop} (hR : ∀ e, gp_Rg (gp_EL ld ml dl e)) {s : Int32} (hs : ∀ i, bt s i = true → i < 12) (K : ∀ t, gp_Clo (gp_EL ld ml dl) s t → post t) : ∀ (n k : Nat) (b t : Int32), k ≤ 13 → 13 < n + k → gp_Sp (gp_EL ld ml dl) s t → (∀ i, bt b i = true → bt t i = true) → (t = b → gp_Cl (gp_EL ld ml dl) (fun i => bt t i = true)) → k ≤ gp_ct (bt b) 12 + 1 → wX_closure_7 post dr cm lc lm lr lk ld tk rt dv dl lp lv ll mv ml hd n t b (nI k) := by
  intro n
  induction n with
  | zero =>
    intro k b t h1 h2
    omega
  | succ n ih =>
    intro k b t hk hn hS hbt hcl hc
    have ht := gp_Sp_lt hS hs
    by_cases h13 : k = 13
    · subst h13
      refine br_t (Int32.le_refl _) (K t ⟨hS, ?_⟩)
      refine gp_fullcl ?_
      have h1 := gp_ct_le (f := bt b) (g := bt t) 12 (fun i _ h => hbt i h)
      omega
    · have hlt : ¬ (13 : Int32) ≤ nI k := nI_ge (b := 13) (by omega) (by decide)
      by_cases e : t = b
      · exact br_f hlt (br_t e (K t ⟨hS, hcl e⟩))
      · refine br_f hlt (br_f e ⟨13, gp_c24 hR (s := t) (fun t' hP => ?_) 13 0 t (by decide) (by decide) gp_Pk_0⟩)
        rw [nI_1 k]
        refine ih (k + 1) t t' (by omega) (by omega) (gp_Sp_t hS hP.1) hP.1.1 (fun e2 => gp_Pk_cl hP (fun i hi => by rw [← e2]; exact hi)) ?_
        have hex : ∃ i, i < 12 ∧ bt b i = false ∧ bt t i = true := by
          refine Classical.byContradiction (fun hno => e (b_ext (fun i _ => ?_)))
          cases hti : bt t i
          · exact (gp_bf (fun z => by rw [hbt i z] at hti; cases hti)).symm
          · cases hbi : bt b i
            · exact absurd ⟨i, ht i hti, hbi, hti⟩ hno
            · rfl
        obtain ⟨i, hi, h1, h2⟩ := hex
        have h3 := gp_ct_lt 12 (fun i _ h => hbt i h) i hi h1 h2
        omega
theorem gp_closure {post : Int32 → Prop} (hR : ∀ e, gp_Rg (gp_EL ld ml dl e)) {s : Int32} {A : Nat → Prop} (hA : ∀ i, bt s i = true ↔ A i) (hA12 : ∀ i, A i → i < 12) (K : ∀ t, gp_Is t (gp_EL ld ml dl) A → post t) : wpX_closure post (dr, cm, lc, lm, lr, lk, ld, tk, rt, dv, dl, lp, lv, ll, mv, ml, hd) s := by
  refine ⟨14, gp_c7 hR (fun i hi => hA12 i ((hA i).mp hi)) (fun t ht => K t (gp_Clo_Is ht hA)) 14 0 0 s (by decide) (by decide) gp_Sp_r (fun i h => absurd h (gp_0n i)) (fun e => ?_) (by omega)⟩
  rw [e]
  exact fun _ _ _ _ _ h => absurd h (gp_0n _)
theorem gp_b4 {post : Int32 → Prop} {s : Int32} (K : post (nI (gp_ct (bt s) 12))) : ∀ (n x : Nat), x ≤ 12 → 12 < n + x → wX_bitsIn_4 post s dr cm lc lm lr lk ld tk rt dv dl lp lv ll mv ml hd n (nI (gp_ct (bt s) x)) (nI x) := by
  intro n
  induction n with
  | zero =>
    intro x h1 h2
    omega
  | succ n ih =>
    intro x hx hn
    by_cases h12 : x = 12
    · subst h12
      exact br_t (Int32.le_refl _) K
    · refine br_f (nI_ge (b := 12) (by omega) (by decide)) (nm_r (e' := nI (gp_ct (bt s) (x + 1))) ?_ (nm_r (nI_1 x) (ih (x + 1) (by omega) (by omega))))
      rw [gp_bit s (by omega), gp_ct_s]
      cases bt s x
      · exact Int32.add_zero _
      · exact nI_1 _
theorem gp_bitsIn {post : Int32 → Prop} {s : Int32} (K : post (nI (gp_ct (bt s) 12))) : wpX_bitsIn post (dr, cm, lc, lm, lr, lk, ld, tk, rt, dv, dl, lp, lv, ll, mv, ml, hd) s := ⟨13, gp_b4 K 13 0 (by decide) (by decide)⟩
theorem gp_u20 {post : Int32 → Prop} (hR : ∀ e, gp_Rg (gp_EL ld ml dl e)) (hh : ∀ h, h < 4 → gp_Rg (hd h)) (K : ∀ r, gp_Is r (gp_EL ld ml dl) (gp_Many rt hd) → post (r ||| cm)) : ∀ (n h : Nat) (s : Int32), h ≤ 4 → 4 < n + h → (∀ i, bt s i = true ↔ i < 12 ∧ (rt = nI i ∨ ∃ k, k < h ∧ hd k = nI i)) → wX_usedPlaces_20 post dr cm lc lm lr lk ld tk rt dv dl lp lv ll mv ml hd n s (nI h) := by
  intro n
  induction n with
  | zero =>
    intro h s h1 h2
    omega
  | succ n ih =>
    intro h s h4 hn hs
    by_cases e4 : h = 4
    · subst e4
      exact br_t (Int32.le_refl _) (gp_closure hR (A := gp_Many rt hd) hs (fun i hi => hi.1) K)
    · have h4' : h < 4 := by omega
      have hk := gp_k4 h4'
      refine br_f (nI_ge (b := 4) h4' (by decide)) ⟨gp_v4 h4', ?_⟩
      rw [hk]
      by_cases hn0 : hd h < 0
      · refine br_t hn0 (nm_r (nI_1 h) (ih (h + 1) s (by omega) (by omega) (fun i => ?_)))
        rw [hs i]
        refine and_congr_right (fun hi => or_congr Iff.rfl ⟨fun z => ?_, fun z => ?_⟩)
        · obtain ⟨k, k1, k2⟩ := z
          exact ⟨k, by omega, k2⟩
        · obtain ⟨k, k1, k2⟩ := z
          by_cases ek : k = h
          · rw [ek] at k2
            rw [k2] at hn0
            exact absurd hn0 (nI_pos (by omega))
          · exact ⟨k, by omega, k2⟩
      · obtain ⟨j, hj, ej⟩ := gp_Rg_pos (hh h h4') hn0
        refine br_f hn0 ⟨gp_v4 h4', nm_r (congrArg (fun z => s ||| ((1 : Int32) <<< (z &&& 31))) ej) (nm_r (nI_1 h) (ih (h + 1) _ (by omega) (by omega) (fun i => ?_)))⟩
        rw [gp_orb (by omega), hs i]
        constructor
        · intro z
          rcases z with z | z
          · refine ⟨z.1, z.2.imp id (fun z2 => ?_)⟩
            obtain ⟨k, k1, k2⟩ := z2
            exact ⟨k, by omega, k2⟩
          · rw [z]
            exact ⟨hj, Or.inr ⟨h, by omega, ej⟩⟩
        · intro z
          have z1 := z.1
          rcases z.2 with z2 | ⟨k, k1, k2⟩
          · exact Or.inl ⟨z1, Or.inl z2⟩
          · by_cases ek : k = h
            · rw [ek, ej] at k2
              exact Or.inr (gp_inj (by omega) (by omega) k2).symm
            · exact Or.inl ⟨z1, Or.inr ⟨k, by omega, k2⟩⟩
theorem gp_usedPlaces {post : Int32 → Prop} (hR : ∀ e, gp_Rg (gp_EL ld ml dl e)) (hrt : gp_Rg rt) (hh : ∀ h, h < 4 → gp_Rg (hd h)) (K : ∀ r, gp_Is r (gp_EL ld ml dl) (gp_Many rt hd) → post (r ||| cm)) : wpX_usedPlaces post (dr, cm, lc, lm, lr, lk, ld, tk, rt, dv, dl, lp, lv, ll, mv, ml, hd) := by
  have q : ∀ s, (∀ i, bt s i = true ↔ gp_One rt i) → ∀ i, bt s i = true ↔ i < 12 ∧ (rt = nI i ∨ ∃ k, k < 0 ∧ hd k = nI i) := by
    intro s h i
    rw [h i]
    refine and_congr_right (fun _ => ⟨Or.inl, fun z => ?_⟩)
    rcases z with z | ⟨k, k1, _⟩
    · exact z
    · omega
  by_cases h0 : 0 ≤ rt
  · exact br_t h0 (nm_e ⟨5, gp_u20 hR hh K 5 0 _ (by decide) (by decide) (q _ (gp_one_pos hrt h0))⟩)
  · exact br_f h0 ⟨5, gp_u20 hR hh K 5 0 _ (by decide) (by decide) (q _ (gp_one_neg hrt h0))⟩
theorem gp_f27 {post : Int32 → SX → Prop} (htk : ∃ i, i < 12 ∧ bt tk i = false) (K : ∀ x, x < 12 → bt tk x = false → post (nI x) (dr, cm, lc, lm, lr, lk, ld, tk, rt, dv, dl, lp, lv, ll, mv, ml, hd)) : ∀ (n x : Nat), x ≤ 11 → 11 < n + x → (∀ i, i < x → bt tk i = true) → wX_freePlace_27 post dr cm lc lm lr lk ld tk rt dv dl lp lv ll mv ml hd n (nI x) := by
  intro n
  induction n with
  | zero =>
    intro x h1 h2
    omega
  | succ n ih =>
    intro x hx hn hall
    by_cases h11 : x = 11
    · subst h11
      refine br_t (Int32.le_refl _) (K 11 (by decide) ?_)
      obtain ⟨i, hi, hf⟩ := htk
      by_cases e : i = 11
      · rw [← e]
        exact hf
      · rw [hall i (by omega)] at hf
        cases hf
    · refine br_f (nI_ge (b := 11) (by omega) (by decide)) ?_
      cases hb : bt tk x
      · exact br_t ((gp_t0 (by omega)).mpr hb) (K x (by omega) hb)
      · refine br_f (gp_nt0 (by omega) hb) (nm_r (nI_1 x) (ih (x + 1) (by omega) (by omega) (fun i hi => ?_)))
        by_cases e : i = x
        · rw [e]
          exact hb
        · exact hall i (by omega)
theorem gp_freePlace {post : Int32 → SX → Prop} {r : Int32} (hr : ∀ i, bt r i = true → i < 12) (hct : gp_ct (bt r) 12 < 12) (hrt : ∀ i, bt r i = true → bt tk i = true) (ht : ∀ i, bt tk i = true → i < 12)
    (K : ∀ (x : Nat) (ld' tk' : Int32), x < 12 → bt r x = false → (∀ i, bt r i = true → bt ld' i = bt ld i) → (∀ i, bt r i = true → bt tk' i = true) → (∀ i, bt tk' i = true → i < 12) → post (nI x) (dr, cm, lc, lm, lr, lk, ld', tk', rt, dv, dl, lp, lv, ll, mv, ml, hd)) : wpX_freePlace post (dr, cm, lc, lm, lr, lk, ld, tk, rt, dv, dl, lp, lv, ll, mv, ml, hd) r := by
  by_cases e : tk = 4095
  · refine br_t e (nm_e ⟨12, gp_f27 ?_ (fun x hx hb => K x _ _ hx hb (fun i hi => ?_) (fun i hi => hi) hr) 12 0 (by decide) (by decide) (fun i hi => absurd hi (Nat.not_lt_zero i))⟩)
    · refine Classical.byContradiction (fun hno => ?_)
      have h1 : gp_ct (fun _ => true) 12 ≤ gp_ct (bt r) 12 := gp_ct_le 12 (fun i hi _ => by
        cases hb : bt r i
        · exact absurd ⟨i, hi, hb⟩ hno
        · rfl)
      have h2 : gp_ct (fun _ => true) 12 = 12 := by decide
      omega
    · rw [b_and, hi, Bool.and_true]
  · refine br_f e ⟨12, gp_f27 ?_ (fun x hx hb => K x ld tk hx (gp_bf (fun z => by rw [hrt x z] at hb; cases hb)) (fun _ _ => rfl) hrt ht) 12 0 (by decide) (by decide) (fun i hi => absurd hi (Nat.not_lt_zero i))⟩
    refine Classical.byContradiction (fun hno => e (gp_full ht (fun i hi => ?_)))
    cases hb : bt tk i
    · exact absurd ⟨i, hi, hb⟩ hno
    · rfl
end
end
section
/-! the component's walks: bringing in, the log, the disk, restart -/
section
variable {dr cm lc lm lr lk ld tk rt : Int32} {dv dl lp lv ll mv ml hd : Nat → Int32}
theorem gp_bring {post : SX → Prop} {x : Nat} (hx : x < 12) (hdl : ∀ e, gp_Rg (dl e)) (hml : ∀ e, gp_Rg (ml e)) (K : ∀ (ld' : Int32) (mv' ml' : Nat → Int32), (∀ i, bt ld' i = true ↔ bt ld i = true ∨ i = x) → gp_EV ld' mv' dv = gp_EV ld mv dv → gp_EL ld' ml' dl = gp_EL ld ml dl → (∀ e, gp_Rg (ml' e)) → post (dr, cm, lc, lm, lr, lk, ld', tk, rt, dv, dl, lp, lv, ll, mv', ml', hd)) : wpX_bringIn post (dr, cm, lc, lm, lr, lk, ld, tk, rt, dv, dl, lp, lv, ll, mv, ml, hd) (nI x) := by
  cases hb : bt ld x
  · have hbit : ∀ i, bt (ld ||| ((1 : Int32) <<< (nI x &&& 31))) i = true ↔ bt ld i = true ∨ i = x := gp_orb (by omega)
    have hbf : ∀ i, bt (ld ||| ((1 : Int32) <<< (nI x &&& 31))) i = false → bt ld i = false := fun i h => gp_bf (fun z => by rw [(hbit i).mpr (Or.inl z)] at h; cases h)
    refine br_t ((gp_t0 (by omega)).mpr hb) (nm_e ⟨gp_v0 hx, gp_v0 hx, nm_r (e' := upd mv x (dv x)) (by rw [gp_k0 hx]) ⟨gp_v2 hx, gp_v2 hx, nm_r (e' := upd ml (2 * x) (dl (2 * x))) (by rw [gp_k2 hx, gp_Rg_nar (hdl _)]) ⟨gp_v21 hx, gp_v21 hx, nm_r (e' := upd (upd ml (2 * x) (dl (2 * x))) (2 * x + 1) (dl (2 * x + 1))) (by rw [gp_k21 hx, gp_Rg_nar (hdl _)]) (K _ _ _ hbit ?_ ?_ ?_)⟩⟩⟩)
    · refine gp_EV_eq (fun i => ⟨fun h => ?_, fun h => ?_⟩)
      · by_cases e : i = x
        · rw [e, pk_us, gp_EV_f hb]
        · rw [pk_un e, gp_EV_t (((hbit i).mp h).resolve_right e)]
      · rw [gp_EV_f (hbf i h)]
    · refine gp_EL_eq (fun i => ⟨fun h => ?_, fun h => ?_⟩)
      · by_cases e1 : i = 2 * x + 1
        · rw [e1, pk_us, gp_EL_f (by rw [show (2 * x + 1) / 2 = x from by omega]; exact hb)]
        · rw [pk_un e1]
          by_cases e0 : i = 2 * x
          · rw [e0, pk_us, gp_EL_f (by rw [show (2 * x) / 2 = x from by omega]; exact hb)]
          · rw [pk_un e0, gp_EL_t (((hbit (i / 2)).mp h).resolve_right (by omega))]
      · rw [gp_EL_f (hbf _ h)]
    · exact gp_Rg_u (gp_Rg_u hml (hdl _)) (hdl _)
  · exact br_f (gp_nt0 (by omega) hb) (K ld mv ml (fun i => ⟨Or.inl, fun h => h.elim id (fun e => by rw [e]; exact hb)⟩) rfl rfl hml)
theorem gp_differs {post : Int32 → Prop} {x : Nat} (hx : x < 12) (h1 : gp_Df cm (gp_EV ld mv dv) (gp_EL ld ml dl) dv dl x → post 1) (h0 : ¬ gp_Df cm (gp_EV ld mv dv) (gp_EL ld ml dl) dv dl x → post 0) : wpX_differs post (dr, cm, lc, lm, lr, lk, ld, tk, rt, dv, dl, lp, lv, ll, mv, ml, hd) (nI x) := by
  have e0 : (2 * x) / 2 = x := by omega
  have e1 : (2 * x + 1) / 2 = x := by omega
  cases hc : bt cm x
  · exact br_t ((gp_t0 (by omega)).mpr hc) (h1 (fun z => by rw [hc] at z; exact absurd z.1 (by decide)))
  · refine br_f (gp_nt0 (by omega) hc) ?_
    cases hl : bt ld x
    · exact br_t ((gp_t0 (by omega)).mpr hl) (h0 (fun z => z ⟨hc, gp_EV_f hl, gp_EL_f (by rw [e0]; exact hl), gp_EL_f (by rw [e1]; exact hl)⟩))
    · have g0 : gp_EV ld mv dv x = mv x := gp_EV_t hl
      have g1 : gp_EL ld ml dl (2 * x) = ml (2 * x) := gp_EL_t (by rw [e0]; exact hl)
      have g2 : gp_EL ld ml dl (2 * x + 1) = ml (2 * x + 1) := gp_EL_t (by rw [e1]; exact hl)
      refine br_f (gp_nt0 (by omega) hl) ⟨gp_v0 hx, gp_v0 hx, ?_⟩
      rw [gp_k0 hx, gp_k2 hx, gp_k21 hx]
      refine br_c (fun q0 => ⟨gp_v2 hx, gp_v2 hx, br_c (fun q1 => ⟨gp_v21 hx, gp_v21 hx, br_c (fun q2 => h0 (fun z => z ⟨hc, ?_, ?_, ?_⟩)) (fun q2 => h1 (fun z => q2 ?_))⟩) (fun q1 => h1 (fun z => q1 ?_))⟩) (fun q0 => h1 (fun z => q0 ?_))
      · rw [g0]; exact q0
      · rw [g1]; exact q1
      · rw [g2]; exact q2
      · rw [← g2]; exact z.2.2.2
      · rw [← g1]; exact z.2.2.1
      · rw [← g0]; exact z.2.1
theorem gp_p26 {post : Int32 → Prop} {r : Int32} (K : ∀ ch, (∀ i, bt ch i = true ↔ i < 12 ∧ bt r i = true ∧ gp_Df cm (gp_EV ld mv dv) (gp_EL ld ml dl) dv dl i) → post ch) : ∀ (n x : Nat) (s : Int32), x ≤ 12 → 12 < n + x → (∀ i, bt s i = true ↔ i < x ∧ bt r i = true ∧ gp_Df cm (gp_EV ld mv dv) (gp_EL ld ml dl) dv dl i) → wX_changedPlaces_26 post r dr cm lc lm lr lk ld tk rt dv dl lp lv ll mv ml hd n s (nI x) := by
  intro n
  induction n with
  | zero =>
    intro x s h1 h2
    omega
  | succ n ih =>
    intro x s hx hn hs
    by_cases h12 : x = 12
    · subst h12
      exact br_t (Int32.le_refl _) (K s hs)
    · have hx' : x < 12 := by omega
      have stay : ¬ (bt r x = true ∧ gp_Df cm (gp_EV ld mv dv) (gp_EL ld ml dl) dv dl x) → ∀ i, bt s i = true ↔ i < x + 1 ∧ bt r i = true ∧ gp_Df cm (gp_EV ld mv dv) (gp_EL ld ml dl) dv dl i := by
        intro hno i
        rw [hs i]
        constructor
        · intro z
          exact ⟨by omega, z.2⟩
        · intro z
          have z1 := z.1
          by_cases e : i = x
          · rw [e] at z
            exact absurd z.2 hno
          · exact ⟨by omega, z.2⟩
      refine br_f (nI_ge (b := 12) hx' (by decide)) ?_
      cases hb : bt r x
      · exact br_t ((gp_t0 (by omega)).mpr hb) (nm_r (nI_1 x) (ih (x + 1) s (by omega) (by omega) (stay (fun z => by rw [hb] at z; exact absurd z.1 (by decide)))))
      · refine br_f (gp_nt0 (by omega) hb) (gp_differs hx' (fun hD => ?_) (fun hD => ?_))
        · refine br_f (by decide) (nm_e (nm_r (nI_1 x) (ih (x + 1) _ (by omega) (by omega) (fun i => ?_))))
          rw [gp_orb (by omega), hs i]
          constructor
          · intro z
            rcases z with z | z
            · have z1 := z.1
              exact ⟨by omega, z.2⟩
            · rw [z]
              exact ⟨by omega, hb, hD⟩
          · intro z
            have z1 := z.1
            by_cases e : i = x
            · exact Or.inr e
            · exact Or.inl ⟨by omega, z.2⟩
        · exact br_t rfl (nm_r (nI_1 x) (ih (x + 1) s (by omega) (by omega) (stay (fun z => hD z.2))))
/-- the changed places of the reached ones -/
def gp_Ch (ch r cm : Int32) (V L dv dl : Nat → Int32) : Prop := ∀ i, bt ch i = true ↔ i < 12 ∧ bt r i = true ∧ gp_Df cm V L dv dl i
theorem gp_changedPlaces {post : Int32 → Prop} (hR : ∀ e, gp_Rg (gp_EL ld ml dl e)) (hrt : gp_Rg rt) (K : ∀ r ch, gp_Is r (gp_EL ld ml dl) (gp_One rt) → gp_Ch ch r cm (gp_EV ld mv dv) (gp_EL ld ml dl) dv dl → post ch) : wpX_changedPlaces post (dr, cm, lc, lm, lr, lk, ld, tk, rt, dv, dl, lp, lv, ll, mv, ml, hd) := by
  have k2 : ∀ r, gp_Is r (gp_EL ld ml dl) (gp_One rt) → ∃ n26, wX_changedPlaces_26 post r dr cm lc lm lr lk ld tk rt dv dl lp lv ll mv ml hd n26 0 0 := fun r hr => ⟨13, gp_p26 (fun ch hch => K r ch hr hch) 13 0 0 (by decide) (by decide) (fun i => ⟨fun h => absurd h (gp_0n i), fun h => absurd h.1 (Nat.not_lt_zero i)⟩)⟩
  by_cases h0 : 0 ≤ rt
  · refine br_t h0 ?_
    unfold wX_changedPlaces_18
    exact gp_closure hR (gp_one_pos hrt h0) (fun i h => h.1) k2
  · refine br_f h0 ?_
    unfold wX_changedPlaces_18
    exact gp_closure hR (gp_one_neg hrt h0) (fun i h => h.1) k2
theorem gp_writeMark {post : SX → Prop} (hR : ∀ e, gp_Rg (gp_EL ld ml dl e)) (hrt : gp_Rg rt) (K : ∀ r, gp_Is r (gp_EL ld ml dl) (gp_One rt) → post (dr, cm, lc, 1, rt, r, ld, tk, rt, dv, dl, lp, lv, ll, mv, ml, hd)) : wpX_writeMark post (dr, cm, lc, lm, lr, lk, ld, tk, rt, dv, dl, lp, lv, ll, mv, ml, hd) := by
  by_cases h0 : 0 ≤ rt
  · refine br_t h0 ?_
    unfold wX_writeMark_27
    exact gp_closure hR (gp_one_pos hrt h0) (fun i h => h.1) K
  · refine br_f h0 ?_
    unfold wX_writeMark_27
    exact gp_closure hR (gp_one_neg hrt h0) (fun i h => h.1) K
theorem gp_xreach {post : Int32 → Prop} (hR : ∀ e, gp_Rg (gp_EL ld ml dl e)) (hrt : gp_Rg rt) (K : ∀ r, gp_Is r (gp_EL ld ml dl) (gp_One rt) → post (nI (gp_ct (bt r) 12))) : wpX_reachable post (dr, cm, lc, lm, lr, lk, ld, tk, rt, dv, dl, lp, lv, ll, mv, ml, hd) := by
  by_cases h0 : 0 ≤ rt
  · refine br_t h0 ?_
    unfold wX_reachable_18
    exact gp_closure hR (gp_one_pos hrt h0) (fun i h => h.1) (fun r hr => gp_bitsIn (K r hr))
  · refine br_f h0 ?_
    unfold wX_reachable_18
    exact gp_closure hR (gp_one_neg hrt h0) (fun i h => h.1) (fun r hr => gp_bitsIn (K r hr))
/-- what stands in the log, and that all changed places below x stand there -/
def gp_Lg (ch : Int32) (V L : Nat → Int32) (ld : Int32) (c : Nat) (lp lv ll : Nat → Int32) : Prop := ∀ k, k < c → ∃ x, x < 12 ∧ lp k = nI x ∧ bt ch x = true ∧ bt ld x = true ∧ lv k = V x ∧ ll (2 * k) = L (2 * x) ∧ ll (2 * k + 1) = L (2 * x + 1)
def gp_Lc (ch : Int32) (x c : Nat) (lp : Nat → Int32) : Prop := ∀ i, i < x → bt ch i = true → ∃ k, k < c ∧ lp k = nI i
theorem gp_w12 {post : SX → Prop} {ch : Int32} {st : Nat} (hst : st < 2 ^ 31) {V L : Nat → Int32} (hdl : ∀ e, gp_Rg (dl e))
    (K : ∀ (x c : Nat) (ld : Int32) (lp lv ll mv ml : Nat → Int32), x ≤ 12 → c = gp_ct (bt ch) x → (x = 12 ∨ st ≤ c) → gp_Lg ch V L ld c lp lv ll → gp_Lc ch x c lp → gp_EV ld mv dv = V → gp_EL ld ml dl = L → (∀ e, gp_Rg (ml e)) → post (dr, cm, nI c, lm, lr, lk, ld, tk, rt, dv, dl, lp, lv, ll, mv, ml, hd)) :
    ∀ (n x c : Nat) (ld : Int32) (lp lv ll mv ml : Nat → Int32), x ≤ 12 → 12 < n + x → c = gp_ct (bt ch) x → gp_Lg ch V L ld c lp lv ll → gp_Lc ch x c lp → gp_EV ld mv dv = V → gp_EL ld ml dl = L → (∀ e, gp_Rg (ml e)) → wX_writeLog_12 post ch (nI st) n (nI x) dr cm (nI c) lm lr lk ld tk rt dv dl lp lv ll mv ml hd := by
  intro n
  induction n with
  | zero =>
    intro x c ld lp lv ll mv ml h1 h2
    omega
  | succ n ih =>
    intro x c ld lp lv ll mv ml hx hn hc hLg hLc hV hL hml
    have hcx : c ≤ x := by rw [hc]; exact gp_ct_n _ _
    by_cases h12 : x = 12
    · subst h12
      exact br_t (Int32.le_refl _) (K 12 c ld lp lv ll mv ml hx hc (Or.inl rfl) hLg hLc hV hL hml)
    · have hx' : x < 12 := by omega
      have hc' : c < 12 := by omega
      refine br_f (nI_ge (b := 12) hx' (by decide)) (pk_le st c (fun h => K x c ld lp lv ll mv ml hx hc (Or.inr h) hLg hLc hV hL hml) (fun _ => ?_))
      cases hb : bt ch x
      · refine br_t ((gp_t0 (by omega)).mpr hb) (nm_r (nI_1 x) (ih (x + 1) c ld lp lv ll mv ml (by omega) (by omega) (by rw [gp_ct_f hb]; exact hc) hLg (fun i hi hbi => ?_) hV hL hml))
        by_cases e : i = x
        · rw [e, hb] at hbi
          cases hbi
        · exact hLc i (by omega) hbi
      · refine br_f (gp_nt0 (by omega) hb) (gp_bring hx' hdl hml (fun ld1 mv1 ml1 q1 q2 q3 q4 => ?_))
        have hlx : bt ld1 x = true := (q1 x).mpr (Or.inr rfl)
        have wv : mv1 x = V x := by rw [← hV, ← q2, gp_EV_t hlx]
        have w0 : ml1 (2 * x) = L (2 * x) := by rw [← hL, ← q3, gp_EL_t (by rw [show (2 * x) / 2 = x from by omega]; exact hlx)]
        have w1 : ml1 (2 * x + 1) = L (2 * x + 1) := by rw [← hL, ← q3, gp_EL_t (by rw [show (2 * x + 1) / 2 = x from by omega]; exact hlx)]
        refine ⟨gp_v0 hc', nm_r (e' := upd lp c (nI x)) (by rw [gp_k0 hc', gp_i8t x hx', gp_Rg_nar (gp_Rg_n hx')]) ⟨gp_v0 hx', gp_v0 hc', nm_r (e' := upd lv c (mv1 x)) (by rw [gp_k0 hc', gp_k0 hx']) ⟨gp_v2 hx', gp_v2 hc', nm_r (e' := upd ll (2 * c) (ml1 (2 * x))) (by rw [gp_k2 hc', gp_k2 hx', gp_Rg_nar (q4 _)]) ⟨gp_v21 hx', gp_v21 hc', nm_r (e' := upd (upd ll (2 * c) (ml1 (2 * x))) (2 * c + 1) (ml1 (2 * x + 1))) (by rw [gp_k21 hc', gp_k21 hx', gp_Rg_nar (q4 _)]) (nm_r (nI_1 c) (nm_r (nI_1 x) (ih (x + 1) (c + 1) ld1 _ _ _ mv1 ml1 (by omega) (by omega) (by rw [gp_ct_t hb, hc]) (fun k hk => ?_) (fun i hi hbi => ?_) (q2.trans hV) (q3.trans hL) q4)))⟩⟩⟩⟩
        · by_cases e : k = c
          · rw [e, pk_us, pk_us, pk_us, pk_un (show 2 * c ≠ 2 * c + 1 by omega), pk_us]
            exact ⟨x, hx', rfl, hb, hlx, wv, w0, w1⟩
          · rw [pk_un e, pk_un e, pk_un (show 2 * k ≠ 2 * c + 1 by omega), pk_un (show 2 * k ≠ 2 * c by omega), pk_un (show 2 * k + 1 ≠ 2 * c + 1 by omega), pk_un (show 2 * k + 1 ≠ 2 * c by omega)]
            obtain ⟨x2, a1, a2, a3, a4, a5⟩ := hLg k (by omega)
            exact ⟨x2, a1, a2, a3, (q1 x2).mpr (Or.inl a4), a5⟩
        · by_cases e : i = x
          · exact ⟨c, by omega, by rw [pk_us, e]⟩
          · obtain ⟨k, k1, k2⟩ := hLc i (by omega) hbi
            exact ⟨k, by omega, by rw [pk_un (show k ≠ c by omega)]; exact k2⟩
theorem gp_writeLog {post : SX → Prop} {ch : Int32} {st : Nat} (hst : st < 2 ^ 31) (hdl : ∀ e, gp_Rg (dl e)) (hml : ∀ e, gp_Rg (ml e))
    (K : ∀ (x c : Nat) (ld' : Int32) (lp' lv' ll' mv' ml' : Nat → Int32), x ≤ 12 → c = gp_ct (bt ch) x → (x = 12 ∨ st ≤ c) → gp_Lg ch (gp_EV ld mv dv) (gp_EL ld ml dl) ld' c lp' lv' ll' → gp_Lc ch x c lp' → gp_EV ld' mv' dv = gp_EV ld mv dv → gp_EL ld' ml' dl = gp_EL ld ml dl → (∀ e, gp_Rg (ml' e)) → post (dr, cm, nI c, 0, lr, lk, ld', tk, rt, dv, dl, lp', lv', ll', mv', ml', hd)) : wpX_writeLog post (dr, cm, lc, lm, lr, lk, ld, tk, rt, dv, dl, lp, lv, ll, mv, ml, hd) ch (nI st) :=
  ⟨13, gp_w12 (V := gp_EV ld mv dv) (L := gp_EL ld ml dl) hst hdl K 13 0 0 ld lp lv ll mv ml (by decide) (by decide) rfl (fun k hk => absurd hk (Nat.not_lt_zero k)) (fun i hi => absurd hi (Nat.not_lt_zero i)) rfl rfl hml⟩
/-- the first k entries of the log have been moved -/
def gp_Mv (lp V L : Nat → Int32) (k : Nat) (dv dl : Nat → Int32) : Prop := ∀ k' x, k' < k → x < 12 → lp k' = nI x → dv x = V x ∧ dl (2 * x) = L (2 * x) ∧ dl (2 * x + 1) = L (2 * x + 1)
/-- the disk off the changed places is as it was -/
def gp_Off (ch : Int32) (dv0 dl0 dv dl : Nat → Int32) : Prop := (∀ i, bt ch i = false → dv i = dv0 i) ∧ (∀ e, bt ch (e / 2) = false → dl e = dl0 e)
theorem gp_m2 {post : SX → Prop} {ch ld0 : Int32} {st c : Nat} (hst : st < 2 ^ 31) (hc : c ≤ 12) {V L dv0 dl0 : Nat → Int32} (hLg : gp_Lg ch V L ld0 c lp lv ll) (hRL : ∀ e, gp_Rg (L e))
    (K : ∀ (dr cm : Int32) (dv dl : Nat → Int32), gp_Off ch dv0 dl0 dv dl → (∀ e, gp_Rg (dl e)) → (c ≤ st → dr = lr ∧ cm = lk ∧ gp_Mv lp V L c dv dl) → post (dr, cm, nI c, lm, lr, lk, ld, tk, rt, dv, dl, lp, lv, ll, mv, ml, hd)) :
    ∀ (n k : Nat) (dv dl : Nat → Int32), k ≤ c → c < n + k → gp_Off ch dv0 dl0 dv dl → (∀ e, gp_Rg (dl e)) → gp_Mv lp V L k dv dl → wX_moveData_2 post (nI st) dr cm (nI c) lm lr lk ld tk rt n (nI k) dv dl lp lv ll mv ml hd := by
  intro n
  induction n with
  | zero =>
    intro k dv dl h1 h2
    omega
  | succ n ih =>
    intro k dv dl hk hn hO hRd hM
    have exit76 : (c ≤ st → k = c) → wX_moveData_76 post (nI st) dr cm (nI c) lm lr lk ld tk rt dv dl lp lv ll mv ml hd := by
      intro hkc
      refine pk_le c st (fun h => K lr lk dv dl hO hRd (fun _ => ⟨rfl, rfl, ?_⟩)) (fun h => K dr cm dv dl hO hRd (fun h2 => by omega))
      rw [← hkc h]
      exact hM
    refine pk_le c k (fun h => exit76 (fun _ => by omega)) (fun hkc => ?_)
    refine pk_le st k (fun h => exit76 (fun _ => by omega)) (fun hks => ?_)
    have hk' : k < 12 := by omega
    obtain ⟨x, hx, e1, hch, _, e2, e3, e4⟩ := hLg k hkc
    refine ⟨gp_v0 hk', nm_r (e' := nI x) (by rw [gp_k0 hk']; exact e1) ⟨gp_v0 hk', gp_v0 hx, nm_r (e' := upd dv x (V x)) (by rw [gp_k0 hk', gp_k0 hx, e2]) ⟨gp_v2 hk', gp_v2 hx, nm_r (e' := upd dl (2 * x) (L (2 * x))) (by rw [gp_k2 hk', gp_k2 hx, e3, gp_Rg_nar (hRL _)]) ⟨gp_v21 hk', gp_v21 hx, nm_r (e' := upd (upd dl (2 * x) (L (2 * x))) (2 * x + 1) (L (2 * x + 1))) (by rw [gp_k21 hk', gp_k21 hx, e4, gp_Rg_nar (hRL _)]) (nm_r (nI_1 k) (ih (k + 1) _ _ (by omega) (by omega) ⟨fun i hi => ?_, fun e he => ?_⟩ (gp_Rg_u (gp_Rg_u hRd (hRL _)) (hRL _)) (fun k' x' hk2 hx' e5 => ?_)))⟩⟩⟩⟩
    · have n1 : i ≠ x := by
        intro z
        rw [z, hch] at hi
        cases hi
      rw [pk_un n1]
      exact hO.1 i hi
    · have n1 : e / 2 ≠ x := by
        intro z
        rw [z, hch] at he
        cases he
      rw [pk_un (show e ≠ 2 * x + 1 by omega), pk_un (show e ≠ 2 * x by omega)]
      exact hO.2 e he
    · by_cases ex : x' = x
      · rw [ex, pk_us, pk_us, pk_un (show 2 * x ≠ 2 * x + 1 by omega), pk_us]
        exact ⟨rfl, rfl, rfl⟩
      · have n2 : k' ≠ k := by
          intro z
          rw [z, e1] at e5
          exact ex (gp_inj (by omega) (by omega) e5).symm
        rw [pk_un ex, pk_un (show 2 * x' ≠ 2 * x + 1 by omega), pk_un (show 2 * x' ≠ 2 * x by omega), pk_un (show 2 * x' + 1 ≠ 2 * x + 1 by omega), pk_un (show 2 * x' + 1 ≠ 2 * x by omega)]
        exact hM k' x' (by omega) hx' e5
theorem gp_moveData {post : SX → Prop} {ch ld0 : Int32} {st c : Nat} (hst : st < 2 ^ 31) (hc : c ≤ 12) {V L dv0 dl0 : Nat → Int32} (hLg : gp_Lg ch V L ld0 c lp lv ll) (hRL : ∀ e, gp_Rg (L e)) (hO : gp_Off ch dv0 dl0 dv dl) (hRd : ∀ e, gp_Rg (dl e))
    (K : ∀ (dr' cm' : Int32) (dv' dl' : Nat → Int32), gp_Off ch dv0 dl0 dv' dl' → (∀ e, gp_Rg (dl' e)) → (c ≤ st → dr' = lr ∧ cm' = lk ∧ gp_Mv lp V L c dv' dl') → post (dr', cm', nI c, lm, lr, lk, ld, tk, rt, dv', dl', lp, lv, ll, mv, ml, hd)) : wpX_moveData post (dr, cm, nI c, lm, lr, lk, ld, tk, rt, dv, dl, lp, lv, ll, mv, ml, hd) (nI st) :=
  ⟨c + 1, gp_m2 (dr := dr) (cm := cm) hst hc hLg hRL K (c + 1) 0 dv dl (by omega) (by omega) hO hRd (fun k' x hk => absurd hk (Nat.not_lt_zero k'))⟩
theorem gp_dsk {ch r cm : Int32} {V L dv' dl' : Nat → Int32} {c : Nat} (hch : gp_Ch ch r cm V L dv dl) (hLc : gp_Lc ch 12 c lp) (hMv : gp_Mv lp V L c dv' dl') (hO : gp_Off ch dv dl dv' dl') : ∀ x, x < 12 → bt r x = true → dv' x = V x ∧ ∀ w, w < 2 → dl' (2 * x + w) = L (2 * x + w) := by
  intro x hx hr
  have q : dv' x = V x ∧ dl' (2 * x) = L (2 * x) ∧ dl' (2 * x + 1) = L (2 * x + 1) := by
    cases hb : bt ch x
    · have hD : ¬ gp_Df cm V L dv dl x := fun z => by rw [(hch x).mpr ⟨hx, hr, z⟩] at hb; cases hb
      obtain ⟨_, h1, h2, h3⟩ := Classical.not_not.mp hD
      rw [hO.1 x hb, hO.2 (2 * x) (by rw [show (2 * x) / 2 = x from by omega]; exact hb), hO.2 (2 * x + 1) (by rw [show (2 * x + 1) / 2 = x from by omega]; exact hb)]
      exact ⟨h1.symm, h2.symm, h3.symm⟩
    · obtain ⟨k, k1, k2⟩ := hLc x hx hb
      exact hMv k x k1 hx k2
  refine ⟨q.1, fun w hw => ?_⟩
  have hw2 : w = 0 ∨ w = 1 := by omega
  rcases hw2 with rfl | rfl
  · exact q.2.1
  · exact q.2.2
theorem gp_r23 {post : SX → Prop} (K : ∀ hd : Nat → Int32, (∀ h, h < 4 → hd h = -1) → post (dr, cm, lc, lm, lr, lk, ld, tk, rt, dv, dl, lp, lv, ll, mv, ml, hd)) : ∀ (n h : Nat) (hd : Nat → Int32), h ≤ 4 → 4 < n + h → (∀ k, k < h → hd k = -1) → wX_restartProgram_23 post dr cm lc lm lr lk ld tk rt n (nI h) dv dl lp lv ll mv ml hd := by
  intro n
  induction n with
  | zero =>
    intro h hd h1 h2
    omega
  | succ n ih =>
    intro h hd h4 hn hall
    by_cases e4 : h = 4
    · subst e4
      exact br_t (Int32.le_refl _) (K hd hall)
    · have h4' : h < 4 := by omega
      refine br_f (nI_ge (b := 4) h4' (by decide)) ⟨gp_v4 h4', nm_r (e' := upd hd h (-1)) (by rw [gp_k4 h4', gp_Rg_nar gp_Rg_m1]) (nm_r (nI_1 h) (ih (h + 1) _ (by omega) (by omega) (fun k hk => ?_)))⟩
      by_cases e : k = h
      · rw [e, pk_us]
      · rw [pk_un e]
        exact hall k (by omega)
theorem gp_restart {post : SX → Prop} (K : ∀ hd' : Nat → Int32, (∀ h, h < 4 → hd' h = -1) → post (dr, cm, lc, lm, lr, lk, 0, cm, dr, dv, dl, lp, lv, ll, mv, ml, hd')) : wpX_restartProgram post (dr, cm, lc, lm, lr, lk, ld, tk, rt, dv, dl, lp, lv, ll, mv, ml, hd) :=
  ⟨5, gp_r23 K 5 0 hd (by decide) (by decide) (fun k hk => absurd hk (Nat.not_lt_zero k))⟩
end
end
section
/-! the reference's walks -/
section
variable {yr yo : Int32} {yv yt yh ov ot : Nat → Int32}
theorem gp_yh0 {post : Int32 → Prop} {p : Int32} (h : gp_NH p) (k : post 0) : wpY_isHandle post (yr, yo, yv, yt, yh, ov, ot) p := by
  by_cases h0 : p < 0
  · exact br_t h0 k
  · exact br_f h0 (br_t (h.resolve_left h0) k)
theorem gp_yh1 {post : Int32 → Prop} {h : Nat} (hh : h < 4) (k : post 1) : wpY_isHandle post (yr, yo, yv, yt, yh, ov, ot) (nI h) :=
  br_f (nI_pos (by omega)) (br_f (nI_nlt (a := 3) (b := h) (by omega) (by decide)) k)
theorem gp_ybit {post : Int32 → Prop} {a : Int32} (ha : gp_Rg a) (K : ∀ s, (∀ i, bt s i = true ↔ gp_One a i) → post s) : wpY_bit post (yr, yo, yv, yt, yh, ov, ot) a := by
  by_cases h0 : 0 ≤ a
  · exact br_t h0 (K _ (gp_one_pos ha h0))
  · exact br_f h0 (K _ (gp_one_neg ha h0))
theorem gp_yin {post : Int32 → Prop} {s : Int32} {x : Nat} (hx : x < 12) (h1 : bt s x = true → post 1) (h0 : bt s x = false → post 0) : wpY_in post (yr, yo, yv, yt, yh, ov, ot) s (nI x) := by
  cases hb : bt s x
  · exact br_f (fun z => by rw [gp_t1 (by omega), hb] at z; cases z) (h0 hb)
  · exact br_t ((gp_t1 (by omega)).mpr hb) (h1 hb)
theorem gp_s43 {post : Int32 → Prop} {J5 J15 : Int32 → Int32 → Prop} {x2 x4 s t : Int32} {G : Nat → Int32} (hR : ∀ e, gp_Rg (G e)) {k : Nat} (hk : k < 24) (hP : gp_Pk G s t k) (K : ∀ t', gp_Pk G s t' (k + 1) → J15 t' (nI (k + 1))) : wY_spread_43 post J5 J15 x2 t x4 (nI k) (G k) yr yo yv yt yh ov ot := by
  refine And.intro (by decide) ?_
  have e : nI k / 2 = nI (k / 2) := pk_div (d := 2) (by omega) (by decide) (by decide)
  rw [e]
  refine gp_yin (by omega) (fun hb => br_f (by decide) ?_) (fun hb => br_t rfl (nm_r (nI_1 k) (K t (gp_Pk_skip hP (Or.inl hb)))))
  by_cases h : G k < 0
  · exact br_t h (nm_r (nI_1 k) (K t (gp_Pk_skip hP (Or.inr h))))
  · obtain ⟨j, hj, ej⟩ := gp_Rg_pos (hR k) h
    refine br_f h (nm_r (congrArg (fun z => t ||| ((1 : Int32) <<< (z &&& 31))) ej) (nm_r (nI_1 k) (K _ (gp_Pk_add hP hk hb hj ej))))
theorem gp_s15 {post : Int32 → Prop} {J5 : Int32 → Int32 → Prop} {x2 x4 s : Int32} {G : Nat → Int32} (hG : (x2 = 0 ∧ G = ot) ∨ (¬ x2 = 0 ∧ G = yt)) (hR : ∀ e, gp_Rg (G e)) (K : ∀ t, gp_Pk G s t 24 → J5 t (x4 + 1)) : ∀ (n k : Nat) (t : Int32), k ≤ 24 → 24 < n + k → gp_Pk G s t k → wY_spread_15 post J5 x2 x4 yr yo yv yt yh ov ot n t (nI k) := by
  intro n
  induction n with
  | zero =>
    intro k t h1 h2
    omega
  | succ n ih =>
    intro k t hk hn hP
    by_cases h24 : k = 24
    · subst h24
      exact br_t (Int32.le_refl _) (nm_e (K t hP))
    · have hk' : k < 24 := by omega
      have hcl : (nI k).toNatClampNeg = k := gp_cl (by omega)
      have hv : vp_in (nI k) 24 := vp_in_nI hk' (by decide)
      have k43 := gp_s43 (yr := yr) (yo := yo) (yv := yv) (yt := yt) (yh := yh) (ov := ov) (ot := ot) (post := post) (J5 := J5) (J15 := wY_spread_15 post J5 x2 x4 yr yo yv yt yh ov ot n) (x2 := x2) (x4 := x4) hR hk' hP (fun t' ht' => ih (k + 1) t' (by omega) (by omega) ht')
      refine br_f (nI_ge (b := 24) hk' (by decide)) ?_
      rw [hcl]
      rcases hG with ⟨h0, hG⟩ | ⟨h0, hG⟩
      · rw [hG] at k43
        exact br_t h0 ⟨hv, k43⟩
      · rw [hG] at k43
        exact br_f h0 ⟨hv, k43⟩
theorem gp_s5 {post : Int32 → Prop} {x2 s : Int32} {G : Nat → Int32} (hG : (x2 = 0 ∧ G = ot) ∨ (¬ x2 = 0 ∧ G = yt)) (hR : ∀ e, gp_Rg (G e)) (hs : ∀ i, bt s i = true → i < 12) (K : ∀ t, gp_Clo G s t → post t) : ∀ (n k : Nat) (t : Int32), k ≤ 12 → 12 < n + k → gp_Sp G s t → (gp_Cl G (fun i => bt t i = true) ∨ k ≤ gp_ct (bt t) 12) → wY_spread_5 post x2 yr yo yv yt yh ov ot n t (nI k) := by
  intro n
  induction n with
  | zero =>
    intro k t h1 h2
    omega
  | succ n ih =>
    intro k t hk hn hS hc
    by_cases h12 : k = 12
    · subst h12
      exact br_t (Int32.le_refl _) (K t ⟨hS, hc.elim id gp_fullcl⟩)
    · refine br_f (nI_ge (b := 12) (by omega) (by decide)) ⟨25, gp_s15 hG hR (s := t) (fun t' hP => ?_) 25 0 t (by decide) (by decide) gp_Pk_0⟩
      rw [nI_1 k]
      refine ih (k + 1) t' (by omega) (by omega) (gp_Sp_t hS hP.1) ?_
      rcases hc with hc | hc
      · exact Or.inl (gp_Pk_cl hP (fun i hi => hP.1.2 _ hc (fun _ h => h) i hi))
      · exact (gp_grow hP (gp_Sp_lt (gp_Sp_t hS hP.1) hs)).imp id (fun h => by omega)
theorem gp_spread {post : Int32 → Prop} {x2 s : Int32} {G : Nat → Int32} {A : Nat → Prop} (hG : (x2 = 0 ∧ G = ot) ∨ (¬ x2 = 0 ∧ G = yt)) (hR : ∀ e, gp_Rg (G e)) (hA : ∀ i, bt s i = true ↔ A i) (hA12 : ∀ i, A i → i < 12) (K : ∀ t, gp_Is t G A → post t) : wpY_spread post (yr, yo, yv, yt, yh, ov, ot) s x2 :=
  ⟨13, gp_s5 hG hR (fun i hi => hA12 i ((hA i).mp hi)) (fun t ht => K t (gp_Clo_Is ht hA)) 13 0 s (by decide) (by decide) gp_Sp_r (Or.inr (Nat.zero_le _))⟩
theorem gp_ycomm {post : Int32 → Prop} (hot : ∀ e, gp_Rg (ot e)) (hyo : gp_Rg yo) (K : ∀ r, gp_Is r ot (gp_One yo) → post r) : wpY_committed post (yr, yo, yv, yt, yh, ov, ot) := by
  unfold wpY_committed
  dsimp only
  exact gp_ybit hyo (fun s hs => gp_spread (Or.inl ⟨rfl, rfl⟩) hot hs (fun i h => h.1) K)
theorem gp_yreached {post : Int32 → Prop} (hyt : ∀ e, gp_Rg (yt e)) (hyr : gp_Rg yr) (K : ∀ r, gp_Is r yt (gp_One yr) → post r) : wpY_reached post (yr, yo, yv, yt, yh, ov, ot) := by
  unfold wpY_reached
  dsimp only
  exact gp_ybit hyr (fun s hs => gp_spread (Or.inr ⟨by decide, rfl⟩) hyt hs (fun i h => h.1) K)
theorem gp_y11 {post : Int32 → Prop} (hyt : ∀ e, gp_Rg (yt e)) (hot : ∀ e, gp_Rg (ot e)) (hyo : gp_Rg yo) (hh : ∀ h, h < 4 → gp_Rg (yh h)) (K : ∀ r co, gp_Is r yt (gp_Many yr yh) → gp_Is co ot (gp_One yo) → post (r ||| co)) : ∀ (n h : Nat) (s : Int32), h ≤ 4 → 4 < n + h → (∀ i, bt s i = true ↔ i < 12 ∧ (yr = nI i ∨ ∃ k, k < h ∧ yh k = nI i)) → wY_used_11 post yr yo yv yt yh ov ot n s (nI h) := by
  intro n
  induction n with
  | zero =>
    intro h s h1 h2
    omega
  | succ n ih =>
    intro h s h4 hn hs
    by_cases e4 : h = 4
    · subst e4
      exact br_t (Int32.le_refl _) (gp_spread (A := gp_Many yr yh) (Or.inr ⟨by decide, rfl⟩) hyt hs (fun i hi => hi.1) (fun r hr => gp_ycomm hot hyo (fun co hco => K r co hr hco)))
    · have h4' : h < 4 := by omega
      have hk := gp_k4 h4'
      refine br_f (nI_ge (b := 4) h4' (by decide)) ⟨gp_v4 h4', ?_⟩
      rw [hk]
      refine gp_ybit (hh h h4') (fun s2 hs2 => nm_e (nm_r (nI_1 h) (ih (h + 1) _ (by omega) (by omega) (fun i => ?_))))
      rw [b_or, Bool.or_eq_true, hs i, hs2 i]
      constructor
      · intro z
        rcases z with z | z
        · refine ⟨z.1, z.2.imp id (fun z2 => ?_)⟩
          obtain ⟨k, k1, k2⟩ := z2
          exact ⟨k, by omega, k2⟩
        · exact ⟨z.1, Or.inr ⟨h, by omega, z.2⟩⟩
      · intro z
        rcases z.2 with z2 | ⟨k, k1, k2⟩
        · exact Or.inl ⟨z.1, Or.inl z2⟩
        · by_cases ek : k = h
          · rw [ek] at k2
            exact Or.inr ⟨z.1, k2⟩
          · exact Or.inl ⟨z.1, Or.inr ⟨k, by omega, k2⟩⟩
theorem gp_yused {post : Int32 → Prop} (hyt : ∀ e, gp_Rg (yt e)) (hot : ∀ e, gp_Rg (ot e)) (hyr : gp_Rg yr) (hyo : gp_Rg yo) (hh : ∀ h, h < 4 → gp_Rg (yh h)) (K : ∀ r co, gp_Is r yt (gp_Many yr yh) → gp_Is co ot (gp_One yo) → post (r ||| co)) : wpY_used post (yr, yo, yv, yt, yh, ov, ot) := by
  unfold wpY_used
  dsimp only
  refine gp_ybit hyr (fun s hs => ⟨5, gp_y11 hyt hot hyo hh K 5 0 s (by decide) (by decide) (fun i => ?_)⟩)
  rw [hs i]
  refine and_congr_right (fun _ => ⟨Or.inl, fun z => ?_⟩)
  rcases z with z | ⟨k, k1, _⟩
  · exact z
  · omega
theorem gp_z4 {post : Int32 → Prop} {s : Int32} (K : post (nI (gp_ct (bt s) 12))) : ∀ (n x : Nat), x ≤ 12 → 12 < n + x → wY_sizeOf_4 post s yr yo yv yt yh ov ot n (nI (gp_ct (bt s) x)) (nI x) := by
  intro n
  induction n with
  | zero =>
    intro x h1 h2
    omega
  | succ n ih =>
    intro x hx hn
    by_cases h12 : x = 12
    · subst h12
      exact br_t (Int32.le_refl _) K
    · have hi := ih (x + 1) (by omega) (by omega)
      refine br_f (nI_ge (b := 12) (by omega) (by decide)) (gp_yin (by omega) (fun hb => br_f (by decide) (nm_r (nI_1 _) (nm_r (nI_1 x) ?_))) (fun hb => br_t rfl (nm_r (nI_1 x) ?_)))
      · rw [gp_ct_t hb] at hi
        exact hi
      · rw [gp_ct_f hb] at hi
        exact hi
theorem gp_sizeOf {post : Int32 → Prop} {s : Int32} (K : post (nI (gp_ct (bt s) 12))) : wpY_sizeOf post (yr, yo, yv, yt, yh, ov, ot) s := ⟨13, gp_z4 K 13 0 (by decide) (by decide)⟩
theorem gp_yreach {post : Int32 → Prop} (hyt : ∀ e, gp_Rg (yt e)) (hyr : gp_Rg yr) (K : ∀ r, gp_Is r yt (gp_One yr) → post (nI (gp_ct (bt r) 12))) : wpY_reachable post (yr, yo, yv, yt, yh, ov, ot) := by
  unfold wpY_reachable
  dsimp only
  exact gp_yreached hyt hyr (fun r hr => gp_sizeOf (K r hr))
theorem gp_y18 {post : Int32 → SY → Prop} {h : Nat} (hh : h < 4) {v s : Int32} (K1 : ∀ y, y < 12 → bt s y = false → post (nI h) (yr, yo, upd yv y v, upd (upd yt (2 * y) (-1)) (2 * y + 1) (-1), upd yh h (nI y), ov, ot)) (K2 : (∀ y, y < 12 → bt s y = true) → post (-2) (yr, yo, yv, yt, yh, ov, ot)) : ∀ (n y : Nat), y ≤ 12 → 12 < n + y → (∀ i, i < y → bt s i = true) → wY_make_18 post (nI h) v s yr yo yv yt yh ov ot n (nI y) := by
  intro n
  induction n with
  | zero =>
    intro y h1 h2
    omega
  | succ n ih =>
    intro y hy hn hall
    by_cases h12 : y = 12
    · subst h12
      exact br_t (Int32.le_refl _) (K2 hall)
    · have hy' : y < 12 := by omega
      refine br_f (nI_ge (b := 12) hy' (by decide)) (gp_yin hy' (fun hb => br_f (by decide) (nm_r (nI_1 y) (ih (y + 1) (by omega) (by omega) (fun i hi => ?_)))) (fun hb => br_t rfl ?_))
      · by_cases e : i = y
        · rw [e]
          exact hb
        · exact hall i (by omega)
      · exact ⟨gp_v0 hy', nm_r (e' := upd yv y v) (by rw [gp_k0 hy']) ⟨gp_v2 hy', nm_r (e' := upd yt (2 * y) (-1)) (by rw [gp_k2 hy']) ⟨gp_v21 hy', nm_r (e' := upd (upd yt (2 * y) (-1)) (2 * y + 1) (-1)) (by rw [gp_k21 hy']) ⟨gp_v4 hh, nm_r (e' := upd yh h (nI y)) (by rw [gp_k4 hh]) (K1 y hy' hb)⟩⟩⟩⟩
theorem gp_y90 {post : Int32 → Prop} {J15 : Int32 → Int32 → Prop} {r co z : Int32} {g : Nat → Bool} {y : Nat} (hy : y < 12) (hg : g y = true ↔ bt r y = true ∧ ¬ (bt co y = true ∧ ¬ z = 0)) (K : J15 (nI (gp_ct g (y + 1))) (nI (y + 1))) : wY_changed_90 post J15 r co (nI (gp_ct g y)) (nI y) z yr yo yv yt yh ov ot := by
  have up : g y = true → nI (gp_ct g y) + 1 = nI (gp_ct g (y + 1)) := fun h => by rw [gp_ct_t h, nI_1]
  have st : g y = false → nI (gp_ct g y) = nI (gp_ct g (y + 1)) := fun h => by rw [gp_ct_f h]
  unfold wY_changed_90
  refine gp_yin hy (fun hb => br_f (by decide) ?_) (fun hb => br_t rfl (nm_r (nI_1 y) ?_))
  · refine gp_yin hy (fun hc => br_f (by decide) ?_) (fun hc => br_t rfl ?_)
    · refine br_c (fun hz => ?_) (fun hz => ?_)
      · exact nm_r (up (hg.mpr ⟨hb, fun q => q.2 hz⟩)) (nm_r (nI_1 y) K)
      · have h0 : g y = false := gp_bf (fun q => (hg.mp q).2 ⟨hc, hz⟩)
        rw [st h0]
        exact nm_r (nI_1 y) K
    · exact nm_r (up (hg.mpr ⟨hb, fun q => by rw [hc] at q; exact absurd q.1 (by decide)⟩)) (nm_r (nI_1 y) K)
  · have h0 : g y = false := gp_bf (fun q => by rw [hb] at hg; exact absurd (hg.mp q).1 (by decide))
    rw [st h0]
    exact K
theorem gp_y15 {post : Int32 → Prop} {r co : Int32} {g : Nat → Bool} (hg : ∀ y, y < 12 → (g y = true ↔ bt r y = true ∧ gp_Df co yv yt ov ot y)) (K : post (nI (gp_ct g 12))) : ∀ (n y : Nat), y ≤ 12 → 12 < n + y → wY_changed_15 post r co yr yo yv yt yh ov ot n (nI (gp_ct g y)) (nI y) := by
  intro n
  induction n with
  | zero =>
    intro y h1 h2
    omega
  | succ n ih =>
    intro y hy hn
    by_cases h12 : y = 12
    · subst h12
      exact br_t (Int32.le_refl _) K
    · have hy' : y < 12 := by omega
      have hi := ih (y + 1) (by omega) (by omega)
      have hgy := hg y hy'
      have k0 : ¬ (yv y = ov y ∧ yt (2 * y) = ot (2 * y) ∧ yt (2 * y + 1) = ot (2 * y + 1)) → wY_changed_90 post (wY_changed_15 post r co yr yo yv yt yh ov ot n) r co (nI (gp_ct g y)) (nI y) 0 yr yo yv yt yh ov ot := by
        intro hno
        refine gp_y90 hy' ?_ hi
        rw [hgy]
        exact and_congr_right (fun _ => ⟨fun _ q => q.2 rfl, fun _ q => hno q.2⟩)
      have k1 : (yv y = ov y ∧ yt (2 * y) = ot (2 * y) ∧ yt (2 * y + 1) = ot (2 * y + 1)) → wY_changed_90 post (wY_changed_15 post r co yr yo yv yt yh ov ot n) r co (nI (gp_ct g y)) (nI y) 1 yr yo yv yt yh ov ot := by
        intro hyes
        refine gp_y90 hy' ?_ hi
        rw [hgy]
        exact and_congr_right (fun _ => ⟨fun q z => q ⟨z.1, hyes⟩, fun q z => q ⟨z.1, by decide⟩⟩)
      refine br_f (nI_ge (b := 12) hy' (by decide)) ⟨gp_v0 hy', gp_v0 hy', ?_⟩
      rw [gp_k0 hy', gp_k2 hy', gp_k21 hy']
      exact br_c (fun q0 => ⟨gp_v2 hy', gp_v2 hy', br_c (fun q1 => ⟨gp_v21 hy', gp_v21 hy', br_c (fun q2 => k1 ⟨q0, q1, q2⟩) (fun q2 => k0 (fun z => q2 z.2.2))⟩) (fun q1 => k0 (fun z => q1 z.2.1))⟩) (fun q0 => k0 (fun z => q0 z.1))
theorem gp_ychanged {post : Int32 → Prop} (hyt : ∀ e, gp_Rg (yt e)) (hot : ∀ e, gp_Rg (ot e)) (hyr : gp_Rg yr) (hyo : gp_Rg yo) (K : ∀ r co (g : Nat → Bool), gp_Is r yt (gp_One yr) → gp_Is co ot (gp_One yo) → (∀ y, y < 12 → (g y = true ↔ bt r y = true ∧ gp_Df co yv yt ov ot y)) → post (nI (gp_ct g 12))) : wpY_changed post (yr, yo, yv, yt, yh, ov, ot) := by
  unfold wpY_changed
  dsimp only
  refine gp_yreached hyt hyr (fun r hr => gp_ycomm hot hyo (fun co hco => ?_))
  have hg : ∀ y, y < 12 → ((fun y => @decide (bt r y = true ∧ gp_Df co yv yt ov ot y) (Classical.propDecidable _)) y = true ↔ bt r y = true ∧ gp_Df co yv yt ov ot y) := fun y _ => @decide_eq_true_iff _ (Classical.propDecidable _)
  exact ⟨13, gp_y15 hg (K r co _ hr hco hg) 13 0 (by decide) (by decide)⟩
/-- what has been copied below o of the set s -/
def gp_Cp (s : Int32) (o : Nat) (v l v' l' : Nat → Int32) : Prop := ∀ y, y < o → bt s y = true → v' y = v y ∧ l' (2 * y) = l (2 * y) ∧ l' (2 * y + 1) = l (2 * y + 1)
theorem gp_Cp_w {s : Int32} {v l v' l' : Nat → Int32} (h : gp_Cp s 12 v l v' l') : ∀ y, y < 12 → bt s y = true → v' y = v y ∧ ∀ w, w < 2 → l' (2 * y + w) = l (2 * y + w) := by
  intro y hy hb
  have q := h y hy hb
  refine ⟨q.1, fun w hw => ?_⟩
  have hw2 : w = 0 ∨ w = 1 := by omega
  rcases hw2 with rfl | rfl
  · exact q.2.1
  · exact q.2.2
theorem gp_Cp_f {s : Int32} {o : Nat} {v l v' l' : Nat → Int32} (h : gp_Cp s o v l v' l') (hb : bt s o = false) : gp_Cp s (o + 1) v l v' l' := by
  intro y hy hby
  by_cases e : y = o
  · rw [e, hb] at hby
    cases hby
  · exact h y (by omega) hby
theorem gp_Cp_t {s : Int32} {o : Nat} {v l v' l' : Nat → Int32} (h : gp_Cp s o v l v' l') : gp_Cp s (o + 1) v l (upd v' o (v o)) (upd (upd l' (2 * o) (l (2 * o))) (2 * o + 1) (l (2 * o + 1))) := by
  intro y hy hby
  by_cases e : y = o
  · rw [e, pk_us, pk_us, pk_un (show 2 * o ≠ 2 * o + 1 by omega), pk_us]
    exact ⟨rfl, rfl, rfl⟩
  · rw [pk_un e, pk_un (show 2 * y ≠ 2 * o + 1 by omega), pk_un (show 2 * y ≠ 2 * o by omega), pk_un (show 2 * y + 1 ≠ 2 * o + 1 by omega), pk_un (show 2 * y + 1 ≠ 2 * o by omega)]
    exact h y (by omega) hby
theorem gp_y20 {post : Int32 → SY → Prop} {q r : Int32} (hyt : ∀ e, gp_Rg (yt e)) (K : ∀ ov ot : Nat → Int32, gp_Cp r 12 yv yt ov ot → (∀ e, gp_Rg (ot e)) → post q (yr, yo, yv, yt, yh, ov, ot)) : ∀ (n o : Nat) (ov ot : Nat → Int32), o ≤ 12 → 12 < n + o → gp_Cp r o yv yt ov ot → (∀ e, gp_Rg (ot e)) → wY_commit_20 post q r yr yo n (nI o) yv yt yh ov ot := by
  intro n
  induction n with
  | zero =>
    intro o ov ot h1 h2
    omega
  | succ n ih =>
    intro o ov ot ho hn hC hR
    by_cases h12 : o = 12
    · subst h12
      exact br_t (Int32.le_refl _) (K ov ot hC hR)
    · have ho' : o < 12 := by omega
      refine br_f (nI_ge (b := 12) ho' (by decide)) (gp_yin ho' (fun hb => br_f (by decide) ?_) (fun hb => br_t rfl (nm_r (nI_1 o) (ih (o + 1) ov ot (by omega) (by omega) (gp_Cp_f hC hb) hR))))
      exact ⟨gp_v0 ho', gp_v0 ho', nm_r (e' := upd ov o (yv o)) (by rw [gp_k0 ho']) ⟨gp_v2 ho', gp_v2 ho', nm_r (e' := upd ot (2 * o) (yt (2 * o))) (by rw [gp_k2 ho']) ⟨gp_v21 ho', gp_v21 ho', nm_r (e' := upd (upd ot (2 * o) (yt (2 * o))) (2 * o + 1) (yt (2 * o + 1))) (by rw [gp_k21 ho']) (nm_r (nI_1 o) (ih (o + 1) _ _ (by omega) (by omega) (gp_Cp_t hC) (gp_Rg_u (gp_Rg_u hR (hyt _)) (hyt _))))⟩⟩⟩
theorem gp_ycommit {post : Int32 → SY → Prop} (hyt : ∀ e, gp_Rg (yt e)) (hot : ∀ e, gp_Rg (ot e)) (hyr : gp_Rg yr) (hyo : gp_Rg yo) (K : ∀ r co (g : Nat → Bool) (ov' ot' : Nat → Int32), gp_Is r yt (gp_One yr) → gp_Is co ot (gp_One yo) → (∀ y, y < 12 → (g y = true ↔ bt r y = true ∧ gp_Df co yv yt ov ot y)) → (∀ y, y < 12 → bt r y = true → ov' y = yv y ∧ ∀ w, w < 2 → ot' (2 * y + w) = yt (2 * y + w)) → (∀ e, gp_Rg (ot' e)) → post (nI (gp_ct g 12)) (yr, yr, yv, yt, yh, ov', ot')) : wpY_commit post (yr, yo, yv, yt, yh, ov, ot) := by
  unfold wpY_commit
  dsimp only
  refine gp_ychanged hyt hot hyr hyo (fun r co g hr hco hg => gp_yreached hyt hyr (fun r2 hr2 => ⟨13, gp_y20 hyt (fun ov' ot' hC hR => K r co g ov' ot' hr hco hg (fun y hy hb => gp_Cp_w hC y hy ?_) hR) 13 0 ov ot (by decide) (by decide) (fun y hy => absurd hy (Nat.not_lt_zero y)) hot⟩))
  rw [hr2 y, ← hr y]
  exact hb
theorem gp_y2 {post : SY → Prop} (K : ∀ yh : Nat → Int32, (∀ h, h < 4 → yh h = -1) → post (yr, yo, yv, yt, yh, ov, ot)) : ∀ (n h : Nat) (yh : Nat → Int32), h ≤ 4 → 4 < n + h → (∀ k, k < h → yh k = -1) → wY_forget_2 post yr yo n (nI h) yv yt yh ov ot := by
  intro n
  induction n with
  | zero =>
    intro h yh h1 h2
    omega
  | succ n ih =>
    intro h yh h4 hn hall
    by_cases e4 : h = 4
    · subst e4
      exact br_t (Int32.le_refl _) (K yh hall)
    · have h4' : h < 4 := by omega
      refine br_f (nI_ge (b := 4) h4' (by decide)) ⟨gp_v4 h4', nm_r (e' := upd yh h (-1)) (by rw [gp_k4 h4']) (nm_r (nI_1 h) (ih (h + 1) _ (by omega) (by omega) (fun k hk => ?_)))⟩
      by_cases e : k = h
      · rw [e, pk_us]
      · rw [pk_un e]
        exact hall k (by omega)
theorem gp_forget {post : SY → Prop} (K : ∀ yh' : Nat → Int32, (∀ h, h < 4 → yh' h = -1) → post (yr, yo, yv, yt, yh', ov, ot)) : wpY_forget post (yr, yo, yv, yt, yh, ov, ot) :=
  ⟨5, gp_y2 K 5 0 yh (by decide) (by decide) (fun k hk => absurd hk (Nat.not_lt_zero k))⟩
theorem gp_y19 {post : Int32 → SY → Prop} {co : Int32} (hot : ∀ e, gp_Rg (ot e)) (K : ∀ yv yt : Nat → Int32, gp_Cp co 12 ov ot yv yt → (∀ e, gp_Rg (yt e)) → post (nI (gp_ct (bt co) 12)) (yr, yo, yv, yt, yh, ov, ot)) : ∀ (n o : Nat) (yv yt : Nat → Int32), o ≤ 12 → 12 < n + o → gp_Cp co o ov ot yv yt → (∀ e, gp_Rg (yt e)) → wY_abort_19 post co yr yo n (nI o) yv yt yh ov ot := by
  intro n
  induction n with
  | zero =>
    intro o yv yt h1 h2
    omega
  | succ n ih =>
    intro o yv yt ho hn hC hR
    by_cases h12 : o = 12
    · subst h12
      exact br_t (Int32.le_refl _) (gp_sizeOf (K yv yt hC hR))
    · have ho' : o < 12 := by omega
      refine br_f (nI_ge (b := 12) ho' (by decide)) (gp_yin ho' (fun hb => br_f (by decide) ?_) (fun hb => br_t rfl (nm_r (nI_1 o) (ih (o + 1) yv yt (by omega) (by omega) (gp_Cp_f hC hb) hR))))
      exact ⟨gp_v0 ho', gp_v0 ho', nm_r (e' := upd yv o (ov o)) (by rw [gp_k0 ho']) ⟨gp_v2 ho', gp_v2 ho', nm_r (e' := upd yt (2 * o) (ot (2 * o))) (by rw [gp_k2 ho']) ⟨gp_v21 ho', gp_v21 ho', nm_r (e' := upd (upd yt (2 * o) (ot (2 * o))) (2 * o + 1) (ot (2 * o + 1))) (by rw [gp_k21 ho']) (nm_r (nI_1 o) (ih (o + 1) _ _ (by omega) (by omega) (gp_Cp_t hC) (gp_Rg_u (gp_Rg_u hR (hot _)) (hot _))))⟩⟩⟩
theorem gp_yabort {post : Int32 → SY → Prop} (hyt : ∀ e, gp_Rg (yt e)) (hot : ∀ e, gp_Rg (ot e)) (hyo : gp_Rg yo) (K : ∀ co (yv' yt' yh' : Nat → Int32), gp_Is co ot (gp_One yo) → (∀ h, h < 4 → yh' h = -1) → (∀ y, y < 12 → bt co y = true → yv' y = ov y ∧ ∀ w, w < 2 → yt' (2 * y + w) = ot (2 * y + w)) → (∀ e, gp_Rg (yt' e)) → post (nI (gp_ct (bt co) 12)) (yo, yo, yv', yt', yh', ov, ot)) : wpY_abort post (yr, yo, yv, yt, yh, ov, ot) := by
  unfold wpY_abort
  dsimp only
  exact gp_ycomm hot hyo (fun co hco => gp_forget (fun yh' hyh => ⟨13, gp_y19 hot (fun yv' yt' hC hR => K co yv' yt' yh' hco hyh (gp_Cp_w hC) hR) 13 0 yv yt (by decide) (by decide) (fun y hy => absurd hy (Nat.not_lt_zero y)) hyt⟩))
end
end
section
/-! the relation and the small calls (statements: what is owed) -/
def gp_Rel (dr cm ld tk rt : Int32) (dv dl mv ml hd : Nat → Int32) (yr yo : Int32) (yv yt yh ov ot : Nat → Int32) : Prop :=
  (∀ e, gp_Rg (ml e)) ∧ (∀ e, gp_Rg (dl e)) ∧ (∀ e, gp_Rg (yt e)) ∧ (∀ e, gp_Rg (ot e)) ∧ gp_R dr cm tk rt (gp_EV ld mv dv) (gp_EL ld ml dl) dv dl hd yr yo yv yt yh ov ot
def i_Rel (k : Nat) (u : SX) (v : SY) : Prop := match u, v with
  | (dr, cm, lc, lm, lr, lk, ld, tk, rt, dv, dl, lp, lv, ll, mv, ml, hd), (yr, yo, yv, yt, yh, ov, ot) => gp_Rel dr cm ld tk rt dv dl mv ml hd yr yo yv yt yh ov ot
theorem i_up {k : Nat} {u : SX} {v : SY} (h : i_Rel k u v) : i_Rel (k + 4) u v := h
section
variable {k : Nat} {dr cm lc lm lr lk ld tk rt yr yo : Int32} {dv dl lp lv ll mv ml hd yv yt yh ov ot : Nat → Int32}
theorem gp_mk (h1 : ∀ e, gp_Rg (ml e)) (h2 : ∀ e, gp_Rg (dl e)) (h3 : ∀ e, gp_Rg (yt e)) (h4 : ∀ e, gp_Rg (ot e)) (h5 : gp_R dr cm tk rt (gp_EV ld mv dv) (gp_EL ld ml dl) dv dl hd yr yo yv yt yh ov ot) : i_Rel k (dr, cm, lc, lm, lr, lk, ld, tk, rt, dv, dl, lp, lv, ll, mv, ml, hd) (yr, yo, yv, yt, yh, ov, ot) := And.intro h1 (And.intro h2 (And.intro h3 (And.intro h4 h5)))
theorem gp_un (h : i_Rel k (dr, cm, lc, lm, lr, lk, ld, tk, rt, dv, dl, lp, lv, ll, mv, ml, hd) (yr, yo, yv, yt, yh, ov, ot)) : (∀ e, gp_Rg (ml e)) ∧ (∀ e, gp_Rg (dl e)) ∧ (∀ e, gp_Rg (yt e)) ∧ (∀ e, gp_Rg (ot e)) ∧ gp_R dr cm tk rt (gp_EV ld mv dv) (gp_EL ld ml dl) dv dl hd yr yo yv yt yh ov ot := h
theorem gp_i79 {post : SX → Prop} (K : ∀ hd : Nat → Int32, (∀ h, h < 4 → hd h = -1) → post (dr, cm, lc, lm, lr, lk, ld, tk, rt, dv, dl, lp, lv, ll, mv, ml, hd)) : ∀ (n h : Nat) (hd : Nat → Int32), h ≤ 4 → 4 < n + h → (∀ k, k < h → hd k = -1) → wX_init_79 post dr cm lc lm lr lk ld tk rt n (nI h) dv dl lp lv ll mv ml hd := by
  intro n
  induction n with
  | zero =>
    intro h hd h1 h2
    omega
  | succ n ih =>
    intro h hd h4 hn hall
    by_cases e4 : h = 4
    · subst e4
      exact br_t (Int32.le_refl _) (K hd hall)
    · have h4' : h < 4 := by omega
      refine br_f (nI_ge (b := 4) h4' (by decide)) ⟨gp_v4 h4', nm_r (e' := upd hd h (-1)) (by rw [gp_k4 h4', gp_Rg_nar gp_Rg_m1]) (nm_r (nI_1 h) (ih (h + 1) _ (by omega) (by omega) (fun k hk => ?_)))⟩
      by_cases e : k = h
      · rw [e, pk_us]
      · rw [pk_un e]
        exact hall k (by omega)
end
theorem gp_nw {A B : Prop} {p : Int32} (h : gp_NW p) (a : A) : (p < 0 → A) ∧ (¬ p < 0 → ((p ≤ 1 → B) ∧ (¬ p ≤ 1 → A))) := by
  by_cases h0 : p < 0
  · exact br_t h0 a
  · exact br_f h0 (br_f (h.resolve_left h0) a)
theorem gp_yw {A B : Prop} {w : Nat} (hw : w < 2) (b : B) : (nI w < 0 → A) ∧ (¬ nI w < 0 → ((nI w ≤ 1 → B) ∧ (¬ nI w ≤ 1 → A))) :=
  br_f (nI_pos (by omega)) (br_t (nI_le (b := 1) (by omega) (by decide)) b)
theorem i_vc0 : wpX_init (fun u => wpY_init (fun v => i_Rel 0 u v)) := by
  refine ⟨5, gp_i79 (fun hd hhd => ?_) 5 0 _ (by decide) (by decide) (fun k hk => absurd hk (Nat.not_lt_zero k))⟩
  unfold wpY_init
  refine gp_forget (fun yh hyh => ?_)
  refine gp_mk (fun _ => gp_Rg_0) (fun _ => gp_Rg_0) (fun _ => gp_Rg_0) (fun _ => gp_Rg_0) ⟨fun _ _ => False, fun _ _ => False, ?_⟩
  refine ⟨fun x y x' y' h => absurd h (by simp), fun x y h => h.elim, fun x y h => h.elim, gp_PE_1, fun h hh => ?_, gp_PE_1, fun i => ⟨fun h => absurd h (gp_0n i), fun h => ?_⟩, fun x y h => h.elim, fun x y h => h.elim, fun x h => absurd h (gp_0n x), fun x h => absurd h (gp_0n x)⟩
  · rw [hhd h hh, hyh h hh]
    exact gp_PE_1
  · refine (h (fun _ => False) (fun _ _ _ _ _ h => h) (fun x hx => ?_)).elim
    have h1 := hx.1
    exact gp_nm1 (by omega) hx.2.symm
theorem i_vc_getRoot {k : Nat} {u : SX} {v : SY} (I : i_Rel k u v) (hk : k + 4 ≤ 2048) (v1 : Int32) : wpX_getRoot (fun r u' => wpY_getRoot (fun r' v' => r' = r ∧ i_Rel (k + 4) u' v') v v1) u v1 := by
  obtain ⟨dr, cm, lc, lm, lr, lk, ld, tk, rt, dv, dl, lp, lv, ll, mv, ml, hd⟩ := u
  obtain ⟨yr, yo, yv, yt, yh, ov, ot⟩ := v
  obtain ⟨hml, hdl, hyt, hot, W, C, R⟩ := gp_un I
  have hp := R.2.2.2.1
  have hrt := gp_PE_l hp
  unfold wpX_getRoot wpY_getRoot
  dsimp only
  rcases gp_hc v1 with hn | ⟨h, hh, rfl⟩
  · exact gp_xh0 hn (br_t rfl (gp_yh0 hn (br_t rfl ⟨rfl, i_up I⟩)))
  · have J : i_Rel (k + 4) (dr, cm, lc, lm, lr, lk, ld, tk, rt, dv, dl, lp, lv, ll, mv, ml, upd hd h rt) (yr, yo, yv, yt, upd yh h yr, ov, ot) := gp_mk hml hdl hyt hot (gp_hdR R hp)
    refine gp_xh1 hh (br_f (by decide) ⟨gp_v4 hh, nm_r (e' := upd hd h rt) (by rw [gp_k4 hh, gp_Rg_i8 hrt, gp_Rg_nar hrt]) ?_⟩)
    by_cases h0 : 0 ≤ rt
    · exact br_t h0 (gp_yh1 hh (br_f (by decide) ⟨gp_v4 hh, nm_r (e' := upd yh h yr) (by rw [gp_k4 hh]) (br_t ((gp_PE_z hp).mp h0) ⟨rfl, J⟩)⟩))
    · exact br_f h0 (gp_yh1 hh (br_f (by decide) ⟨gp_v4 hh, nm_r (e' := upd yh h yr) (by rw [gp_k4 hh]) (br_f (fun z => h0 ((gp_PE_z hp).mpr z)) ⟨rfl, J⟩)⟩))
theorem i_vc_setRoot {k : Nat} {u : SX} {v : SY} (I : i_Rel k u v) (hk : k + 4 ≤ 2048) (v1 : Int32) : wpX_setRoot (fun r u' => wpY_setRoot (fun r' v' => r' = r ∧ i_Rel (k + 4) u' v') v v1) u v1 := by
  obtain ⟨dr, cm, lc, lm, lr, lk, ld, tk, rt, dv, dl, lp, lv, ll, mv, ml, hd⟩ := u
  obtain ⟨yr, yo, yv, yt, yh, ov, ot⟩ := v
  obtain ⟨hml, hdl, hyt, hot, W, C, R⟩ := gp_un I
  unfold wpX_setRoot wpY_setRoot
  dsimp only
  rcases gp_hc v1 with hn | ⟨h, hh, rfl⟩
  · exact gp_xh0 hn (br_t rfl (gp_yh0 hn (br_t rfl ⟨rfl, i_up I⟩)))
  · have hp := R.2.2.2.2.1 h hh
    have J : i_Rel (k + 4) (dr, cm, lc, lm, lr, lk, ld, tk, hd h, dv, dl, lp, lv, ll, mv, ml, hd) (yh h, yo, yv, yt, yh, ov, ot) := gp_mk hml hdl hyt hot (gp_rtR R hp)
    refine gp_xh1 hh (br_f (by decide) ⟨gp_v4 hh, nm_r (e' := hd h) (by rw [gp_k4 hh]) ?_⟩)
    by_cases h0 : 0 ≤ hd h
    · exact br_t h0 (gp_yh1 hh (br_f (by decide) ⟨gp_v4 hh, nm_r (e' := yh h) (by rw [gp_k4 hh]) (br_t ((gp_PE_z hp).mp h0) ⟨rfl, J⟩)⟩))
    · exact br_f h0 (gp_yh1 hh (br_f (by decide) ⟨gp_v4 hh, nm_r (e' := yh h) (by rw [gp_k4 hh]) (br_f (fun z => h0 ((gp_PE_z hp).mpr z)) ⟨rfl, J⟩)⟩))
theorem i_vc_drop {k : Nat} {u : SX} {v : SY} (I : i_Rel k u v) (hk : k + 4 ≤ 2048) (v1 : Int32) : wpX_drop (fun r u' => wpY_drop (fun r' v' => r' = r ∧ i_Rel (k + 4) u' v') v v1) u v1 := by
  obtain ⟨dr, cm, lc, lm, lr, lk, ld, tk, rt, dv, dl, lp, lv, ll, mv, ml, hd⟩ := u
  obtain ⟨yr, yo, yv, yt, yh, ov, ot⟩ := v
  obtain ⟨hml, hdl, hyt, hot, W, C, R⟩ := gp_un I
  unfold wpX_drop wpY_drop
  dsimp only
  rcases gp_hc v1 with hn | ⟨h, hh, rfl⟩
  · exact gp_xh0 hn (br_t rfl (gp_yh0 hn (br_t rfl ⟨rfl, i_up I⟩)))
  · have hp := R.2.2.2.2.1 h hh
    have J : i_Rel (k + 4) (dr, cm, lc, lm, lr, lk, ld, tk, rt, dv, dl, lp, lv, ll, mv, ml, upd hd h (-1)) (yr, yo, yv, yt, upd yh h (-1), ov, ot) := gp_mk hml hdl hyt hot (gp_hdR R gp_PE_1)
    refine gp_xh1 hh (br_f (by decide) ⟨gp_v4 hh, nm_r (e' := hd h) (by rw [gp_k4 hh]) ⟨gp_v4 hh, nm_r (e' := upd hd h (-1)) (by rw [gp_k4 hh, gp_Rg_nar gp_Rg_m1]) ?_⟩⟩)
    rw [gp_k4 hh]
    by_cases h0 : 0 ≤ hd h
    · exact br_t h0 (gp_yh1 hh (br_f (by decide) ⟨gp_v4 hh, br_t ((gp_PE_z hp).mp h0) ⟨gp_v4 hh, nm_e ⟨rfl, J⟩⟩⟩))
    · exact br_f h0 (gp_yh1 hh (br_f (by decide) ⟨gp_v4 hh, br_f (fun z => h0 ((gp_PE_z hp).mpr z)) ⟨gp_v4 hh, nm_e ⟨rfl, J⟩⟩⟩))
theorem i_vc_same {k : Nat} {u : SX} {v : SY} (I : i_Rel k u v) (hk : k + 4 ≤ 2048) (v1 : Int32) (v2 : Int32) : wpX_same (fun r => wpY_same (fun r' => r' = r ∧ i_Rel (k + 4) u v) v v1 v2) u v1 v2 := by
  obtain ⟨dr, cm, lc, lm, lr, lk, ld, tk, rt, dv, dl, lp, lv, ll, mv, ml, hd⟩ := u
  obtain ⟨yr, yo, yv, yt, yh, ov, ot⟩ := v
  obtain ⟨hml, hdl, hyt, hot, W, C, R⟩ := gp_un I
  unfold wpX_same wpY_same
  dsimp only
  rcases gp_hc v1 with hn | ⟨h, hh, rfl⟩
  · exact gp_xh0 hn (br_t rfl (gp_yh0 hn (br_t rfl ⟨rfl, i_up I⟩)))
  · rcases gp_hc v2 with hn | ⟨g, hg, rfl⟩
    · exact gp_xh1 hh (br_f (by decide) (gp_xh0 hn (br_t rfl (gp_yh1 hh (br_f (by decide) (gp_yh0 hn (br_t rfl ⟨rfl, i_up I⟩)))))))
    · have hp := R.2.2.2.2.1 h hh
      have hq := R.2.2.2.2.1 g hg
      have hpq := gp_PE_e (gp_Bj_m R.1 (fun _ _ z => Or.inl z)) hp hq
      refine gp_xh1 hh (br_f (by decide) (gp_xh1 hg (br_f (by decide) ⟨gp_v4 hh, ?_⟩)))
      rw [gp_k4 hh, gp_k4 hg]
      by_cases h0 : hd h < 0
      · exact br_t h0 (gp_yh1 hh (br_f (by decide) (gp_yh1 hg (br_f (by decide) ⟨gp_v4 hh, br_t ((gp_PE_n hp).mp h0) ⟨rfl, i_up I⟩⟩))))
      · have h0' : ¬ yh h < 0 := fun z => h0 ((gp_PE_n hp).mpr z)
        refine br_f h0 ⟨gp_v4 hh, gp_v4 hg, ?_⟩
        by_cases e : hd h = hd g
        · exact br_t e (gp_yh1 hh (br_f (by decide) (gp_yh1 hg (br_f (by decide) ⟨gp_v4 hh, br_f h0' ⟨gp_v4 hh, gp_v4 hg, br_t (hpq.mp e) ⟨rfl, i_up I⟩⟩⟩))))
        · exact br_f e (gp_yh1 hh (br_f (by decide) (gp_yh1 hg (br_f (by decide) ⟨gp_v4 hh, br_f h0' ⟨gp_v4 hh, gp_v4 hg, br_f (fun z => e (hpq.mpr z)) ⟨rfl, i_up I⟩⟩⟩))))
theorem i_vc_value {k : Nat} {u : SX} {v : SY} (I : i_Rel k u v) (hk : k + 4 ≤ 2048) (v1 : Int32) : wpX_value (fun r u' => wpY_value (fun r' => r' = r ∧ i_Rel (k + 4) u' v) v v1) u v1 := by
  obtain ⟨dr, cm, lc, lm, lr, lk, ld, tk, rt, dv, dl, lp, lv, ll, mv, ml, hd⟩ := u
  obtain ⟨yr, yo, yv, yt, yh, ov, ot⟩ := v
  obtain ⟨hml, hdl, hyt, hot, W, C, R⟩ := gp_un I
  unfold wpX_value wpY_value
  dsimp only
  rcases gp_hc v1 with hn | ⟨h, hh, rfl⟩
  · exact gp_xh0 hn (br_t rfl (gp_yh0 hn (br_t rfl ⟨rfl, i_up I⟩)))
  · refine gp_xh1 hh (br_f (by decide) ⟨gp_v4 hh, ?_⟩)
    rw [gp_k4 hh]
    rcases R.2.2.2.2.1 h hh with ⟨e1, e2⟩ | ⟨x, y, hx, hy, e1, e2, hw⟩
    · rw [e1, e2]
      exact br_f (by decide) (gp_yh1 hh (br_f (by decide) ⟨gp_v4 hh, br_t (by decide) ⟨rfl, i_up I⟩⟩))
    · rw [e1, e2]
      refine br_t (nI_pos' (by omega)) ⟨gp_v4 hh, nm_e (gp_bring hx hdl hml (fun ld1 mv1 ml1 q1 q2 q3 q4 => ?_))⟩
      refine ⟨gp_v0 hx, gp_yh1 hh (br_f (by decide) ⟨gp_v4 hh, br_f (nI_pos (by omega)) ⟨gp_v4 hh, gp_v0 hy, ?_, ?_⟩⟩)⟩
      · rw [gp_k0 hx, gp_k0 hy, ← (R.2.1 x y hw).2.2.1, ← q2, gp_EV_t ((q1 x).mpr (Or.inr rfl))]
      · refine gp_mk q4 hdl hyt hot ?_
        rw [q2, q3]
        exact ⟨W, C, R⟩
theorem i_vc_setValue {k : Nat} {u : SX} {v : SY} (I : i_Rel k u v) (hk : k + 4 ≤ 2048) (v1 : Int32) (v2 : Int32) : wpX_setValue (fun r u' => wpY_setValue (fun r' v' => r' = r ∧ i_Rel (k + 4) u' v') v v1 v2) u v1 v2 := by
  obtain ⟨dr, cm, lc, lm, lr, lk, ld, tk, rt, dv, dl, lp, lv, ll, mv, ml, hd⟩ := u
  obtain ⟨yr, yo, yv, yt, yh, ov, ot⟩ := v
  obtain ⟨hml, hdl, hyt, hot, W, C, R⟩ := gp_un I
  unfold wpX_setValue wpY_setValue
  dsimp only
  rcases gp_hc v1 with hn | ⟨h, hh, rfl⟩
  · exact gp_xh0 hn (br_t rfl (gp_yh0 hn (br_t rfl ⟨rfl, i_up I⟩)))
  · refine gp_xh1 hh (br_f (by decide) ⟨gp_v4 hh, ?_⟩)
    rw [gp_k4 hh]
    rcases R.2.2.2.2.1 h hh with ⟨e1, e2⟩ | ⟨x, y, hx, hy, e1, e2, hw⟩
    · rw [e1, e2]
      exact br_f (by decide) (gp_yh1 hh (br_f (by decide) ⟨gp_v4 hh, br_f (by decide) ⟨rfl, i_up I⟩⟩))
    · rw [e1, e2]
      refine br_t (nI_pos' (by omega)) ⟨gp_v4 hh, nm_e (gp_bring hx hdl hml (fun ld1 mv1 ml1 q1 q2 q3 q4 => ?_))⟩
      refine ⟨gp_v0 hx, nm_r (e' := upd mv1 x v2) (by rw [gp_k0 hx]) (gp_yh1 hh (br_f (by decide) ⟨gp_v4 hh, br_t (nI_pos' (by omega)) ⟨gp_v4 hh, gp_v0 hy, nm_r (e' := upd yv y v2) (by rw [gp_k0 hy]) ⟨rfl, ?_⟩⟩⟩))⟩
      refine gp_mk q4 hdl hyt hot ?_
      have hlx : bt ld1 x = true := (q1 x).mpr (Or.inr rfl)
      have ev : gp_EV ld1 (upd mv1 x v2) dv = upd (gp_EV ld mv dv) x v2 := by
        rw [← q2]
        refine gp_EV_eq (fun i => ⟨fun hi => ?_, fun hi => ?_⟩)
        · by_cases e : i = x
          · rw [e, pk_us, pk_us]
          · rw [pk_un e, pk_un e, gp_EV_t hi]
        · have n1 : i ≠ x := by
            intro e
            rw [e, hlx] at hi
            cases hi
          rw [pk_un n1, gp_EV_f hi]
      rw [ev, q3]
      exact gp_vlR R hw v2
theorem i_vc_follow {k : Nat} {u : SX} {v : SY} (I : i_Rel k u v) (hk : k + 4 ≤ 2048) (v1 : Int32) (v2 : Int32) (v3 : Int32) : wpX_follow (fun r u' => wpY_follow (fun r' v' => r' = r ∧ i_Rel (k + 4) u' v') v v1 v2 v3) u v1 v2 v3 := by
  obtain ⟨dr, cm, lc, lm, lr, lk, ld, tk, rt, dv, dl, lp, lv, ll, mv, ml, hd⟩ := u
  obtain ⟨yr, yo, yv, yt, yh, ov, ot⟩ := v
  obtain ⟨hml, hdl, hyt, hot, W, C, R⟩ := gp_un I
  unfold wpX_follow wpY_follow
  dsimp only
  rcases gp_hc v1 with hn | ⟨h, hh, rfl⟩
  · exact gp_xh0 hn (br_t rfl (gp_yh0 hn (br_t rfl ⟨rfl, i_up I⟩)))
  rcases gp_hc v2 with hn | ⟨g, hg, rfl⟩
  · exact gp_xh1 hh (br_f (by decide) (gp_xh0 hn (br_t rfl (gp_yh1 hh (br_f (by decide) (gp_yh0 hn (br_t rfl ⟨rfl, i_up I⟩)))))))
  rcases gp_wc v3 with hn | ⟨w, hw2, rfl⟩
  · exact gp_xh1 hh (br_f (by decide) (gp_xh1 hg (br_f (by decide) (gp_nw hn (gp_yh1 hh (br_f (by decide) (gp_yh1 hg (br_f (by decide) (gp_nw hn ⟨rfl, i_up I⟩)))))))))
  refine gp_xh1 hh (br_f (by decide) (gp_xh1 hg (br_f (by decide) (gp_yw hw2 ⟨gp_v4 hg, ?_⟩))))
  rw [gp_k4 hg]
  rcases R.2.2.2.2.1 g hg with ⟨e1, e2⟩ | ⟨x, y, hx, hy, e1, e2, hw⟩
  · rw [e1, e2]
    exact br_f (by decide) (gp_yh1 hh (br_f (by decide) (gp_yh1 hg (br_f (by decide) (gp_yw hw2 ⟨gp_v4 hg, br_f (by decide) ⟨rfl, i_up I⟩⟩)))))
  · rw [e1, e2]
    refine br_t (nI_pos' (by omega)) ⟨gp_v4 hg, nm_e (gp_bring hx hdl hml (fun ld1 mv1 ml1 q1 q2 q3 q4 => ?_))⟩
    have hp := (R.2.1 x y hw).2.2.2 w hw2
    have hlx : bt ld1 ((2 * x + w) / 2) = true := by
      rw [show (2 * x + w) / 2 = x from by omega]
      exact (q1 x).mpr (Or.inr rfl)
    have em : ml1 (2 * x + w) = gp_EL ld ml dl (2 * x + w) := by rw [← q3, gp_EL_t hlx]
    have J : i_Rel (k + 4) (dr, cm, lc, lm, lr, lk, ld1, tk, rt, dv, dl, lp, lv, ll, mv1, ml1, upd hd h (gp_EL ld ml dl (2 * x + w))) (yr, yo, yv, yt, upd yh h (yt (2 * y + w)), ov, ot) := gp_mk q4 hdl hyt hot (by rw [q2, q3]; exact gp_hdR R hp)
    refine ⟨gp_v2w hx hw2, gp_v4 hh, nm_r (e' := upd hd h (gp_EL ld ml dl (2 * x + w))) (by rw [gp_k4 hh, gp_k2w hx hw2, gp_Rg_nar (q4 _), em]) ⟨gp_v4 hh, ?_⟩⟩
    rw [gp_k4 hh, pk_us, gp_k2w hy hw2]
    by_cases h0 : 0 ≤ gp_EL ld ml dl (2 * x + w)
    · refine br_t h0 (gp_yh1 hh (br_f (by decide) (gp_yh1 hg (br_f (by decide) (gp_yw hw2 ⟨gp_v4 hg, br_t (nI_pos' (by omega)) ⟨gp_v4 hg, gp_v2w hy hw2, gp_v4 hh, nm_e ⟨gp_v4 hh, ?_⟩⟩⟩)))))
      rw [pk_us]
      exact br_t ((gp_PE_z hp).mp h0) ⟨rfl, J⟩
    · refine br_f h0 (gp_yh1 hh (br_f (by decide) (gp_yh1 hg (br_f (by decide) (gp_yw hw2 ⟨gp_v4 hg, br_t (nI_pos' (by omega)) ⟨gp_v4 hg, gp_v2w hy hw2, gp_v4 hh, nm_e ⟨gp_v4 hh, ?_⟩⟩⟩)))))
      rw [pk_us]
      exact br_f (fun z => h0 ((gp_PE_z hp).mpr z)) ⟨rfl, J⟩
theorem i_vc_link {k : Nat} {u : SX} {v : SY} (I : i_Rel k u v) (hk : k + 4 ≤ 2048) (v1 : Int32) (v2 : Int32) (v3 : Int32) : wpX_link (fun r u' => wpY_link (fun r' v' => r' = r ∧ i_Rel (k + 4) u' v') v v1 v2 v3) u v1 v2 v3 := by
  obtain ⟨dr, cm, lc, lm, lr, lk, ld, tk, rt, dv, dl, lp, lv, ll, mv, ml, hd⟩ := u
  obtain ⟨yr, yo, yv, yt, yh, ov, ot⟩ := v
  obtain ⟨hml, hdl, hyt, hot, W, C, R⟩ := gp_un I
  unfold wpX_link wpY_link
  dsimp only
  rcases gp_hc v1 with hn | ⟨h, hh, rfl⟩
  · exact gp_xh0 hn (br_t rfl (gp_yh0 hn (br_t rfl ⟨rfl, i_up I⟩)))
  rcases gp_hc v3 with hn | ⟨g, hg, rfl⟩
  · exact gp_xh1 hh (br_f (by decide) (gp_xh0 hn (br_t rfl (gp_yh1 hh (br_f (by decide) (gp_yh0 hn (br_t rfl ⟨rfl, i_up I⟩)))))))
  rcases gp_wc v2 with hn | ⟨w, hw2, rfl⟩
  · exact gp_xh1 hh (br_f (by decide) (gp_xh1 hg (br_f (by decide) (gp_nw hn (gp_yh1 hh (br_f (by decide) (gp_yh1 hg (br_f (by decide) (gp_nw hn ⟨rfl, i_up I⟩)))))))))
  refine gp_xh1 hh (br_f (by decide) (gp_xh1 hg (br_f (by decide) (gp_yw hw2 ⟨gp_v4 hh, ?_⟩))))
  rw [gp_k4 hh]
  rcases R.2.2.2.2.1 h hh with ⟨e1, e2⟩ | ⟨x, y, hx, hy, e1, e2, hw⟩
  · rw [e1, e2]
    exact br_f (by decide) (gp_yh1 hh (br_f (by decide) (gp_yh1 hg (br_f (by decide) (gp_yw hw2 ⟨gp_v4 hh, br_f (by decide) ⟨rfl, i_up I⟩⟩)))))
  · rw [e1, e2]
    refine br_t (nI_pos' (by omega)) ⟨gp_v4 hh, nm_e (gp_bring hx hdl hml (fun ld1 mv1 ml1 q1 q2 q3 q4 => ?_))⟩
    have hp := R.2.2.2.2.1 g hg
    have hlx : bt ld1 ((2 * x + w) / 2) = true := by
      rw [show (2 * x + w) / 2 = x from by omega]
      exact (q1 x).mpr (Or.inr rfl)
    have el : gp_EL ld1 (upd ml1 (2 * x + w) (hd g)) dl = upd (gp_EL ld ml dl) (2 * x + w) (hd g) := by
      rw [← q3]
      refine gp_EL_eq (fun i => ⟨fun hi => ?_, fun hi => ?_⟩)
      · by_cases e : i = 2 * x + w
        · rw [e, pk_us, pk_us]
        · rw [pk_un e, pk_un e, gp_EL_t hi]
      · have n1 : i ≠ 2 * x + w := by
          intro e
          rw [e, hlx] at hi
          cases hi
        rw [pk_un n1, gp_EL_f hi]
    have J : i_Rel (k + 4) (dr, cm, lc, lm, lr, lk, ld1, tk, rt, dv, dl, lp, lv, ll, mv1, upd ml1 (2 * x + w) (hd g), hd) (yr, yo, yv, upd yt (2 * y + w) (yh g), yh, ov, ot) := gp_mk (gp_Rg_u q4 (gp_PE_l hp)) hdl (gp_Rg_u hyt (gp_PE_r hp)) hot (by rw [q2, el]; exact gp_lkR R hw2 hw hp)
    refine ⟨gp_v4 hg, gp_v2w hx hw2, nm_r (e' := upd ml1 (2 * x + w) (hd g)) (by rw [gp_k4 hg, gp_k2w hx hw2, gp_Rg_nar (gp_PE_l hp)]) ⟨gp_v4 hg, ?_⟩⟩
    rw [gp_k4 hg, gp_k2w hy hw2]
    by_cases h0 : 0 ≤ hd g
    · exact br_t h0 (gp_yh1 hh (br_f (by decide) (gp_yh1 hg (br_f (by decide) (gp_yw hw2 ⟨gp_v4 hh, br_t (nI_pos' (by omega)) ⟨gp_v4 hh, gp_v4 hg, gp_v2w hy hw2, nm_e ⟨gp_v4 hg, br_t ((gp_PE_z hp).mp h0) ⟨rfl, J⟩⟩⟩⟩)))))
    · exact br_f h0 (gp_yh1 hh (br_f (by decide) (gp_yh1 hg (br_f (by decide) (gp_yw hw2 ⟨gp_v4 hh, br_t (nI_pos' (by omega)) ⟨gp_v4 hh, gp_v4 hg, gp_v2w hy hw2, nm_e ⟨gp_v4 hg, br_f (fun z => h0 ((gp_PE_z hp).mpr z)) ⟨rfl, J⟩⟩⟩⟩)))))
theorem i_vc_reachable {k : Nat} {u : SX} {v : SY} (I : i_Rel k u v) (hk : k + 4 ≤ 2048) : wpX_reachable (fun r => wpY_reachable (fun r' => r' = r ∧ i_Rel (k + 4) u v) v) u := by
  obtain ⟨dr, cm, lc, lm, lr, lk, ld, tk, rt, dv, dl, lp, lv, ll, mv, ml, hd⟩ := u
  obtain ⟨yr, yo, yv, yt, yh, ov, ot⟩ := v
  obtain ⟨hml, hdl, hyt, hot, W, C, R⟩ := gp_un I
  have hp := R.2.2.2.1
  exact gp_xreach (gp_EL_Rg hml hdl) (gp_PE_l hp) (fun r hr => gp_yreach hyt (gp_PE_r hp) (fun r' hr' => ⟨congrArg nI (gp_ctr R hr hr').symm, i_up I⟩))
theorem i_vc_abort {k : Nat} {u : SX} {v : SY} (I : i_Rel k u v) (hk : k + 4 ≤ 2048) : wpX_abort (fun r u' => wpY_abort (fun r' v' => r' = r ∧ i_Rel (k + 4) u' v') v) u := by
  obtain ⟨dr, cm, lc, lm, lr, lk, ld, tk, rt, dv, dl, lp, lv, ll, mv, ml, hd⟩ := u
  obtain ⟨yr, yo, yv, yt, yh, ov, ot⟩ := v
  obtain ⟨hml, hdl, hyt, hot, W, C, R⟩ := gp_un I
  unfold wpX_abort
  dsimp only
  refine gp_restart (fun hd' hhd' => gp_bitsIn ?_)
  refine gp_yabort hyt hot (gp_PE_r R.2.2.2.2.2.1) (fun co yv' yt' yh' hco hyh hz hyt' => ⟨congrArg nI (gp_ctc R hco).symm, gp_mk hml hdl hyt' hot ?_⟩)
  rw [gp_EV_0, gp_EL_0]
  exact gp_abortR R hco hhd' hyh hz
end
section
/-! make, commit, crash (statements: what is owed) -/
section
variable {dr cm lc lm lr lk ld tk rt : Int32} {dv dl lp lv ll mv ml hd : Nat → Int32}
theorem gp_Is_u {r r' : Int32} {G : Nat → Int32} {A : Nat → Prop} (h : gp_Is r G A) (h' : gp_Is r' G A) : r = r' := by
  apply b_ext
  intro i _
  have e : bt r i = true ↔ bt r' i = true := (h i).trans (h' i).symm
  cases h1 : bt r i
  · exact (gp_bf (fun z => by rw [e.mpr z] at h1; cases h1)).symm
  · exact (e.mp h1).symm
theorem gp_chld {ch r : Int32} {V L lp lv ll : Nat → Int32} {c : Nat} (hch : gp_Ch ch r cm V L dv dl) (hLg : gp_Lg ch V L ld c lp lv ll) (hLc : gp_Lc ch 12 c lp) : ∀ i, bt ch i = true → bt ld i = true := by
  intro i hi
  have h12 := ((hch i).mp hi).1
  obtain ⟨k, k1, k2⟩ := hLc i h12 hi
  obtain ⟨x, hx, e1, _, h3, _⟩ := hLg k k1
  rw [k2] at e1
  rw [gp_inj (by omega) (by omega) e1]
  exact h3
theorem gp_evk {ch : Int32} {V dv' dl' : Nat → Int32} (h : gp_EV ld mv dv = V) (hO : gp_Off ch dv dl dv' dl') (hc : ∀ i, bt ch i = true → bt ld i = true) : gp_EV ld mv dv' = V := by
  refine gp_EV_eq (fun i => ⟨fun hi => ?_, fun hi => ?_⟩)
  · rw [← h, gp_EV_t hi]
  · rw [← h, gp_EV_f hi]
    exact hO.1 i (gp_bf (fun z => by rw [hc i z] at hi; cases hi))
theorem gp_elk {ch : Int32} {L dv' dl' : Nat → Int32} (h : gp_EL ld ml dl = L) (hO : gp_Off ch dv dl dv' dl') (hc : ∀ i, bt ch i = true → bt ld i = true) : gp_EL ld ml dl' = L := by
  refine gp_EL_eq (fun i => ⟨fun hi => ?_, fun hi => ?_⟩)
  · rw [← h, gp_EL_t hi]
  · rw [← h, gp_EL_f hi]
    exact hO.2 i (gp_bf (fun z => by rw [hc _ z] at hi; cases hi))
theorem gp_Off_r {ch : Int32} : gp_Off ch dv dl dv dl := ⟨fun _ _ => rfl, fun _ _ => rfl⟩
theorem gp_mkV {r ld1 v : Int32} {x0 : Nat} (hx0 : x0 < 12) (hl : ∀ i, bt r i = true → bt ld1 i = bt ld i) :
    (gp_EV (ld1 ||| ((1 : Int32) <<< (nI x0 &&& 31))) (upd mv x0 v) dv x0 = v ∧ ∀ w, w < 2 → gp_EL (ld1 ||| ((1 : Int32) <<< (nI x0 &&& 31))) (upd (upd ml (2 * x0) (-1)) (2 * x0 + 1) (-1)) dl (2 * x0 + w) = -1) ∧
    (∀ x, x < 12 → x ≠ x0 → bt r x = true → gp_EV (ld1 ||| ((1 : Int32) <<< (nI x0 &&& 31))) (upd mv x0 v) dv x = gp_EV ld mv dv x ∧ ∀ w, w < 2 → gp_EL (ld1 ||| ((1 : Int32) <<< (nI x0 &&& 31))) (upd (upd ml (2 * x0) (-1)) (2 * x0 + 1) (-1)) dl (2 * x + w) = gp_EL ld ml dl (2 * x + w)) := by
  have hbit : ∀ i, bt (ld1 ||| ((1 : Int32) <<< (nI x0 &&& 31))) i = true ↔ bt ld1 i = true ∨ i = x0 := gp_orb (by omega)
  have hd2 : ∀ x w, w < 2 → (2 * x + w) / 2 = x := fun x w hw => by omega
  refine ⟨⟨?_, fun w hw => ?_⟩, fun x hx hne hb => ?_⟩
  · rw [gp_EV_t ((hbit x0).mpr (Or.inr rfl)), pk_us]
  · rw [gp_EL_t (by rw [hd2 x0 w hw]; exact (hbit x0).mpr (Or.inr rfl))]
    by_cases e : w = 1
    · rw [e, pk_us]
    · have e0 : w = 0 := by omega
      rw [e0, pk_un (show 2 * x0 + 0 ≠ 2 * x0 + 1 by omega)]
      exact pk_us
  · have hlx := hl x hb
    cases h1 : bt ld x
    · have h2 : bt (ld1 ||| ((1 : Int32) <<< (nI x0 &&& 31))) x = false := gp_bf (fun z => by
        rcases (hbit x).mp z with z | z
        · rw [hlx, h1] at z
          cases z
        · exact hne z)
      refine ⟨by rw [gp_EV_f h2, gp_EV_f h1], fun w hw => ?_⟩
      rw [gp_EL_f (by rw [hd2 x w hw]; exact h2), gp_EL_f (by rw [hd2 x w hw]; exact h1)]
    · have h2 : bt (ld1 ||| ((1 : Int32) <<< (nI x0 &&& 31))) x = true := (hbit x).mpr (Or.inl (by rw [hlx]; exact h1))
      refine ⟨by rw [gp_EV_t h2, gp_EV_t h1, pk_un hne], fun w hw => ?_⟩
      rw [gp_EL_t (by rw [hd2 x w hw]; exact h2), gp_EL_t (by rw [hd2 x w hw]; exact h1), pk_un (show 2 * x + w ≠ 2 * x0 + 1 by omega), pk_un (show 2 * x + w ≠ 2 * x0 by omega)]
theorem gp_mkY {yv yt : Nat → Int32} {v : Int32} {y0 : Nat} :
    (upd yv y0 v y0 = v ∧ ∀ w, w < 2 → upd (upd yt (2 * y0) (-1)) (2 * y0 + 1) (-1) (2 * y0 + w) = -1) ∧ (∀ y, y < 12 → y ≠ y0 → upd yv y0 v y = yv y ∧ ∀ w, w < 2 → upd (upd yt (2 * y0) (-1)) (2 * y0 + 1) (-1) (2 * y + w) = yt (2 * y + w)) := by
  refine ⟨⟨pk_us, fun w hw => ?_⟩, fun y hy hne => ⟨pk_un hne, fun w hw => ?_⟩⟩
  · by_cases e : w = 1
    · rw [e, pk_us]
    · have e0 : w = 0 := by omega
      rw [e0, pk_un (show 2 * y0 + 0 ≠ 2 * y0 + 1 by omega)]
      exact pk_us
  · rw [pk_un (show 2 * y + w ≠ 2 * y0 + 1 by omega), pk_un (show 2 * y + w ≠ 2 * y0 by omega)]
end
theorem i_vc_make {k : Nat} {u : SX} {v : SY} (I : i_Rel k u v) (hk : k + 4 ≤ 2048) (v1 : Int32) (v2 : Int32) : wpX_make (fun r u' => wpY_make (fun r' v' => r' = r ∧ i_Rel (k + 4) u' v') v v1 v2) u v1 v2 := by
  obtain ⟨dr, cm, lc, lm, lr, lk, ld, tk, rt, dv, dl, lp, lv, ll, mv, ml, hd⟩ := u
  obtain ⟨yr, yo, yv, yt, yh, ov, ot⟩ := v
  obtain ⟨hml, hdl, hyt, hot, W, C, R⟩ := gp_un I
  unfold wpX_make wpY_make
  dsimp only
  rcases gp_hc v1 with hn | ⟨h, hh, rfl⟩
  · exact gp_xh0 hn (br_t rfl (gp_yh0 hn (br_t rfl ⟨rfl, i_up I⟩)))
  have hrt := gp_PE_l R.2.2.2.1
  have hyr := gp_PE_r R.2.2.2.1
  have hyo := gp_PE_r R.2.2.2.2.2.1
  refine gp_xh1 hh (br_f (by decide) (gp_usedPlaces (gp_EL_Rg hml hdl) hrt (fun j hj => gp_PE_l (R.2.2.2.2.1 j hj)) (fun r hr => gp_bitsIn ?_)))
  have yused : ∀ (post : Int32 → Prop), (∀ r' co, gp_Is r' yt (gp_Many yr yh) → gp_Is co ot (gp_One yo) → post (r' ||| co)) → wpY_used post (yr, yo, yv, yt, yh, ov, ot) := fun post K => gp_yused hyt hot hyr hyo (fun j hj => gp_PE_r (R.2.2.2.2.1 j hj)) K
  have hin : ∀ i, bt (r ||| cm) i = true → bt tk i = true := by
    intro i hi
    rw [b_or, Bool.or_eq_true] at hi
    rcases hi with hi | hi
    · obtain ⟨y, _, h2⟩ := gp_tr R.2.1 (gp_manyA R.2.2.2.1 R.2.2.2.2.1) ((hr i).mp hi)
      exact R.2.2.2.2.2.2.2.2.1 i y h2
    · exact R.2.2.2.2.2.2.2.2.2.2 i hi
  have ht : ∀ i, bt tk i = true → i < 12 := R.2.2.2.2.2.2.2.2.2.1
  rcases Nat.lt_or_ge (gp_ct (bt (r ||| cm)) 12) 12 with hlt | hge
  · refine br_t (nI_lt (b := 12) hlt (by decide)) (gp_freePlace (fun i hi => ht i (hin i hi)) hlt hin ht (fun x ld1 tk1 hx hnx h1 h2 h3 => ?_))
    refine nm_e (nm_e ⟨gp_v0 hx, nm_r (e' := upd mv x v2) (by rw [gp_k0 hx]) ⟨gp_v2 hx, nm_r (e' := upd ml (2 * x) (-1)) (by rw [gp_k2 hx, gp_Rg_nar gp_Rg_m1]) ⟨gp_v21 hx, nm_r (e' := upd (upd ml (2 * x) (-1)) (2 * x + 1) (-1)) (by rw [gp_k21 hx, gp_Rg_nar gp_Rg_m1]) ⟨gp_v4 hh, nm_r (e' := upd hd h (nI x)) (by rw [gp_k4 hh, gp_i8t x hx, gp_Rg_nar (gp_Rg_n hx)]) ?_⟩⟩⟩⟩)
    refine gp_yh1 hh (br_f (by decide) (yused _ (fun r' co hr' hco => ⟨13, gp_y18 hh (fun y hy hny => ⟨rfl, ?k1⟩) (fun hall => ?k2) 13 0 (by decide) (by decide) (fun i hi => absurd hi (Nat.not_lt_zero i))⟩)))
    case k1 =>
      have hV := gp_mkV (ld := ld) (mv := mv) (dv := dv) (ml := ml) (dl := dl) (v := v2) hx h1
      have hY := gp_mkY (yv := yv) (yt := yt) (v := v2) (y0 := y)
      refine gp_mk (gp_Rg_u (gp_Rg_u hml gp_Rg_m1) gp_Rg_m1) hdl (gp_Rg_u (gp_Rg_u hyt gp_Rg_m1) gp_Rg_m1) hot (gp_makeR R hr hr' hco hx hy hh hnx hny (v := v2) (fun i hi => (gp_orb (by omega) i).mpr (Or.inl (h2 i hi))) ((gp_orb (by omega) x).mpr (Or.inr rfl)) (fun i hi => ?_) hV.1 hV.2 hY.1 hY.2)
      rcases (gp_orb (by omega) i).mp hi with hi | hi
      · exact h3 i hi
      · rw [hi]
        exact hx
    case k2 =>
      have e := gp_ctm R hr hr' hco
      have h4 : gp_ct (fun _ => true) 12 ≤ gp_ct (bt (r' ||| co)) 12 := gp_ct_le 12 (fun i hi _ => hall i hi)
      have h5 : gp_ct (fun _ => true) 12 = 12 := by decide
      omega
  · refine br_f (nI_nlt (b := 12) hge (Nat.lt_of_le_of_lt (gp_ct_n _ 12) (by decide))) ?_
    refine gp_yh1 hh (br_f (by decide) (yused _ (fun r' co hr' hco => ⟨13, gp_y18 hh (fun y hy hny => ?_) (fun hall => ⟨rfl, i_up I⟩) 13 0 (by decide) (by decide) (fun i hi => absurd hi (Nat.not_lt_zero i))⟩)))
    have e := gp_ctm R hr hr' hco
    rw [gp_ct_all (bt (r' ||| co)) 12 (by omega) y hy] at hny
    cases hny
theorem i_vc_commit {k : Nat} {u : SX} {v : SY} (I : i_Rel k u v) (hk : k + 4 ≤ 2048) : wpX_commit (fun r u' => wpY_commit (fun r' v' => r' = r ∧ i_Rel (k + 4) u' v') v) u := by
  obtain ⟨dr, cm, lc, lm, lr, lk, ld, tk, rt, dv, dl, lp, lv, ll, mv, ml, hd⟩ := u
  obtain ⟨yr, yo, yv, yt, yh, ov, ot⟩ := v
  obtain ⟨hml, hdl, hyt, hot, W, C, R⟩ := gp_un I
  have hrt := gp_PE_l R.2.2.2.1
  have hyr := gp_PE_r R.2.2.2.1
  have hyo := gp_PE_r R.2.2.2.2.2.1
  have hEL : ∀ e, gp_Rg (gp_EL ld ml dl e) := gp_EL_Rg hml hdl
  unfold wpX_commit
  dsimp only
  refine gp_changedPlaces hEL hrt (fun r ch hr hch => ?_)
  refine gp_writeLog (st := 12) (by decide) hdl hml (fun x c ld1 lp1 lv1 ll1 mv1 ml1 hx hc hex hLg hLc q2 q3 q4 => ?_)
  have hcn := gp_ct_n (bt ch) x
  have hx12 : x = 12 := by omega
  subst hx12
  have hc12 : c ≤ 12 := by omega
  refine gp_writeMark (gp_EL_Rg q4 hdl) hrt (fun r2 hr2 => ?_)
  rw [q3] at hr2
  have er := gp_Is_u hr2 hr
  refine gp_moveData (st := 12) (by decide) hc12 hLg hEL gp_Off_r hdl (fun dr' cm' dv' dl' hO hdl' hfull => gp_bitsIn ?_)
  obtain ⟨e1, e2, hMv⟩ := hfull hc12
  rw [e1, e2, er]
  have hcl := gp_chld hch hLg hLc
  refine gp_ycommit hyt hot hyr hyo (fun r' co g ov' ot' hr' hco hg hcopy hot' => ⟨congrArg nI (gp_ctd R hr hr' hco (fun x hx => ?_) hg).symm, gp_mk q4 hdl' hyt hot' ?_⟩)
  · rw [hch x]
    exact ⟨fun z => z.2, fun z => ⟨hx, z⟩⟩
  · rw [gp_evk q2 hO hcl, gp_elk q3 hO hcl]
    exact gp_commitR R hr hr' (gp_dsk hch hLc hMv hO) hcopy
section
variable {dr cm lc lm lr lk ld tk rt : Int32} {dv dl lp lv ll mv ml hd : Nat → Int32}
theorem gp_rec13 {post : SX → Prop} (K : ∀ hd' : Nat → Int32, (∀ h, h < 4 → hd' h = -1) → post (dr, cm, 0, 0, lr, lk, 0, cm, dr, dv, dl, lp, lv, ll, mv, ml, hd')) : wX_recover_13 post dr cm lc lm lr lk ld tk rt dv dl lp lv ll mv ml hd := by
  unfold wX_recover_13
  exact gp_restart K
theorem gp_cr0 {post : Int32 → SX → Prop} (K : ∀ hd' : Nat → Int32, (∀ h, h < 4 → hd' h = -1) → post 0 (dr, cm, 0, 0, lr, lk, 0, cm, dr, dv, dl, lp, lv, ll, mv, ml, hd')) : wX_crash_65 post dr cm lc 0 lr lk ld tk rt dv dl lp lv ll mv ml hd := by
  unfold wX_crash_65
  refine br_t rfl ?_
  unfold wX_crash_77
  exact br_t rfl (gp_rec13 K)
theorem gp_cr1 {post : Int32 → SX → Prop} {ch ld0 : Int32} {c : Nat} (hc : c ≤ 12) {V L dv0 dl0 : Nat → Int32} (hLg : gp_Lg ch V L ld0 c lp lv ll) (hRL : ∀ e, gp_Rg (L e)) (hO : gp_Off ch dv0 dl0 dv dl) (hRd : ∀ e, gp_Rg (dl e))
    (K : ∀ (dv' dl' hd' : Nat → Int32), (∀ h, h < 4 → hd' h = -1) → gp_Off ch dv0 dl0 dv' dl' → (∀ e, gp_Rg (dl' e)) → gp_Mv lp V L c dv' dl' → post 1 (lr, lk, 0, 0, lr, lk, 0, lk, lr, dv', dl', lp, lv, ll, mv, ml, hd')) : wX_crash_65 post dr cm (nI c) 1 lr lk ld tk rt dv dl lp lv ll mv ml hd := by
  unfold wX_crash_65
  refine br_f (by decide) ?_
  unfold wX_crash_77
  refine br_f (by decide) ?_
  refine gp_moveData (st := 12) (by decide) hc hLg hRL hO hRd (fun dr' cm' dv' dl' hO' hdl' hfull => ?_)
  obtain ⟨e1, e2, hMv⟩ := hfull hc
  rw [e1, e2]
  exact gp_rec13 (fun hd' hhd => K dv' dl' hd' hhd hO' hdl' hMv)
theorem gp_x20 {post : Int32 → SX → Prop} {ch r : Int32} {st : Nat} (hst : st < 2 ^ 31) (hml : ∀ e, gp_Rg (ml e)) (hdl : ∀ e, gp_Rg (dl e)) (hrt : gp_Rg rt) (hr : gp_Is r (gp_EL ld ml dl) (gp_One rt)) (hch : gp_Ch ch r cm (gp_EV ld mv dv) (gp_EL ld ml dl) dv dl)
    (K0 : st ≤ gp_ct (bt ch) 12 → ∀ (lp lv ll mv ml hd : Nat → Int32), (∀ h, h < 4 → hd h = -1) → (∀ e, gp_Rg (ml e)) → post 0 (dr, cm, 0, 0, lr, lk, 0, cm, dr, dv, dl, lp, lv, ll, mv, ml, hd))
    (K1 : gp_ct (bt ch) 12 < st → ∀ (dv' dl' lp lv ll mv' ml' hd : Nat → Int32), (∀ h, h < 4 → hd h = -1) → (∀ e, gp_Rg (ml' e)) → (∀ e, gp_Rg (dl' e)) → (∀ x, x < 12 → bt r x = true → dv' x = gp_EV ld mv dv x ∧ ∀ w, w < 2 → dl' (2 * x + w) = gp_EL ld ml dl (2 * x + w)) → post 1 (rt, r, 0, 0, rt, r, 0, r, rt, dv', dl', lp, lv, ll, mv', ml', hd)) :
    wX_crash_20 post ch (nI (gp_ct (bt ch) 12)) (nI st) dr cm lc lm lr lk ld tk rt dv dl lp lv ll mv ml hd := by
  have hEL : ∀ e, gp_Rg (gp_EL ld ml dl e) := gp_EL_Rg hml hdl
  have hcn := gp_ct_n (bt ch) 12
  unfold wX_crash_20
  refine gp_writeLog hst hdl hml (fun x c ld1 lp1 lv1 ll1 mv1 ml1 hx hc hex hLg hLc q2 q3 q4 => ?_)
  refine pk_le st (gp_ct (bt ch) 12) (fun hle => ?_) (fun hlt => ?_)
  · exact gp_cr0 (fun hd' hhd => K0 hle lp1 lv1 ll1 mv1 ml1 hd' hhd q4)
  · have hcm := gp_ct_m (bt ch) x 12 hx
    have hx12 : x = 12 := by omega
    subst hx12
    have hc12 : c ≤ 12 := by omega
    refine gp_writeMark (gp_EL_Rg q4 hdl) hrt (fun r2 hr2 => ?_)
    rw [q3] at hr2
    have er := gp_Is_u hr2 hr
    rw [er]
    have go : ∀ st2 : Nat, st2 < 2 ^ 31 → wX_crash_62 post (nI st2) dr cm (nI c) 1 rt r ld1 tk rt dv dl lp1 lv1 ll1 mv1 ml1 hd := by
      intro st2 hst2
      unfold wX_crash_62
      refine gp_moveData hst2 hc12 hLg hEL gp_Off_r hdl (fun dr' cm' dv' dl' hO hdl' _ => ?_)
      exact gp_cr1 hc12 hLg hEL hO hdl' (fun dv2 dl2 hd2 hhd hO2 hdl2 hMv => K1 hlt dv2 dl2 lp1 lv1 ll1 mv1 ml1 hd2 hhd q4 hdl2 (gp_dsk hch hLc hMv hO2))
    have e5 : nI st - nI (gp_ct (bt ch) 12) - 1 = nI (st - gp_ct (bt ch) 12 - 1) := by
      rw [pk_sub (by omega)]
      obtain ⟨d, hd⟩ : ∃ d, st - gp_ct (bt ch) 12 = d + 1 := ⟨st - gp_ct (bt ch) 12 - 1, by omega⟩
      rw [hd, nI_pred]
      rfl
    exact nm_r e5 (pk_le (st - gp_ct (bt ch) 12 - 1) 12 (fun _ => go _ (by omega)) (fun _ => go 12 (by decide)))
end
section
variable {yr yo : Int32} {yv yt yh ov ot : Nat → Int32}
theorem gp_yc0 {post : Int32 → SY → Prop} (hyt : ∀ e, gp_Rg (yt e)) (hot : ∀ e, gp_Rg (ot e)) (hyo : gp_Rg yo) (K : ∀ co (yv' yt' yh' : Nat → Int32), gp_Is co ot (gp_One yo) → (∀ h, h < 4 → yh' h = -1) → (∀ y, y < 12 → bt co y = true → yv' y = ov y ∧ ∀ w, w < 2 → yt' (2 * y + w) = ot (2 * y + w)) → (∀ e, gp_Rg (yt' e)) → post 0 (yo, yo, yv', yt', yh', ov, ot)) : wY_crash_13 post 0 yr yo yv yt yh ov ot := by
  unfold wY_crash_13
  refine br_t rfl ?_
  unfold wY_crash_23
  exact gp_yabort hyt hot hyo (fun co yv' yt' yh' h1 h2 h3 h4 => br_t rfl (K co yv' yt' yh' h1 h2 h3 h4))
theorem gp_yc1 {post : Int32 → SY → Prop} (hyt : ∀ e, gp_Rg (yt e)) (hot : ∀ e, gp_Rg (ot e)) (hyr : gp_Rg yr) (hyo : gp_Rg yo)
    (K : ∀ r co (ov' ot' yv' yt' yh' : Nat → Int32), gp_Is r yt (gp_One yr) → (∀ y, y < 12 → bt r y = true → ov' y = yv y ∧ ∀ w, w < 2 → ot' (2 * y + w) = yt (2 * y + w)) → (∀ e, gp_Rg (ot' e)) → gp_Is co ot' (gp_One yr) → (∀ h, h < 4 → yh' h = -1) → (∀ y, y < 12 → bt co y = true → yv' y = ov' y ∧ ∀ w, w < 2 → yt' (2 * y + w) = ot' (2 * y + w)) → (∀ e, gp_Rg (yt' e)) → post 1 (yr, yr, yv', yt', yh', ov', ot')) : wY_crash_13 post 1 yr yo yv yt yh ov ot := by
  unfold wY_crash_13
  refine br_f (by decide) (gp_ycommit hyt hot hyr hyo (fun r co g ov' ot' hr hco hg hcopy hot' => ?_))
  dsimp only
  unfold wY_crash_23
  exact gp_yabort hyt hot' hyr (fun co2 yv' yt' yh' h1 h2 h3 h4 => br_f (by decide) (K r co2 ov' ot' yv' yt' yh' hr hcopy hot' h1 h2 h3 h4))
end
theorem i_vc_crash {k : Nat} {u : SX} {v : SY} (I : i_Rel k u v) (hk : k + 4 ≤ 2048) (v1 : Int32) : wpX_crash (fun r u' => wpY_crash (fun r' v' => r' = r ∧ i_Rel (k + 4) u' v') v v1) u v1 := by
  obtain ⟨dr, cm, lc, lm, lr, lk, ld, tk, rt, dv, dl, lp, lv, ll, mv, ml, hd⟩ := u
  obtain ⟨yr, yo, yv, yt, yh, ov, ot⟩ := v
  obtain ⟨hml, hdl, hyt, hot, W, C, R⟩ := gp_un I
  have hrt := gp_PE_l R.2.2.2.1
  have hyr := gp_PE_r R.2.2.2.1
  have hyo := gp_PE_r R.2.2.2.2.2.1
  unfold wpX_crash
  dsimp only
  refine gp_changedPlaces (gp_EL_Rg hml hdl) hrt (fun r ch hr hch => gp_bitsIn ?_)
  have hcn := gp_ct_n (bt ch) 12
  have hch' : ∀ x, x < 12 → (bt ch x = true ↔ bt r x = true ∧ gp_Df cm (gp_EV ld mv dv) (gp_EL ld ml dl) dv dl x) := by
    intro x hx
    rw [hch x]
    exact ⟨fun z => z.2, fun z => ⟨hx, z⟩⟩
  have main : ∀ st : Nat, st < 2 ^ 31 → (v1 ≤ nI (gp_ct (bt ch) 12) ↔ st ≤ gp_ct (bt ch) 12) → wX_crash_20 (fun r u' => wpY_crash (fun r' v' => r' = r ∧ i_Rel (k + 4) u' v') (yr, yo, yv, yt, yh, ov, ot) v1) ch (nI (gp_ct (bt ch) 12)) (nI st) dr cm lc lm lr lk ld tk rt dv dl lp lv ll mv ml hd := by
    intro st hst hiff
    refine gp_x20 hst hml hdl hrt hr hch (fun hle lp1 lv1 ll1 mv1 ml1 hd1 hhd hml1 => ?_) (fun hlt dv1 dl1 lp1 lv1 ll1 mv1 ml1 hd1 hhd hml1 hdl1 hdsk => ?_)
    · unfold wpY_crash
      dsimp only
      refine gp_ychanged hyt hot hyr hyo (fun r' co g hr' hco hg => ?_)
      rw [← gp_ctd R hr hr' hco hch' hg]
      refine br_t (hiff.mpr hle) (gp_yc0 hyt hot hyo (fun co2 yv' yt' yh' h1 h2 h3 h4 => ⟨rfl, gp_mk hml1 hdl h4 hot ?_⟩))
      rw [gp_EV_0, gp_EL_0]
      exact gp_abortR R h1 hhd h2 h3
    · unfold wpY_crash
      dsimp only
      refine gp_ychanged hyt hot hyr hyo (fun r' co g hr' hco hg => ?_)
      rw [← gp_ctd R hr hr' hco hch' hg]
      refine br_f (fun z => by have := hiff.mp z; omega) (gp_yc1 hyt hot hyr hyo (fun r2 co2 ov' ot' yv' yt' yh' h0 hcopy hot' h1 h2 h3 h4 => ⟨rfl, gp_mk hml1 hdl1 h4 hot' ?_⟩))
      rw [gp_EV_0, gp_EL_0]
      obtain ⟨W2, C2, R2⟩ := gp_commitR R hr h0 hdsk hcopy
      exact gp_abortR R2 h1 hhd h2 h3
  by_cases h0 : 0 ≤ v1
  · obtain ⟨st, hst, e⟩ := nI_of (Int32.not_lt.mpr h0)
    refine br_t h0 ?_
    have hm := main st hst (by rw [e]; exact nI_leI hst (by omega))
    rw [← e] at hm
    exact hm
  · refine br_f h0 (main 0 (by decide) ⟨fun _ => Nat.zero_le _, fun _ => ?_⟩)
    exact Int32.le_trans (Int32.le_of_lt (Int32.not_le.mp h0)) (nI_pos' (by omega))
end
