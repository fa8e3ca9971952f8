section
/-! rows pasted from the kit (PURE-ROWS, BITS): starting text -/
theorem pk_us {f : Nat → Int32} {k : Nat} {x : Int32} : upd f k x k = x := if_pos rfl
theorem pk_un {f : Nat → Int32} {k j : Nat} {x : Int32} (h : j ≠ k) : upd f k x j = f j := if_neg h
theorem pk_sub {a b : Nat} (h : b ≤ a) : nI a - nI b = nI (a - b) := by
  obtain ⟨c, rfl⟩ : ∃ c, a = c + b := ⟨a - b, by omega⟩
  rw [← nI_add, Int32.add_sub_cancel, Nat.add_sub_cancel]
theorem pk_m1 (n : Nat) : nI (n + 1) + (-1) = nI n := by
  rw [← nI_1, Int32.add_assoc, show (1 : Int32) + (-1) = 0 from rfl, Int32.add_zero]
theorem pk_mul (a b : Nat) : nI a * nI b = nI (a * b) := (Int32.ofNat_mul a b).symm
theorem pk_div {a d : Nat} (ha : a < 2 ^ 31) (h0 : 0 < d) (hd : d < 2 ^ 31) : nI a / nI d = nI (a / d) := by
  apply Int32.toInt_inj.mp
  rw [lg_idiv_nonneg (by rw [nI_toInt ha]; omega) (by rw [nI_toInt hd]; omega), nI_toInt ha, nI_toInt hd, nI_toInt (Nat.lt_of_le_of_lt (Nat.div_le_self a d) ha)]
  first | rfl | exact (Int.natCast_ediv _ _).symm
theorem pk_rem {a d : Nat} (ha : a < 2 ^ 31) (h0 : 0 < d) (hd : d < 2 ^ 31) : nI a - nI a / nI d * nI d = nI (a % d) := by
  rw [pk_div ha h0 hd, pk_mul, pk_sub (Nat.div_mul_le_self a d)]
  exact congrArg nI (by have := Nat.div_add_mod' a d; omega)
theorem pk_ix (x : Int32) {n : Nat} (hn : n < 2 ^ 31) : x < 0 ∨ nI n ≤ x ∨ ∃ j : Nat, j < n ∧ x = nI j := by
  by_cases h : x < 0
  · exact Or.inl h
  · obtain ⟨j, hj, rfl⟩ := nI_of h
    by_cases h2 : j < n
    · exact Or.inr (Or.inr ⟨j, h2, rfl⟩)
    · exact Or.inr (Or.inl (nI_le (by omega) hj))
theorem pk_le {x y : Int32} {A B : Prop} (a b : Nat) (f : a ≤ b → A) (g : b < a → B) (hx : x = nI a := by rfl) (hy : y = nI b := by rfl) (ha : a < 2 ^ 31 := by omega) (hb : b < 2 ^ 31 := by omega) : (x ≤ y → A) ∧ (¬ x ≤ y → B) := by
  subst hx hy
  rw [nI_leI ha hb]
  exact ⟨f, fun z => g (by omega)⟩
theorem pk_lt {x y : Int32} {A B : Prop} (a b : Nat) (f : a < b → A) (g : b ≤ a → B) (hx : x = nI a := by rfl) (hy : y = nI b := by rfl) (ha : a < 2 ^ 31 := by omega) (hb : b < 2 ^ 31 := by omega) : (x < y → A) ∧ (¬ x < y → B) := by
  subst hx hy
  rw [nI_ltI ha hb]
  exact ⟨f, fun z => g (by omega)⟩
theorem pk_eq {x y : Int32} {A B : Prop} (a b : Nat) (f : a = b → A) (g : a ≠ b → B) (hx : x = nI a := by rfl) (hy : y = nI b := by rfl) (ha : a < 2 ^ 31 := by omega) (hb : b < 2 ^ 31 := by omega) : (x = y → A) ∧ (¬ x = y → B) := by
  subst hx hy
  rw [nI_eq ha hb]
  exact ⟨f, g⟩
theorem pk_in {x : Int32} (n N : Nat) (h : n < N) (hx : x = nI n := by rfl) (hN : N < 2 ^ 31 := by omega) : vp_in x N := by
  subst hx
  exact vp_in_nI h hN
theorem pk_cl {x : Int32} (n : Nat) (hx : x = nI n := by rfl) (h : n < 2 ^ 31 := by omega) : x.toNatClampNeg = n := by
  subst hx
  exact nI_clamp h
theorem pk_tn {n : Nat} (h : n < 2 ^ 32) : (nI n).toBitVec.toNat = n := Nat.mod_eq_of_lt h
theorem pk_vb (z : Int32) : vp_nar .byte z.toInt8.toInt32 = z.toInt8.toInt32 := by rw [vp_nar_byte]; simp
theorem pk_loop {σ : Type} (W : Nat → Nat → σ → Prop) (I : Nat → σ → Prop) (e i0 : Nat) (s : σ) (hi : i0 ≤ e) (h0 : I i0 s) (hx : ∀ n s, I e s → W (n + 1) e s)
    (hs : ∀ n i s, i < e → I i s → (∀ s', I (i + 1) s' → W n (i + 1) s') → W (n + 1) i s) : ∃ n, W n i0 s :=
  ⟨e + 1, loop_i W I e hx hs (e + 1) i0 s hi (by omega) h0⟩
theorem pk_loopD {σ : Type} (W : Nat → Nat → σ → Prop) (I : Nat → σ → Prop) (hx : ∀ n s, I 0 s → W (n + 1) 0 s)
    (hs : ∀ n i s, I (i + 1) s → (∀ s', I i s' → W n i s') → W (n + 1) (i + 1) s) : ∀ (e : Nat) (s : σ), I e s → W (e + 1) e s := by
  intro e
  induction e with
  | zero => exact fun s h => hx 0 s h
  | succ e ih => exact fun s h => hs (e + 1) e s h (fun s' h' => ih s' h')
def bt (x : Int32) (i : Nat) : Bool := x.toBitVec.getLsbD i
theorem b_ext {x y : Int32} (h : ∀ i, i < 32 → bt x i = bt y i) : x = y := Int32.toBitVec_inj.mp (BitVec.eq_of_getLsbD_eq (fun i hi => h i hi))
theorem b_or (x y : Int32) (i : Nat) : bt (x ||| y) i = (bt x i || bt y i) := by unfold bt; rw [Int32.toBitVec_or, BitVec.getLsbD_or]
theorem b_and (x y : Int32) (i : Nat) : bt (x &&& y) i = (bt x i && bt y i) := by unfold bt; rw [Int32.toBitVec_and, BitVec.getLsbD_and]
theorem b_big {x : Int32} {i : Nat} (h : 32 ≤ i) : bt x i = false := BitVec.getLsbD_of_ge _ _ h
theorem b_0 (i : Nat) : bt 0 i = false := BitVec.getLsbD_zero
theorem s_l : ∀ n, n < 32 → ((nI n &&& 31).toBitVec.smod 32).toNat = n := by decide +kernel
theorem s_u : ∀ n, n < 32 → (((nI n).toUInt32 &&& Int32.toUInt32 31).toBitVec % 32).toNat = n := by decide +kernel
theorem b_shl (n : Nat) (hn : n < 32) (x : Int32) {i : Nat} (hi : i < 32) : bt (x <<< (nI n &&& 31)) i = (decide (n ≤ i) && bt x (i - n)) := by
  unfold bt
  rw [Int32.toBitVec_shiftLeft]
  show (x.toBitVec <<< ((nI n &&& 31).toBitVec.smod 32).toNat).getLsbD i = _
  rw [s_l n hn, BitVec.getLsbD_shiftLeft]
  rcases Nat.lt_or_ge i n with h | h
  · simp [h, Nat.not_le.mpr h]
  · simp [hi, h, Nat.not_lt.mpr h]
theorem b_ushr (n : Nat) (hn : n < 32) (x : Int32) (i : Nat) : bt ((x.toUInt32 >>> ((nI n).toUInt32 &&& Int32.toUInt32 31)).toInt32) i = bt x (n + i) := by
  show (x.toUInt32 >>> ((nI n).toUInt32 &&& Int32.toUInt32 31)).toBitVec.getLsbD i = x.toUInt32.toBitVec.getLsbD (n + i)
  rw [UInt32.toBitVec_shiftRight]
  show (x.toUInt32.toBitVec >>> (((nI n).toUInt32 &&& Int32.toUInt32 31).toBitVec % 32).toNat).getLsbD i = _
  rw [s_u n hn, BitVec.getLsbD_ushiftRight]
end
section
/-! part 02: numbers, counts, least closed sets -/
theorem ph_vb0 : vp_nar .boolean 0 = 0 := by decide
theorem ph_vb1 : vp_nar .boolean 1 = 1 := by decide
theorem ph_nm1 : vp_nar .byte (-1) = -1 := by rw [vp_nar_byte]; decide
theorem ph_n0 : vp_nar .byte 0 = 0 := by rw [vp_nar_byte]; decide
theorem ph_i8 {n : Nat} (h : n < 128) : (nI n).toInt8.toInt32 = nI n :=
  lg_i2b_small (by rw [nI_toInt (by omega)]; omega) (by rw [nI_toInt (by omega)]; omega)
theorem ph_nb {n : Nat} (h : n < 128) : vp_nar .byte (nI n) = nI n := by rw [vp_nar_byte, ph_i8 h]
theorem ph_nbi {n : Nat} (h : n < 128) : vp_nar .byte (nI n).toInt8.toInt32 = nI n := by rw [ph_i8 h, ph_nb h]
/-- a reference of the component: none, or a slot -/
def ph_rf (x : Int32) : Prop := x = -1 ∨ ∃ s : Nat, s < 32 ∧ x = nI s
theorem ph_rf_i8 {x : Int32} (h : ph_rf x) : x.toInt8.toInt32 = x := by
  rcases h with rfl | ⟨s, hs, rfl⟩
  · decide
  · exact ph_i8 (by omega)
theorem ph_rf_nb {x : Int32} (h : ph_rf x) : vp_nar .byte x = x := by rw [vp_nar_byte, ph_rf_i8 h]
theorem ph_rf_nbi {x : Int32} (h : ph_rf x) : vp_nar .byte x.toInt8.toInt32 = x := by rw [ph_rf_i8 h, ph_rf_nb h]
theorem ph_m1n {n : Nat} (h : n < 2 ^ 31) : ¬ (-1 : Int32) = nI n := by
  intro e
  have e2 := congrArg Int32.toInt e
  rw [nI_toInt h, show (-1 : Int32).toInt = -1 from by decide] at e2
  omega
theorem ph_inj {a b : Nat} (ha : a < 2 ^ 31) (hb : b < 2 ^ 31) (h : nI a = nI b) : a = b := (nI_eq ha hb).mp h
theorem ph_up {f : Nat → Int32} {x : Int32} {i : Nat} (h : i < 2 ^ 31) : upd f (nI i).toNatClampNeg x = upd f i x := by rw [nI_clamp h]
theorem ph_32 (h : Nat) : (32 : Int32) * nI h = nI (32 * h) := pk_mul 32 h
theorem ph_99 (h : Nat) : (99 : Int32) * nI h = nI (99 * h) := pk_mul 99 h
theorem ph_3 (h : Nat) : (3 : Int32) * nI h = nI (3 * h) := pk_mul 3 h
theorem ph_2 (h : Nat) : (2 : Int32) * nI h = nI (2 * h) := pk_mul 2 h
theorem ph_a1 (n : Nat) : nI n + 1 = nI (n + 1) := nI_1 n
theorem ph_a2 (n : Nat) : nI n + 2 = nI (n + 2) := nI_add n 2
theorem ph_96 (r : Nat) : (96 : Int32) + nI r = nI (96 + r) := nI_add 96 r
theorem ph_sl (h s : Nat) : (32 : Int32) * nI h + nI s = nI (32 * h + s) := by rw [ph_32, nI_add]
theorem ph_f0 (h s : Nat) : (2 : Int32) * (32 * nI h + nI s) = nI (2 * (32 * h + s)) := by rw [ph_sl, ph_2]
theorem ph_fx (h s f : Nat) : (2 : Int32) * (32 * nI h + nI s) + nI f = nI (2 * (32 * h + s) + f) := by rw [ph_f0, nI_add]
theorem ph_rx (h r : Nat) : (3 : Int32) * nI h + nI r = nI (3 * h + r) := by rw [ph_3, nI_add]
theorem ph_lx (h r : Nat) : (99 : Int32) * nI h + nI r = nI (99 * h + r) := by rw [ph_99, nI_add]
theorem ph_o1 {h : Nat} (hh : h < 2) : (1 : Int32) - nI h = nI (1 - h) := pk_sub (a := 1) (by omega)
theorem ph_d3 {p : Nat} (hp : p < 2 ^ 31) : nI p / 3 = nI (p / 3) := pk_div hp (d := 3) (by decide) (by decide)
theorem ph_m3 {p : Nat} (hp : p < 2 ^ 31) : nI p - nI p / 3 * 3 = nI (p % 3) := pk_rem hp (d := 3) (by decide) (by decide)
theorem ph_d2 {p : Nat} (hp : p < 2 ^ 31) : nI p / 2 = nI (p / 2) := pk_div hp (d := 2) (by decide) (by decide)
theorem ph_30 : ¬ (3 : Int32) = 0 := by decide
theorem ph_20 : ¬ (2 : Int32) = 0 := by decide
theorem ph_us {f : Nat → Int32} {k j : Nat} {x : Int32} (h : j = k) : upd f k x j = x := if_pos h
theorem ph_nn {x : Int32} (h : ¬ x = 0) : x ≠ 0 := h
theorem ph_10 : ¬ (1 : Int32) = 0 := by decide
/-! counts -/
def ph_cn (p : Nat → Bool) : Nat → Nat
  | 0 => 0
  | n + 1 => ph_cn p n + (if p n = true then 1 else 0)
theorem ph_cn_le (p : Nat → Bool) (n : Nat) : ph_cn p n ≤ n := by
  induction n with
  | zero => exact Nat.le_refl _
  | succ n ih => simp only [ph_cn]; split <;> omega
theorem ph_cn_congr {p q : Nat → Bool} {n : Nat} (h : ∀ i, i < n → p i = q i) : ph_cn p n = ph_cn q n := by
  induction n with
  | zero => rfl
  | succ n ih => simp only [ph_cn]; rw [ih (fun i hi => h i (by omega)), h n (by omega)]
theorem ph_cn_mono {p q : Nat → Bool} {n : Nat} (h : ∀ i, i < n → p i = true → q i = true) : ph_cn p n ≤ ph_cn q n := by
  induction n with
  | zero => exact Nat.le_refl _
  | succ n ih =>
    have a := ih (fun i hi => h i (by omega))
    have b := h n (by omega)
    simp only [ph_cn]
    by_cases hp : p n = true
    · rw [if_pos hp, if_pos (b hp)]; omega
    · rw [if_neg hp]; split <;> omega
theorem ph_cn_lt {p q : Nat → Bool} {n : Nat} (h : ∀ i, i < n → p i = true → q i = true) (i : Nat) (hi : i < n) (hp : p i = false) (hq : q i = true) : ph_cn p n < ph_cn q n := by
  induction n with
  | zero => omega
  | succ n ih =>
    by_cases e : i = n
    · subst e
      have a := ph_cn_mono (n := i) (fun j hj => h j (by omega))
      simp only [ph_cn]
      rw [if_pos hq, if_neg (by rw [hp]; decide)]
      omega
    · have a := ih (fun j hj => h j (by omega)) (by omega)
      have b := h n (by omega)
      simp only [ph_cn]
      by_cases hp : p n = true
      · rw [if_pos hp, if_pos (b hp)]; omega
      · rw [if_neg hp]; split <;> omega
theorem ph_cn_full {p : Nat → Bool} {n : Nat} (h : n ≤ ph_cn p n) : ∀ i, i < n → p i = true := by
  induction n with
  | zero => intro i hi; omega
  | succ n ih =>
    intro i hi
    have a := ph_cn_le p n
    simp only [ph_cn] at h
    by_cases hp : p n = true
    · rw [if_pos hp] at h
      by_cases e : i = n
      · rw [e]; exact hp
      · exact ih (by omega) i (by omega)
    · rw [if_neg hp] at h; omega
theorem ph_cn_true (n : Nat) : ph_cn (fun _ => true) n = n := by
  induction n with
  | zero => rfl
  | succ n ih => simp only [ph_cn, if_true]; omega
theorem ph_cn_del {q : Nat → Bool} {m j : Nat} (hj : j < m) (hq : q j = true) : ph_cn (fun x => q x && decide (x ≠ j)) m + 1 = ph_cn q m := by
  induction m with
  | zero => omega
  | succ m ih =>
    by_cases e : j = m
    · subst e
      have a : ph_cn (fun x => q x && decide (x ≠ j)) j = ph_cn q j := ph_cn_congr (fun i hi => by
        have : decide (i ≠ j) = true := decide_eq_true (by omega)
        show (q i && decide (i ≠ j)) = q i
        rw [this, Bool.and_true])
      show ph_cn (fun x => q x && decide (x ≠ j)) j + (if (q j && decide (j ≠ j)) = true then 1 else 0) + 1 = ph_cn q j + (if q j = true then 1 else 0)
      rw [a, if_pos hq, if_neg (by simp)]
    · have a := ih (by omega)
      show ph_cn (fun x => q x && decide (x ≠ j)) m + (if (q m && decide (m ≠ j)) = true then 1 else 0) + 1 = ph_cn q m + (if q m = true then 1 else 0)
      have : decide (m ≠ j) = true := decide_eq_true (by omega)
      rw [this, Bool.and_true]
      omega
theorem ph_cn_inj {R : Nat → Nat → Prop} (hR : ∀ i i' j, R i j → R i' j → i = i') {p : Nat → Bool} {n m : Nat} : ∀ {q : Nat → Bool}, (∀ i, i < n → p i = true → ∃ j, j < m ∧ q j = true ∧ R i j) → ph_cn p n ≤ ph_cn q m := by
  induction n with
  | zero => intro q _; exact Nat.zero_le _
  | succ n ih =>
    intro q h
    by_cases hp : p n = true
    · obtain ⟨j, hj, hq, hr⟩ := h n (by omega) hp
      have a := ph_cn_del hj hq
      have b := ih (q := fun x => q x && decide (x ≠ j)) (fun i hi hpi => by
        obtain ⟨j', hj', hq', hr'⟩ := h i (by omega) hpi
        refine ⟨j', hj', ?_, hr'⟩
        have : j' ≠ j := fun e => by
          subst e
          have := hR _ _ _ hr hr'
          omega
        show (q j' && decide (j' ≠ j)) = true
        rw [hq', decide_eq_true this]
        rfl)
      simp only [ph_cn]
      rw [if_pos hp]
      omega
    · have b := ih (q := q) (fun i hi hpi => h i (by omega) hpi)
      simp only [ph_cn]
      rw [if_neg hp]
      omega
/-- n places, all different, below m, none of them p: so n < m -/
theorem ph_pig {P : Nat → Nat} {n m p : Nat} (hp : p < m) (hP : ∀ j, j < n → P j < m ∧ P j ≠ p) (hd : ∀ i j, i < n → j < n → P i = P j → i = j) : n < m := by
  have a : ph_cn (fun i => decide (i < n)) n ≤ ph_cn (fun j => decide (j ≠ p)) m := ph_cn_inj (R := fun i j => i < n ∧ P i = j)
    (fun i i' j h h' => hd i i' h.1 h'.1 (h.2.trans h'.2.symm))
    (fun i hi _ => ⟨P i, (hP i hi).1, decide_eq_true (hP i hi).2, hi, rfl⟩)
  have b : ph_cn (fun i => decide (i < n)) n = n := (ph_cn_congr (fun i hi => decide_eq_true hi)).trans (ph_cn_true n)
  have c := ph_cn_del (q := fun _ => true) hp rfl
  have d : ph_cn (fun x => true && decide (x ≠ p)) m = ph_cn (fun j => decide (j ≠ p)) m := ph_cn_congr (fun i _ => Bool.true_and _)
  have e := ph_cn_true m
  omega
/-! least closed sets -/
def ph_R (st : Nat → Prop) (E : Nat → Nat → Prop) (s : Nat) : Prop := ∀ P : Nat → Prop, (∀ x, st x → P x) → (∀ x y, P x → E x y → P y) → P s
theorem ph_R_st {st : Nat → Prop} {E : Nat → Nat → Prop} {s : Nat} (h : st s) : ph_R st E s := fun _ a _ => a s h
theorem ph_R_E {st : Nat → Prop} {E : Nat → Nat → Prop} {s t : Nat} (h : ph_R st E s) (e : E s t) : ph_R st E t := fun P a b => b s t (h P a b) e
theorem ph_bi {R : Nat → Nat → Prop} {st st' : Nat → Prop} {E E' : Nat → Nat → Prop} (h0 : ∀ s, st s → ∃ k, R s k ∧ st' k) (h1 : ∀ s k s', R s k → E s s' → ∃ k', R s' k' ∧ E' k k') {s : Nat} (h : ph_R st E s) : ∃ k, R s k ∧ ph_R st' E' k :=
  h (fun s => ∃ k, R s k ∧ ph_R st' E' k) (fun s hs => by
    obtain ⟨k, a, b⟩ := h0 s hs
    exact ⟨k, a, ph_R_st b⟩) (fun s s' hs he => by
    obtain ⟨k, a, b⟩ := hs
    obtain ⟨k', c, d⟩ := h1 s k s' a he
    exact ⟨k', c, ph_R_E b d⟩)
end
section
/-! part 03: the reference's walks -/
def yq_rg (n : Nat) (a : Nat → Int32) : Prop := ∀ i, i < n → ∃ t : Nat, t < 25 ∧ a i = nI t
def yq_E (yf yo ys : Nat → Int32) (b : Int32) (k k' : Nat) : Prop := k < 24 ∧ k' < 24 ∧ ∃ f, f < 2 ∧ (yf (2 * k + f) = nI k' ∨ (b ≠ 0 ∧ ys k ≠ 0 ∧ yo (2 * k + f) = nI k'))
def yq_I (yf yo ys : Nat → Int32) (b : Int32) (Q : Nat → Prop) (e0 : Nat → Int32) (i : Nat) (e : Nat → Int32) : Prop :=
  (∀ k, k < 24 → e0 k ≠ 0 → e k ≠ 0) ∧ (∀ k, k < 24 → e k ≠ 0 → Q k) ∧
  (∀ k f k', k < 24 → f < 2 → 2 * k + f < i → k' < 24 → e0 k ≠ 0 → (yf (2 * k + f) = nI k' ∨ (b ≠ 0 ∧ ys k ≠ 0 ∧ yo (2 * k + f) = nI k')) → e k' ≠ 0)
def yq_c (e : Nat → Int32) : Nat := ph_cn (fun k => decide (e k ≠ 0)) 24
theorem yq_u {e : Nat → Int32} {k t : Nat} (h : e k ≠ 0) : upd e t 1 k ≠ 0 := by
  by_cases e0 : k = t
  · rw [ph_us e0]; exact ph_10
  · rw [pk_un e0]; exact h
section
variable {yn yt yf yo ys yr yp yg ye : Nat → Int32}
theorem yq_I1 {b : Int32} {Q : Nat → Prop} {e0 e : Nat → Int32} {i : Nat} (h : yq_I yf yo ys b Q e0 i e) (hs : e (i / 2) = 0) : yq_I yf yo ys b Q e0 (i + 1) e := by
  refine ⟨h.1, h.2.1, fun k f k' hk hf hi hk' h0 hE => ?_⟩
  by_cases c : 2 * k + f = i
  · have : i / 2 = k := by omega
    rw [this] at hs
    exact absurd hs (h.1 k hk h0)
  · exact h.2.2 k f k' hk hf (by omega) hk' h0 hE
theorem yq_I2 {b : Int32} {Q : Nat → Prop} (hQ : ∀ k k', Q k → yq_E yf yo ys b k k' → Q k') {e0 e : Nat → Int32} {i t : Nat} (hi : i < 48) (h : yq_I yf yo ys b Q e0 i e) (hs : e (i / 2) ≠ 0) (et : yf i = nI t) (ht : t < 25) (nb : ¬ (b ≠ 0 ∧ ys (i / 2) ≠ 0)) : yq_I yf yo ys b Q e0 (i + 1) (upd e t 1) := by
  refine ⟨fun k hk h0 => yq_u (h.1 k hk h0), fun k hk hu => ?_, fun k f k' hk hf hi2 hk' h0 hE => ?_⟩
  · by_cases c : k = t
    · refine hQ (i / 2) k (h.2.1 (i / 2) (by omega) hs) ⟨by omega, hk, i % 2, by omega, Or.inl ?_⟩
      rw [show 2 * (i / 2) + i % 2 = i from by omega, et, c]
    · rw [pk_un c] at hu
      exact h.2.1 k hk hu
  · by_cases c : 2 * k + f = i
    · have ek : i / 2 = k := by omega
      rcases hE with hE | hE
      · rw [c, et] at hE
        rw [ph_us (ph_inj (by omega) (by omega) hE).symm]
        exact ph_10
      · rw [ek] at nb
        exact absurd ⟨hE.1, hE.2.1⟩ nb
    · exact yq_u (h.2.2 k f k' hk hf (by omega) hk' h0 hE)
theorem yq_I3 {b : Int32} {Q : Nat → Prop} (hQ : ∀ k k', Q k → yq_E yf yo ys b k k' → Q k') {e0 e : Nat → Int32} {i t t' : Nat} (hi : i < 48) (h : yq_I yf yo ys b Q e0 i e) (hs : e (i / 2) ≠ 0) (et : yf i = nI t) (ht : t < 25) (hb : b ≠ 0) (hv : ys (i / 2) ≠ 0) (et' : yo i = nI t') (ht' : t' < 25) : yq_I yf yo ys b Q e0 (i + 1) (upd (upd e t 1) t' 1) := by
  refine ⟨fun k hk h0 => yq_u (yq_u (h.1 k hk h0)), fun k hk hu => ?_, fun k f k' hk hf hi2 hk' h0 hE => ?_⟩
  · have hq := h.2.1 (i / 2) (by omega) hs
    by_cases c : k = t'
    · refine hQ (i / 2) k hq ⟨by omega, hk, i % 2, by omega, Or.inr ⟨hb, hv, ?_⟩⟩
      rw [show 2 * (i / 2) + i % 2 = i from by omega, et', c]
    · rw [pk_un c] at hu
      by_cases c2 : k = t
      · refine hQ (i / 2) k hq ⟨by omega, hk, i % 2, by omega, Or.inl ?_⟩
        rw [show 2 * (i / 2) + i % 2 = i from by omega, et, c2]
      · rw [pk_un c2] at hu
        exact h.2.1 k hk hu
  · by_cases c : 2 * k + f = i
    · rcases hE with hE | hE
      · rw [c, et] at hE
        refine yq_u ?_
        rw [ph_us (ph_inj (by omega) (by omega) hE).symm]
        exact ph_10
      · have hE := hE.2.2
        rw [c, et'] at hE
        rw [ph_us (ph_inj (by omega) (by omega) hE).symm]
        exact ph_10
    · exact yq_u (yq_u (h.2.2 k f k' hk hf (by omega) hk' h0 hE))
theorem yq_forget {post : SY → Prop} (h : ∀ e : Nat → Int32, (∀ k, k < 25 → e k = 0) → post (yn, yt, yf, yo, ys, yr, yp, yg, e)) : wpY_forget post (yn, yt, yf, yo, ys, yr, yp, yg, ye) := by
  unfold wpY_forget
  dsimp only
  refine loop_0 (fun n i e => wY_forget_2 post n (nI i) yn yt yf yo ys yr yp yg e) (fun i e => ∀ k, k < i → e k = 0) 25 ye (fun k hk => absurd hk (Nat.not_lt_zero _)) (fun n e he => ?_) (fun n i e hi he J => ?_)
  · exact pk_lt 24 25 (fun _ => h e he) (fun z => absurd z (by omega))
  · refine pk_lt 24 i (fun z => absurd z (by omega)) (fun _ => ⟨vp_in_nI hi (by decide), nm_r (e' := upd e i 0) (by rw [nI_clamp (by omega), ph_vb0]) (nm_r (nI_1 i) (J _ (fun k hk => ?_)))⟩)
    by_cases e0 : k = i
    · exact ph_us e0
    · rw [pk_un e0]; exact he k (by omega)
theorem yq_pass {post : Int32 → SY → Prop} {J2 : Int32 → (Nat → Int32) → (Nat → Int32) → (Nat → Int32) → (Nat → Int32) → (Nat → Int32) → (Nat → Int32) → (Nat → Int32) → (Nat → Int32) → (Nat → Int32) → Prop} {x1 x2 : Int32} {Q : Nat → Prop} {e0 : Nat → Int32} (hf : yq_rg 48 yf) (ho : yq_rg 48 yo) (hQ : ∀ k k', Q k → yq_E yf yo ys x1 k k' → Q k') (h0 : ∀ k, k < 24 → e0 k ≠ 0 → Q k) (hJ : ∀ e, yq_I yf yo ys x1 Q e0 48 e → J2 (x2 + 1) yn yt yf yo ys yr yp yg e) : ∃ n, wY_follow_10 post J2 x1 x2 n 0 yn yt yf yo ys yr yp yg e0 := by
  refine loop_0 (fun n i e => wY_follow_10 post J2 x1 x2 n (nI i) yn yt yf yo ys yr yp yg e) (fun i e => yq_I yf yo ys x1 Q e0 i e) 48 e0 ⟨fun _ _ h => h, h0, fun k f k' _ _ h => absurd h (Nat.not_lt_zero _)⟩ (fun n e he => ?_) (fun n i e hi he J => ?_)
  · exact pk_le 48 48 (fun _ => nm_e (hJ e he)) (fun z => absurd z (Nat.lt_irrefl _))
  · refine pk_le 48 i (fun z => absurd z (by omega)) (fun _ => ?_)
    obtain ⟨t, ht, et⟩ := hf i hi
    obtain ⟨t', ht', et'⟩ := ho i hi
    have hd : (nI i / 2).toNatClampNeg = i / 2 := by rw [ph_d2 (by omega), nI_clamp (by omega)]
    have hin : vp_in (nI i / 2) 25 := by rw [ph_d2 (by omega)]; exact vp_in_nI (by omega) (by decide)
    have hin2 : vp_in (nI i / 2) 24 := by rw [ph_d2 (by omega)]; exact vp_in_nI (by omega) (by decide)
    have hci : (nI i).toNatClampNeg = i := nI_clamp (by omega)
    by_cases hs : e (i / 2) = 0
    · exact And.intro ph_20 (And.intro hin (br_t (by rw [hd]; exact hs) (And.intro ph_20 (And.intro hin (br_t (by rw [hd]; exact hs) (nm_r (nI_1 i) (J _ (yq_I1 he hs))))))))
    · refine And.intro ph_20 (And.intro hin (br_f (by rw [hd]; exact hs) (And.intro (vp_in_nI hi (by decide)) (And.intro (by rw [hci, et]; exact vp_in_nI ht (by decide)) (nm_r (e' := upd e t 1) (by rw [hci, et, nI_clamp (by omega), ph_vb1]) (And.intro ph_20 (And.intro hin (br_f (by rw [hd]; exact yq_u hs) ?_))))))))
      by_cases hb : x1 = 0
      · exact br_t hb (nm_r (nI_1 i) (J _ (yq_I2 hQ hi he hs et ht (fun z => z.1 hb))))
      · refine br_f hb (And.intro ph_20 (And.intro hin2 ?_))
        by_cases hv : ys (i / 2) = 0
        · exact br_t (by rw [hd]; exact hv) (nm_r (nI_1 i) (J _ (yq_I2 hQ hi he hs et ht (fun z => z.2 hv))))
        · exact br_f (by rw [hd]; exact hv) (And.intro (vp_in_nI hi (by decide)) (And.intro (by rw [hci, et']; exact vp_in_nI ht' (by decide)) (nm_r (e' := upd (upd e t 1) t' 1) (by rw [hci, et', nI_clamp (by omega), ph_vb1]) (nm_r (nI_1 i) (J _ (yq_I3 hQ hi he hs et ht hb hv et' ht'))))))
theorem yq_count {post : Int32 → SY → Prop} (h : post (nI (yq_c ye)) (yn, yt, yf, yo, ys, yr, yp, yg, ye)) : ∃ n, wY_follow_93 post yn yt yf yo ys yr yp yg ye n 0 0 := by
  refine loop_0 (fun n i x => wY_follow_93 post yn yt yf yo ys yr yp yg ye n x (nI i)) (fun i x => x = nI (ph_cn (fun k => decide (ye k ≠ 0)) i)) 24 0 rfl (fun n x hx => ?_) (fun n i x hi hx J => ?_)
  · exact pk_le 24 24 (fun _ => by rw [hx]; exact h) (fun z => absurd z (Nat.lt_irrefl _))
  · refine pk_le 24 i (fun z => absurd z (by omega)) (fun _ => And.intro (vp_in_nI (by omega) (by decide)) ?_)
    have hci : (nI i).toNatClampNeg = i := nI_clamp (by omega)
    by_cases z : ye i = 0
    · refine br_t (by rw [hci]; exact z) (nm_r (nI_1 i) (J _ ?_))
      rw [hx]
      show _ = nI (ph_cn (fun k => decide (ye k ≠ 0)) i + (if decide (ye i ≠ 0) = true then 1 else 0))
      rw [if_neg (by simp [z])]
      rfl
    · refine br_f (by rw [hci]; exact z) (nm_e (nm_r (nI_1 i) (J _ ?_)))
      rw [hx, nI_1]
      show _ = nI (ph_cn (fun k => decide (ye k ≠ 0)) i + (if decide (ye i ≠ 0) = true then 1 else 0))
      rw [if_pos (by simp [z])]
theorem yq_follow {post : Int32 → SY → Prop} {x1 : Int32} {st : Nat → Prop} (hf : yq_rg 48 yf) (ho : yq_rg 48 yo) (hst : ∀ k, st k → k < 24) (h0 : ∀ k, k < 24 → (ye k ≠ 0 ↔ st k)) (h : ∀ e, (∀ k, k < 24 → (e k ≠ 0 ↔ ph_R st (yq_E yf yo ys x1) k)) → post (nI (yq_c e)) (yn, yt, yf, yo, ys, yr, yp, yg, e)) : wpY_follow post (yn, yt, yf, yo, ys, yr, yp, yg, ye) x1 := by
  unfold wpY_follow
  dsimp only
  refine loop_0 (fun n i e => wY_follow_2 post x1 n (nI i) yn yt yf yo ys yr yp yg e) (fun i e => (∀ k, k < 24 → st k → e k ≠ 0) ∧ (∀ k, k < 24 → e k ≠ 0 → ph_R st (yq_E yf yo ys x1) k) ∧ ((∀ k k', e k ≠ 0 → yq_E yf yo ys x1 k k' → e k' ≠ 0) ∨ i ≤ yq_c e)) 24 ye ⟨fun k hk a => (h0 k hk).mpr a, fun k hk a => ph_R_st ((h0 k hk).mp a), Or.inr (Nat.zero_le _)⟩ (fun n e he => ?_) (fun n i e hi he J => ?_)
  · obtain ⟨a, b, c⟩ := he
    have cl : ∀ k k', e k ≠ 0 → yq_E yf yo ys x1 k k' → e k' ≠ 0 := by
      rcases c with c | c
      · exact c
      · intro k k' _ hE
        exact of_decide_eq_true (ph_cn_full c k' hE.2.1)
    exact pk_le 24 24 (fun _ => yq_count (h e (fun k hk => ⟨b k hk, fun hR => (hR (fun k => k < 24 ∧ e k ≠ 0) (fun x hx => ⟨hst x hx, a x (hst x hx) hx⟩) (fun x y hx hE => ⟨hE.2.1, cl x y hx.2 hE⟩)).2⟩))) (fun z => absurd z (Nat.lt_irrefl _))
  · obtain ⟨a, b, c⟩ := he
    refine pk_le 24 i (fun z => absurd z (by omega)) (fun _ => yq_pass hf ho (fun k k' q hE => ph_R_E q hE) b (fun e' h' => ?_))
    have J2 := J e'
    rw [← nI_1] at J2
    refine J2 ⟨fun k hk s => h'.1 k hk (a k hk s), h'.2.1, ?_⟩
    have key : (∀ k, k < 24 → e' k ≠ 0 → e k ≠ 0) → ∀ k k', e' k ≠ 0 → yq_E yf yo ys x1 k k' → e' k' ≠ 0 := by
      intro hc k k' hk hE
      obtain ⟨h1, h2, f, hf2, hh⟩ := hE
      exact h'.2.2 k f k' h1 hf2 (by omega) h2 (hc k h1 hk) hh
    rcases c with c | c
    · refine Or.inl (key (fun k hk hek => ?_))
      exact ((h'.2.1 k hk hek) (fun k => k < 24 ∧ e k ≠ 0) (fun x hx => ⟨hst x hx, a x (hst x hx) hx⟩) (fun x y hx hE => ⟨hE.2.1, c x y hx.2 hE⟩)).2
    · by_cases hc : ∀ k, k < 24 → e' k ≠ 0 → e k ≠ 0
      · exact Or.inl (key hc)
      · refine Or.inr ?_
        obtain ⟨k, hk⟩ := Classical.not_forall.mp hc
        obtain ⟨hk1, hk⟩ := Classical.not_imp.mp hk
        obtain ⟨hk2, hk3⟩ := Classical.not_imp.mp hk
        have := ph_cn_lt (p := fun k => decide (e k ≠ 0)) (q := fun k => decide (e' k ≠ 0)) (n := 24) (fun j hj hp => decide_eq_true (h'.1 j hj (of_decide_eq_true hp))) k hk1 (decide_eq_false hk3) (decide_eq_true hk2)
        have c2 : i ≤ ph_cn (fun k => decide (e k ≠ 0)) 24 := c
        show i + 1 ≤ ph_cn (fun k => decide (e' k ≠ 0)) 24
        omega
theorem yq_mark {a e : Nat → Int32} {B : Nat → Prop} {i t : Nat} (h : ∀ k, k < 25 → (e k ≠ 0 ↔ B k ∨ ∃ r, r < i ∧ a r = nI k)) (et : a i = nI t) (ht : t < 25) : ∀ k, k < 25 → (upd e t 1 k ≠ 0 ↔ B k ∨ ∃ r, r < i + 1 ∧ a r = nI k) := by
  intro k hk
  by_cases e0 : k = t
  · subst e0
    rw [pk_us]
    exact ⟨fun _ => Or.inr ⟨i, by omega, et⟩, fun _ => ph_10⟩
  · rw [pk_un e0, h k hk]
    constructor
    · rintro (b | ⟨r, hr, er⟩)
      · exact Or.inl b
      · exact Or.inr ⟨r, by omega, er⟩
    · rintro (b | ⟨r, hr, er⟩)
      · exact Or.inl b
      · by_cases c : r = i
        · subst c
          exact absurd (ph_inj (by omega) (by omega) (er.symm.trans et)) e0
        · exact Or.inr ⟨r, by omega, er⟩
def yq_stN (yr yp yg : Nat → Int32) (k : Nat) : Prop := k < 24 ∧ (((∃ r, r < 3 ∧ yr r = nI k) ∨ (∃ r, r < 3 ∧ yp r = nI k)) ∨ (∃ g, g < 4 ∧ yg g = nI k))
def yq_stR (yr : Nat → Int32) (k : Nat) : Prop := k < 24 ∧ ∃ r, r < 3 ∧ yr r = nI k
def yq_st1 (yr : Nat → Int32) (r : Nat) (k : Nat) : Prop := k < 24 ∧ yr r = nI k
theorem yq_need {post : Int32 → SY → Prop} (hf : yq_rg 48 yf) (ho : yq_rg 48 yo) (hr : yq_rg 3 yr) (hp : yq_rg 3 yp) (hg : yq_rg 4 yg) (h : ∀ e, (∀ k, k < 24 → (e k ≠ 0 ↔ ph_R (yq_stN yr yp yg) (yq_E yf yo ys 1) k)) → post (nI (yq_c e)) (yn, yt, yf, yo, ys, yr, yp, yg, e)) : wpY_need post (yn, yt, yf, yo, ys, yr, yp, yg, ye) := by
  unfold wpY_need
  dsimp only
  refine yq_forget (fun e0 z0 => ?_)
  dsimp only
  refine loop_0 (fun n i e => wY_need_6 post n (nI i) yn yt yf yo ys yr yp yg e) (fun i e => ∀ k, k < 25 → (e k ≠ 0 ↔ False ∨ ∃ r, r < i ∧ yr r = nI k)) 3 e0 (fun k hk => ⟨fun z => absurd (z0 k hk) z, fun z => z.elim False.elim (fun ⟨r, hr, _⟩ => absurd hr (Nat.not_lt_zero _))⟩) (fun n e he => ?_) (fun n i e hi he J => ?_)
  · refine pk_le 3 3 (fun _ => ?_) (fun z => absurd z (Nat.lt_irrefl _))
    refine loop_0 (fun n i e => wY_need_31 post n (nI i) yn yt yf yo ys yr yp yg e) (fun i e => ∀ k, k < 25 → (e k ≠ 0 ↔ (∃ r, r < 3 ∧ yr r = nI k) ∨ ∃ r, r < i ∧ yp r = nI k)) 3 e (fun k hk => ⟨fun z => ?_, fun z => ?_⟩) (fun n e he => ?_) (fun n i e hi he J => ?_)
    · rcases (he k hk).mp z with z | z
      · exact z.elim
      · exact Or.inl z
    · rcases z with z | ⟨r, hr, _⟩
      · exact (he k hk).mpr (Or.inr z)
      · omega
    · refine pk_le 3 3 (fun _ => ?_) (fun z => absurd z (Nat.lt_irrefl _))
      refine loop_0 (fun n i e => wY_need_56 post n (nI i) yn yt yf yo ys yr yp yg e) (fun i e => ∀ k, k < 25 → (e k ≠ 0 ↔ ((∃ r, r < 3 ∧ yr r = nI k) ∨ (∃ r, r < 3 ∧ yp r = nI k)) ∨ ∃ r, r < i ∧ yg r = nI k)) 4 e (fun k hk => ⟨fun z => Or.inl ((he k hk).mp z), fun z => ?_⟩) (fun n e he => ?_) (fun n i e hi he J => ?_)
      · rcases z with z | ⟨r, hr, _⟩
        · exact (he k hk).mpr z
        · omega
      · refine pk_le 4 4 (fun _ => ?_) (fun z => absurd z (Nat.lt_irrefl _))
        exact yq_follow (st := yq_stN yr yp yg) hf ho (fun k s => s.1) (fun k hk => ⟨fun z => ⟨hk, (he k (by omega)).mp z⟩, fun z => (he k (by omega)).mpr z.2⟩) (fun e h' => h e h')
      · obtain ⟨t, ht, et⟩ := hg i hi
        exact pk_le 4 i (fun z => absurd z (by omega)) (fun _ => ⟨vp_in_nI hi (by decide), by rw [nI_clamp (by omega), et]; exact vp_in_nI ht (by decide), nm_r (e' := upd e t 1) (by rw [nI_clamp (n := i) (by omega), et, nI_clamp (by omega), ph_vb1]) (nm_r (nI_1 i) (J _ (yq_mark he et ht)))⟩)
    · obtain ⟨t, ht, et⟩ := hp i hi
      exact pk_le 3 i (fun z => absurd z (by omega)) (fun _ => ⟨vp_in_nI hi (by decide), by rw [nI_clamp (by omega), et]; exact vp_in_nI ht (by decide), nm_r (e' := upd e t 1) (by rw [nI_clamp (n := i) (by omega), et, nI_clamp (by omega), ph_vb1]) (nm_r (nI_1 i) (J _ (yq_mark he et ht)))⟩)
  · obtain ⟨t, ht, et⟩ := hr i hi
    exact pk_le 3 i (fun z => absurd z (by omega)) (fun _ => ⟨vp_in_nI hi (by decide), by rw [nI_clamp (by omega), et]; exact vp_in_nI ht (by decide), nm_r (e' := upd e t 1) (by rw [nI_clamp (n := i) (by omega), et, nI_clamp (by omega), ph_vb1]) (nm_r (nI_1 i) (J _ (yq_mark he et ht)))⟩)
theorem yq_fromRoots {post : Int32 → SY → Prop} (hf : yq_rg 48 yf) (ho : yq_rg 48 yo) (hr : yq_rg 3 yr) (h : ∀ e, (∀ k, k < 24 → (e k ≠ 0 ↔ ph_R (yq_stR yr) (yq_E yf yo ys 0) k)) → post (nI (yq_c e)) (yn, yt, yf, yo, ys, yr, yp, yg, e)) : wpY_fromRoots post (yn, yt, yf, yo, ys, yr, yp, yg, ye) := by
  unfold wpY_fromRoots
  dsimp only
  refine yq_forget (fun e0 z0 => ?_)
  dsimp only
  refine loop_0 (fun n i e => wY_fromRoots_6 post n (nI i) yn yt yf yo ys yr yp yg e) (fun i e => ∀ k, k < 25 → (e k ≠ 0 ↔ False ∨ ∃ r, r < i ∧ yr r = nI k)) 3 e0 (fun k hk => ⟨fun z => absurd (z0 k hk) z, fun z => z.elim False.elim (fun ⟨r, hr, _⟩ => absurd hr (Nat.not_lt_zero _))⟩) (fun n e he => ?_) (fun n i e hi he J => ?_)
  · refine pk_le 3 3 (fun _ => ?_) (fun z => absurd z (Nat.lt_irrefl _))
    exact yq_follow (st := yq_stR yr) hf ho (fun k s => s.1) (fun k hk => ⟨fun z => ⟨hk, ((he k (by omega)).mp z).elim False.elim id⟩, fun z => (he k (by omega)).mpr (Or.inr z.2)⟩) (fun e h' => h e h')
  · obtain ⟨t, ht, et⟩ := hr i hi
    exact pk_le 3 i (fun z => absurd z (by omega)) (fun _ => ⟨vp_in_nI hi (by decide), by rw [nI_clamp (by omega), et]; exact vp_in_nI ht (by decide), nm_r (e' := upd e t 1) (by rw [nI_clamp (n := i) (by omega), et, nI_clamp (by omega), ph_vb1]) (nm_r (nI_1 i) (J _ (yq_mark he et ht)))⟩)
end
end
section
/-! part 04: the reference's save and back -/
section
variable {yn yt yf yo ys yr yp yg ye : Nat → Int32}
theorem yq_save {post : Int32 → SY → Prop} (hf : yq_rg 48 yf) (hr : yq_rg 3 yr) (h : ∀ t s o p e : Nat → Int32, (∀ k, k < 24 → t k = yn k) → (∀ k, k < 24 → s k = 1) → (∀ i, i < 48 → o i = yf i) → (∀ r, r < 3 → p r = yr r) → (∀ k, k < 24 → (e k ≠ 0 ↔ ph_R (yq_stR yr) (yq_E yf o s 0) k)) → post (nI (yq_c e)) (yn, t, yf, o, s, yr, p, yg, e)) : wpY_save post (yn, yt, yf, yo, ys, yr, yp, yg, ye) := by
  unfold wpY_save
  dsimp only
  refine loop_0 (fun n i (s : (Nat → Int32) × (Nat → Int32)) => wY_save_2 post n (nI i) yn s.1 yf yo s.2 yr yp yg ye) (fun i s => (∀ k, k < i → s.1 k = yn k) ∧ (∀ k, k < i → s.2 k = 1)) 24 (yt, ys) ⟨fun k hk => absurd hk (Nat.not_lt_zero _), fun k hk => absurd hk (Nat.not_lt_zero _)⟩ (fun n s hs => ?_) (fun n i s hi hs J => ?_)
  · refine pk_le 24 24 (fun _ => ?_) (fun z => absurd z (Nat.lt_irrefl _))
    refine loop_0 (fun n i o => wY_save_35 post n (nI i) yn s.1 yf o s.2 yr yp yg ye) (fun i o => ∀ k, k < i → o k = yf k) 48 yo (fun k hk => absurd hk (Nat.not_lt_zero _)) (fun n o ho => ?_) (fun n i o hi ho J => ?_)
    · refine pk_le 48 48 (fun _ => ?_) (fun z => absurd z (Nat.lt_irrefl _))
      refine loop_0 (fun n i p => wY_save_61 post n (nI i) yn s.1 yf o s.2 yr p yg ye) (fun i p => ∀ k, k < i → p k = yr k) 3 yp (fun k hk => absurd hk (Nat.not_lt_zero _)) (fun n p hp => ?_) (fun n i p hi hp J => ?_)
      · refine pk_le 3 3 (fun _ => ?_) (fun z => absurd z (Nat.lt_irrefl _))
        exact yq_fromRoots hf (fun i hi => by rw [ho i hi]; exact hf i hi) hr (fun e he => h s.1 s.2 o p e hs.1 hs.2 ho hp he)
      · refine pk_le 3 i (fun z => absurd z (by omega)) (fun _ => ⟨vp_in_nI hi (by decide), vp_in_nI hi (by decide), nm_r (e' := upd p i (yr i)) (by rw [nI_clamp (by omega)]) (nm_r (nI_1 i) (J _ (fun k hk => ?_)))⟩)
        by_cases c : k = i
        · rw [ph_us c, c]
        · rw [pk_un c]; exact hp k (by omega)
    · refine pk_le 48 i (fun z => absurd z (by omega)) (fun _ => ⟨vp_in_nI hi (by decide), vp_in_nI hi (by decide), nm_r (e' := upd o i (yf i)) (by rw [nI_clamp (by omega)]) (nm_r (nI_1 i) (J _ (fun k hk => ?_)))⟩)
      by_cases c : k = i
      · rw [ph_us c, c]
      · rw [pk_un c]; exact ho k (by omega)
  · refine pk_le 24 i (fun z => absurd z (by omega)) (fun _ => ⟨vp_in_nI hi (by decide), vp_in_nI hi (by decide), nm_r (e' := upd s.1 i (yn i)) (by rw [nI_clamp (by omega)]) ⟨vp_in_nI hi (by decide), nm_r (e' := upd s.2 i 1) (by rw [nI_clamp (by omega), ph_vb1]) (nm_r (nI_1 i) (J (upd s.1 i (yn i), upd s.2 i 1) ⟨fun k hk => ?_, fun k hk => ?_⟩))⟩⟩)
    · by_cases c : k = i
      · show upd s.1 i (yn i) k = _
        rw [ph_us c, c]
      · show upd s.1 i (yn i) k = _
        rw [pk_un c]; exact hs.1 k (by omega)
    · by_cases c : k = i
      · exact ph_us c
      · show upd s.2 i 1 k = _
        rw [pk_un c]; exact hs.2 k (by omega)
theorem yq_back {post : Int32 → SY → Prop} (hf : yq_rg 48 yf) (ho : yq_rg 48 yo) (hp : yq_rg 3 yp) (h : ∀ n' f' r' e : Nat → Int32, (∀ k, k < 24 → n' k = if ys k = 0 then yn k else yt k) → (∀ i, i < 48 → f' i = if ys (i / 2) = 0 then yf i else yo i) → (∀ r, r < 3 → r' r = yp r) → (∀ k, k < 24 → (e k ≠ 0 ↔ ph_R (yq_stR r') (yq_E f' yo ys 0) k)) → post (nI (yq_c e)) (n', yt, f', yo, ys, r', yp, yg, e)) : wpY_back post (yn, yt, yf, yo, ys, yr, yp, yg, ye) := by
  unfold wpY_back
  dsimp only
  refine loop_0 (fun n i s => wY_back_2 post n (nI i) s yt yf yo ys yr yp yg ye) (fun i s => (∀ k, k < i → s k = if ys k = 0 then yn k else yt k) ∧ (∀ k, i ≤ k → s k = yn k)) 24 yn ⟨fun k hk => absurd hk (Nat.not_lt_zero _), fun _ _ => rfl⟩ (fun n s hs => ?_) (fun n i s hi hs J => ?_)
  · refine pk_le 24 24 (fun _ => ?_) (fun z => absurd z (Nat.lt_irrefl _))
    refine loop_0 (fun n i f => wY_back_37 post n (nI i) s yt f yo ys yr yp yg ye) (fun i f => (∀ k, k < i → f k = if ys (k / 2) = 0 then yf k else yo k) ∧ (∀ k, i ≤ k → f k = yf k)) 48 yf ⟨fun k hk => absurd hk (Nat.not_lt_zero _), fun _ _ => rfl⟩ (fun n f hff => ?_) (fun n i f hi hff J => ?_)
    · refine pk_le 48 48 (fun _ => ?_) (fun z => absurd z (Nat.lt_irrefl _))
      refine loop_0 (fun n i r => wY_back_74 post n (nI i) s yt f yo ys r yp yg ye) (fun i r => ∀ k, k < i → r k = yp k) 3 yr (fun k hk => absurd hk (Nat.not_lt_zero _)) (fun n r hr => ?_) (fun n i r hi hr J => ?_)
      · refine pk_le 3 3 (fun _ => ?_) (fun z => absurd z (Nat.lt_irrefl _))
        refine yq_fromRoots (fun i hi => ?_) ho (fun i hi => by rw [hr i hi]; exact hp i hi) (fun e he => h s f r e hs.1 hff.1 hr he)
        rw [hff.1 i hi]
        by_cases c : ys (i / 2) = 0
        · rw [if_pos c]; exact hf i hi
        · rw [if_neg c]; exact ho i hi
      · refine pk_le 3 i (fun z => absurd z (by omega)) (fun _ => ⟨vp_in_nI hi (by decide), vp_in_nI hi (by decide), nm_r (e' := upd r i (yp i)) (by rw [nI_clamp (by omega)]) (nm_r (nI_1 i) (J _ (fun k hk => ?_)))⟩)
        by_cases c : k = i
        · rw [ph_us c, c]
        · rw [pk_un c]; exact hr k (by omega)
    · refine pk_le 48 i (fun z => absurd z (by omega)) (fun _ => ⟨ph_20, by rw [ph_d2 (by omega)]; exact vp_in_nI (by omega) (by decide), ?_⟩)
      have hd : (nI i / 2).toNatClampNeg = i / 2 := by rw [ph_d2 (by omega), nI_clamp (by omega)]
      by_cases z : ys (i / 2) = 0
      · refine br_t (by rw [hd]; exact z) (nm_r (nI_1 i) (J _ ⟨fun k hk => ?_, fun k hk => hff.2 k (by omega)⟩))
        by_cases c : k = i
        · rw [c, if_pos z]; exact hff.2 i (Nat.le_refl _)
        · exact hff.1 k (by omega)
      · refine br_f (by rw [hd]; exact z) ⟨vp_in_nI hi (by decide), vp_in_nI hi (by decide), nm_r (e' := upd f i (yo i)) (by rw [nI_clamp (by omega)]) (nm_r (nI_1 i) (J _ ⟨fun k hk => ?_, fun k hk => ?_⟩))⟩
        · by_cases c : k = i
          · rw [ph_us c, c, if_neg z]
          · rw [pk_un c]; exact hff.1 k (by omega)
        · rw [pk_un (by omega)]; exact hff.2 k (by omega)
  · refine pk_le 24 i (fun z => absurd z (by omega)) (fun _ => ⟨vp_in_nI hi (by decide), ?_⟩)
    have hd : (nI i).toNatClampNeg = i := nI_clamp (by omega)
    by_cases z : ys i = 0
    · refine br_t (by rw [hd]; exact z) (nm_r (nI_1 i) (J _ ⟨fun k hk => ?_, fun k hk => hs.2 k (by omega)⟩))
      by_cases c : k = i
      · rw [c, if_pos z]; exact hs.2 i (Nat.le_refl _)
      · exact hs.1 k (by omega)
    · refine br_f (by rw [hd]; exact z) ⟨vp_in_nI hi (by decide), vp_in_nI hi (by decide), nm_r (e' := upd s i (yt i)) (by rw [nI_clamp (by omega)]) (nm_r (nI_1 i) (J _ ⟨fun k hk => ?_, fun k hk => ?_⟩))⟩
      · by_cases c : k = i
        · rw [ph_us c, c, if_neg z]
        · rw [pk_un c]; exact hs.1 k (by omega)
      · rw [pk_un (by omega)]; exact hs.2 k (by omega)
/-- registers to nothing, then back -/
theorem yq_drop {post : Int32 → SY → Prop} (h : ∀ g : Nat → Int32, (∀ k, k < 4 → g k = 24) → wpY_back post (yn, yt, yf, yo, ys, yr, yp, g, ye)) : ∃ n, wY_crash_23 post n 0 yn yt yf yo ys yr yp yg ye := by
  refine loop_0 (fun n i g => wY_crash_23 post n (nI i) yn yt yf yo ys yr yp g ye) (fun i g => ∀ k, k < i → g k = 24) 4 yg (fun k hk => absurd hk (Nat.not_lt_zero _)) (fun n g hg => ?_) (fun n i g hi hg J => ?_)
  · exact pk_le 4 4 (fun _ => h g hg) (fun z => absurd z (Nat.lt_irrefl _))
  · refine pk_le 4 i (fun z => absurd z (by omega)) (fun _ => ⟨vp_in_nI hi (by decide), nm_r (e' := upd g i 24) (by rw [nI_clamp (by omega)]) (nm_r (nI_1 i) (J _ (fun k hk => ?_)))⟩)
    by_cases c : k = i
    · exact ph_us c
    · rw [pk_un c]; exact hg k (by omega)
end
end
section
/-! part 05: the component's reading walks -/
theorem xq_ff {A : Prop} (z : false = true) : A := by cases z
def xq_bit (x : Int32) : Int32 := if 0 ≤ x then (1 : Int32) <<< (x &&& 31) else 0
theorem xq_bitOf {post : Int32 → Prop} {u : SX} {x : Int32} (h : post (xq_bit x)) : wpX_bitOf post u x := by
  obtain ⟨a, b, c, d, e, f, g, i, j, k, l, m, n, o, p, q⟩ := u
  unfold xq_bit at h
  by_cases c0 : 0 ≤ x
  · rw [if_pos c0] at h; exact br_t c0 h
  · rw [if_neg c0] at h; exact br_f c0 h
theorem xq_b1 : ∀ j, j < 32 → bt 1 j = decide (j = 0) := by decide +kernel
theorem xq_bt {x : Int32} (hx : ph_rf x) {i : Nat} (hi : i < 32) : bt (xq_bit x) i = true ↔ x = nI i := by
  rcases hx with rfl | ⟨s, hs, rfl⟩
  · have e : xq_bit (-1) = 0 := by decide
    rw [e, b_0]
    exact ⟨fun z => xq_ff z, fun z => absurd z (ph_m1n (by omega))⟩
  · have e : xq_bit (nI s) = (1 : Int32) <<< (nI s &&& 31) := if_pos (nI_pos' (by omega))
    rw [e, b_shl s hs 1 hi, xq_b1 (i - s) (by omega), nI_eq (by omega) (by omega), Bool.and_eq_true, decide_eq_true_iff, decide_eq_true_iff]
    omega
theorem xq_tst {x : Int32} {j : Nat} (hj : j < 32) : (((x.toUInt32 >>> ((nI j).toUInt32 &&& Int32.toUInt32 31)).toInt32) &&& 1) = 0 ↔ bt x j = false := by
  have b1 : bt 1 0 = true := by decide
  constructor
  · intro h
    have h2 : bt (((x.toUInt32 >>> ((nI j).toUInt32 &&& Int32.toUInt32 31)).toInt32) &&& 1) 0 = bt 0 0 := by rw [h]
    rw [b_and, b_ushr j hj, b_0, b1, Bool.and_true, Nat.add_zero] at h2
    exact h2
  · intro h
    apply b_ext
    intro i hi
    rw [b_and, b_ushr j hj, b_0]
    by_cases c : i = 0
    · subst c
      rw [Nat.add_zero, h, Bool.false_and]
    · rw [xq_b1 i hi, decide_eq_false c, Bool.and_false]
theorem xq_tstv {x : Int32} {j : Nat} (hj : j < 32) : (((x.toUInt32 >>> ((nI j).toUInt32 &&& Int32.toUInt32 31)).toInt32) &&& 1) = nI (if bt x j = true then 1 else 0) := by
  cases h : bt x j with
  | false =>
    rw [if_neg (by decide)]
    exact (xq_tst hj).mpr h
  | true =>
    rw [if_pos rfl]
    show _ = (1 : Int32)
    apply b_ext
    intro i hi
    rw [b_and, b_ushr j hj, xq_b1 i hi]
    by_cases c : i = 0
    · subst c
      rw [Nat.add_zero, h]
      rfl
    · rw [decide_eq_false c, Bool.and_false]
/-- x holds what B gives and what the first j turns give -/
def xq_B (x : Int32) (B : Nat → Prop) (C : Nat → Nat → Prop) (j : Nat) : Prop := ∀ i, i < 32 → (bt x i = true ↔ B i ∨ ∃ j', j' < j ∧ C j' i)
theorem xq_sk {x : Int32} {B : Nat → Prop} {C : Nat → Nat → Prop} {j : Nat} (h : xq_B x B C j) (hn : ∀ i, ¬ C j i) : xq_B x B C (j + 1) := by
  intro i hi
  rw [h i hi]
  constructor
  · rintro (a | ⟨r, hr, er⟩)
    · exact Or.inl a
    · exact Or.inr ⟨r, by omega, er⟩
  · rintro (a | ⟨r, hr, er⟩)
    · exact Or.inl a
    · by_cases c : r = j
      · subst c; exact absurd er (hn i)
      · exact Or.inr ⟨r, by omega, er⟩
theorem xq_ad {x y : Int32} {B : Nat → Prop} {C : Nat → Nat → Prop} {j : Nat} (h : xq_B x B C j) (hy : ∀ i, i < 32 → (bt y i = true ↔ C j i)) : xq_B (x ||| y) B C (j + 1) := by
  intro i hi
  rw [b_or, Bool.or_eq_true, h i hi, hy i hi]
  constructor
  · rintro ((a | ⟨r, hr, er⟩) | a)
    · exact Or.inl a
    · exact Or.inr ⟨r, by omega, er⟩
    · exact Or.inr ⟨j, by omega, a⟩
  · rintro (a | ⟨r, hr, er⟩)
    · exact Or.inl (Or.inl a)
    · by_cases c : r = j
      · subst c; exact Or.inr er
      · exact Or.inl (Or.inr ⟨r, by omega, er⟩)
theorem xq_B0 {x : Int32} {B : Nat → Prop} {C : Nat → Nat → Prop} (h : ∀ i, i < 32 → (bt x i = true ↔ B i)) : xq_B x B C 0 := by
  intro i hi
  rw [h i hi]
  exact ⟨Or.inl, fun z => z.elim id (fun ⟨r, hr, _⟩ => absurd hr (Nat.not_lt_zero _))⟩
def xq_L (h c : Nat) (P : Nat → Nat) (lc lp : Nat → Int32) : Prop := h < 2 ∧ c ≤ 99 ∧ lc h = nI c ∧ ∀ j, j < c → lp (99 * h + j) = nI (P j) ∧ P j < 99
theorem xq_end {h c : Nat} {P : Nat → Nat} {lc lp : Nat → Int32} (hL : xq_L h c P lc lp) : (99 : Int32) * nI h + lc (nI h).toNatClampNeg = nI (99 * h + c) := by
  have h1 := hL.1
  rw [nI_clamp (by omega), hL.2.2.1, ph_lx]
def xq_C (h : Nat) (P : Nat → Nat) (S : Int32) (lo : Nat → Int32) (j i : Nat) : Prop := P j < 96 ∧ P j % 3 ≠ 2 ∧ bt S (P j / 3) = true ∧ lo (99 * h + j) = nI i
def xq_E (h c : Nat) (P : Nat → Nat) (fl lo : Nat → Int32) (b : Int32) (s s' : Nat) : Prop := s' < 32 ∧ ((∃ f, f < 2 ∧ fl (2 * (32 * h + s) + f) = nI s') ∨ (b ≠ 0 ∧ ∃ j, j < c ∧ P j < 96 ∧ P j % 3 ≠ 2 ∧ P j / 3 = s ∧ lo (99 * h + j) = nI s'))
def xq_G (h n c : Nat) (P : Nat → Nat) (fl lo : Nat → Int32) (b : Int32) (Q : Nat → Prop) : Prop := ∀ s, Q s → s < n ∧ (∀ f, f < 2 → ph_rf (fl (2 * (32 * h + s) + f))) ∧ (b ≠ 0 → ∀ j, j < c → P j < 96 → P j % 3 ≠ 2 → P j / 3 = s → ph_rf (lo (99 * h + j)))
theorem xq_lt {B S : Int32} (sub : ∀ i, i < 32 → bt B i = true → bt S i = true) (ne : ¬ S = B) : B.toBitVec.toNat < S.toBitVec.toNat := by
  have e : B &&& S = B := b_ext (fun i hi => by
    rw [b_and]
    cases hB : bt B i with
    | false => rfl
    | true => rw [sub i hi hB]; rfl)
  have le : B.toBitVec.toNat ≤ S.toBitVec.toNat := by
    have e2 : (B &&& S).toBitVec.toNat = B.toBitVec.toNat := by rw [e]
    rw [Int32.toBitVec_and, BitVec.toNat_and] at e2
    rw [← e2]
    exact Nat.and_le_right
  rcases Nat.lt_or_ge B.toBitVec.toNat S.toBitVec.toNat with a | a
  · exact a
  · exact absurd (Int32.toBitVec_inj.mp (BitVec.eq_of_toNat_eq (Nat.le_antisymm a le))) ne
section
variable {us ar al : Int32} {fl nu ro lc lp lo rg nw ld gt cf nt : Nat → Int32}
theorem xq_count {post : Int32 → Prop} {hf S : Int32} (h : post (nI (ph_cn (bt S) 32))) : wpX_countOf post (hf, us, ar, al, fl, nu, ro, lc, lp, lo, rg, nw, ld, gt, cf, nt) S := by
  unfold wpX_countOf
  dsimp only
  refine loop_0 (fun n i x => wX_countOf_4 post S hf us ar al fl nu ro lc lp lo rg nw ld gt cf nt n x (nI i)) (fun i x => x = nI (ph_cn (bt S) i)) 32 0 rfl (fun n x hx => ?_) (fun n i x hi hx J => ?_)
  · exact pk_le 32 32 (fun _ => by rw [hx]; exact h) (fun z => absurd z (Nat.lt_irrefl _))
  · refine pk_le 32 i (fun z => absurd z (by omega)) (fun _ => nm_r (e' := nI (ph_cn (bt S) (i + 1))) ?_ (nm_r (nI_1 i) (J _ rfl)))
    rw [hx, xq_tstv hi, nI_add]
    rfl
theorem xq_old {post : Int32 → Prop} {h c : Nat} {P : Nat → Nat} {S : Int32} (hL : xq_L h c P lc lp) (hO : ∀ j, j < c → P j < 96 → P j % 3 ≠ 2 → bt S (P j / 3) = true → ph_rf (lo (99 * h + j))) (k : ∀ r, xq_B r (fun _ => False) (xq_C h P S lo) c → post r) : wpX_oldFields post (nI h, us, ar, al, fl, nu, ro, lc, lp, lo, rg, nw, ld, gt, cf, nt) S := by
  have h1 := hL.1
  have h2 := hL.2.1
  unfold wpX_oldFields
  dsimp only
  refine nm_r (e' := nI (99 * h + 0)) (ph_99 h) ?_
  refine loop_0 (fun n j x => wX_oldFields_10 post S (nI h) us ar al fl nu ro lc lp lo rg nw ld gt cf nt n x (nI (99 * h + j))) (fun j x => xq_B x (fun _ => False) (xq_C h P S lo) j) c 0 (xq_B0 (fun i _ => by rw [b_0]; exact ⟨fun z => xq_ff z, fun z => z.elim⟩)) (fun n x hx => ?_) (fun n j x hj hx J => ?_)
  · exact And.intro (vp_in_nI h1 (by decide)) (pk_le (99 * h + c) (99 * h + c) (fun _ => k x hx) (fun z => absurd z (Nat.lt_irrefl _)) (xq_end hL))
  · obtain ⟨eP, hP⟩ := hL.2.2.2 j hj
    have hcl : (nI (99 * h + j)).toNatClampNeg = 99 * h + j := nI_clamp (by omega)
    have hin : vp_in (nI (99 * h + j)) 198 := vp_in_nI (by omega) (by decide)
    have nx : nI (99 * h + j) + 1 = nI (99 * h + (j + 1)) := nI_1 _
    have hd : nI (P j) / 3 = nI (P j / 3) := ph_d3 (by omega)
    refine And.intro (vp_in_nI h1 (by decide)) (pk_le (99 * h + c) (99 * h + j) (fun z => absurd z (by omega)) (fun _ => ⟨hin, nm_r (e' := nI (P j)) (by rw [hcl, eP]) ?_⟩) (xq_end hL))
    refine pk_le 96 (P j) (fun z => nm_r nx (J _ (xq_sk hx (fun i hc => absurd hc.1 (by omega))))) (fun z => ⟨ph_30, ?_⟩)
    refine pk_eq (P j % 3) 2 (fun z2 => nm_r nx (J _ (xq_sk hx (fun i hc => absurd z2 hc.2.1)))) (fun z2 => ⟨ph_30, ?_⟩) (ph_m3 (by omega))
    by_cases hb : bt S (P j / 3) = true
    · refine br_f (by rw [hd, xq_tst (by omega), hb]; decide) ⟨hin, xq_bitOf (nm_e (nm_r nx (J _ (xq_ad hx (fun i hi => ?_)))))⟩
      rw [hcl, xq_bt (hO j hj z z2 hb) hi]
      exact ⟨fun e => ⟨z, z2, hb, e⟩, fun e => e.2.2.2⟩
    · exact br_t (by rw [hd, xq_tst (by omega)]; exact Bool.eq_false_iff.mpr hb) (nm_r nx (J _ (xq_sk hx (fun i hc => hb hc.2.2.1))))
theorem xq_pass {post : Int32 → Prop} {J5 : Int32 → Int32 → Prop} {h n c : Nat} {P : Nat → Nat} {b x4 S : Int32} {Q : Nat → Prop} (hL : xq_L h c P lc lp) (hn : n ≤ 32) (hQ : ∀ s s', Q s → xq_E h c P fl lo b s s' → Q s') (hG : xq_G h n c P fl lo b Q) (hS : ∀ i, i < 32 → bt S i = true → Q i)
    (hJ : ∀ S', (∀ i, i < 32 → bt S i = true → bt S' i = true) → (∀ i, i < 32 → bt S' i = true → Q i) → (∀ s s', s < 32 → bt S s = true → xq_E h c P fl lo b s s' → bt S' s' = true) → J5 S' x4) : ∃ m, wX_spread_17 post J5 b x4 (nI h) (nI n) ar al fl nu ro lc lp lo rg nw ld gt cf nt m S 0 := by
  have h1 := hL.1
  refine loop_0 (fun m i x => wX_spread_17 post J5 b x4 (nI h) (nI n) ar al fl nu ro lc lp lo rg nw ld gt cf nt m x (nI i)) (fun i x => (∀ i, i < 32 → bt S i = true → bt x i = true) ∧ (∀ i, i < 32 → bt x i = true → Q i) ∧ (∀ s f s', s < i → f < 2 → s' < 32 → bt S s = true → fl (2 * (32 * h + s) + f) = nI s' → bt x s' = true)) n S ⟨fun _ _ z => z, hS, fun s f s' z => absurd z (Nat.not_lt_zero _)⟩ (fun m x hx => ?_) (fun m i x hi hx J => ?_)
  · refine pk_le n n (fun _ => ?_) (fun z => absurd z (Nat.lt_irrefl _))
    by_cases hb : b = 0
    · refine br_t hb (hJ x hx.1 hx.2.1 (fun s s' hs hbs hE => ?_))
      obtain ⟨hs', hE | hE⟩ := hE
      · obtain ⟨f, hf, ef⟩ := hE
        exact hx.2.2 s f s' (hG s (hS s hs hbs)).1 hf hs' hbs ef
      · exact absurd hb hE.1
    · refine br_f hb (xq_old hL (fun j hj a1 a2 a3 => (hG _ (hx.2.1 _ (by omega) a3)).2.2 hb j hj a1 a2 rfl) (fun r hr => nm_e (hJ _ (fun i hi z => ?_) (fun i hi z => ?_) (fun s s' hs hbs hE => ?_))))
      · rw [b_or, hx.1 i hi z, Bool.true_or]
      · rw [b_or, Bool.or_eq_true] at z
        rcases z with z | z
        · exact hx.2.1 i hi z
        · rcases (hr i hi).mp z with z | ⟨j, hj, a1, a2, a3, a4⟩
          · exact z.elim
          · exact hQ (P j / 3) i (hx.2.1 _ (by omega) a3) ⟨hi, Or.inr ⟨hb, j, hj, a1, a2, rfl, a4⟩⟩
      · rw [b_or, Bool.or_eq_true]
        obtain ⟨hs', hE | hE⟩ := hE
        · obtain ⟨f, hf, ef⟩ := hE
          exact Or.inl (hx.2.2 s f s' (hG s (hS s hs hbs)).1 hf hs' hbs ef)
        · obtain ⟨_, j, hj, a1, a2, a3, a4⟩ := hE
          exact Or.inr ((hr s' hs').mpr (Or.inr ⟨j, hj, a1, a2, by rw [a3]; exact hx.1 s hs hbs, a4⟩))
  · refine pk_le n i (fun z => absurd z (by omega)) (fun _ => ?_)
    by_cases hb : bt x i = true
    · have hg := hG i (hx.2.1 i (by omega) hb)
      have r0 := hg.2.1 0 (by omega)
      have r1 := hg.2.1 1 (by omega)
      refine br_f (by rw [xq_tst (by omega), hb]; decide) (nm_r (ph_f0 h i) ⟨vp_in_nI (by omega) (by decide), xq_bitOf ⟨by rw [ph_a1]; exact vp_in_nI (by omega) (by decide), xq_bitOf (nm_e (nm_r (nI_1 i) (J _ ?_)))⟩⟩)
      rw [nI_clamp (by omega), ph_a1, nI_clamp (by omega)]
      refine ⟨fun j hj z => ?_, fun j hj z => ?_, fun s f s' hs hf hs' hbs ef => ?_⟩
      · rw [b_or, hx.1 j hj z, Bool.true_or]
      · rw [b_or, b_or, Bool.or_eq_true, Bool.or_eq_true] at z
        rcases z with z | z | z
        · exact hx.2.1 j hj z
        · exact hQ i j (hx.2.1 i (by omega) hb) ⟨hj, Or.inl ⟨0, by omega, (xq_bt r0 hj).mp z⟩⟩
        · exact hQ i j (hx.2.1 i (by omega) hb) ⟨hj, Or.inl ⟨1, by omega, (xq_bt r1 hj).mp z⟩⟩
      · rw [b_or, b_or, Bool.or_eq_true, Bool.or_eq_true]
        by_cases c0 : s = i
        · subst c0
          have : f = 0 ∨ f = 1 := by omega
          rcases this with rfl | rfl
          · exact Or.inr (Or.inl ((xq_bt r0 hs').mpr ef))
          · exact Or.inr (Or.inr ((xq_bt r1 hs').mpr ef))
        · exact Or.inl (hx.2.2 s f s' (by omega) hf hs' hbs ef)
    · refine br_t (by rw [xq_tst (by omega)]; exact Bool.eq_false_iff.mpr hb) (nm_r (nI_1 i) (J _ ⟨hx.1, hx.2.1, fun s f s' hs hf hs' hbs ef => ?_⟩))
      by_cases c0 : s = i
      · subst c0
        exact absurd (hx.1 s (by omega) hbs) hb
      · exact hx.2.2 s f s' (by omega) hf hs' hbs ef
theorem xq_spread {post : Int32 → Prop} {h n c : Nat} {P : Nat → Nat} {b S0 : Int32} {st : Nat → Prop} (hL : xq_L h c P lc lp) (hn : n ≤ 32) (h0 : ∀ i, i < 32 → (bt S0 i = true ↔ st i)) (hst : ∀ i, st i → i < 32) (hG : xq_G h n c P fl lo b (ph_R st (xq_E h c P fl lo b)))
    (k : ∀ S, (∀ i, i < 32 → (bt S i = true ↔ ph_R st (xq_E h c P fl lo b) i)) → post S) : wpX_spread post (nI h, nI n, ar, al, fl, nu, ro, lc, lp, lo, rg, nw, ld, gt, cf, nt) S0 b := by
  unfold wpX_spread
  dsimp only
  refine loop_m (fun m (s : Int32 × Int32) => wX_spread_5 post b (nI h) (nI n) ar al fl nu ro lc lp lo rg nw ld gt cf nt m s.1 s.2)
    (fun s => (∀ i, i < 32 → st i → bt s.1 i = true) ∧ (∀ i, i < 32 → bt s.1 i = true → ph_R st (xq_E h c P fl lo b) i) ∧ (∀ i, i < 32 → bt s.2 i = true → bt s.1 i = true) ∧ (∀ s1 s', s1 < 32 → bt s.2 s1 = true → xq_E h c P fl lo b s1 s' → bt s.1 s' = true))
    (fun s => 4294967296 - s.2.toBitVec.toNat) (fun m s hs J => ?_) (S0, 0) ⟨fun i hi z => (h0 i hi).mpr z, fun i hi z => ph_R_st ((h0 i hi).mp z), fun i _ z => xq_ff ((b_0 i).symm.trans z), fun i _ _ z => xq_ff ((b_0 i).symm.trans z)⟩
  obtain ⟨S, B⟩ := s
  obtain ⟨a1, a2, a3, a4⟩ := hs
  by_cases e : S = B
  · refine br_t e (k S (fun i hi => ⟨a2 i hi, fun hR => ?_⟩))
    exact (hR (fun s => s < 32 ∧ bt S s = true) (fun x hx => ⟨hst x hx, a1 x (hst x hx) hx⟩) (fun x y hx hE => ⟨hE.1, a4 x y hx.1 (by rw [← e]; exact hx.2) hE⟩)).2
  · refine br_f e (xq_pass hL hn (fun s s' q hE => ph_R_E q hE) hG a2 (fun S' b1 b2 b3 => ?_))
    have lt : B.toBitVec.toNat < S.toBitVec.toNat := xq_lt a3 e
    have lt2 : S.toBitVec.toNat < 4294967296 := S.toBitVec.isLt
    exact J (S', S) ⟨fun i hi z => b1 i hi (a1 i hi z), b2, b1, b3⟩ (by
      show 4294967296 - S.toBitVec.toNat < 4294967296 - B.toBitVec.toNat
      omega)
theorem xq_roots {post : Int32 → Prop} {h : Nat} (hh : h < 2) (hr : ∀ r, r < 3 → ph_rf (ro (3 * h + r))) (k : ∀ x, (∀ i, i < 32 → (bt x i = true ↔ ∃ r, r < 3 ∧ ro (3 * h + r) = nI i)) → post x) : wpX_presentRoots post (nI h, us, ar, al, fl, nu, ro, lc, lp, lo, rg, nw, ld, gt, cf, nt) := by
  unfold wpX_presentRoots
  dsimp only
  have e0 : ((3 : Int32) * nI h) = nI (3 * h + 0) := ph_3 h
  have e1 : ((3 : Int32) * nI h) + 1 = nI (3 * h + 1) := by rw [ph_3, nI_1]
  have e2 : ((3 : Int32) * nI h) + 2 = nI (3 * h + 2) := by rw [ph_3, ph_a2]
  rw [e1, e2, e0, nI_clamp (by omega), nI_clamp (by omega), nI_clamp (by omega)]
  refine ⟨vp_in_nI (by omega) (by decide), xq_bitOf ⟨vp_in_nI (by omega) (by decide), xq_bitOf ⟨vp_in_nI (by omega) (by decide), xq_bitOf (k _ (fun i hi => ?_))⟩⟩⟩
  rw [b_or, b_or, Bool.or_eq_true, Bool.or_eq_true, xq_bt (hr 0 (by omega)) hi, xq_bt (hr 1 (by omega)) hi, xq_bt (hr 2 (by omega)) hi]
  constructor
  · rintro ((z | z) | z)
    · exact ⟨0, by omega, z⟩
    · exact ⟨1, by omega, z⟩
    · exact ⟨2, by omega, z⟩
  · rintro ⟨r, hr3, z⟩
    have : r = 0 ∨ r = 1 ∨ r = 2 := by omega
    rcases this with rfl | rfl | rfl
    · exact Or.inl (Or.inl z)
    · exact Or.inl (Or.inr z)
    · exact Or.inr z
def xq_stN (h c : Nat) (P : Nat → Nat) (ro rg lo : Nat → Int32) (i : Nat) : Prop := i < 32 ∧ (((∃ r, r < 3 ∧ ro (3 * h + r) = nI i) ∨ (∃ g, g < 4 ∧ rg g = nI i)) ∨ ∃ j, j < c ∧ (96 ≤ P j ∧ lo (99 * h + j) = nI i))
def xq_stR (h : Nat) (ro : Nat → Int32) (i : Nat) : Prop := i < 32 ∧ ∃ r, r < 3 ∧ ro (3 * h + r) = nI i
def xq_st1 (h r : Nat) (ro : Nat → Int32) (i : Nat) : Prop := i < 32 ∧ ro (3 * h + r) = nI i
theorem xq_needed {post : Int32 → Prop} {h n c : Nat} {P : Nat → Nat} (hL : xq_L h c P lc lp) (hn : n ≤ 32) (hr : ∀ r, r < 3 → ph_rf (ro (3 * h + r))) (hg : ∀ g, g < 4 → ph_rf (rg g)) (hl : ∀ j, j < c → 96 ≤ P j → ph_rf (lo (99 * h + j))) (hG : xq_G h n c P fl lo 1 (ph_R (xq_stN h c P ro rg lo) (xq_E h c P fl lo 1)))
    (k : ∀ S, (∀ i, i < 32 → (bt S i = true ↔ ph_R (xq_stN h c P ro rg lo) (xq_E h c P fl lo 1) i)) → post S) : wpX_neededSet post (nI h, nI n, ar, al, fl, nu, ro, lc, lp, lo, rg, nw, ld, gt, cf, nt) := by
  have h1 := hL.1
  have h2 := hL.2.1
  unfold wpX_neededSet
  dsimp only
  refine xq_roots h1 hr (fun x0 hx0 => ?_)
  refine loop_0 (fun m i x => wX_neededSet_7 post (nI h) (nI n) ar al fl nu ro lc lp lo rg nw ld gt cf nt m x (nI i)) (fun i x => xq_B x (fun i => ∃ r, r < 3 ∧ ro (3 * h + r) = nI i) (fun g i => rg g = nI i) i) 4 x0 (xq_B0 hx0) (fun m x hx => ?_) (fun m i x hi hx J => ?_)
  · refine pk_le 4 4 (fun _ => nm_r (e' := nI (99 * h + 0)) (ph_99 h) ?_) (fun z => absurd z (Nat.lt_irrefl _))
    refine loop_0 (fun m j x => wX_neededSet_39 post (nI h) (nI n) ar al fl nu ro lc lp lo rg nw ld gt cf nt m x (nI (99 * h + j))) (fun j x => xq_B x (fun i => (∃ r, r < 3 ∧ ro (3 * h + r) = nI i) ∨ ∃ g, g < 4 ∧ rg g = nI i) (fun j i => 96 ≤ P j ∧ lo (99 * h + j) = nI i) j) c x (xq_B0 hx) (fun m x hx => ?_) (fun m j x hj hx J => ?_)
    · refine And.intro (vp_in_nI h1 (by decide)) (pk_le (99 * h + c) (99 * h + c) (fun _ => ?_) (fun z => absurd z (Nat.lt_irrefl _)) (xq_end hL))
      exact xq_spread (st := xq_stN h c P ro rg lo) hL hn (fun i hi => ⟨fun z => ⟨hi, (hx i hi).mp z⟩, fun z => (hx i hi).mpr z.2⟩) (fun i z => z.1) hG k
    · obtain ⟨eP, hP⟩ := hL.2.2.2 j hj
      have hcl : (nI (99 * h + j)).toNatClampNeg = 99 * h + j := nI_clamp (by omega)
      have hin : vp_in (nI (99 * h + j)) 198 := vp_in_nI (by omega) (by decide)
      have nx : nI (99 * h + j) + 1 = nI (99 * h + (j + 1)) := nI_1 _
      refine And.intro (vp_in_nI h1 (by decide)) (pk_le (99 * h + c) (99 * h + j) (fun z => absurd z (by omega)) (fun _ => ⟨hin, ?_⟩) (xq_end hL))
      refine pk_lt (P j) 96 (fun z => nm_r nx (J _ (xq_sk hx (fun i hc => absurd hc.1 (by omega))))) (fun z => ⟨hin, xq_bitOf (nm_e (nm_r nx (J _ (xq_ad hx (fun i hi => ?_)))))⟩) (by rw [hcl, eP])
      rw [hcl, xq_bt (hl j hj z) hi]
      exact ⟨fun e => ⟨z, e⟩, fun e => e.2⟩
  · have hcl : (nI i).toNatClampNeg = i := nI_clamp (by omega)
    refine pk_le 4 i (fun z => absurd z (by omega)) (fun _ => ⟨vp_in_nI hi (by decide), xq_bitOf (nm_e (nm_r (nI_1 i) (J _ (xq_ad hx (fun i' hi' => ?_)))))⟩)
    rw [hcl, xq_bt (hg i hi) hi']
theorem xq_fromRoots {post : Int32 → Prop} {h n c : Nat} {P : Nat → Nat} (hL : xq_L h c P lc lp) (hn : n ≤ 32) (hr : ∀ r, r < 3 → ph_rf (ro (3 * h + r))) (hG : xq_G h n c P fl lo 0 (ph_R (xq_stR h ro) (xq_E h c P fl lo 0)))
    (k : ∀ S, (∀ i, i < 32 → (bt S i = true ↔ ph_R (xq_stR h ro) (xq_E h c P fl lo 0) i)) → post (nI (ph_cn (bt S) 32))) : wpX_fromRoots post (nI h, nI n, ar, al, fl, nu, ro, lc, lp, lo, rg, nw, ld, gt, cf, nt) := by
  unfold wpX_fromRoots
  dsimp only
  refine xq_roots hL.1 hr (fun x0 hx0 => ?_)
  exact xq_spread (st := xq_stR h ro) hL hn (fun i hi => ⟨fun z => ⟨hi, (hx0 i hi).mp z⟩, fun z => (hx0 i hi).mpr z.2⟩) (fun i z => z.1) hG (fun S hS => xq_count (k S hS))
end
end
section
/-! part 06: the relation, and what it gives about the sets -/
def rl_ref (R : Nat → Nat → Prop) (a b : Int32) : Prop := (a = -1 ∧ b = 24) ∨ ∃ s k : Nat, R s k ∧ a = nI s ∧ b = nI k
def rl_bij (n : Nat) (R : Nat → Nat → Prop) : Prop := (∀ s k, R s k → s < n ∧ k < 24) ∧ (∀ s k k', R s k → R s k' → k = k') ∧ (∀ s s' k, R s k → R s' k → s = s')
def rl_L (h n c : Nat) (P : Nat → Nat) (lc lp ld : Nat → Int32) : Prop := xq_L h c P lc lp ∧ n ≤ 32 ∧ (∀ i j, i < c → j < c → P i = P j → i = j) ∧ (∀ p, p < 99 → (ld p ≠ 0 ↔ ∃ j, j < c ∧ P j = p)) ∧ (∀ j, j < c → P j < 96 → P j < 3 * n)
def rl_Y (yf yo yr yp yg : Nat → Int32) : Prop := yq_rg 48 yf ∧ yq_rg 48 yo ∧ yq_rg 3 yr ∧ yq_rg 3 yp ∧ yq_rg 4 yg
def rl_O (h : Nat) (R : Nat → Nat → Prop) (fl nu nw yn yf ys : Nat → Int32) : Prop := ∀ s k, R s k → nu (32 * h + s) = yn k ∧ (∀ f, f < 2 → rl_ref R (fl (2 * (32 * h + s) + f)) (yf (2 * k + f))) ∧ (nw s = 0 ∨ nw s = 1) ∧ (nw s = 0 ↔ ys k ≠ 0)
def rl_P (h c : Nat) (P : Nat → Nat) (R : Nat → Nat → Prop) (lo yn yt yf yo ys : Nat → Int32) : Prop := ∀ s k, R s k → ys k ≠ 0 →
  (∀ f, f < 2 → (∀ j, j < c → P j = 3 * s + f → rl_ref R (lo (99 * h + j)) (yo (2 * k + f))) ∧ ((∀ j, j < c → P j ≠ 3 * s + f) → yo (2 * k + f) = yf (2 * k + f)) ∧ (∀ t, t < 24 → yo (2 * k + f) = nI t → ys t ≠ 0)) ∧
  (∀ j, j < c → P j = 3 * s + 2 → lo (99 * h + j) = yt k) ∧ ((∀ j, j < c → P j ≠ 3 * s + 2) → yt k = yn k)
def rl_N (c : Nat) (P : Nat → Nat) (R : Nat → Nat → Prop) (ys : Nat → Int32) : Prop := ∀ s k, R s k → ys k = 0 → ∀ j, j < c → P j / 3 ≠ s
def rl_T (h c : Nat) (P : Nat → Nat) (R : Nat → Nat → Prop) (ro lo ys yr yp : Nat → Int32) : Prop := ∀ r, r < 3 → rl_ref R (ro (3 * h + r)) (yr r) ∧ (∀ j, j < c → P j = 96 + r → rl_ref R (lo (99 * h + j)) (yp r)) ∧ ((∀ j, j < c → P j ≠ 96 + r) → yp r = yr r) ∧ (∀ t, t < 24 → yp r = nI t → ys t ≠ 0)
def rl_G (R : Nat → Nat → Prop) (rg yg : Nat → Int32) : Prop := ∀ g, g < 4 → rl_ref R (rg g) (yg g)
def rl (h n c : Nat) (P : Nat → Nat) (R : Nat → Nat → Prop) (fl nu ro lc lp lo rg nw ld yn yt yf yo ys yr yp yg : Nat → Int32) : Prop :=
  rl_bij n R ∧ rl_L h n c P lc lp ld ∧ rl_Y yf yo yr yp yg ∧ rl_O h R fl nu nw yn yf ys ∧ rl_P h c P R lo yn yt yf yo ys ∧ rl_N c P R ys ∧ rl_T h c P R ro lo ys yr yp ∧ rl_G R rg yg
/-- the relation at the head of a turn -/
def i_Rel (_ : Nat) (u : SX) (v : SY) : Prop := match u, v with
  | (hf, us, _, _, fl, nu, ro, lc, lp, lo, rg, nw, ld, _, _, _), (yn, yt, yf, yo, ys, yr, yp, yg, _) => ∃ (h n c : Nat) (P : Nat → Nat) (R : Nat → Nat → Prop), hf = nI h ∧ us = nI n ∧ rl h n c P R fl nu ro lc lp lo rg nw ld yn yt yf yo ys yr yp yg
section
variable {h n c : Nat} {P : Nat → Nat} {R : Nat → Nat → Prop} {fl nu ro lc lp lo rg nw ld yn yt yf yo ys yr yp yg : Nat → Int32}
theorem rl_rf (hB : rl_bij n R) (hn : n ≤ 32) {a b : Int32} (h : rl_ref R a b) : ph_rf a := by
  rcases h with h | ⟨s, k, hR, ea, _⟩
  · exact Or.inl h.1
  · exact Or.inr ⟨s, by have := (hB.1 s k hR).1; omega, ea⟩
theorem rl_rgy (hB : rl_bij n R) {a b : Int32} (h : rl_ref R a b) : ∃ t : Nat, t < 25 ∧ b = nI t := by
  rcases h with h | ⟨s, k, hR, _, eb⟩
  · exact ⟨24, by omega, h.2⟩
  · exact ⟨k, by have := (hB.1 s k hR).2; omega, eb⟩
theorem rl_rx (hB : rl_bij n R) (hn : n ≤ 32) {s : Nat} {b : Int32} (hs : s < 32) (h : rl_ref R (nI s) b) : ∃ k, R s k ∧ b = nI k := by
  rcases h with h | ⟨s', k, hR, ea, eb⟩
  · exact absurd h.1.symm (ph_m1n (by omega))
  · have := (hB.1 s' k hR).1
    have e := ph_inj (by omega) (by omega) ea
    subst e
    exact ⟨k, hR, eb⟩
theorem rl_ry (hB : rl_bij n R) {k : Nat} {a : Int32} (hk : k < 24) (h : rl_ref R a (nI k)) : ∃ s, R s k ∧ a = nI s := by
  rcases h with h | ⟨s, k', hR, ea, eb⟩
  · exact absurd (ph_inj (a := k) (b := 24) (by omega) (by omega) h.2) (by omega)
  · have := (hB.1 s k' hR).2
    have e := ph_inj (by omega) (by omega) eb
    subst e
    exact ⟨s, hR, ea⟩
theorem rl_mono {R' : Nat → Nat → Prop} {a b : Int32} (h : rl_ref R a b) (hm : ∀ s k, R s k → b = nI k → R' s k) : rl_ref R' a b := by
  rcases h with h | ⟨s, k, hR, ea, eb⟩
  · exact Or.inl h
  · exact Or.inr ⟨s, k, hm s k hR eb, ea, eb⟩
theorem rl_Ex (H : rl h n c P R fl nu ro lc lp lo rg nw ld yn yt yf yo ys yr yp yg) (b : Int32) (s k s' : Nat) (hR : R s k) (hE : xq_E h c P fl lo b s s') : ∃ k', R s' k' ∧ yq_E yf yo ys b k k' := by
  obtain ⟨B, L, Y, O, Q, N, T, G⟩ := H
  have hk := (B.1 s k hR).2
  obtain ⟨hs', ⟨f, hf, ef⟩ | ⟨hb, j, hj, a1, a2, a3, a4⟩⟩ := hE
  · have o := (O s k hR).2.1 f hf
    rw [ef] at o
    obtain ⟨k', hk', e⟩ := rl_rx B L.2.1 hs' o
    exact ⟨k', hk', hk, (B.1 s' k' hk').2, f, hf, Or.inl e⟩
  · have hv : ys k ≠ 0 := fun z => N s k hR z j hj a3
    have q := ((Q s k hR hv).1 (P j % 3) (by omega)).1 j hj (by omega)
    rw [a4] at q
    obtain ⟨k', hk', e⟩ := rl_rx B L.2.1 hs' q
    exact ⟨k', hk', hk, (B.1 s' k' hk').2, P j % 3, by omega, Or.inr ⟨hb, hv, e⟩⟩
theorem rl_Ey (H : rl h n c P R fl nu ro lc lp lo rg nw ld yn yt yf yo ys yr yp yg) (b : Int32) (k s k' : Nat) (hR : R s k) (hE : yq_E yf yo ys b k k') : ∃ s', R s' k' ∧ xq_E h c P fl lo b s s' := by
  obtain ⟨B, L, Y, O, Q, N, T, G⟩ := H
  obtain ⟨hk, hk', f, hf, hE⟩ := hE
  have key : yf (2 * k + f) = nI k' → ∃ s', R s' k' ∧ xq_E h c P fl lo b s s' := by
    intro e
    have o := (O s k hR).2.1 f hf
    rw [e] at o
    obtain ⟨s', hs', e2⟩ := rl_ry B hk' o
    exact ⟨s', hs', by have := (B.1 s' k' hs').1; have := L.2.1; omega, Or.inl ⟨f, hf, e2⟩⟩
  rcases hE with e | ⟨hb, hv, e⟩
  · exact key e
  · have q := (Q s k hR hv).1 f hf
    by_cases hj : ∃ j, j < c ∧ P j = 3 * s + f
    · obtain ⟨j, hj, ej⟩ := hj
      have q1 := q.1 j hj ej
      rw [e] at q1
      obtain ⟨s', hs', e2⟩ := rl_ry B hk' q1
      have b1 := (B.1 s' k' hs').1
      have b2 := (B.1 s k hR).1
      have b3 := L.2.1
      exact ⟨s', hs', by omega, Or.inr ⟨hb, j, hj, by omega, by omega, by omega, e2⟩⟩
    · refine key ?_
      rw [← q.2.1 (fun j hj2 ej => hj ⟨j, hj2, ej⟩)]
      exact e
theorem rl_sx (H : rl h n c P R fl nu ro lc lp lo rg nw ld yn yt yf yo ys yr yp yg) (s : Nat) (hs : xq_stN h c P ro rg lo s) : ∃ k, R s k ∧ yq_stN yr yp yg k := by
  obtain ⟨B, L, Y, O, Q, N, T, G⟩ := H
  obtain ⟨hs, (⟨r, hr, e⟩ | ⟨g, hg, e⟩) | ⟨j, hj, a1, e⟩⟩ := hs
  · have t := (T r hr).1
    rw [e] at t
    obtain ⟨k, hk, e2⟩ := rl_rx B L.2.1 hs t
    exact ⟨k, hk, (B.1 s k hk).2, Or.inl (Or.inl ⟨r, hr, e2⟩)⟩
  · have t := G g hg
    rw [e] at t
    obtain ⟨k, hk, e2⟩ := rl_rx B L.2.1 hs t
    exact ⟨k, hk, (B.1 s k hk).2, Or.inr ⟨g, hg, e2⟩⟩
  · have hp := (L.1.2.2.2 j hj).2
    have t := (T (P j - 96) (by omega)).2.1 j hj (by omega)
    rw [e] at t
    obtain ⟨k, hk, e2⟩ := rl_rx B L.2.1 hs t
    exact ⟨k, hk, (B.1 s k hk).2, Or.inl (Or.inr ⟨P j - 96, by omega, e2⟩)⟩
theorem rl_sy (H : rl h n c P R fl nu ro lc lp lo rg nw ld yn yt yf yo ys yr yp yg) (k : Nat) (hk : yq_stN yr yp yg k) : ∃ s, R s k ∧ xq_stN h c P ro rg lo s := by
  obtain ⟨B, L, Y, O, Q, N, T, G⟩ := H
  have b3 := L.2.1
  have key : ∀ r, r < 3 → k < 24 → yr r = nI k → ∃ s, R s k ∧ xq_stN h c P ro rg lo s := by
    intro r hr hk e
    have t := (T r hr).1
    rw [e] at t
    obtain ⟨s, hs, e2⟩ := rl_ry B hk t
    exact ⟨s, hs, by have := (B.1 s k hs).1; omega, Or.inl (Or.inl ⟨r, hr, e2⟩)⟩
  obtain ⟨hk, (⟨r, hr, e⟩ | ⟨r, hr, e⟩) | ⟨g, hg, e⟩⟩ := hk
  · exact key r hr hk e
  · by_cases hj : ∃ j, j < c ∧ P j = 96 + r
    · obtain ⟨j, hj, ej⟩ := hj
      have t := (T r hr).2.1 j hj ej
      rw [e] at t
      obtain ⟨s, hs, e2⟩ := rl_ry B hk t
      exact ⟨s, hs, by have := (B.1 s k hs).1; omega, Or.inr ⟨j, hj, by omega, e2⟩⟩
    · refine key r hr hk ?_
      rw [← (T r hr).2.2.1 (fun j hj2 ej => hj ⟨j, hj2, ej⟩)]
      exact e
  · have t := G g hg
    rw [e] at t
    obtain ⟨s, hs, e2⟩ := rl_ry B hk t
    exact ⟨s, hs, by have := (B.1 s k hs).1; omega, Or.inl (Or.inr ⟨g, hg, e2⟩)⟩
theorem rl_sx1 (H : rl h n c P R fl nu ro lc lp lo rg nw ld yn yt yf yo ys yr yp yg) {r : Nat} (hr : r < 3) (s : Nat) (hs : xq_st1 h r ro s) : ∃ k, R s k ∧ yq_st1 yr r k := by
  obtain ⟨B, L, Y, O, Q, N, T, G⟩ := H
  have t := (T r hr).1
  rw [hs.2] at t
  obtain ⟨k, hk, e2⟩ := rl_rx B L.2.1 hs.1 t
  exact ⟨k, hk, (B.1 s k hk).2, e2⟩
theorem rl_sy1 (H : rl h n c P R fl nu ro lc lp lo rg nw ld yn yt yf yo ys yr yp yg) {r : Nat} (hr : r < 3) (k : Nat) (hk : yq_st1 yr r k) : ∃ s, R s k ∧ xq_st1 h r ro s := by
  obtain ⟨B, L, Y, O, Q, N, T, G⟩ := H
  have t := (T r hr).1
  rw [hk.2] at t
  obtain ⟨s, hs, e2⟩ := rl_ry B hk.1 t
  exact ⟨s, hs, by have := (B.1 s k hs).1; have := L.2.1; omega, e2⟩
theorem rl_sxR (H : rl h n c P R fl nu ro lc lp lo rg nw ld yn yt yf yo ys yr yp yg) (s : Nat) (hs : xq_stR h ro s) : ∃ k, R s k ∧ yq_stR yr k := by
  obtain ⟨hs, r, hr, e⟩ := hs
  obtain ⟨k, a, b⟩ := rl_sx1 H hr s ⟨hs, e⟩
  exact ⟨k, a, b.1, r, hr, b.2⟩
theorem rl_syR (H : rl h n c P R fl nu ro lc lp lo rg nw ld yn yt yf yo ys yr yp yg) (k : Nat) (hk : yq_stR yr k) : ∃ s, R s k ∧ xq_stR h ro s := by
  obtain ⟨hk, r, hr, e⟩ := hk
  obtain ⟨s, a, b⟩ := rl_sy1 H hr k ⟨hk, e⟩
  exact ⟨s, a, b.1, r, hr, b.2⟩
theorem rl_xG (H : rl h n c P R fl nu ro lc lp lo rg nw ld yn yt yf yo ys yr yp yg) (b : Int32) {st st' : Nat → Prop} (hx : ∀ s, st s → ∃ k, R s k ∧ st' k) : xq_G h n c P fl lo b (ph_R st (xq_E h c P fl lo b)) := by
  intro s hs
  obtain ⟨k, hR, _⟩ := ph_bi hx (rl_Ex H b) hs
  obtain ⟨B, L, Y, O, Q, N, T, G⟩ := H
  refine ⟨(B.1 s k hR).1, fun f hf => rl_rf B L.2.1 ((O s k hR).2.1 f hf), fun _ j hj a1 a2 a3 => ?_⟩
  have hv : ys k ≠ 0 := fun z => N s k hR z j hj a3
  exact rl_rf B L.2.1 (((Q s k hR hv).1 (P j % 3) (by omega)).1 j hj (by omega))
theorem rl_cnt (H : rl h n c P R fl nu ro lc lp lo rg nw ld yn yt yf yo ys yr yp yg) (b : Int32) {st st' : Nat → Prop} (hx : ∀ s, st s → ∃ k, R s k ∧ st' k) (hy : ∀ k, st' k → ∃ s, R s k ∧ st s) {S : Int32} {e : Nat → Int32}
    (hS : ∀ i, i < 32 → (bt S i = true ↔ ph_R st (xq_E h c P fl lo b) i)) (he : ∀ k, k < 24 → (e k ≠ 0 ↔ ph_R st' (yq_E yf yo ys b) k)) : ph_cn (bt S) 32 = yq_c e := by
  have B := H.1
  have L := H.2.1
  refine Nat.le_antisymm ?_ ?_
  · refine ph_cn_inj (R := R) B.2.2 (fun i hi hb => ?_)
    obtain ⟨k, hR, hk⟩ := ph_bi hx (rl_Ex H b) ((hS i hi).mp hb)
    have hk2 := (B.1 i k hR).2
    exact ⟨k, hk2, decide_eq_true ((he k hk2).mpr hk), hR⟩
  · refine ph_cn_inj (R := fun k s => R s k) (fun i i' j a a' => B.2.1 j i i' a a') (fun k hk hb => ?_)
    obtain ⟨s, hR, hs⟩ := ph_bi (R := fun k s => R s k) hy (rl_Ey H b) ((he k hk).mp (of_decide_eq_true hb))
    have h1 := (B.1 s k hR).1
    have h2 := L.2.1
    exact ⟨s, by omega, (hS s (by omega)).mpr hs, hR⟩
theorem rl_res (H : rl h n c P R fl nu ro lc lp lo rg nw ld yn yt yf yo ys yr yp yg) {D : Nat → Prop} {n' : Nat} (hn : n' ≤ 32) (hs : ∀ s k, R s k → D k → s < n') (hj : ∀ j, j < c → P j < 96 → P j < 3 * n')
    (d1 : ∀ k, yq_stN yr yp yg k → D k) (d2 : ∀ s k k', R s k → D k → yq_E yf yo ys 1 k k' → D k') : rl h n' c P (fun s k => R s k ∧ D k) fl nu ro lc lp lo rg nw ld yn yt yf yo ys yr yp yg := by
  obtain ⟨B, L, Y, O, Q, N, T, G⟩ := H
  refine ⟨⟨fun s k a => ⟨hs s k a.1 a.2, (B.1 s k a.1).2⟩, fun s k k' a a' => B.2.1 s k k' a.1 a'.1, fun s s' k a a' => B.2.2 s s' k a.1 a'.1⟩, ⟨L.1, hn, L.2.2.1, L.2.2.2.1, hj⟩, Y, ?_, ?_, fun s k a => N s k a.1, ?_, ?_⟩
  · intro s k a
    obtain ⟨o1, o2, o3⟩ := O s k a.1
    have hk := (B.1 s k a.1).2
    exact ⟨o1, fun f hf => rl_mono (o2 f hf) (fun s' k' hR e => ⟨hR, d2 s k k' a.1 a.2 ⟨hk, (B.1 s' k' hR).2, f, hf, Or.inl e⟩⟩), o3⟩
  · intro s k a hv
    obtain ⟨q1, q2⟩ := Q s k a.1 hv
    have hk := (B.1 s k a.1).2
    exact ⟨fun f hf => ⟨fun j hj ej => rl_mono ((q1 f hf).1 j hj ej) (fun s' k' hR e => ⟨hR, d2 s k k' a.1 a.2 ⟨hk, (B.1 s' k' hR).2, f, hf, Or.inr ⟨by decide, hv, e⟩⟩⟩), (q1 f hf).2⟩, q2⟩
  · intro r hr
    obtain ⟨t1, t2, t3⟩ := T r hr
    exact ⟨rl_mono t1 (fun s' k' hR e => ⟨hR, d1 k' ⟨(B.1 s' k' hR).2, Or.inl (Or.inl ⟨r, hr, e⟩)⟩⟩), fun j hj ej => rl_mono (t2 j hj ej) (fun s' k' hR e => ⟨hR, d1 k' ⟨(B.1 s' k' hR).2, Or.inl (Or.inr ⟨r, hr, e⟩)⟩⟩), t3⟩
  · intro g hg
    exact rl_mono (G g hg) (fun s' k' hR e => ⟨hR, d1 k' ⟨(B.1 s' k' hR).2, Or.inr ⟨g, hg, e⟩⟩⟩)
end
end
section
/-! part 07: single writes keep the relation; the list's note -/
def rl_up (P : Nat → Nat) (c p : Nat) : Nat → Nat := fun j => if j = c then p else P j
theorem rl_up_s {P : Nat → Nat} {c p : Nat} : rl_up P c p c = p := if_pos rfl
theorem rl_up_n {P : Nat → Nat} {c p j : Nat} (h : j < c) : rl_up P c p j = P j := if_neg (by omega)
theorem yq_ru {m i : Nat} {a : Nat → Int32} {y : Int32} (ha : yq_rg m a) (hy : ∃ t : Nat, t < 25 ∧ y = nI t) : yq_rg m (upd a i y) := by
  intro j hj
  by_cases c : j = i
  · rw [ph_us c]; exact hy
  · rw [pk_un c]; exact ha j hj
section
variable {h n c : Nat} {P : Nat → Nat} {R : Nat → Nat → Prop} {fl nu ro lc lp lo rg nw ld yn yt yf yo ys yr yp yg : Nat → Int32}
theorem rl_wg (H : rl h n c P R fl nu ro lc lp lo rg nw ld yn yt yf yo ys yr yp yg) {g : Nat} {x y : Int32} (hx : rl_ref R x y) : rl h n c P R fl nu ro lc lp lo (upd rg g x) nw ld yn yt yf yo ys yr yp (upd yg g y) := by
  obtain ⟨B, L, Y, O, Q, N, T, G⟩ := H
  refine ⟨B, L, ⟨Y.1, Y.2.1, Y.2.2.1, Y.2.2.2.1, yq_ru Y.2.2.2.2 (rl_rgy B hx)⟩, O, Q, N, T, fun g' hg' => ?_⟩
  by_cases e : g' = g
  · rw [ph_us e, ph_us e]; exact hx
  · rw [pk_un e, pk_un e]; exact G g' hg'
theorem rl_wr (H : rl h n c P R fl nu ro lc lp lo rg nw ld yn yt yf yo ys yr yp yg) {r : Nat} {x y : Int32} (hx : rl_ref R x y) (hl : ∃ j, j < c ∧ P j = 96 + r) : rl h n c P R fl nu (upd ro (3 * h + r) x) lc lp lo rg nw ld yn yt yf yo ys (upd yr r y) yp yg := by
  obtain ⟨B, L, Y, O, Q, N, T, G⟩ := H
  refine ⟨B, L, ⟨Y.1, Y.2.1, yq_ru Y.2.2.1 (rl_rgy B hx), Y.2.2.2⟩, O, Q, N, fun r' hr' => ?_, G⟩
  by_cases e : r' = r
  · rw [ph_us (by omega), ph_us e]
    refine ⟨hx, (T r' hr').2.1, fun z => ?_, (T r' hr').2.2.2⟩
    obtain ⟨j, hj, ej⟩ := hl
    exact absurd ej (by rw [← e]; exact z j hj)
  · rw [pk_un (by omega), pk_un e]
    exact T r' hr'
theorem rl_wf (H : rl h n c P R fl nu ro lc lp lo rg nw ld yn yt yf yo ys yr yp yg) {s k f : Nat} (hR : R s k) (hf : f < 2) {x y : Int32} (hx : rl_ref R x y) (hl : ys k = 0 ∨ ∃ j, j < c ∧ P j = 3 * s + f) : rl h n c P R (upd fl (2 * (32 * h + s) + f) x) nu ro lc lp lo rg nw ld yn yt (upd yf (2 * k + f) y) yo ys yr yp yg := by
  obtain ⟨B, L, Y, O, Q, N, T, G⟩ := H
  have key : ∀ s' k' f', R s' k' → f' < 2 → (s' = s ∧ k' = k ∧ f' = f) ∨ (2 * (32 * h + s') + f' ≠ 2 * (32 * h + s) + f ∧ 2 * k' + f' ≠ 2 * k + f) := by
    intro s' k' f' hR' hf'
    by_cases es : s' = s
    · subst es
      have ek := B.2.1 s' k' k hR' hR
      subst ek
      by_cases ef : f' = f
      · exact Or.inl ⟨rfl, rfl, ef⟩
      · exact Or.inr ⟨by omega, by omega⟩
    · have ek : k' ≠ k := fun e => by
        subst e
        exact es (B.2.2 s' s k' hR' hR)
      exact Or.inr ⟨by omega, by omega⟩
  refine ⟨B, L, ⟨yq_ru Y.1 (rl_rgy B hx), Y.2⟩, fun s' k' hR' => ?_, fun s' k' hR' hv => ?_, N, T, G⟩
  · obtain ⟨o1, o2, o3⟩ := O s' k' hR'
    refine ⟨o1, fun f' hf' => ?_, o3⟩
    rcases key s' k' f' hR' hf' with ⟨e1, e2, e3⟩ | ⟨e1, e2⟩
    · subst e1 e2 e3
      rw [pk_us, pk_us]; exact hx
    · rw [pk_un e1, pk_un e2]; exact o2 f' hf'
  · obtain ⟨q1, q2⟩ := Q s' k' hR' hv
    refine ⟨fun f' hf' => ⟨(q1 f' hf').1, fun z => ?_, (q1 f' hf').2.2⟩, q2⟩
    rcases key s' k' f' hR' hf' with ⟨e1, e2, e3⟩ | ⟨e1, e2⟩
    · subst e1 e2 e3
      rcases hl with hl | ⟨j, hj, ej⟩
      · exact absurd hl hv
      · exact absurd ej (z j hj)
    · rw [pk_un e2]; exact (q1 f' hf').2.1 z
theorem rl_wn (H : rl h n c P R fl nu ro lc lp lo rg nw ld yn yt yf yo ys yr yp yg) {s k : Nat} (hR : R s k) {x : Int32} (hl : ys k = 0 ∨ ∃ j, j < c ∧ P j = 3 * s + 2) : rl h n c P R fl (upd nu (32 * h + s) x) ro lc lp lo rg nw ld (upd yn k x) yt yf yo ys yr yp yg := by
  obtain ⟨B, L, Y, O, Q, N, T, G⟩ := H
  have key : ∀ s' k', R s' k' → (s' = s ∧ k' = k) ∨ (32 * h + s' ≠ 32 * h + s ∧ k' ≠ k) := by
    intro s' k' hR'
    by_cases es : s' = s
    · subst es
      exact Or.inl ⟨rfl, B.2.1 s' k' k hR' hR⟩
    · have ek : k' ≠ k := fun e => by
        subst e
        exact es (B.2.2 s' s k' hR' hR)
      exact Or.inr ⟨by omega, ek⟩
  refine ⟨B, L, Y, fun s' k' hR' => ?_, fun s' k' hR' hv => ?_, N, T, G⟩
  · obtain ⟨o1, o2⟩ := O s' k' hR'
    refine ⟨?_, o2⟩
    rcases key s' k' hR' with ⟨e1, e2⟩ | ⟨e1, e2⟩
    · subst e1 e2
      rw [pk_us, pk_us]
    · rw [pk_un e1, pk_un e2]; exact o1
  · obtain ⟨q1, q2, q3⟩ := Q s' k' hR' hv
    refine ⟨q1, q2, fun z => ?_⟩
    rcases key s' k' hR' with ⟨e1, e2⟩ | ⟨e1, e2⟩
    · subst e1 e2
      rcases hl with hl | ⟨j, hj, ej⟩
      · exact absurd hl hv
      · exact absurd ej (z j hj)
    · rw [pk_un e2]; exact q3 z
theorem rl_note (H : rl h n c P R fl nu ro lc lp lo rg nw ld yn yt yf yo ys yr yp yg) {p : Nat} {old : Int32} (hp : p < 99) (hpn : p < 96 → p < 3 * n) (hu : ∀ j, j < c → P j ≠ p)
    (hA : ∀ s k f, R s k → f < 2 → p = 3 * s + f → ys k ≠ 0 ∧ rl_ref R old (yf (2 * k + f))) (hB : ∀ s k, R s k → p = 3 * s + 2 → ys k ≠ 0 ∧ old = yn k) (hC : ∀ r, r < 3 → p = 96 + r → rl_ref R old (yr r)) :
    c < 99 ∧ rl h n (c + 1) (rl_up P c p) R fl nu ro (upd lc h (nI (c + 1))) (upd lp (99 * h + c) (nI p)) (upd lo (99 * h + c) old) rg nw (upd ld p 1) yn yt yf yo ys yr yp yg := by
  obtain ⟨B, L, Y, O, Q, N, T, G⟩ := H
  obtain ⟨⟨l1, l2, l3, l4⟩, l5, l6, l7, l8⟩ := L
  have hc : c < 99 := ph_pig hp (fun j hj => ⟨(l4 j hj).2, hu j hj⟩) l6
  have jc : ∀ j, j < c + 1 → j = c ∨ j < c := fun j hj => by omega
  have ex : ∀ q, (∀ j, j < c + 1 → rl_up P c p j ≠ q) → ∀ j, j < c → P j ≠ q := fun q hq j hj e => hq j (by omega) (by rw [rl_up_n hj]; exact e)
  have loj : ∀ j, j < c → upd lo (99 * h + c) old (99 * h + j) = lo (99 * h + j) := fun j hj => pk_un (by omega)
  refine ⟨hc, B, ⟨⟨l1, by omega, pk_us, fun j hj => ?_⟩, l5, fun i j hi hj e => ?_, fun q hq => ?_, fun j hj z => ?_⟩, Y, O, fun s k hR hv => ?_, fun s k hR hv j hj => ?_, fun r hr => ?_, G⟩
  · rcases jc j hj with rfl | hj
    · rw [pk_us, rl_up_s]; exact ⟨rfl, hp⟩
    · rw [pk_un (by omega), rl_up_n hj]; exact l4 j hj
  · rcases jc i hi with e1 | hi
    · rcases jc j hj with e2 | hj
      · omega
      · rw [e1, rl_up_s, rl_up_n hj] at e
        exact absurd e.symm (hu j hj)
    · rcases jc j hj with e2 | hj
      · rw [e2, rl_up_s, rl_up_n hi] at e
        exact absurd e (hu i hi)
      · rw [rl_up_n hi, rl_up_n hj] at e
        exact l6 i j hi hj e
  · by_cases e : q = p
    · rw [ph_us e]
      exact ⟨fun _ => ⟨c, by omega, by rw [rl_up_s]; exact e.symm⟩, fun _ => ph_10⟩
    · rw [pk_un e, l7 q hq]
      constructor
      · rintro ⟨j, hj, ej⟩
        exact ⟨j, by omega, by rw [rl_up_n hj]; exact ej⟩
      · rintro ⟨j, hj, ej⟩
        rcases jc j hj with e2 | hj
        · rw [e2, rl_up_s] at ej
          exact absurd ej.symm e
        · rw [rl_up_n hj] at ej
          exact ⟨j, hj, ej⟩
  · rcases jc j hj with e2 | hj
    · rw [e2, rl_up_s] at z ⊢
      exact hpn z
    · rw [rl_up_n hj] at z ⊢
      exact l8 j hj z
  · obtain ⟨q1, q2, q3⟩ := Q s k hR hv
    refine ⟨fun f hf => ⟨fun j hj ej => ?_, fun z => (q1 f hf).2.1 (ex _ z), (q1 f hf).2.2⟩, fun j hj ej => ?_, fun z => q3 (ex _ z)⟩
    · rcases jc j hj with e2 | hj
      · rw [e2, rl_up_s] at ej
        rw [e2, pk_us, (q1 f hf).2.1 (fun j hj => by rw [← ej]; exact hu j hj)]
        exact (hA s k f hR hf ej).2
      · rw [rl_up_n hj] at ej
        rw [loj j hj]
        exact (q1 f hf).1 j hj ej
    · rcases jc j hj with e2 | hj
      · rw [e2, rl_up_s] at ej
        rw [e2, pk_us, q3 (fun j hj => by rw [← ej]; exact hu j hj)]
        exact (hB s k hR ej).2
      · rw [rl_up_n hj] at ej
        rw [loj j hj]
        exact q2 j hj ej
  · rcases jc j hj with e2 | hj
    · rw [e2, rl_up_s]
      intro e
      have c3 : p % 3 = 2 ∨ p % 3 < 2 := by omega
      rcases c3 with c3 | c3
      · exact (hB s k hR (by omega)).1 hv
      · exact (hA s k (p % 3) hR c3 (by omega)).1 hv
    · rw [rl_up_n hj]
      exact N s k hR hv j hj
  · obtain ⟨t1, t2, t3, t4⟩ := T r hr
    refine ⟨t1, fun j hj ej => ?_, fun z => t3 (ex _ z), t4⟩
    rcases jc j hj with e2 | hj
    · rw [e2, rl_up_s] at ej
      rw [e2, pk_us, t3 (fun j hj => by rw [← ej]; exact hu j hj)]
      exact hC r hr ej
    · rw [rl_up_n hj] at ej
      rw [loj j hj]
      exact t2 j hj ej
theorem xn_note {post : SX → Prop} {us ar al : Int32} {gt cf nt : Nat → Int32} (H : rl h n c P R fl nu ro lc lp lo rg nw ld yn yt yf yo ys yr yp yg) {p : Nat} {old : Int32} (hp : p < 99) (hpn : p < 96 → p < 3 * n)
    (hA : ∀ s k f, R s k → f < 2 → p = 3 * s + f → ys k ≠ 0 ∧ rl_ref R old (yf (2 * k + f))) (hB : ∀ s k, R s k → p = 3 * s + 2 → ys k ≠ 0 ∧ old = yn k) (hC : ∀ r, r < 3 → p = 96 + r → rl_ref R old (yr r))
    (k : ∀ c' P' lc' lp' lo' ld', rl h n c' P' R fl nu ro lc' lp' lo' rg nw ld' yn yt yf yo ys yr yp yg → (∃ j, j < c' ∧ P' j = p) → post (nI h, us, ar, al, fl, nu, ro, lc', lp', lo', rg, nw, ld', gt, cf, nt)) : wpX_note post (nI h, us, ar, al, fl, nu, ro, lc, lp, lo, rg, nw, ld, gt, cf, nt) (nI p) old := by
  have L := H.2.1
  have h1 := L.1.1
  have hcl : (nI p).toNatClampNeg = p := nI_clamp (by omega)
  have hch : (nI h).toNatClampNeg = h := nI_clamp (by omega)
  have hin : vp_in (nI p) 99 := vp_in_nI hp (by decide)
  have hih : vp_in (nI h) 2 := vp_in_nI h1 (by decide)
  unfold wpX_note
  dsimp only
  refine ⟨hin, ?_⟩
  by_cases z : ld p = 0
  · have hu : ∀ j, j < c → P j ≠ p := fun j hj e => (L.2.2.2.1 p hp).mpr ⟨j, hj, e⟩ z
    obtain ⟨hc, H'⟩ := rl_note H hp hpn hu hA hB hC
    have hcl2 : (nI (99 * h + c)).toNatClampNeg = 99 * h + c := nI_clamp (by omega)
    have hi2 : vp_in (nI (99 * h + c)) 198 := vp_in_nI (by omega) (by decide)
    refine br_t (by rw [hcl]; exact z) ⟨hin, nm_r (e' := upd ld p 1) (by rw [hcl, ph_vb1]) ⟨hih, nm_r (xq_end L.1) ⟨hi2, nm_r (e' := upd lp (99 * h + c) (nI p)) (by rw [hcl2, ph_nbi (by omega)]) ⟨hi2, nm_r (e' := upd lo (99 * h + c) old) (by rw [hcl2]) ⟨hih, hih, nm_r (e' := upd lc h (nI (c + 1))) (by rw [hch, L.1.2.2.1, nI_1, ph_nbi (by omega)]) (k _ _ _ _ _ _ H' ⟨c, by omega, rl_up_s⟩)⟩⟩⟩⟩⟩
  · exact br_f (by rw [hcl]; exact z) (k _ _ _ _ _ _ H ((L.2.2.2.1 p hp).mp z))
end
end
section
/-! part 08: the methods without loops -/
def ph_bad (m g : Int32) : Prop := g < 0 ∨ (¬ g < 0 ∧ m < g)
theorem ph_reg (m : Nat) (hm : m < 1000) (g : Int32) : (∃ j : Nat, j < m + 1 ∧ g = nI j) ∨ ph_bad (nI m) g := by
  by_cases h : g < 0
  · exact Or.inr (Or.inl h)
  · obtain ⟨j, hj, rfl⟩ := nI_of h
    by_cases h2 : j < m + 1
    · exact Or.inl ⟨j, h2, rfl⟩
    · exact Or.inr (Or.inr ⟨h, nI_lt (by omega) hj⟩)
theorem xb_reg1 {post : Int32 → Prop} {u : SX} {j : Nat} (hj : j < 4) (h : post 1) : wpX_isRegister post u (nI j) := by
  obtain ⟨a, b, c, d, e, f, g, i, j', k, l, m, n, o, p, q⟩ := u
  exact br_f (nI_pos (by omega)) (br_f (nI_nlt (a := 3) (b := j) (by omega) (by decide)) h)
theorem xb_reg0 {post : Int32 → Prop} {u : SX} {g : Int32} (hb : ph_bad 3 g) (h : post 0) : wpX_isRegister post u g := by
  obtain ⟨a, b, c, d, e, f, g, i, j', k, l, m, n, o, p, q⟩ := u
  rcases hb with hb | ⟨h1, h2⟩
  · exact br_t hb h
  · exact br_f h1 (br_t h2 h)
theorem xb_root1 {post : Int32 → Prop} {u : SX} {j : Nat} (hj : j < 3) (h : post 1) : wpX_isRoot post u (nI j) := by
  obtain ⟨a, b, c, d, e, f, g, i, j', k, l, m, n, o, p, q⟩ := u
  exact br_f (nI_pos (by omega)) (br_f (nI_nlt (a := 2) (b := j) (by omega) (by decide)) h)
theorem xb_root0 {post : Int32 → Prop} {u : SX} {g : Int32} (hb : ph_bad 2 g) (h : post 0) : wpX_isRoot post u g := by
  obtain ⟨a, b, c, d, e, f, g, i, j', k, l, m, n, o, p, q⟩ := u
  rcases hb with hb | ⟨h1, h2⟩
  · exact br_t hb h
  · exact br_f h1 (br_t h2 h)
theorem yb_reg1 {post : Int32 → Prop} {u : SY} {j : Nat} (hj : j < 4) (h : post 1) : wpY_isRegister post u (nI j) := by
  obtain ⟨a, b, c, d, e, f, g, i, j'⟩ := u
  exact br_f (nI_pos (by omega)) (br_f (nI_nlt (a := 3) (b := j) (by omega) (by decide)) h)
theorem yb_reg0 {post : Int32 → Prop} {u : SY} {g : Int32} (hb : ph_bad 3 g) (h : post 0) : wpY_isRegister post u g := by
  obtain ⟨a, b, c, d, e, f, g, i, j'⟩ := u
  rcases hb with hb | ⟨h1, h2⟩
  · exact br_t hb h
  · exact br_f h1 (br_t h2 h)
theorem yb_root1 {post : Int32 → Prop} {u : SY} {j : Nat} (hj : j < 3) (h : post 1) : wpY_isRoot post u (nI j) := by
  obtain ⟨a, b, c, d, e, f, g, i, j'⟩ := u
  exact br_f (nI_pos (by omega)) (br_f (nI_nlt (a := 2) (b := j) (by omega) (by decide)) h)
theorem yb_root0 {post : Int32 → Prop} {u : SY} {g : Int32} (hb : ph_bad 2 g) (h : post 0) : wpY_isRoot post u g := by
  obtain ⟨a, b, c, d, e, f, g, i, j'⟩ := u
  rcases hb with hb | ⟨h1, h2⟩
  · exact br_t hb h
  · exact br_f h1 (br_t h2 h)
theorem i_mk {k h n c : Nat} {P : Nat → Nat} {R : Nat → Nat → Prop} {ar al : Int32} {fl nu ro lc lp lo rg nw ld gt cf nt yn yt yf yo ys yr yp yg ye : Nat → Int32} (H : rl h n c P R fl nu ro lc lp lo rg nw ld yn yt yf yo ys yr yp yg) : i_Rel k (nI h, nI n, ar, al, fl, nu, ro, lc, lp, lo, rg, nw, ld, gt, cf, nt) (yn, yt, yf, yo, ys, yr, yp, yg, ye) := ⟨h, n, c, P, R, rfl, rfl, H⟩
theorem i_el {k : Nat} {u : SX} {v : SY} {Pr : SX → SY → Prop} (I : i_Rel k u v) (hyp : ∀ (h n c : Nat) (P : Nat → Nat) (R : Nat → Nat → Prop) (ar al : Int32) (fl nu ro lc lp lo rg nw ld gt cf nt yn yt yf yo ys yr yp yg ye : Nat → Int32), rl h n c P R fl nu ro lc lp lo rg nw ld yn yt yf yo ys yr yp yg → Pr (nI h, nI n, ar, al, fl, nu, ro, lc, lp, lo, rg, nw, ld, gt, cf, nt) (yn, yt, yf, yo, ys, yr, yp, yg, ye)) : Pr u v := by
  obtain ⟨hf, us, ar, al, fl, nu, ro, lc, lp, lo, rg, nw, ld, gt, cf, nt⟩ := u
  obtain ⟨yn, yt, yf, yo, ys, yr, yp, yg, ye⟩ := v
  obtain ⟨h, n, c, P, R, e1, e2, H⟩ := I
  subst e1 e2
  exact hyp h n c P R ar al fl nu ro lc lp lo rg nw ld gt cf nt yn yt yf yo ys yr yp yg ye H
theorem i_up {k : Nat} {u : SX} {v : SY} (h : i_Rel k u v) : i_Rel (k + 4) u v := h
theorem rl_same {n : Nat} {R : Nat → Nat → Prop} (B : rl_bij n R) (hn : n ≤ 32) {a b a' b' : Int32} (h : rl_ref R a b) (h' : rl_ref R a' b') : a = a' ↔ b = b' := by
  rcases h with ⟨rfl, rfl⟩ | ⟨s, k, hR, rfl, rfl⟩
  · rcases h' with ⟨rfl, rfl⟩ | ⟨s', k', hR', rfl, rfl⟩
    · exact ⟨fun _ => rfl, fun _ => rfl⟩
    · have b2 := B.1 s' k' hR'
      exact ⟨fun e => absurd e (ph_m1n (by omega)), fun e => absurd (ph_inj (a := 24) (b := k') (by omega) (by omega) e) (by omega)⟩
  · have b1 := B.1 s k hR
    rcases h' with ⟨rfl, rfl⟩ | ⟨s', k', hR', rfl, rfl⟩
    · exact ⟨fun e => absurd e.symm (ph_m1n (by omega)), fun e => absurd (ph_inj (a := k) (b := 24) (by omega) (by omega) e) (by omega)⟩
    · have b2 := B.1 s' k' hR'
      rw [nI_eq (by omega) (by omega), nI_eq (by omega) (by omega)]
      constructor
      · intro e; subst e; exact B.2.1 s k k' hR hR'
      · intro e; subst e; exact B.2.2 s s' k hR hR'
theorem i_vc_fromRoot {k : Nat} {u : SX} {v : SY} (I : i_Rel k u v) (hk : k + 4 ≤ 2048) (v1 : Int32) (v2 : Int32) : wpX_fromRoot (fun r u' => wpY_fromRoot (fun r' v' => r' = r ∧ i_Rel (k + 4) u' v') v v1 v2) u v1 v2 := by
  refine i_el (Pr := fun u v => wpX_fromRoot (fun r u' => wpY_fromRoot (fun r' v' => r' = r ∧ i_Rel (k + 4) u' v') v v1 v2) u v1 v2) I ?_
  intro h n c P R ar al fl nu ro lc lp lo rg nw ld gt cf nt yn yt yf yo ys yr yp yg ye H
  unfold wpX_fromRoot wpY_fromRoot
  dsimp only
  rcases ph_reg 3 (by omega) v1 with ⟨g, hg, rfl⟩ | hb
  · rcases ph_reg 2 (by omega) v2 with ⟨r, hr, rfl⟩ | hb
    · have h1 := H.2.1.1.1
      have t := (H.2.2.2.2.2.2.1 r hr).1
      refine xb_reg1 hg (br_f ph_10 (xb_root1 hr (br_f ph_10 ⟨by rw [ph_rx]; exact vp_in_nI (by omega) (by decide), vp_in_nI hg (by decide), nm_r (e' := upd rg g (ro (3 * h + r))) (by rw [ph_rx, nI_clamp (by omega), nI_clamp (by omega), ph_rf_nb (rl_rf H.1 H.2.1.2.1 t)]) ?_⟩)))
      exact yb_reg1 hg (br_f ph_10 (yb_root1 hr (br_f ph_10 ⟨vp_in_nI hr (by decide), vp_in_nI hg (by decide), nm_r (e' := upd yg g (yr r)) (by rw [nI_clamp (by omega), nI_clamp (by omega)]) ⟨rfl, i_mk (rl_wg H t)⟩⟩)))
    · exact xb_reg1 hg (br_f ph_10 (xb_root0 hb (br_t rfl (yb_reg1 hg (br_f ph_10 (yb_root0 hb (br_t rfl ⟨rfl, i_mk H⟩)))))))
  · exact xb_reg0 hb (br_t rfl (yb_reg0 hb (br_t rfl ⟨rfl, i_mk H⟩)))
theorem i_vc_toRoot {k : Nat} {u : SX} {v : SY} (I : i_Rel k u v) (hk : k + 4 ≤ 2048) (v1 : Int32) (v2 : Int32) : wpX_toRoot (fun r u' => wpY_toRoot (fun r' v' => r' = r ∧ i_Rel (k + 4) u' v') v v1 v2) u v1 v2 := by
  refine i_el (Pr := fun u v => wpX_toRoot (fun r u' => wpY_toRoot (fun r' v' => r' = r ∧ i_Rel (k + 4) u' v') v v1 v2) u v1 v2) I ?_
  intro h n c P R ar al fl nu ro lc lp lo rg nw ld gt cf nt yn yt yf yo ys yr yp yg ye H
  unfold wpX_toRoot wpY_toRoot
  dsimp only
  rcases ph_reg 3 (by omega) v2 with ⟨g, hg, rfl⟩ | hb
  · rcases ph_reg 2 (by omega) v1 with ⟨r, hr, rfl⟩ | hb
    · have h1 := H.2.1.1.1
      have b3 := H.2.1.2.1
      have t := (H.2.2.2.2.2.2.1 r hr).1
      have gg := H.2.2.2.2.2.2.2 g hg
      have hin : vp_in ((3 : Int32) * nI h + nI r) 6 := by rw [ph_rx]; exact vp_in_nI (by omega) (by decide)
      refine xb_reg1 hg (br_f ph_10 (xb_root1 hr (br_f ph_10 ⟨hin, ?_⟩)))
      rw [ph_96]
      refine xn_note H (by omega) (fun z => absurd z (by omega)) (fun s k f hR hf e => absurd e (by have := (H.1.1 s k hR).1; omega)) (fun s k hR e => absurd e (by have := (H.1.1 s k hR).1; omega)) (fun r' hr' e => ?_) (fun c' P' lc' lp' lo' ld' H' hl => ?_)
      · have er : r' = r := by omega
        rw [ph_rx, nI_clamp (by omega), er]
        exact t
      · refine ⟨vp_in_nI hg (by decide), hin, nm_r (e' := upd ro (3 * h + r) (rg g)) (by rw [ph_rx, nI_clamp (by omega), nI_clamp (by omega), ph_rf_nb (rl_rf H.1 b3 gg)]) ?_⟩
        exact yb_reg1 hg (br_f ph_10 (yb_root1 hr (br_f ph_10 ⟨vp_in_nI hg (by decide), vp_in_nI hr (by decide), nm_r (e' := upd yr r (yg g)) (by rw [nI_clamp (by omega), nI_clamp (by omega)]) ⟨rfl, i_mk (rl_wr H' gg hl)⟩⟩)))
    · exact xb_reg1 hg (br_f ph_10 (xb_root0 hb (br_t rfl (yb_reg1 hg (br_f ph_10 (yb_root0 hb (br_t rfl ⟨rfl, i_mk H⟩)))))))
  · exact xb_reg0 hb (br_t rfl (yb_reg0 hb (br_t rfl ⟨rfl, i_mk H⟩)))
theorem i_vc_release {k : Nat} {u : SX} {v : SY} (I : i_Rel k u v) (hk : k + 4 ≤ 2048) (v1 : Int32) : wpX_release (fun r u' => wpY_release (fun r' v' => r' = r ∧ i_Rel (k + 4) u' v') v v1) u v1 := by
  refine i_el (Pr := fun u v => wpX_release (fun r u' => wpY_release (fun r' v' => r' = r ∧ i_Rel (k + 4) u' v') v v1) u v1) I ?_
  intro h n c P R ar al fl nu ro lc lp lo rg nw ld gt cf nt yn yt yf yo ys yr yp yg ye H
  unfold wpX_release wpY_release
  dsimp only
  rcases ph_reg 3 (by omega) v1 with ⟨g, hg, rfl⟩ | hb
  · exact xb_reg1 hg (br_f ph_10 ⟨vp_in_nI hg (by decide), nm_r (e' := upd rg g (-1)) (by rw [nI_clamp (by omega), ph_nm1]) (yb_reg1 hg (br_f ph_10 ⟨vp_in_nI hg (by decide), nm_r (e' := upd yg g 24) (by rw [nI_clamp (by omega)]) ⟨rfl, i_mk (rl_wg H (Or.inl ⟨rfl, rfl⟩))⟩⟩))⟩)
  · exact xb_reg0 hb (br_t rfl (yb_reg0 hb (br_t rfl ⟨rfl, i_mk H⟩)))
theorem i_vc_number {k : Nat} {u : SX} {v : SY} (I : i_Rel k u v) (hk : k + 4 ≤ 2048) (v1 : Int32) : wpX_number (fun r => wpY_number (fun r' => r' = r ∧ i_Rel (k + 4) u v) v v1) u v1 := by
  refine i_el (Pr := fun u v => wpX_number (fun r => wpY_number (fun r' => r' = r ∧ i_Rel (k + 4) u v) v v1) u v1) I ?_
  intro h n c P R ar al fl nu ro lc lp lo rg nw ld gt cf nt yn yt yf yo ys yr yp yg ye H
  unfold wpX_number wpY_number
  dsimp only
  rcases ph_reg 3 (by omega) v1 with ⟨g, hg, rfl⟩ | hb
  · have hcg : (nI g).toNatClampNeg = g := nI_clamp (by omega)
    have hig : vp_in (nI g) 4 := vp_in_nI hg (by decide)
    have h1 := H.2.1.1.1
    have b3 := H.2.1.2.1
    rcases H.2.2.2.2.2.2.2 g hg with ⟨e1, e2⟩ | ⟨s, k, hR, e1, e2⟩
    · refine xb_reg1 hg (br_f ph_10 ⟨hig, br_f (by rw [hcg, e1]; decide) (yb_reg1 hg (br_f ph_10 ⟨hig, br_t (by rw [hcg, e2]; decide) ⟨rfl, i_mk H⟩⟩))⟩)
    · have b := H.1.1 s k hR
      refine xb_reg1 hg (br_f ph_10 ⟨hig, br_t (by rw [hcg, e1]; exact nI_pos' (by omega)) ⟨hig, by rw [hcg, e1, ph_sl]; exact vp_in_nI (by omega) (by decide), ?_⟩⟩)
      refine yb_reg1 hg (br_f ph_10 ⟨hig, br_f (by rw [hcg, e2]; exact nI_ge (b := 24) b.2 (by decide)) ⟨hig, by rw [hcg, e2]; exact vp_in_nI b.2 (by decide), ?_, i_mk H⟩⟩)
      rw [hcg, e1, e2, ph_sl, nI_clamp (by omega), nI_clamp (by omega)]
      exact (H.2.2.2.1 s k hR).1.symm
  · exact xb_reg0 hb (br_t rfl (yb_reg0 hb (br_t rfl ⟨rfl, i_mk H⟩)))
theorem i_vc_same {k : Nat} {u : SX} {v : SY} (I : i_Rel k u v) (hk : k + 4 ≤ 2048) (v1 : Int32) (v2 : Int32) : wpX_same (fun r => wpY_same (fun r' => r' = r ∧ i_Rel (k + 4) u v) v v1 v2) u v1 v2 := by
  refine i_el (Pr := fun u v => wpX_same (fun r => wpY_same (fun r' => r' = r ∧ i_Rel (k + 4) u v) v v1 v2) u v1 v2) I ?_
  intro h n c P R ar al fl nu ro lc lp lo rg nw ld gt cf nt yn yt yf yo ys yr yp yg ye H
  unfold wpX_same wpY_same
  dsimp only
  rcases ph_reg 3 (by omega) v1 with ⟨g, hg, rfl⟩ | hb
  · rcases ph_reg 3 (by omega) v2 with ⟨g', hg', rfl⟩ | hb
    · have hcg : (nI g).toNatClampNeg = g := nI_clamp (by omega)
      have hig : vp_in (nI g) 4 := vp_in_nI hg (by decide)
      have hcg' : (nI g').toNatClampNeg = g' := nI_clamp (by omega)
      have hig' : vp_in (nI g') 4 := vp_in_nI hg' (by decide)
      have s := rl_same H.1 H.2.1.2.1 (H.2.2.2.2.2.2.2 g hg) (H.2.2.2.2.2.2.2 g' hg')
      by_cases e : rg g = rg g'
      · exact xb_reg1 hg (br_f ph_10 (xb_reg1 hg' (br_f ph_10 ⟨hig, hig', br_t (by rw [hcg, hcg']; exact e) (yb_reg1 hg (br_f ph_10 (yb_reg1 hg' (br_f ph_10 ⟨hig, hig', br_t (by rw [hcg, hcg']; exact s.mp e) ⟨rfl, i_mk H⟩⟩))))⟩)))
      · exact xb_reg1 hg (br_f ph_10 (xb_reg1 hg' (br_f ph_10 ⟨hig, hig', br_f (by rw [hcg, hcg']; exact e) (yb_reg1 hg (br_f ph_10 (yb_reg1 hg' (br_f ph_10 ⟨hig, hig', br_f (by rw [hcg, hcg']; exact fun z => e (s.mpr z)) ⟨rfl, i_mk H⟩⟩))))⟩)))
    · exact xb_reg1 hg (br_f ph_10 (xb_reg0 hb (br_t rfl (yb_reg1 hg (br_f ph_10 (yb_reg0 hb (br_t rfl ⟨rfl, i_mk H⟩)))))))
  · exact xb_reg0 hb (br_t rfl (yb_reg0 hb (br_t rfl ⟨rfl, i_mk H⟩)))
end
section
/-! part 09: fields and numbers -/
theorem ph_fidx (k f : Nat) : (2 : Int32) * nI k + nI f = nI (2 * k + f) := by rw [ph_2, nI_add]
theorem i_vc_fromField {k : Nat} {u : SX} {v : SY} (I : i_Rel k u v) (hk : k + 4 ≤ 2048) (v1 : Int32) (v2 : Int32) (v3 : Int32) : wpX_fromField (fun r u' => wpY_fromField (fun r' v' => r' = r ∧ i_Rel (k + 4) u' v') v v1 v2 v3) u v1 v2 v3 := by
  refine i_el (Pr := fun u v => wpX_fromField (fun r u' => wpY_fromField (fun r' v' => r' = r ∧ i_Rel (k + 4) u' v') v v1 v2 v3) u v1 v2 v3) I ?_
  intro h n c P R ar al fl nu ro lc lp lo rg nw ld gt cf nt yn yt yf yo ys yr yp yg ye H
  unfold wpX_fromField wpY_fromField
  dsimp only
  rcases ph_reg 3 (by omega) v1 with ⟨g, hg, rfl⟩ | hb
  · rcases ph_reg 3 (by omega) v2 with ⟨s0, hs0, rfl⟩ | hb
    · have hcg : (nI s0).toNatClampNeg = s0 := nI_clamp (by omega)
      have hig : vp_in (nI s0) 4 := vp_in_nI hs0 (by decide)
      have h1 := H.2.1.1.1
      have b3 := H.2.1.2.1
      rcases ph_reg 1 (by omega) v3 with ⟨f, hf, rfl⟩ | hb
      · have n0 : ¬ nI f < 0 := nI_pos (by omega)
        have n1 : nI f ≤ 1 := nI_le (b := 1) (by omega) (by decide)
        rcases H.2.2.2.2.2.2.2 s0 hs0 with ⟨e1, e2⟩ | ⟨s, k, hR, e1, e2⟩
        · exact xb_reg1 hg (br_f ph_10 (xb_reg1 hs0 (br_f ph_10 (br_f n0 (br_t n1 ⟨hig, br_f (by rw [hcg, e1]; decide) (yb_reg1 hg (br_f ph_10 (yb_reg1 hs0 (br_f ph_10 (br_f n0 (br_t n1 ⟨hig, br_t (by rw [hcg, e2]) ⟨rfl, i_mk H⟩⟩))))))⟩)))))
        · have b := H.1.1 s k hR
          have o := (H.2.2.2.1 s k hR).2.1 f hf
          refine xb_reg1 hg (br_f ph_10 (xb_reg1 hs0 (br_f ph_10 (br_f n0 (br_t n1 ⟨hig, br_t (by rw [hcg, e1]; exact nI_pos' (by omega)) ⟨hig, by rw [hcg, e1, ph_fx]; exact vp_in_nI (by omega) (by decide), vp_in_nI hg (by decide), nm_r (e' := upd rg g (fl (2 * (32 * h + s) + f))) (by rw [hcg, e1, ph_fx, nI_clamp (by omega), nI_clamp (by omega), ph_rf_nb (rl_rf H.1 b3 o)]) ?_⟩⟩)))))
          exact yb_reg1 hg (br_f ph_10 (yb_reg1 hs0 (br_f ph_10 (br_f n0 (br_t n1 ⟨hig, br_f (by rw [hcg, e2]; exact fun z => absurd (ph_inj (a := k) (b := 24) (by omega) (by omega) z) (by omega)) ⟨hig, by rw [hcg, e2, ph_fidx]; exact vp_in_nI (by omega) (by decide), vp_in_nI hg (by decide), nm_r (e' := upd yg g (yf (2 * k + f))) (by rw [hcg, e2, ph_fidx, nI_clamp (by omega), nI_clamp (by omega)]) ⟨rfl, i_mk (rl_wg H o)⟩⟩⟩)))))
      · rcases hb with hb | ⟨hb1, hb2⟩
        · exact xb_reg1 hg (br_f ph_10 (xb_reg1 hs0 (br_f ph_10 (br_t hb (yb_reg1 hg (br_f ph_10 (yb_reg1 hs0 (br_f ph_10 (br_t hb ⟨rfl, i_mk H⟩)))))))))
        · have hb3 : ¬ v3 ≤ 1 := Int32.not_le.mpr hb2
          exact xb_reg1 hg (br_f ph_10 (xb_reg1 hs0 (br_f ph_10 (br_f hb1 (br_f hb3 (yb_reg1 hg (br_f ph_10 (yb_reg1 hs0 (br_f ph_10 (br_f hb1 (br_f hb3 ⟨rfl, i_mk H⟩)))))))))))
    · exact xb_reg1 hg (br_f ph_10 (xb_reg0 hb (br_t rfl (yb_reg1 hg (br_f ph_10 (yb_reg0 hb (br_t rfl ⟨rfl, i_mk H⟩)))))))
  · exact xb_reg0 hb (br_t rfl (yb_reg0 hb (br_t rfl ⟨rfl, i_mk H⟩)))
theorem ym_toField {post : Int32 → SY → Prop} {yn yt yf yo ys yr yp yg ye : Nat → Int32} {s0 f g k : Nat} (hs0 : s0 < 4) (hf : f < 2) (hg : g < 4) (hk : k < 24) (e2 : yg s0 = nI k) (h : post 0 (yn, yt, upd yf (2 * k + f) (yg g), yo, ys, yr, yp, yg, ye)) : wpY_toField post (yn, yt, yf, yo, ys, yr, yp, yg, ye) (nI s0) (nI f) (nI g) := by
  unfold wpY_toField
  dsimp only
  have hcg : (nI s0).toNatClampNeg = s0 := nI_clamp (by omega)
  have hig : vp_in (nI s0) 4 := vp_in_nI hs0 (by decide)
  have n0 : ¬ nI f < 0 := nI_pos (by omega)
  have n1 : nI f ≤ 1 := nI_le (b := 1) (by omega) (by decide)
  exact yb_reg1 hg (br_f ph_10 (yb_reg1 hs0 (br_f ph_10 (br_f n0 (br_t n1 ⟨hig, br_f (by rw [hcg, e2]; exact fun z => absurd (ph_inj (a := k) (b := 24) (by omega) (by omega) z) (by omega)) ⟨hig, vp_in_nI hg (by decide), by rw [hcg, e2, ph_fidx]; exact vp_in_nI (by omega) (by decide), nm_r (e' := upd yf (2 * k + f) (yg g)) (by rw [hcg, e2, ph_fidx, nI_clamp (by omega), nI_clamp (by omega)]) h⟩⟩)))))
theorem i_vc_toField {k : Nat} {u : SX} {v : SY} (I : i_Rel k u v) (hk : k + 4 ≤ 2048) (v1 : Int32) (v2 : Int32) (v3 : Int32) : wpX_toField (fun r u' => wpY_toField (fun r' v' => r' = r ∧ i_Rel (k + 4) u' v') v v1 v2 v3) u v1 v2 v3 := by
  refine i_el (Pr := fun u v => wpX_toField (fun r u' => wpY_toField (fun r' v' => r' = r ∧ i_Rel (k + 4) u' v') v v1 v2 v3) u v1 v2 v3) I ?_
  intro h n c P R ar al fl nu ro lc lp lo rg nw ld gt cf nt yn yt yf yo ys yr yp yg ye H
  unfold wpX_toField
  dsimp only
  rcases ph_reg 3 (by omega) v3 with ⟨g, hg, rfl⟩ | hb
  · rcases ph_reg 3 (by omega) v1 with ⟨s0, hs0, rfl⟩ | hb
    · have hcg : (nI s0).toNatClampNeg = s0 := nI_clamp (by omega)
      have hig : vp_in (nI s0) 4 := vp_in_nI hs0 (by decide)
      have hcg2 : (nI g).toNatClampNeg = g := nI_clamp (by omega)
      have hig2 : vp_in (nI g) 4 := vp_in_nI hg (by decide)
      have h1 := H.2.1.1.1
      have b3 := H.2.1.2.1
      rcases ph_reg 1 (by omega) v2 with ⟨f, hf, rfl⟩ | hb
      · have n0 : ¬ nI f < 0 := nI_pos (by omega)
        have n1 : nI f ≤ 1 := nI_le (b := 1) (by omega) (by decide)
        have gg := H.2.2.2.2.2.2.2 g hg
        rcases H.2.2.2.2.2.2.2 s0 hs0 with ⟨e1, e2⟩ | ⟨s, k, hR, e1, e2⟩
        · unfold wpY_toField
          exact xb_reg1 hg (br_f ph_10 (xb_reg1 hs0 (br_f ph_10 (br_f n0 (br_t n1 ⟨hig, br_f (by rw [hcg, e1]; decide) (yb_reg1 hg (br_f ph_10 (yb_reg1 hs0 (br_f ph_10 (br_f n0 (br_t n1 ⟨hig, br_t (by rw [hcg, e2]) ⟨rfl, i_mk H⟩⟩))))))⟩)))))
        · have b := H.1.1 s k hR
          have o := H.2.2.2.1 s k hR
          have of := o.2.1 f hf
          have hix : vp_in (nI (2 * (32 * h + s) + f)) 128 := vp_in_nI (by omega) (by decide)
          have hcx : (nI (2 * (32 * h + s) + f)).toNatClampNeg = 2 * (32 * h + s) + f := nI_clamp (by omega)
          have hcs : (nI s).toNatClampNeg = s := nI_clamp (by omega)
          refine xb_reg1 hg (br_f ph_10 (xb_reg1 hs0 (br_f ph_10 (br_f n0 (br_t n1 ⟨hig, br_t (by rw [hcg, e1]; exact nI_pos' (by omega)) ⟨hig, nm_r (e' := nI s) (by rw [hcg, e1]) (nm_r (ph_fx h s f) ⟨vp_in_nI (by omega) (by decide), ?_⟩)⟩⟩)))))
          by_cases z : nw s = 0
          · refine br_t (by rw [hcs]; exact z) ⟨hix, ?_⟩
            have hv : ys k ≠ 0 := o.2.2.2.mp z
            rw [ph_rx, hcx]
            refine xn_note H (by omega) (fun _ => by omega) (fun s' k' f' hR' hf' e => ?_) (fun s' k' hR' e => absurd e (by omega)) (fun r hr e => absurd e (by omega)) (fun c' P' lc' lp' lo' ld' H' hl => ?_)
            · have es : s' = s := by omega
              have ef : f' = f := by omega
              subst es ef
              have ek := H.1.2.1 s' k' k hR' hR
              subst ek
              exact ⟨hv, of⟩
            · exact And.intro hig2 (And.intro hix (nm_r (e' := upd fl (2 * (32 * h + s) + f) (rg g)) (by rw [hcx, hcg2, ph_rf_nb (rl_rf H.1 b3 gg)]) (ym_toField hs0 hf hg b.2 e2 ⟨rfl, i_mk (rl_wf H' hR hf gg (Or.inr hl))⟩)))
          · refine br_f (by rw [hcs]; exact z) ?_
            have hv : ys k = 0 := Classical.byContradiction (fun z2 => z (o.2.2.2.mpr z2))
            exact And.intro hig2 (And.intro hix (nm_r (e' := upd fl (2 * (32 * h + s) + f) (rg g)) (by rw [hcx, hcg2, ph_rf_nb (rl_rf H.1 b3 gg)]) (ym_toField hs0 hf hg b.2 e2 ⟨rfl, i_mk (rl_wf H hR hf gg (Or.inl hv))⟩)))
      · unfold wpY_toField
        rcases hb with hb | ⟨hb1, hb2⟩
        · exact xb_reg1 hg (br_f ph_10 (xb_reg1 hs0 (br_f ph_10 (br_t hb (yb_reg1 hg (br_f ph_10 (yb_reg1 hs0 (br_f ph_10 (br_t hb ⟨rfl, i_mk H⟩)))))))))
        · have hb3 : ¬ v2 ≤ 1 := Int32.not_le.mpr hb2
          exact xb_reg1 hg (br_f ph_10 (xb_reg1 hs0 (br_f ph_10 (br_f hb1 (br_f hb3 (yb_reg1 hg (br_f ph_10 (yb_reg1 hs0 (br_f ph_10 (br_f hb1 (br_f hb3 ⟨rfl, i_mk H⟩)))))))))))
    · unfold wpY_toField
      exact xb_reg1 hg (br_f ph_10 (xb_reg0 hb (br_t rfl (yb_reg1 hg (br_f ph_10 (yb_reg0 hb (br_t rfl ⟨rfl, i_mk H⟩)))))))
  · unfold wpY_toField
    exact xb_reg0 hb (br_t rfl (yb_reg0 hb (br_t rfl ⟨rfl, i_mk H⟩)))
theorem ym_setNumber {post : Int32 → SY → Prop} {yn yt yf yo ys yr yp yg ye : Nat → Int32} {s0 k : Nat} {x : Int32} (hs0 : s0 < 4) (hk : k < 24) (e2 : yg s0 = nI k) (h : post 0 (upd yn k x, yt, yf, yo, ys, yr, yp, yg, ye)) : wpY_setNumber post (yn, yt, yf, yo, ys, yr, yp, yg, ye) (nI s0) x := by
  unfold wpY_setNumber
  dsimp only
  have hcg : (nI s0).toNatClampNeg = s0 := nI_clamp (by omega)
  have hig : vp_in (nI s0) 4 := vp_in_nI hs0 (by decide)
  exact yb_reg1 hs0 (br_f ph_10 ⟨hig, br_f (by rw [hcg, e2]; exact fun z => absurd (ph_inj (a := k) (b := 24) (by omega) (by omega) z) (by omega)) ⟨hig, by rw [hcg, e2]; exact vp_in_nI (by omega) (by decide), nm_r (e' := upd yn k x) (by rw [hcg, e2, nI_clamp (by omega)]) h⟩⟩)
theorem i_vc_setNumber {k : Nat} {u : SX} {v : SY} (I : i_Rel k u v) (hk : k + 4 ≤ 2048) (v1 : Int32) (v2 : Int32) : wpX_setNumber (fun r u' => wpY_setNumber (fun r' v' => r' = r ∧ i_Rel (k + 4) u' v') v v1 v2) u v1 v2 := by
  refine i_el (Pr := fun u v => wpX_setNumber (fun r u' => wpY_setNumber (fun r' v' => r' = r ∧ i_Rel (k + 4) u' v') v v1 v2) u v1 v2) I ?_
  intro h n c P R ar al fl nu ro lc lp lo rg nw ld gt cf nt yn yt yf yo ys yr yp yg ye H
  unfold wpX_setNumber
  dsimp only
  rcases ph_reg 3 (by omega) v1 with ⟨s0, hs0, rfl⟩ | hb
  · have hcg : (nI s0).toNatClampNeg = s0 := nI_clamp (by omega)
    have hig : vp_in (nI s0) 4 := vp_in_nI hs0 (by decide)
    have h1 := H.2.1.1.1
    have b3 := H.2.1.2.1
    rcases H.2.2.2.2.2.2.2 s0 hs0 with ⟨e1, e2⟩ | ⟨s, k, hR, e1, e2⟩
    · unfold wpY_setNumber
      exact xb_reg1 hs0 (br_f ph_10 ⟨hig, br_f (by rw [hcg, e1]; decide) (yb_reg1 hs0 (br_f ph_10 ⟨hig, br_t (by rw [hcg, e2]) ⟨rfl, i_mk H⟩⟩))⟩)
    · have b := H.1.1 s k hR
      have o := H.2.2.2.1 s k hR
      have hix : vp_in ((32 : Int32) * nI h + nI s) 64 := by rw [ph_sl]; exact vp_in_nI (by omega) (by decide)
      have hcs : (nI s).toNatClampNeg = s := nI_clamp (by omega)
      refine xb_reg1 hs0 (br_f ph_10 ⟨hig, br_t (by rw [hcg, e1]; exact nI_pos' (by omega)) ⟨hig, nm_r (e' := nI s) (by rw [hcg, e1]) ⟨vp_in_nI (by omega) (by decide), ?_⟩⟩⟩)
      by_cases z : nw s = 0
      · refine br_t (by rw [hcs]; exact z) ⟨hix, ?_⟩
        have hv : ys k ≠ 0 := o.2.2.2.mp z
        rw [ph_3, ph_a2, ph_sl, nI_clamp (by omega)]
        refine xn_note H (by omega) (fun _ => by omega) (fun s' k' f' hR' hf' e => absurd e (by omega)) (fun s' k' hR' e => ?_) (fun r hr e => absurd e (by omega)) (fun c' P' lc' lp' lo' ld' H' hl => ?_)
        · have es : s' = s := by omega
          subst es
          have ek := H.1.2.1 s' k' k hR' hR
          subst ek
          exact ⟨hv, o.1⟩
        · exact And.intro hix (nm_r (e' := upd nu (32 * h + s) v2) (by rw [ph_sl, nI_clamp (by omega)]) (ym_setNumber hs0 b.2 e2 ⟨rfl, i_mk (rl_wn H' hR (Or.inr hl))⟩))
      · refine br_f (by rw [hcs]; exact z) ?_
        have hv : ys k = 0 := Classical.byContradiction (fun z2 => z (o.2.2.2.mpr z2))
        exact And.intro hix (nm_r (e' := upd nu (32 * h + s) v2) (by rw [ph_sl, nI_clamp (by omega)]) (ym_setNumber hs0 b.2 e2 ⟨rfl, i_mk (rl_wn H hR (Or.inl hv))⟩))
  · unfold wpY_setNumber
    exact xb_reg0 hb (br_t rfl (yb_reg0 hb (br_t rfl ⟨rfl, i_mk H⟩)))
end
section
/-! part 10: putting back, saving -/
def xs_q (c : Nat) (P : Nat → Nat) (v : Nat → Int32) (q i : Nat) (a a0 : Int32) : Prop := (∀ j, i ≤ j → j < c → P j = q → a = v j) ∧ ((∀ j, i ≤ j → j < c → P j ≠ q) → a = a0)
theorem xs_q1 {c : Nat} {P : Nat → Nat} {v : Nat → Int32} {q i : Nat} {a a0 : Int32} (hi : i < c) (hd : ∀ i j, i < c → j < c → P i = P j → i = j) (e : P i = q) (ea : a = v i) : xs_q c P v q i a a0 :=
  ⟨fun j h1 h2 h3 => by rw [ea, hd i j hi h2 (e.trans h3.symm)], fun z => absurd e (z i (Nat.le_refl _) hi)⟩
theorem xs_q2 {c : Nat} {P : Nat → Nat} {v : Nat → Int32} {q i : Nat} {a a0 : Int32} (h : xs_q c P v q (i + 1) a a0) (e : P i ≠ q) : xs_q c P v q i a a0 :=
  ⟨fun j h1 h2 h3 => h.1 j (by
    have : j ≠ i := fun z => by subst z; exact e h3
    omega) h2 h3, fun z => h.2 (fun j h1 h2 => z j (by omega) h2)⟩
theorem xs_q0 {c : Nat} {P : Nat → Nat} {v : Nat → Int32} {q : Nat} {a : Int32} : xs_q c P v q c a a := ⟨fun j h1 h2 => absurd h1 (by omega), fun _ => rfl⟩
def xs_B (h c : Nat) (P : Nat → Nat) (lo fl0 nu0 ro0 : Nat → Int32) (i : Nat) (fl nu ro : Nat → Int32) : Prop :=
  (∀ s f, s < 32 → f < 2 → xs_q c P (fun j => (lo (99 * h + j)).toInt8.toInt32) (3 * s + f) i (fl (2 * (32 * h + s) + f)) (fl0 (2 * (32 * h + s) + f))) ∧
  (∀ s, s < 32 → xs_q c P (fun j => lo (99 * h + j)) (3 * s + 2) i (nu (32 * h + s)) (nu0 (32 * h + s))) ∧
  (∀ r, r < 3 → xs_q c P (fun j => (lo (99 * h + j)).toInt8.toInt32) (96 + r) i (ro (3 * h + r)) (ro0 (3 * h + r)))
section
variable {us ar al : Int32} {fl nu ro lc lp lo rg nw ld gt cf nt : Nat → Int32}
theorem xs_forget {post : SX → Prop} {hf : Int32} (k : ∀ ld', (∀ p, p < 99 → ld' p = 0) → post (hf, us, ar, al, fl, nu, ro, lc, lp, lo, rg, nw, ld', gt, cf, nt)) : wpX_forgetListed post (hf, us, ar, al, fl, nu, ro, lc, lp, lo, rg, nw, ld, gt, cf, nt) := by
  unfold wpX_forgetListed
  dsimp only
  refine loop_0 (fun m i e => wX_forgetListed_2 post hf us ar al m (nI i) fl nu ro lc lp lo rg nw e gt cf nt) (fun i e => ∀ p, p < i → e p = 0) 99 ld (fun p hp => absurd hp (Nat.not_lt_zero _)) (fun m e he => ?_) (fun m i e hi he J => ?_)
  · exact pk_le 99 99 (fun _ => k e he) (fun z => absurd z (Nat.lt_irrefl _))
  · refine pk_le 99 i (fun z => absurd z (by omega)) (fun _ => ⟨vp_in_nI hi (by decide), nm_r (e' := upd e i 0) (by rw [nI_clamp (by omega), ph_vb0]) (nm_r (nI_1 i) (J _ (fun p hp => ?_)))⟩)
    by_cases c : p = i
    · exact ph_us c
    · rw [pk_un c]; exact he p (by omega)
theorem xs_putBack {post : SX → Prop} {h c : Nat} {P : Nat → Nat} (hL : xq_L h c P lc lp) (hd : ∀ i j, i < c → j < c → P i = P j → i = j)
    (k : ∀ fl' nu' ro' ld', xs_B h c P lo fl nu ro 0 fl' nu' ro' → (∀ p, p < 99 → ld' p = 0) → post (nI h, us, ar, al, fl', nu', ro', upd lc h 0, lp, lo, rg, nw, ld', gt, cf, nt)) : wpX_putBack post (nI h, us, ar, al, fl, nu, ro, lc, lp, lo, rg, nw, ld, gt, cf, nt) := by
  obtain ⟨h1, h2, h3, h4⟩ := hL
  have hih : vp_in (nI h) 2 := vp_in_nI h1 (by decide)
  have hch : (nI h).toNatClampNeg = h := nI_clamp (by omega)
  unfold wpX_putBack
  dsimp only
  refine ⟨hih, nm_r (e' := nI c - 1) (by rw [hch, h3]) ?_⟩
  refine ⟨c + 1, pk_loopD (fun m i (s : (Nat → Int32) × (Nat → Int32) × (Nat → Int32)) => wX_putBack_12 post (nI h) us ar al m (nI i - 1) s.1 s.2.1 s.2.2 lc lp lo rg nw ld gt cf nt) (fun i s => i ≤ c ∧ xs_B h c P lo fl nu ro i s.1 s.2.1 s.2.2) (fun m s hs => ?_) (fun m i s hs J => ?_) c (fl, nu, ro) ⟨Nat.le_refl _, fun _ _ _ _ => xs_q0, fun _ _ => xs_q0, fun _ _ => xs_q0⟩⟩
  · exact br_t (by rw [nI_0]; decide) ⟨hih, nm_r (e' := upd lc h 0) (by rw [hch, ph_n0]) (xs_forget (fun ld' hl => k _ _ _ ld' hs.2 hl))⟩
  · obtain ⟨hi, b1, b2, b3⟩ := hs
    obtain ⟨eP, hP⟩ := h4 i (by omega)
    have hin : vp_in (nI (99 * h + i)) 198 := vp_in_nI (by omega) (by decide)
    have hcl : (nI (99 * h + i)).toNatClampNeg = 99 * h + i := nI_clamp (by omega)
    have nx : nI i + (-1) = nI i - 1 := (Int32.sub_eq_add_neg _ _).symm
    show wX_putBack_12 post (nI h) us ar al (m + 1) (nI (i + 1) - 1) s.1 s.2.1 s.2.2 lc lp lo rg nw ld gt cf nt
    rw [nI_pred]
    refine br_f (nI_pos (by omega)) ?_
    rw [ph_lx, hcl, eP]
    refine ⟨hin, nm_e ⟨hin, nm_e ?_⟩⟩
    refine pk_lt (P i) 96 (fun z => ⟨ph_30, ?_⟩) (fun z => ?_)
    · refine pk_eq (P i % 3) 2 (fun z2 => ⟨ph_30, ?_⟩) (fun z2 => ⟨ph_30, ph_30, ?_⟩) (ph_m3 (by omega))
      · rw [ph_d3 (by omega), ph_sl]
        refine ⟨vp_in_nI (by omega) (by decide), nm_r (e' := upd s.2.1 (32 * h + P i / 3) (lo (99 * h + i))) (by rw [nI_clamp (by omega)]) (nm_r nx (J (s.1, upd s.2.1 (32 * h + P i / 3) (lo (99 * h + i)), s.2.2) ⟨by omega, fun s' f hs' hf => xs_q2 (b1 s' f hs' hf) (by omega), fun s' hs' => ?_, fun r hr => xs_q2 (b3 r hr) (by omega)⟩))⟩
        show xs_q c P _ (3 * s' + 2) i (upd s.2.1 (32 * h + P i / 3) (lo (99 * h + i)) (32 * h + s')) _
        by_cases e : P i = 3 * s' + 2
        · exact xs_q1 (by omega) hd e (ph_us (by omega))
        · rw [pk_un (by omega)]
          exact xs_q2 (b2 s' hs') e
      · rw [ph_m3 (by omega), ph_d3 (by omega), ph_fx]
        refine ⟨vp_in_nI (by omega) (by decide), nm_r (e' := upd s.1 (2 * (32 * h + P i / 3) + P i % 3) (lo (99 * h + i)).toInt8.toInt32) (by rw [nI_clamp (by omega), pk_vb]) (nm_r nx (J (upd s.1 (2 * (32 * h + P i / 3) + P i % 3) (lo (99 * h + i)).toInt8.toInt32, s.2.1, s.2.2) ⟨by omega, fun s' f hs' hf => ?_, fun s' hs' => xs_q2 (b2 s' hs') (by omega), fun r hr => xs_q2 (b3 r hr) (by omega)⟩))⟩
        show xs_q c P _ (3 * s' + f) i (upd s.1 (2 * (32 * h + P i / 3) + P i % 3) (lo (99 * h + i)).toInt8.toInt32 (2 * (32 * h + s') + f)) _
        by_cases e : P i = 3 * s' + f
        · exact xs_q1 (by omega) hd e (ph_us (by omega))
        · rw [pk_un (by omega)]
          exact xs_q2 (b1 s' f hs' hf) e
    · have ei : (3 : Int32) * nI h + nI (P i) - 96 = nI (3 * h + (P i - 96)) := by
        rw [ph_rx]
        exact (pk_sub (a := 3 * h + P i) (b := 96) (by omega)).trans (congrArg nI (by omega))
      rw [ei]
      refine ⟨vp_in_nI (by omega) (by decide), nm_r (e' := upd s.2.2 (3 * h + (P i - 96)) (lo (99 * h + i)).toInt8.toInt32) (by rw [nI_clamp (by omega), pk_vb]) (nm_r nx (J (s.1, s.2.1, upd s.2.2 (3 * h + (P i - 96)) (lo (99 * h + i)).toInt8.toInt32) ⟨by omega, fun s' f hs' hf => xs_q2 (b1 s' f hs' hf) (by omega), fun s' hs' => xs_q2 (b2 s' hs') (by omega), fun r hr => ?_⟩))⟩
      show xs_q c P _ (96 + r) i (upd s.2.2 (3 * h + (P i - 96)) (lo (99 * h + i)).toInt8.toInt32 (3 * h + r)) _
      by_cases e : P i = 96 + r
      · exact xs_q1 (by omega) hd e (ph_us (by omega))
      · rw [pk_un (by omega)]
        exact xs_q2 (b3 r hr) e
end
section
variable {h n c : Nat} {P : Nat → Nat} {R : Nat → Nat → Prop} {fl nu ro lc lp lo rg nw ld yn yt yf yo ys yr yp yg : Nat → Int32}
theorem rl_L0 (L : rl_L h n c P lc lp ld) {ld' : Nat → Int32} (hl : ∀ p, p < 99 → ld' p = 0) : rl_L h n 0 P (upd lc h 0) lp ld' :=
  ⟨⟨L.1.1, by omega, pk_us, fun j hj => absurd hj (Nat.not_lt_zero _)⟩, L.2.1, fun i j hi => absurd hi (Nat.not_lt_zero _), fun p hp => ⟨fun z => absurd (hl p hp) z, fun ⟨j, hj, _⟩ => absurd hj (Nat.not_lt_zero _)⟩, fun j hj => absurd hj (Nat.not_lt_zero _)⟩
theorem rl_save (H : rl h n c P R fl nu ro lc lp lo rg nw ld yn yt yf yo ys yr yp yg) {t s o p nw' ld' : Nat → Int32} (ht : ∀ k, k < 24 → t k = yn k) (hs : ∀ k, k < 24 → s k = 1) (ho : ∀ i, i < 48 → o i = yf i) (hp : ∀ r, r < 3 → p r = yr r) (hw : ∀ s, s < 32 → nw' s = 0) (hl : ∀ p, p < 99 → ld' p = 0) :
    rl h n 0 P R fl nu ro (upd lc h 0) lp lo rg nw' ld' yn t yf o s yr p yg := by
  obtain ⟨B, L, Y, O, Q, N, T, G⟩ := H
  have b3 := L.2.1
  refine ⟨B, rl_L0 L hl, ⟨Y.1, fun i hi => by rw [ho i hi]; exact Y.1 i hi, Y.2.2.1, fun r hr => by rw [hp r hr]; exact Y.2.2.1 r hr, Y.2.2.2.2⟩, fun s' k hR => ?_, fun s' k hR hv => ?_, fun s' k hR hv j hj => absurd hj (Nat.not_lt_zero _), fun r hr => ?_, G⟩
  · obtain ⟨o1, o2, _⟩ := O s' k hR
    have b := B.1 s' k hR
    exact ⟨o1, o2, Or.inl (hw s' (by omega)), fun _ => by rw [hs k b.2]; exact ph_10, fun _ => hw s' (by omega)⟩
  · have b := B.1 s' k hR
    exact ⟨fun f hf => ⟨fun j hj => absurd hj (Nat.not_lt_zero _), fun _ => ho _ (by omega), fun t' ht' _ => by rw [hs t' ht']; exact ph_10⟩, fun j hj => absurd hj (Nat.not_lt_zero _), fun _ => ht k b.2⟩
  · exact ⟨(T r hr).1, fun j hj => absurd hj (Nat.not_lt_zero _), fun _ => hp r hr, fun t' ht' _ => by rw [hs t' ht']; exact ph_10⟩
theorem rl_back (H : rl h n c P R fl nu ro lc lp lo rg nw ld yn yt yf yo ys yr yp yg) {fl' nu' ro' ld' n' f' r' : Nat → Int32} (hB : xs_B h c P lo fl nu ro 0 fl' nu' ro') (hl : ∀ p, p < 99 → ld' p = 0)
    (hn : ∀ k, k < 24 → n' k = if ys k = 0 then yn k else yt k) (hf : ∀ i, i < 48 → f' i = if ys (i / 2) = 0 then yf i else yo i) (hr : ∀ r, r < 3 → r' r = yp r) :
    rl h n 0 P R fl' nu' ro' (upd lc h 0) lp lo rg nw ld' n' yt f' yo ys r' yp yg := by
  obtain ⟨B, L, Y, O, Q, N, T, G⟩ := H
  have b3 := L.2.1
  have fk : ∀ k f, k < 24 → f < 2 → f' (2 * k + f) = if ys k = 0 then yf (2 * k + f) else yo (2 * k + f) := by
    intro k f hk hf2
    rw [hf (2 * k + f) (by omega), show (2 * k + f) / 2 = k from by omega]
  refine ⟨B, rl_L0 L hl, ⟨fun i hi => ?_, Y.2.1, fun r hr' => by rw [hr r hr']; exact Y.2.2.2.1 r hr', Y.2.2.2⟩, fun s k hR => ?_, fun s k hR hv => ?_, fun s' k hR hv j hj => absurd hj (Nat.not_lt_zero _), fun r hr' => ?_, G⟩
  · rw [hf i hi]
    by_cases z : ys (i / 2) = 0
    · rw [if_pos z]; exact Y.1 i hi
    · rw [if_neg z]; exact Y.2.1 i hi
  · obtain ⟨o1, o2, o3⟩ := O s k hR
    have b := B.1 s k hR
    have hs : s < 32 := by omega
    refine ⟨?_, fun f hf2 => ?_, o3⟩
    · rw [hn k b.2]
      have hb := hB.2.1 s hs
      by_cases z : ys k = 0
      · rw [if_pos z, hb.2 (fun j _ hj e => N s k hR z j hj (by omega))]
        exact o1
      · rw [if_neg z]
        obtain ⟨q1, q2, q3⟩ := Q s k hR z
        by_cases hj : ∃ j, j < c ∧ P j = 3 * s + 2
        · obtain ⟨j, hj, ej⟩ := hj
          rw [hb.1 j (Nat.zero_le _) hj ej]
          exact q2 j hj ej
        · have hj2 : ∀ j, j < c → P j ≠ 3 * s + 2 := fun j hj2 ej => hj ⟨j, hj2, ej⟩
          rw [hb.2 (fun j _ hj => hj2 j hj), q3 hj2]
          exact o1
    · rw [fk k f b.2 hf2]
      have hb := hB.1 s f hs hf2
      by_cases z : ys k = 0
      · rw [if_pos z, hb.2 (fun j _ hj e => N s k hR z j hj (by omega))]
        exact o2 f hf2
      · rw [if_neg z]
        obtain ⟨q1, q2, q3⟩ := (Q s k hR z).1 f hf2
        by_cases hj : ∃ j, j < c ∧ P j = 3 * s + f
        · obtain ⟨j, hj, ej⟩ := hj
          rw [show fl' (2 * (32 * h + s) + f) = (lo (99 * h + j)).toInt8.toInt32 from hb.1 j (Nat.zero_le _) hj ej, ph_rf_i8 (rl_rf B b3 (q1 j hj ej))]
          exact q1 j hj ej
        · have hj2 : ∀ j, j < c → P j ≠ 3 * s + f := fun j hj2 ej => hj ⟨j, hj2, ej⟩
          rw [hb.2 (fun j _ hj => hj2 j hj), q2 hj2]
          exact o2 f hf2
  · have b := B.1 s k hR
    obtain ⟨q1, q2, q3⟩ := Q s k hR hv
    refine ⟨fun f hf2 => ⟨fun j hj => absurd hj (Nat.not_lt_zero _), fun _ => ?_, (q1 f hf2).2.2⟩, fun j hj => absurd hj (Nat.not_lt_zero _), fun _ => ?_⟩
    · rw [fk k f b.2 hf2, if_neg hv]
    · rw [hn k b.2, if_neg hv]
  · obtain ⟨t1, t2, t3, t4⟩ := T r hr'
    refine ⟨?_, fun j hj => absurd hj (Nat.not_lt_zero _), fun _ => (hr r hr').symm, t4⟩
    have hb := hB.2.2 r hr'
    rw [hr r hr']
    by_cases hj : ∃ j, j < c ∧ P j = 96 + r
    · obtain ⟨j, hj, ej⟩ := hj
      rw [show ro' (3 * h + r) = (lo (99 * h + j)).toInt8.toInt32 from hb.1 j (Nat.zero_le _) hj ej, ph_rf_i8 (rl_rf B b3 (t2 j hj ej))]
      exact t2 j hj ej
    · have hj2 : ∀ j, j < c → P j ≠ 96 + r := fun j hj2 ej => hj ⟨j, hj2, ej⟩
      rw [hb.2 (fun j _ hj => hj2 j hj), t3 hj2]
      exact t1
end
end
section
/-! part 11: save, back, needed, reach -/
section
variable {h n c : Nat} {P : Nat → Nat} {R : Nat → Nat → Prop} {ar al : Int32} {fl nu ro lc lp lo rg nw ld gt cf nt yn yt yf yo ys yr yp yg : Nat → Int32}
theorem rl_xFrom {post : Int32 → Prop} (H : rl h n c P R fl nu ro lc lp lo rg nw ld yn yt yf yo ys yr yp yg) (k : ∀ S, (∀ i, i < 32 → (bt S i = true ↔ ph_R (xq_stR h ro) (xq_E h c P fl lo 0) i)) → post (nI (ph_cn (bt S) 32))) : wpX_fromRoots post (nI h, nI n, ar, al, fl, nu, ro, lc, lp, lo, rg, nw, ld, gt, cf, nt) :=
  xq_fromRoots H.2.1.1 H.2.1.2.1 (fun r hr => rl_rf H.1 H.2.1.2.1 (H.2.2.2.2.2.2.1 r hr).1) (rl_xG H 0 (rl_sxR H)) k
theorem rl_xNeed {post : Int32 → Prop} (H : rl h n c P R fl nu ro lc lp lo rg nw ld yn yt yf yo ys yr yp yg) {ld' nw' : Nat → Int32} (k : ∀ S, (∀ i, i < 32 → (bt S i = true ↔ ph_R (xq_stN h c P ro rg lo) (xq_E h c P fl lo 1) i)) → post S) : wpX_neededSet post (nI h, nI n, ar, al, fl, nu, ro, lc, lp, lo, rg, nw', ld', gt, cf, nt) :=
  xq_needed H.2.1.1 H.2.1.2.1 (fun r hr => rl_rf H.1 H.2.1.2.1 (H.2.2.2.2.2.2.1 r hr).1) (fun g hg => rl_rf H.1 H.2.1.2.1 (H.2.2.2.2.2.2.2 g hg)) (fun j hj a => by
    have hp := (H.2.1.1.2.2.2 j hj).2
    exact rl_rf H.1 H.2.1.2.1 ((H.2.2.2.2.2.2.1 (P j - 96) (by omega)).2.1 j hj (by omega))) (rl_xG H 1 (rl_sx H)) k
end
theorem ym_reach {post : Int32 → SY → Prop} {yn yt yf yo ys yr yp yg ye : Nat → Int32} (hf : yq_rg 48 yf) (ho : yq_rg 48 yo) (hr : yq_rg 3 yr) {r : Nat} (hr3 : r < 3) (h : ∀ e, (∀ k, k < 24 → (e k ≠ 0 ↔ ph_R (yq_st1 yr r) (yq_E yf yo ys 0) k)) → post (nI (yq_c e)) (yn, yt, yf, yo, ys, yr, yp, yg, e)) : wpY_reach post (yn, yt, yf, yo, ys, yr, yp, yg, ye) (nI r) := by
  unfold wpY_reach
  dsimp only
  refine yb_root1 hr3 (br_f ph_10 (yq_forget (fun e0 z0 => ?_)))
  dsimp only
  obtain ⟨t, ht, et⟩ := hr r hr3
  refine ⟨vp_in_nI hr3 (by decide), by rw [nI_clamp (by omega), et]; exact vp_in_nI ht (by decide), nm_r (e' := upd e0 t 1) (by rw [nI_clamp (n := r) (by omega), et, nI_clamp (by omega), ph_vb1]) ?_⟩
  refine yq_follow (st := yq_st1 yr r) hf ho (fun k s => s.1) (fun k hk => ?_) (fun e h' => h e h')
  by_cases c : k = t
  · rw [ph_us c]
    exact ⟨fun _ => ⟨hk, by rw [et, c]⟩, fun _ => ph_10⟩
  · rw [pk_un c]
    exact ⟨fun z => absurd (z0 k (by omega)) z, fun z => absurd (ph_inj (by omega) (by omega) (z.2.symm.trans et)) c⟩
theorem i_vc_needed {k : Nat} {u : SX} {v : SY} (I : i_Rel k u v) (hk : k + 4 ≤ 2048) : wpX_needed (fun r => wpY_needed (fun r' v' => r' = r ∧ i_Rel (k + 4) u v') v) u := by
  refine i_el (Pr := fun u v => wpX_needed (fun r => wpY_needed (fun r' v' => r' = r ∧ i_Rel (k + 4) u v') v) u) I ?_
  intro h n c P R ar al fl nu ro lc lp lo rg nw ld gt cf nt yn yt yf yo ys yr yp yg ye H
  unfold wpX_needed wpY_needed
  dsimp only
  have Y := H.2.2.1
  refine rl_xNeed H (fun S hS => xq_count (yq_need Y.1 Y.2.1 Y.2.2.1 Y.2.2.2.1 Y.2.2.2.2 (fun e he => ⟨?_, i_mk H⟩)))
  exact congrArg nI (rl_cnt H 1 (rl_sx H) (rl_sy H) hS he).symm
theorem i_vc_reach {k : Nat} {u : SX} {v : SY} (I : i_Rel k u v) (hk : k + 4 ≤ 2048) (v1 : Int32) : wpX_reach (fun r => wpY_reach (fun r' v' => r' = r ∧ i_Rel (k + 4) u v') v v1) u v1 := by
  refine i_el (Pr := fun u v => wpX_reach (fun r => wpY_reach (fun r' v' => r' = r ∧ i_Rel (k + 4) u v') v v1) u v1) I ?_
  intro h n c P R ar al fl nu ro lc lp lo rg nw ld gt cf nt yn yt yf yo ys yr yp yg ye H
  unfold wpX_reach
  dsimp only
  rcases ph_reg 2 (by omega) v1 with ⟨r, hr, rfl⟩ | hb
  · have h1 := H.2.1.1.1
    have Y := H.2.2.1
    have t := rl_rf H.1 H.2.1.2.1 (H.2.2.2.2.2.2.1 r hr).1
    have hin : vp_in ((3 : Int32) * nI h + nI r) 6 := by rw [ph_rx]; exact vp_in_nI (by omega) (by decide)
    have hcl : ((3 : Int32) * nI h + nI r).toNatClampNeg = 3 * h + r := by rw [ph_rx, nI_clamp (by omega)]
    have key : ∀ z0, z0 = xq_bit (ro (3 * h + r)) → wX_reach_45 (fun r_1 => wpY_reach (fun r' v' => r' = r_1 ∧ i_Rel (k + 4) (nI h, nI n, ar, al, fl, nu, ro, lc, lp, lo, rg, nw, ld, gt, cf, nt) v') (yn, yt, yf, yo, ys, yr, yp, yg, ye) (nI r)) z0 (nI h) (nI n) ar al fl nu ro lc lp lo rg nw ld gt cf nt := by
      intro z0 e0
      unfold wX_reach_45
      refine xq_spread (st := xq_st1 h r ro) H.2.1.1 H.2.1.2.1 (fun i hi => ?_) (fun i z => z.1) (rl_xG H 0 (rl_sx1 H hr)) (fun S hS => xq_count (ym_reach Y.1 Y.2.1 Y.2.2.1 hr (fun e he => ⟨?_, i_mk H⟩)))
      · rw [e0, xq_bt t hi]
        exact ⟨fun z => ⟨hi, z⟩, fun z => z.2⟩
      · exact congrArg nI (rl_cnt H 0 (rl_sx1 H hr) (rl_sy1 H hr) hS he).symm
    refine xb_root1 hr (br_f ph_10 ⟨hin, br_c (fun z => ⟨hin, key _ ?_⟩) (fun z => key _ ?_)⟩)
    · rw [hcl] at z ⊢
      exact (if_pos z).symm
    · rw [hcl] at z
      exact (if_neg z).symm
  · unfold wpY_reach
    exact xb_root0 hb (br_t rfl (yb_root0 hb (br_t rfl ⟨rfl, i_mk H⟩)))
theorem i_vc_save {k : Nat} {u : SX} {v : SY} (I : i_Rel k u v) (hk : k + 4 ≤ 2048) : wpX_save (fun r u' => wpY_save (fun r' v' => r' = r ∧ i_Rel (k + 4) u' v') v) u := by
  refine i_el (Pr := fun u v => wpX_save (fun r u' => wpY_save (fun r' v' => r' = r ∧ i_Rel (k + 4) u' v') v) u) I ?_
  intro h n c P R ar al fl nu ro lc lp lo rg nw ld gt cf nt yn yt yf yo ys yr yp yg ye H
  have h1 := H.2.1.1.1
  have Y := H.2.2.1
  have hih : vp_in (nI h) 2 := vp_in_nI h1 (by decide)
  have hch : (nI h).toNatClampNeg = h := nI_clamp (by omega)
  unfold wpX_save
  dsimp only
  refine ⟨hih, nm_r (e' := upd lc h 0) (by rw [hch, ph_n0]) (xs_forget (fun ld' hl => ?_))⟩
  dsimp only
  refine loop_0 (fun m i w => wX_save_16 (fun r u' => wpY_save (fun r' v' => r' = r ∧ i_Rel (k + 4) u' v') (yn, yt, yf, yo, ys, yr, yp, yg, ye)) (nI h) (nI n) ar al m (nI i) fl nu ro (upd lc h 0) lp lo rg w ld' gt cf nt) (fun i w => ∀ s, s < i → w s = 0) 32 nw (fun p hp => absurd hp (Nat.not_lt_zero _)) (fun m w hw => ?_) (fun m i w hi hw J => ?_)
  · have H0 : rl h n 0 P R fl nu ro (upd lc h 0) lp lo rg w ld' yn yn yf yf (fun _ => 1) yr yr yg := rl_save H (fun _ _ => rfl) (fun _ _ => rfl) (fun _ _ => rfl) (fun _ _ => rfl) hw hl
    refine pk_le 32 32 (fun _ => rl_xFrom H0 (fun S hS => yq_save Y.1 Y.2.2.1 (fun t s o p e ht hs ho hp he => ?_))) (fun z => absurd z (Nat.lt_irrefl _))
    have H1 : rl h n 0 P R fl nu ro (upd lc h 0) lp lo rg w ld' yn t yf o s yr p yg := rl_save H ht hs ho hp hw hl
    exact ⟨congrArg nI (rl_cnt H1 0 (rl_sxR H1) (rl_syR H1) hS he).symm, i_mk H1⟩
  · refine pk_le 32 i (fun z => absurd z (by omega)) (fun _ => ⟨vp_in_nI hi (by decide), nm_r (e' := upd w i 0) (by rw [nI_clamp (by omega), ph_vb0]) (nm_r (nI_1 i) (J _ (fun p hp => ?_)))⟩)
    by_cases c : p = i
    · exact ph_us c
    · rw [pk_un c]; exact hw p (by omega)
theorem i_vc_back {k : Nat} {u : SX} {v : SY} (I : i_Rel k u v) (hk : k + 4 ≤ 2048) : wpX_back (fun r u' => wpY_back (fun r' v' => r' = r ∧ i_Rel (k + 4) u' v') v) u := by
  refine i_el (Pr := fun u v => wpX_back (fun r u' => wpY_back (fun r' v' => r' = r ∧ i_Rel (k + 4) u' v') v) u) I ?_
  intro h n c P R ar al fl nu ro lc lp lo rg nw ld gt cf nt yn yt yf yo ys yr yp yg ye H
  have Y := H.2.2.1
  unfold wpX_back
  dsimp only
  refine xs_putBack H.2.1.1 H.2.1.2.2.1 (fun fl' nu' ro' ld' hB hl => ?_)
  dsimp only
  have H0 : rl h n 0 P R fl' nu' ro' (upd lc h 0) lp lo rg nw ld' (fun k => if ys k = 0 then yn k else yt k) yt (fun i => if ys (i / 2) = 0 then yf i else yo i) yo ys yp yp yg := rl_back H hB hl (fun _ _ => rfl) (fun _ _ => rfl) (fun _ _ => rfl)
  refine rl_xFrom H0 (fun S hS => yq_back Y.1 Y.2.1 Y.2.2.2.1 (fun n' f' r' e hn hf hr he => ?_))
  have H1 : rl h n 0 P R fl' nu' ro' (upd lc h 0) lp lo rg nw ld' n' yt f' yo ys r' yp yg := rl_back H hB hl hn hf hr
  exact ⟨congrArg nI (rl_cnt H1 0 (rl_sxR H1) (rl_syR H1) hS he).symm, i_mk H1⟩
end
section
/-! part 12: starting again, crashes -/
section
variable {h n c : Nat} {P : Nat → Nat} {R : Nat → Nat → Prop} {fl nu ro lc lp lo rg nw ld yn yt yf yo ys yr yp yg : Nat → Int32}
theorem rl_dropg (H : rl h n c P R fl nu ro lc lp lo rg nw ld yn yt yf yo ys yr yp yg) {rg' yg' : Nat → Int32} (hx : ∀ g, g < 4 → rg' g = -1) (hy : ∀ g, g < 4 → yg' g = 24) : rl h n c P R fl nu ro lc lp lo rg' nw ld yn yt yf yo ys yr yp yg' := by
  obtain ⟨B, L, Y, O, Q, N, T, G⟩ := H
  exact ⟨B, L, ⟨Y.1, Y.2.1, Y.2.2.1, Y.2.2.2.1, fun g hg => ⟨24, by omega, hy g hg⟩⟩, O, Q, N, T, fun g hg => Or.inl ⟨hx g hg, hy g hg⟩⟩
/-- after putting back, without registers: what is saved stands alone -/
theorem rl_old (H : rl h n 0 P R fl nu ro lc lp lo rg nw ld yn yt yf yo ys yr yp yg) (hg : ∀ g, g < 4 → yg g = 24) {nw' : Nat → Int32} (hw : ∀ s, s < 32 → nw' s = 0) : rl h 32 0 P (fun s k => R s k ∧ ys k ≠ 0) fl nu ro lc lp lo rg nw' ld yn yt yf yo ys yr yp yg := by
  have b3 := H.2.1.2.1
  have H1 := rl_res (D := fun k => ys k ≠ 0) (n' := 32) H (Nat.le_refl _) (fun s k hR _ => by have := (H.1.1 s k hR).1; omega) (fun j hj => absurd hj (Nat.not_lt_zero _)) (fun k hk => ?_) (fun s k k' hR hv hE => ?_)
  · obtain ⟨B, L, Y, O, Q, N, T, G⟩ := H1
    refine ⟨B, L, Y, fun s k hR => ?_, Q, N, T, G⟩
    obtain ⟨o1, o2, _⟩ := O s k hR
    have hs := (B.1 s k hR).1
    exact ⟨o1, o2, Or.inl (hw s hs), fun _ => hR.2, fun _ => hw s hs⟩
  · obtain ⟨hk, (⟨r, hr, e⟩ | ⟨r, hr, e⟩) | ⟨g, hg', e⟩⟩ := hk
    · obtain ⟨t1, t2, t3, t4⟩ := H.2.2.2.2.2.2.1 r hr
      exact t4 k hk (by rw [t3 (fun j hj => absurd hj (Nat.not_lt_zero _))]; exact e)
    · exact (H.2.2.2.2.2.2.1 r hr).2.2.2 k hk e
    · rw [hg g hg'] at e
      exact absurd (ph_inj (a := 24) (b := k) (by omega) (by omega) e) (by omega)
  · obtain ⟨hk, hk', f, hf, hE⟩ := hE
    obtain ⟨q1, q2, q3⟩ := (H.2.2.2.2.1 s k hR hv).1 f hf
    rcases hE with e | e
    · exact q3 k' hk' (by rw [q2 (fun j hj => absurd hj (Nat.not_lt_zero _))]; exact e)
    · exact q3 k' hk' e.2.2
/-- the slots in use, cut behind the last that is needed -/
theorem rl_cut (H : rl h n 0 P R fl nu ro lc lp lo rg nw ld yn yt yf yo ys yr yp yg) {S : Int32} {m : Nat} (hm : m ≤ 32) (hS : ∀ i, i < 32 → (bt S i = true ↔ ph_R (xq_stN h 0 P ro rg lo) (xq_E h 0 P fl lo 1) i)) (hc : ∀ i, m ≤ i → i < 32 → bt S i = false) :
    ∃ R', rl h m 0 P R' fl nu ro lc lp lo rg nw ld yn yt yf yo ys yr yp yg := by
  refine ⟨_, rl_res (D := ph_R (yq_stN yr yp yg) (yq_E yf yo ys 1)) H hm (fun s k hR hD => ?_) (fun j hj => absurd hj (Nat.not_lt_zero _)) (fun k hk => ph_R_st hk) (fun s k k' hR hD hE => ph_R_E hD hE)⟩
  obtain ⟨s', hR', hs'⟩ := ph_bi (R := fun k s => R s k) (rl_sy H) (rl_Ey H 1) hD
  have es := H.1.2.2 s s' k hR hR'
  subst es
  have b1 := (H.1.1 s k hR).1
  have b3 := H.2.1.2.1
  rcases Nat.lt_or_ge s m with z | z
  · exact z
  · have := hc s z (by omega)
    rw [(hS s (by omega)).mpr hs'] at this
    exact xq_ff this.symm
end
section
variable {h n c : Nat} {P : Nat → Nat} {R : Nat → Nat → Prop} {us ar al : Int32} {fl nu ro lc lp lo rg nw ld gt cf nt rg0 nw0 ld0 yn yt yf yo ys yr yp yg : Nat → Int32}
theorem xs_cut {post : SX → Prop} {hf S : Int32} (k : ∀ m, m ≤ 32 → (∀ i, m ≤ i → i < 32 → bt S i = false) → post (hf, nI m, ar, al, fl, nu, ro, lc, lp, lo, rg, nw, ld, gt, cf, nt)) : ∃ m, wX_startAgain_56 post S hf ar al fl nu ro lc lp lo rg nw ld gt cf nt m 32 := by
  refine ⟨33, pk_loopD (fun m i (_ : Unit) => wX_startAgain_56 post S hf ar al fl nu ro lc lp lo rg nw ld gt cf nt m (nI i)) (fun i _ => i ≤ 32 ∧ ∀ j, i ≤ j → j < 32 → bt S j = false) (fun m s hs => ?_) (fun m i s hs J => ?_) 32 () ⟨Nat.le_refl _, fun j h1 h2 => by omega⟩⟩
  · exact br_t (by rw [nI_0]; decide) (k 0 (by omega) hs.2)
  · refine br_f (nI_nle (by omega) (by omega)) ?_
    have hi : i < 32 := by omega
    have ep : nI (i + 1) - 1 = nI i := nI_pred i
    by_cases hb : bt S i = true
    · exact br_f (by rw [ep, xq_tst hi, hb]; decide) (k (i + 1) hs.1 hs.2)
    · have hb2 := Bool.eq_false_iff.mpr hb
      refine br_t (by rw [ep, xq_tst hi]; exact hb2) (nm_r ep (J () ⟨by omega, fun j h1 h2 => ?_⟩))
      by_cases c : j = i
      · rw [c]; exact hb2
      · exact hs.2 j (by omega) h2
theorem xs_startAgain {post : SX → Prop} (H : rl h n c P R fl nu ro lc lp lo rg0 nw0 ld0 yn yt yf yo ys yr yp yg)
    (k : ∀ (fl' nu' ro' rg' nw' ld' : Nat → Int32) (m : Nat), (∀ (R : Nat → Nat → Prop) (n : Nat) (rg0 nw0 ld0 yn yt yf yo ys yr yp yg n' f' r' g' : Nat → Int32), rl h n c P R fl nu ro lc lp lo rg0 nw0 ld0 yn yt yf yo ys yr yp yg →
        (∀ k, k < 24 → n' k = if ys k = 0 then yn k else yt k) → (∀ i, i < 48 → f' i = if ys (i / 2) = 0 then yf i else yo i) → (∀ r, r < 3 → r' r = yp r) → (∀ g, g < 4 → g' g = 24) →
        ∃ R', rl h m 0 P R' fl' nu' ro' (upd lc h 0) lp lo rg' nw' ld' n' yt f' yo ys r' yp g') → post (nI h, nI m, ar, al, fl', nu', ro', upd lc h 0, lp, lo, rg', nw', ld', gt, cf, nt)) :
    wpX_startAgain post (nI h, us, ar, al, fl, nu, ro, lc, lp, lo, rg, nw, ld, gt, cf, nt) := by
  unfold wpX_startAgain
  dsimp only
  refine loop_0 (fun m i g => wX_startAgain_2 post (nI h) us ar al m (nI i) fl nu ro lc lp lo g nw ld gt cf nt) (fun i g => ∀ j, j < i → g j = -1) 4 rg (fun p hp => absurd hp (Nat.not_lt_zero _)) (fun m g hg => ?_) (fun m i g hi hg J => ?_)
  · refine pk_le 4 4 (fun _ => xs_putBack H.2.1.1 H.2.1.2.2.1 (fun fl' nu' ro' ld' hB hl => ?_)) (fun z => absurd z (Nat.lt_irrefl _))
    dsimp only
    refine loop_0 (fun m i w => wX_startAgain_26 post (nI h) us ar al m (nI i) fl' nu' ro' (upd lc h 0) lp lo g w ld' gt cf nt) (fun i w => ∀ s, s < i → w s = 0) 32 nw (fun p hp => absurd hp (Nat.not_lt_zero _)) (fun m w hw => ?_) (fun m i w hi hw J => ?_)
    · have key : ∀ (R : Nat → Nat → Prop) (n : Nat) (rg0 nw0 ld0 yn yt yf yo ys yr yp yg n' f' r' g' : Nat → Int32), rl h n c P R fl nu ro lc lp lo rg0 nw0 ld0 yn yt yf yo ys yr yp yg →
          (∀ k, k < 24 → n' k = if ys k = 0 then yn k else yt k) → (∀ i, i < 48 → f' i = if ys (i / 2) = 0 then yf i else yo i) → (∀ r, r < 3 → r' r = yp r) → (∀ g, g < 4 → g' g = 24) →
          rl h 32 0 P (fun s k => R s k ∧ ys k ≠ 0) fl' nu' ro' (upd lc h 0) lp lo g w ld' n' yt f' yo ys r' yp g' := by
        intro R n rg0 nw0 ld0 yn yt yf yo ys yr yp yg n' f' r' g' H hn hf hr hg'
        exact rl_old (rl_dropg (rl_back H hB hl hn hf hr) hg hg') hg' hw
      have H0 := key R n rg0 nw0 ld0 yn yt yf yo ys yr yp yg (fun k => if ys k = 0 then yn k else yt k) (fun i => if ys (i / 2) = 0 then yf i else yo i) yp (fun _ => 24) H (fun _ _ => rfl) (fun _ _ => rfl) (fun _ _ => rfl) (fun _ _ => rfl)
      refine pk_le 32 32 (fun _ => rl_xNeed H0 (fun S hS => xs_cut (fun m hm hc => k fl' nu' ro' g w ld' m ?_))) (fun z => absurd z (Nat.lt_irrefl _))
      intro R n rg0 nw0 ld0 yn yt yf yo ys yr yp yg n' f' r' g' H hn hf hr hg'
      exact rl_cut (key R n rg0 nw0 ld0 yn yt yf yo ys yr yp yg n' f' r' g' H hn hf hr hg') hm hS hc
    · refine pk_le 32 i (fun z => absurd z (by omega)) (fun _ => ⟨vp_in_nI hi (by decide), nm_r (e' := upd w i 0) (by rw [nI_clamp (by omega), ph_vb0]) (nm_r (nI_1 i) (J _ (fun p hp => ?_)))⟩)
      by_cases c : p = i
      · exact ph_us c
      · rw [pk_un c]; exact hw p (by omega)
  · refine pk_le 4 i (fun z => absurd z (by omega)) (fun _ => ⟨vp_in_nI hi (by decide), nm_r (e' := upd g i (-1)) (by rw [nI_clamp (by omega), ph_nm1]) (nm_r (nI_1 i) (J _ (fun p hp => ?_)))⟩)
    by_cases c : p = i
    · exact ph_us c
    · rw [pk_un c]; exact hg p (by omega)
/-- the component starts again and counts, whatever the reference does then -/
theorem xs_crash {post : Int32 → SX → Prop} (H : rl h n c P R fl nu ro lc lp lo rg0 nw0 ld0 yn yt yf yo ys yr yp yg)
    (k : ∀ (r : Int32) (u' : SX), (∀ (j : Nat) (R : Nat → Nat → Prop) (n : Nat) (rg0 nw0 ld0 yn yt yf yo ys yr yp yg ye : Nat → Int32), rl h n c P R fl nu ro lc lp lo rg0 nw0 ld0 yn yt yf yo ys yr yp yg → ∃ m, wY_crash_23 (fun r' v' => r' = r ∧ i_Rel j u' v') m 0 yn yt yf yo ys yr yp yg ye) → post r u') :
    wX_crash_26 post (nI h) us ar al fl nu ro lc lp lo rg nw ld gt cf nt := by
  unfold wX_crash_26
  refine xs_startAgain H (fun fl' nu' ro' rg' nw' ld' m K => ?_)
  dsimp only
  obtain ⟨R0, H0⟩ := K R n rg0 nw0 ld0 yn yt yf yo ys yr yp yg (fun k => if ys k = 0 then yn k else yt k) (fun i => if ys (i / 2) = 0 then yf i else yo i) yp (fun _ => 24) H (fun _ _ => rfl) (fun _ _ => rfl) (fun _ _ => rfl) (fun _ _ => rfl)
  refine rl_xFrom H0 (fun S hS => k _ _ ?_)
  intro j R n rg0 nw0 ld0 yn yt yf yo ys yr yp yg ye H
  have Y := H.2.2.1
  refine yq_drop (fun g' hg' => yq_back Y.1 Y.2.1 Y.2.2.2.1 (fun n' f' r' e hn hf hr he => ?_))
  obtain ⟨R1, H1⟩ := K R n rg0 nw0 ld0 yn yt yf yo ys yr yp yg n' f' r' g' H hn hf hr hg'
  exact ⟨congrArg nI (rl_cnt H1 0 (rl_sxR H1) (rl_syR H1) hS he).symm, i_mk H1⟩
end
theorem i_vc_crash {k : Nat} {u : SX} {v : SY} (I : i_Rel k u v) (hk : k + 4 ≤ 2048) (v1 : Int32) : wpX_crash (fun r u' => wpY_crash (fun r' v' => r' = r ∧ i_Rel (k + 4) u' v') v v1) u v1 := by
  refine i_el (Pr := fun u v => wpX_crash (fun r u' => wpY_crash (fun r' v' => r' = r ∧ i_Rel (k + 4) u' v') v v1) u v1) I ?_
  intro h n c P R ar al fl nu ro lc lp lo rg nw ld gt cf nt yn yt yf yo ys yr yp yg ye H
  have Y := H.2.2.1
  have h1 := H.2.1.1.1
  have hih : vp_in (nI h) 2 := vp_in_nI h1 (by decide)
  have hch : (nI h).toNatClampNeg = h := nI_clamp (by omega)
  unfold wpX_crash wpY_crash
  dsimp only
  rcases ph_reg 2 (by omega) v1 with ⟨w, hw, rfl⟩ | hb
  · have n0 : ¬ nI w < 0 := nI_pos (by omega)
    have n1 : nI w ≤ 2 := nI_le (b := 2) (by omega) (by decide)
    by_cases e2 : nI w = 2
    · refine br_f n0 (br_t n1 (br_t e2 ⟨hih, nm_r (e' := upd lc h 0) (by rw [hch, ph_n0]) ?_⟩))
      have H0 : rl h n 0 P R fl nu ro (upd lc h 0) lp lo rg (fun _ => 0) (fun _ => 0) yn yn yf yf (fun _ => 1) yr yr yg := rl_save H (fun _ _ => rfl) (fun _ _ => rfl) (fun _ _ => rfl) (fun _ _ => rfl) (fun _ _ => rfl) (fun _ _ => rfl)
      refine xs_crash H0 (fun r u' K => br_f n0 (br_t n1 (br_t e2 (yq_save Y.1 Y.2.2.1 (fun t s o p e ht hs ho hp he => ?_)))))
      have H1 : rl h n 0 P R fl nu ro (upd lc h 0) lp lo rg (fun _ => 0) (fun _ => 0) yn t yf o s yr p yg := rl_save H ht hs ho hp (fun _ _ => rfl) (fun _ _ => rfl)
      exact K (k + 4) _ _ _ _ _ _ _ _ _ _ _ _ _ _ H1
    · refine br_f n0 (br_t n1 (br_f e2 (xs_crash H (fun r u' K => br_f n0 (br_t n1 (br_f e2 ?_))))))
      exact K (k + 4) _ _ _ _ _ _ _ _ _ _ _ _ _ _ H
  · rcases hb with hb | ⟨hb1, hb2⟩
    · exact br_t hb (br_t hb ⟨rfl, i_mk H⟩)
    · have hb3 : ¬ v1 ≤ 2 := Int32.not_le.mpr hb2
      exact br_f hb1 (br_f hb3 (br_f hb1 (br_f hb3 ⟨rfl, i_mk H⟩)))
end
section
/-! part 13: the collector: one object -/
def mv_im (gt : Nat → Int32) (x y : Int32) : Prop := (x = -1 ∧ y = -1) ∨ ∃ s t : Nat, s < 32 ∧ t < 32 ∧ x = nI s ∧ gt s = nI t ∧ y = nI t
def mv_ref (N : Nat → Prop) (x : Int32) : Prop := x = -1 ∨ ∃ s : Nat, s < 32 ∧ N s ∧ x = nI s
def mv_sub (gt gt' : Nat → Int32) : Prop := ∀ s t : Nat, s < 32 → t < 32 → gt s = nI t → gt' s = nI t
/-- what the collector changes: arrived, fields, numbers, goneTo, cameFrom -/
abbrev mv_Z : Type := Nat × (Nat → Int32) × (Nat → Int32) × (Nat → Int32) × (Nat → Int32)
def mv_I (h L d A : Nat) (N : Nat → Prop) (fl0 nu0 fl nu gt cf : Nat → Int32) : Prop :=
  (A ≤ L ∧ L ≤ 32 ∧ d ≤ 2 * A) ∧
  (∀ j, 64 * h ≤ j → j < 64 * h + 64 → fl j = fl0 j) ∧ (∀ j, 32 * h ≤ j → j < 32 * h + 32 → nu j = nu0 j) ∧
  (∀ t, t < A → ∃ s, s < 32 ∧ N s ∧ cf t = nI s ∧ gt s = nI t) ∧
  (∀ s, s < 32 → gt s = -1 ∨ ∃ t, t < A ∧ gt s = nI t ∧ cf t = nI s) ∧
  (∀ t s, t < A → s < 32 → cf t = nI s → nu (32 * (1 - h) + t) = nu0 (32 * h + s) ∧ ∀ f, f < 2 → (d ≤ 2 * t + f → fl (2 * (32 * (1 - h) + t) + f) = fl0 (2 * (32 * h + s) + f)) ∧ (2 * t + f < d → A < L → mv_im gt (fl0 (2 * (32 * h + s) + f)) (fl (2 * (32 * (1 - h) + t) + f))))
def mv_J (h L d : Nat) (N : Nat → Prop) (fl0 nu0 : Nat → Int32) (z : mv_Z) : Prop := mv_I h L d z.1 N fl0 nu0 z.2.1 z.2.2.1 z.2.2.2.1 z.2.2.2.2
def mv_le (z z' : mv_Z) : Prop := z.1 ≤ z'.1 ∧ mv_sub z.2.2.2.1 z'.2.2.2.1 ∧ ∀ t, t < z.1 → z'.2.2.2.2 t = z.2.2.2.2 t
def mv_p (L : Nat) (z : mv_Z) (x y : Int32) : Prop := z.1 < L → mv_im z.2.2.2.1 x y
def mv_k (L : Nat) (z : mv_Z) (x : Int32) : Prop := z.1 < L → ∃ y, mv_im z.2.2.2.1 x y
theorem mv_im_mono {gt gt' : Nat → Int32} {x y : Int32} (h : mv_im gt x y) (hs : mv_sub gt gt') : mv_im gt' x y := by
  rcases h with h | ⟨s, t, a, b, c, d, e⟩
  · exact Or.inl h
  · exact Or.inr ⟨s, t, a, b, c, hs s t a b d, e⟩
theorem mv_le_rf {z : mv_Z} : mv_le z z := ⟨Nat.le_refl _, fun _ _ _ _ h => h, fun _ _ => rfl⟩
theorem mv_le_tr {z z' z'' : mv_Z} (h : mv_le z z') (h' : mv_le z' z'') : mv_le z z'' :=
  ⟨Nat.le_trans h.1 h'.1, fun s t a b e => h'.2.1 s t a b (h.2.1 s t a b e), fun t ht => (h'.2.2 t (Nat.lt_of_lt_of_le ht h.1)).trans (h.2.2 t ht)⟩
theorem mv_p_mono {L : Nat} {z z' : mv_Z} {x y : Int32} (h : mv_p L z x y) (hl : mv_le z z') : mv_p L z' x y := fun a => mv_im_mono (h (Nat.lt_of_le_of_lt hl.1 a)) hl.2.1
theorem mv_k_mono {L : Nat} {z z' : mv_Z} {x : Int32} (h : mv_k L z x) (hl : mv_le z z') : mv_k L z' x := fun a => by
  obtain ⟨y, hy⟩ := h (Nat.lt_of_le_of_lt hl.1 a)
  exact ⟨y, mv_im_mono hy hl.2.1⟩
theorem mv_pk {L : Nat} {z : mv_Z} {x y : Int32} (h : mv_p L z x y) : mv_k L z x := fun a => ⟨y, h a⟩
theorem mv_rf {N : Nat → Prop} {x : Int32} (h : mv_ref N x) : ph_rf x := by
  rcases h with h | ⟨s, a, _, e⟩
  · exact Or.inl h
  · exact Or.inr ⟨s, a, e⟩
section
variable {h L d A : Nat} {N : Nat → Prop} {fl0 nu0 : Nat → Int32} {us : Int32} {fl nu ro lc lp lo rg nw ld gt cf nt : Nat → Int32}
/-- a new object arrives -/
theorem mv_new (hh : h < 2) (hI : mv_I h L d A N fl0 nu0 fl nu gt cf) {s : Nat} (hs : s < 32) (hN : N s) (eg : gt s = -1) (hA : A < L) :
    mv_I h L d (A + 1) N fl0 nu0 (upd (upd fl (2 * (32 * (1 - h) + A)) (fl0 (2 * (32 * h + s)))) (2 * (32 * (1 - h) + A) + 1) (fl0 (2 * (32 * h + s) + 1))) (upd nu (32 * (1 - h) + A) (nu (32 * h + s))) (upd gt s (nI A)) (upd cf A (nI s)) ∧ mv_sub gt (upd gt s (nI A)) := by
  obtain ⟨⟨i1, i2, i3⟩, i4, i5, i6, i7, i8⟩ := hI
  have hsub : mv_sub gt (upd gt s (nI A)) := by
    intro s0 t0 h1 h2 e
    by_cases c : s0 = s
    · subst c
      rw [eg] at e
      exact absurd e (ph_m1n (by omega))
    · rw [pk_un c]; exact e
  refine ⟨⟨⟨by omega, i2, by omega⟩, fun j h1 h2 => ?_, fun j h1 h2 => ?_, fun t ht => ?_, fun s0 hs0 => ?_, fun t s0 ht hs0 e => ?_⟩, hsub⟩
  · rw [pk_un (by omega), pk_un (by omega)]; exact i4 j h1 h2
  · rw [pk_un (by omega)]; exact i5 j h1 h2
  · by_cases c : t = A
    · subst c
      exact ⟨s, hs, hN, pk_us, pk_us⟩
    · obtain ⟨s0, a1, a2, a3, a4⟩ := i6 t (by omega)
      exact ⟨s0, a1, a2, by rw [pk_un c]; exact a3, hsub s0 t a1 (by omega) a4⟩
  · by_cases c : s0 = s
    · subst c
      exact Or.inr ⟨A, by omega, pk_us, pk_us⟩
    · rw [pk_un c]
      rcases i7 s0 hs0 with e | ⟨t, a1, a2, a3⟩
      · exact Or.inl e
      · exact Or.inr ⟨t, by omega, a2, by rw [pk_un (by omega)]; exact a3⟩
  · by_cases c : t = A
    · subst c
      rw [pk_us] at e
      have es : s = s0 := ph_inj (by omega) (by omega) e
      subst es
      rw [pk_us]
      refine ⟨i5 _ (by omega) (by omega), fun f hf => ⟨fun _ => ?_, fun z => absurd z (by omega)⟩⟩
      have hf2 : f = 0 ∨ f = 1 := by omega
      rcases hf2 with rfl | rfl
      · rw [pk_un (by omega), ph_us (by omega)]
        rfl
      · rw [ph_us (by omega)]
    · rw [pk_un c] at e
      obtain ⟨b1, b2⟩ := i8 t s0 (by omega) hs0 e
      rw [pk_un (by omega)]
      refine ⟨b1, fun f hf => ?_⟩
      rw [pk_un (by omega), pk_un (by omega)]
      exact ⟨(b2 f hf).1, fun z1 z2 => mv_im_mono ((b2 f hf).2 z1 (by omega)) hsub⟩
theorem mv_moved {post : Int32 → SX → Prop} {x : Int32} (hh : h < 2) (hN : ∀ s, N s → ∀ f, f < 2 → mv_ref N (fl0 (2 * (32 * h + s) + f))) (z : mv_Z) (hI : mv_J h L d N fl0 nu0 z) (hx : mv_ref N x)
    (k : ∀ (z' : mv_Z) (y : Int32), mv_J h L d N fl0 nu0 z' → mv_le z z' → mv_p L z' x y → ph_rf y → post y (nI h, us, nI z'.1, nI L, z'.2.1, z'.2.2.1, ro, lc, lp, lo, rg, nw, ld, z'.2.2.2.1, z'.2.2.2.2, nt)) :
    wpX_moved post (nI h, us, nI z.1, nI L, z.2.1, z.2.2.1, ro, lc, lp, lo, rg, nw, ld, z.2.2.2.1, z.2.2.2.2, nt) x := by
  obtain ⟨A, fl, nu, gt, cf⟩ := z
  have hI2 : mv_I h L d A N fl0 nu0 fl nu gt cf := hI
  obtain ⟨⟨i1, i2, i3⟩, i4, i5, i6, i7, i8⟩ := hI2
  unfold wpX_moved
  dsimp only
  rcases hx with rfl | ⟨s, hs, hNs, rfl⟩
  · exact br_f (by decide) (k (A, fl, nu, gt, cf) (-1) hI mv_le_rf (fun _ => Or.inl ⟨rfl, rfl⟩) (Or.inl rfl))
  · have hcs : (nI s).toNatClampNeg = s := nI_clamp (by omega)
    have his : vp_in (nI s) 32 := vp_in_nI hs (by decide)
    refine br_t (nI_pos' (by omega)) ⟨his, ?_⟩
    rcases i7 s hs with eg | ⟨t, ht, eg, ec⟩
    · refine br_f (by rw [hcs, eg]; decide) ?_
      by_cases hA : A = L
      · refine br_t (by rw [hA]) ⟨his, ?_⟩
        rw [hcs, eg]
        exact k (A, fl, nu, gt, cf) (-1) hI mv_le_rf (fun a => absurd a (by show ¬ A < L; omega)) (Or.inl rfl)
      · have hA2 : A < L := by omega
        have r0 : ph_rf (fl0 (2 * (32 * h + s))) := mv_rf (hN s hNs 0 (by omega))
        have r1 := mv_rf (hN s hNs 1 (by omega))
        have f0 : fl (2 * (32 * h + s)) = fl0 (2 * (32 * h + s)) := i4 _ (by omega) (by omega)
        have f1 : fl (2 * (32 * h + s) + 1) = fl0 (2 * (32 * h + s) + 1) := i4 _ (by omega) (by omega)
        refine br_f (by rw [nI_eq (by omega) (by omega)]; omega) (nm_r (ph_sl h s) (nm_r (e' := nI (32 * (1 - h) + A)) (by rw [ph_o1 hh, ph_sl]) ?_))
        rw [ph_2 (32 * h + s), ph_2 (32 * (1 - h) + A), nI_1 (2 * (32 * h + s)), nI_1 (2 * (32 * (1 - h) + A)), nI_clamp (n := 32 * h + s) (by omega), nI_clamp (n := 32 * (1 - h) + A) (by omega), nI_clamp (n := 2 * (32 * h + s)) (by omega), nI_clamp (n := 2 * (32 * (1 - h) + A)) (by omega), nI_clamp (n := 2 * (32 * h + s) + 1) (by omega), nI_clamp (n := 2 * (32 * (1 - h) + A) + 1) (by omega), hcs, nI_clamp (n := A) (by omega), ph_nbi (n := A) (by omega), ph_nbi (n := s) (by omega), nI_1 A]
        obtain ⟨n1, n2⟩ := mv_new hh hI hs hNs eg hA2
        refine ⟨vp_in_nI (by omega) (by decide), vp_in_nI (by omega) (by decide), nm_e ⟨vp_in_nI (by omega) (by decide), vp_in_nI (by omega) (by decide), nm_r (e' := upd fl (2 * (32 * (1 - h) + A)) (fl0 (2 * (32 * h + s)))) (by rw [f0, ph_rf_nb r0]) ⟨vp_in_nI (by omega) (by decide), vp_in_nI (by omega) (by decide), nm_r (e' := upd (upd fl (2 * (32 * (1 - h) + A)) (fl0 (2 * (32 * h + s)))) (2 * (32 * (1 - h) + A) + 1) (fl0 (2 * (32 * h + s) + 1))) (by rw [pk_un (by omega), f1, ph_rf_nb r1]) ⟨his, nm_e ⟨vp_in_nI (by omega) (by decide), nm_e (nm_e ⟨his, ?_⟩)⟩⟩⟩⟩⟩
        rw [pk_us]
        exact k (A + 1, upd (upd fl (2 * (32 * (1 - h) + A)) (fl0 (2 * (32 * h + s)))) (2 * (32 * (1 - h) + A) + 1) (fl0 (2 * (32 * h + s) + 1)), upd nu (32 * (1 - h) + A) (nu (32 * h + s)), upd gt s (nI A), upd cf A (nI s)) (nI A) n1 ⟨Nat.le_succ _, n2, fun t ht => pk_un (by have : t < A := ht; omega)⟩ (fun _ => Or.inr ⟨s, A, hs, by omega, rfl, pk_us, rfl⟩) (Or.inr ⟨A, by omega, rfl⟩)
    · refine br_t (by rw [hcs, eg]; exact nI_pos' (by omega)) ⟨his, ?_⟩
      rw [hcs, eg]
      exact k (A, fl, nu, gt, cf) (nI t) hI mv_le_rf (fun _ => Or.inr ⟨s, t, hs, by omega, rfl, eg, rfl⟩) (Or.inr ⟨t, by omega, rfl⟩)
theorem mv_put (hh : h < 2) (hI : mv_I h L d A N fl0 nu0 fl nu gt cf) (hd : d < 2 * A) {y : Int32} (hy : ∀ t s f, t < A → s < 32 → f < 2 → cf t = nI s → d = 2 * t + f → A < L → mv_im gt (fl0 (2 * (32 * h + s) + f)) y) : mv_I h L (d + 1) A N fl0 nu0 (upd fl (2 * (32 * (1 - h)) + d) y) nu gt cf := by
  obtain ⟨⟨i1, i2, i3⟩, i4, i5, i6, i7, i8⟩ := hI
  refine ⟨⟨i1, i2, by omega⟩, fun j h1 h2 => by rw [pk_un (by omega)]; exact i4 j h1 h2, i5, i6, i7, fun t s ht hs e => ?_⟩
  obtain ⟨b1, b2⟩ := i8 t s ht hs e
  refine ⟨b1, fun f hf => ?_⟩
  by_cases c : d = 2 * t + f
  · refine ⟨fun z => absurd z (by omega), fun _ z2 => ?_⟩
    rw [ph_us (by omega)]
    exact hy t s f ht hs hf e c z2
  · rw [pk_un (by omega)]
    exact ⟨fun z => (b2 f hf).1 (by omega), fun z => (b2 f hf).2 (by omega)⟩
end
end
section
/-! part 14: the collector: its loops -/
def mv_N (h c : Nat) (P : Nat → Nat) (N : Nat → Prop) (fl0 lo : Nat → Int32) : Prop := ∀ s, N s → (∀ f, f < 2 → mv_ref N (fl0 (2 * (32 * h + s) + f))) ∧ (∀ j, j < c → P j < 96 → P j % 3 ≠ 2 → P j / 3 = s → mv_ref N (lo (99 * h + j)))
section
variable {h L d c : Nat} {P : Nat → Nat} {N : Nat → Prop} {fl0 nu0 : Nat → Int32} {us : Int32} {ro lc lp lo rg nw ld nt : Nat → Int32}
theorem mv_oldf {post : SX → Prop} (hL : xq_L h c P lc lp) (hN : mv_N h c P N fl0 lo) {s : Nat} (hs : s < 32) (hNs : N s) (z : mv_Z) (hI : mv_J h L d N fl0 nu0 z)
    (k : ∀ z' : mv_Z, mv_J h L d N fl0 nu0 z' → mv_le z z' → (∀ j, j < c → P j < 96 → P j % 3 ≠ 2 → P j / 3 = s → mv_k L z' (lo (99 * h + j))) → post (nI h, us, nI z'.1, nI L, z'.2.1, z'.2.2.1, ro, lc, lp, lo, rg, nw, ld, z'.2.2.2.1, z'.2.2.2.2, nt)) :
    wpX_moveOldFields post (nI h, us, nI z.1, nI L, z.2.1, z.2.2.1, ro, lc, lp, lo, rg, nw, ld, z.2.2.2.1, z.2.2.2.2, nt) (nI s) := by
  have h1 := hL.1
  have h2 := hL.2.1
  unfold wpX_moveOldFields
  dsimp only
  refine nm_r (e' := nI (99 * h + 0)) (ph_99 h) ?_
  refine loop_0 (fun n j (w : mv_Z) => wX_moveOldFields_8 post (nI s) n (nI (99 * h + j)) (nI h) us (nI w.1) (nI L) w.2.1 w.2.2.1 ro lc lp lo rg nw ld w.2.2.2.1 w.2.2.2.2 nt) (fun j w => mv_J h L d N fl0 nu0 w ∧ mv_le z w ∧ ∀ j', j' < j → P j' < 96 → P j' % 3 ≠ 2 → P j' / 3 = s → mv_k L w (lo (99 * h + j'))) c z ⟨hI, mv_le_rf, fun j' hj => absurd hj (Nat.not_lt_zero _)⟩ (fun n w hw => ?_) (fun n j w hj hw J => ?_)
  · exact And.intro (vp_in_nI h1 (by decide)) (pk_le (99 * h + c) (99 * h + c) (fun _ => k w hw.1 hw.2.1 hw.2.2) (fun z => absurd z (Nat.lt_irrefl _)) (xq_end hL))
  · obtain ⟨eP, hP⟩ := hL.2.2.2 j hj
    have hcl : (nI (99 * h + j)).toNatClampNeg = 99 * h + j := nI_clamp (by omega)
    have hin : vp_in (nI (99 * h + j)) 198 := vp_in_nI (by omega) (by decide)
    have nx : nI (99 * h + j) + 1 = nI (99 * h + (j + 1)) := nI_1 _
    have sk : ¬ (P j < 96 ∧ P j % 3 ≠ 2 ∧ P j / 3 = s) → ∀ j', j' < j + 1 → P j' < 96 → P j' % 3 ≠ 2 → P j' / 3 = s → mv_k L w (lo (99 * h + j')) := by
      intro hn j' hj' a1 a2 a3
      by_cases e : j' = j
      · subst e; exact absurd ⟨a1, a2, a3⟩ hn
      · exact hw.2.2 j' (by omega) a1 a2 a3
    refine And.intro (vp_in_nI h1 (by decide)) (pk_le (99 * h + c) (99 * h + j) (fun z => absurd z (by omega)) (fun _ => ⟨hin, nm_r (e' := nI (P j)) (by rw [hcl, eP]) ⟨ph_30, ?_⟩⟩) (xq_end hL))
    refine pk_eq (P j / 3) s (fun z1 => ?_) (fun z1 => nm_r nx (J w ⟨hw.1, hw.2.1, sk (fun q => z1 q.2.2)⟩)) (ph_d3 (by omega))
    refine pk_le 96 (P j) (fun z2 => nm_r nx (J w ⟨hw.1, hw.2.1, sk (fun q => by omega)⟩)) (fun z2 => ⟨ph_30, pk_eq (P j % 3) 2 (fun z3 => nm_r nx (J w ⟨hw.1, hw.2.1, sk (fun q => q.2.1 z3)⟩)) (fun z3 => ⟨hin, ?_⟩) (ph_m3 (by omega))⟩)
    rw [hcl]
    refine mv_moved h1 (fun s hs => (hN s hs).1) w hw.1 ((hN s hNs).2 j hj z2 z3 z1) (fun w' y a1 a2 a3 a4 => nm_r nx (J w' ⟨a1, mv_le_tr hw.2.1 a2, fun j' hj' b1 b2 b3 => ?_⟩))
    by_cases e : j' = j
    · subst e; exact mv_pk a3
    · exact mv_k_mono (hw.2.2 j' (by omega) b1 b2 b3) a2
theorem mv_162 {post : SX → Prop} (hL : xq_L h c P lc lp) (hN : mv_N h c P N fl0 lo) (z0 : mv_Z) (hI : mv_J h L 0 N fl0 nu0 z0)
    (k : ∀ z : mv_Z, mv_J h L (2 * z.1) N fl0 nu0 z → mv_le z0 z → (∀ t s, t < z.1 → s < 32 → z.2.2.2.2 t = nI s → ∀ j, j < c → P j < 96 → P j % 3 ≠ 2 → P j / 3 = s → mv_k L z (lo (99 * h + j))) → ∀ post' : SX → Prop, (∀ u, post u → post' u) → wpX_moveList post' (nI h, us, nI z.1, nI L, z.2.1, z.2.2.1, ro, lc, lp, lo, rg, nw, ld, z.2.2.2.1, z.2.2.2.2, nt) (nI (1 - h))) :
    ∃ n, wX_move_162 post (nI (1 - h)) n 0 (nI h) us (nI z0.1) (nI L) z0.2.1 z0.2.2.1 ro lc lp lo rg nw ld z0.2.2.2.1 z0.2.2.2.2 nt := by
  have h1 := hL.1
  refine loop_m (fun n (s : Nat × mv_Z) => wX_move_162 post (nI (1 - h)) n (nI s.1) (nI h) us (nI s.2.1) (nI L) s.2.2.1 s.2.2.2.1 ro lc lp lo rg nw ld s.2.2.2.2.1 s.2.2.2.2.2 nt) (fun s => mv_J h L (2 * s.1) N fl0 nu0 s.2 ∧ mv_le z0 s.2 ∧ ∀ t s', t < s.1 → s' < 32 → s.2.2.2.2.2 t = nI s' → ∀ j, j < c → P j < 96 → P j % 3 ≠ 2 → P j / 3 = s' → mv_k L s.2 (lo (99 * h + j))) (fun s => 32 - s.1) (fun n s hs J => ?_) (0, z0) ⟨hI, mv_le_rf, fun t s' ht => absurd ht (Nat.not_lt_zero _)⟩
  obtain ⟨i, z⟩ := s
  have hJ : mv_J h L (2 * i) N fl0 nu0 z := hs.1
  have hle : mv_le z0 z := hs.2.1
  have hod : ∀ t s', t < i → s' < 32 → z.2.2.2.2 t = nI s' → ∀ j, j < c → P j < 96 → P j % 3 ≠ 2 → P j / 3 = s' → mv_k L z (lo (99 * h + j)) := hs.2.2
  have hJ2 : mv_I h L (2 * i) z.1 N fl0 nu0 z.2.1 z.2.2.1 z.2.2.2.1 z.2.2.2.2 := hJ
  obtain ⟨⟨i1, i2, i3⟩, i4, i5, i6, i7, i8⟩ := hJ2
  refine pk_le z.1 i (fun hA => ?_) (fun hA => ?_)
  · have e : i = z.1 := by omega
    subst e
    exact k z hJ hle hod _ (fun u hu => by
      obtain ⟨a, b, c, d, e, f, g, i, j, k, l, m, n, o, p, q⟩ := u
      exact hu)
  · obtain ⟨s, hs32, hNs, ec, eg⟩ := i6 i hA
    have x0 : vp_in (nI (2 * (32 * (1 - h) + i))) 128 := vp_in_nI (by omega) (by decide)
    have x1 : vp_in (nI (2 * (32 * (1 - h) + i) + 1)) 128 := vp_in_nI (by omega) (by decide)
    refine nm_r (ph_f0 (1 - h) i) ?_
    rw [nI_1 (2 * (32 * (1 - h) + i)), nI_clamp (n := 2 * (32 * (1 - h) + i)) (by omega), nI_clamp (n := 2 * (32 * (1 - h) + i) + 1) (by omega), nI_clamp (n := i) (by omega)]
    have e0 : z.2.1 (2 * (32 * (1 - h) + i)) = fl0 (2 * (32 * h + s) + 0) := ((i8 i s hA hs32 ec).2 0 (by omega)).1 (by omega)
    refine ⟨x0, mv_moved h1 (fun s hs => (hN s hs).1) z hJ (by rw [e0]; exact (hN s hNs).1 0 (by omega)) (fun z1 y1 a1 a2 a3 a4 => ?_)⟩
    dsimp only
    have c1 : z1.2.2.2.2 i = nI s := by rw [a2.2.2 i hA]; exact ec
    have A1 : z.1 ≤ z1.1 := a2.1
    have J1 : mv_J h L (2 * i + 1) N fl0 nu0 (z1.1, upd z1.2.1 (2 * (32 * (1 - h)) + 2 * i) y1, z1.2.2.1, z1.2.2.2.1, z1.2.2.2.2) := by
      refine mv_put h1 a1 (by omega) (fun t s' f ht hs' hf e cc lt => ?_)
      have et : t = i := by omega
      have ef : f = 0 := by omega
      subst et ef
      have es : s = s' := ph_inj (by omega) (by omega) (c1.symm.trans e)
      subst es
      rw [← e0]
      exact a3 lt
    refine ⟨x0, nm_r (e' := upd z1.2.1 (2 * (32 * (1 - h)) + 2 * i) y1) (by rw [ph_rf_nbi a4, show 2 * (32 * (1 - h)) + 2 * i = 2 * (32 * (1 - h) + i) from by omega]) ⟨x1, ?_⟩⟩
    have J1' : mv_I h L (2 * i + 1) z1.1 N fl0 nu0 (upd z1.2.1 (2 * (32 * (1 - h)) + 2 * i) y1) z1.2.2.1 z1.2.2.2.1 z1.2.2.2.2 := J1
    have e1 : upd z1.2.1 (2 * (32 * (1 - h)) + 2 * i) y1 (2 * (32 * (1 - h) + i) + 1) = fl0 (2 * (32 * h + s) + 1) := ((J1'.2.2.2.2.2 i s (by omega) hs32 c1).2 1 (by omega)).1 (by omega)
    refine mv_moved h1 (fun s hs => (hN s hs).1) (z1.1, upd z1.2.1 (2 * (32 * (1 - h)) + 2 * i) y1, z1.2.2.1, z1.2.2.2.1, z1.2.2.2.2) J1 (by rw [e1]; exact (hN s hNs).1 1 (by omega)) (fun z2 y2 b1 b2 b3 b4 => ?_)
    dsimp only
    have A2 : z1.1 ≤ z2.1 := b2.1
    have c2 : z2.2.2.2.2 i = nI s := by rw [b2.2.2 i (by show i < z1.1; omega)]; exact c1
    have J2 : mv_J h L (2 * i + 1 + 1) N fl0 nu0 (z2.1, upd z2.2.1 (2 * (32 * (1 - h)) + (2 * i + 1)) y2, z2.2.2.1, z2.2.2.2.1, z2.2.2.2.2) := by
      refine mv_put h1 b1 (by omega) (fun t s' f ht hs' hf e cc lt => ?_)
      have et : t = i := by omega
      have ef : f = 1 := by omega
      subst et ef
      have es : s = s' := ph_inj (by omega) (by omega) (c2.symm.trans e)
      subst es
      rw [← e1]
      exact b3 lt
    refine ⟨x1, nm_r (e' := upd z2.2.1 (2 * (32 * (1 - h)) + (2 * i + 1)) y2) (by rw [ph_rf_nbi b4, show 2 * (32 * (1 - h)) + (2 * i + 1) = 2 * (32 * (1 - h) + i) + 1 from by omega]) ⟨vp_in_nI (by omega) (by decide), ?_⟩⟩
    rw [c2]
    refine mv_oldf hL hN hs32 hNs (z2.1, upd z2.2.1 (2 * (32 * (1 - h)) + (2 * i + 1)) y2, z2.2.2.1, z2.2.2.2.1, z2.2.2.2.2) J2 (fun z3 d1 d2 d3 => ?_)
    dsimp only
    have l3 : mv_le z z3 := mv_le_tr a2 (mv_le_tr (z' := z2) b2 d2)
    refine nm_r (nI_1 i) (J (i + 1, z3) ⟨d1, mv_le_tr hle l3, fun t s' ht hs' e j hj q1 q2 q3 => ?_⟩ (by show 32 - (i + 1) < 32 - i; omega))
    have ht2 : t < i + 1 := ht
    have e' : z3.2.2.2.2 t = nI s' := e
    by_cases et : t = i
    · subst et
      have c3 : z3.2.2.2.2 t = nI s := by rw [l3.2.2 t hA]; exact ec
      have es : s = s' := ph_inj (by omega) (by omega) (c3.symm.trans e')
      subst es
      exact d3 j hj q1 q2 q3
    · have e2 : z.2.2.2.2 t = nI s' := by rw [← l3.2.2 t (by omega)]; exact e'
      exact mv_k_mono (hod t s' (by omega) hs' e2 j hj q1 q2 q3) l3
theorem mv_111 {post : SX → Prop} (hL : xq_L h c P lc lp) (hN : mv_N h c P N fl0 lo) (hl : ∀ j, j < c → 96 ≤ P j → mv_ref N (lo (99 * h + j))) (z0 : mv_Z) (hI : mv_J h L 0 N fl0 nu0 z0)
    (k : ∀ z : mv_Z, mv_J h L 0 N fl0 nu0 z → mv_le z0 z → (∀ j, j < c → 96 ≤ P j → mv_k L z (lo (99 * h + j))) → ∃ n, wX_move_162 post (nI (1 - h)) n 0 (nI h) us (nI z.1) (nI L) z.2.1 z.2.2.1 ro lc lp lo rg nw ld z.2.2.2.1 z.2.2.2.2 nt) :
    ∃ n, wX_move_111 post (nI (1 - h)) n (nI (99 * h + 0)) (nI h) us (nI z0.1) (nI L) z0.2.1 z0.2.2.1 ro lc lp lo rg nw ld z0.2.2.2.1 z0.2.2.2.2 nt := by
  have h1 := hL.1
  have h2 := hL.2.1
  refine loop_0 (fun n j (w : mv_Z) => wX_move_111 post (nI (1 - h)) n (nI (99 * h + j)) (nI h) us (nI w.1) (nI L) w.2.1 w.2.2.1 ro lc lp lo rg nw ld w.2.2.2.1 w.2.2.2.2 nt) (fun j w => mv_J h L 0 N fl0 nu0 w ∧ mv_le z0 w ∧ ∀ j', j' < j → 96 ≤ P j' → mv_k L w (lo (99 * h + j'))) c z0 ⟨hI, mv_le_rf, fun j' hj => absurd hj (Nat.not_lt_zero _)⟩ (fun n w hw => ?_) (fun n j w hj hw J => ?_)
  · exact And.intro (vp_in_nI h1 (by decide)) (pk_le (99 * h + c) (99 * h + c) (fun _ => k w hw.1 hw.2.1 hw.2.2) (fun z => absurd z (Nat.lt_irrefl _)) (xq_end hL))
  · obtain ⟨eP, hP⟩ := hL.2.2.2 j hj
    have hcl : (nI (99 * h + j)).toNatClampNeg = 99 * h + j := nI_clamp (by omega)
    have hin : vp_in (nI (99 * h + j)) 198 := vp_in_nI (by omega) (by decide)
    have nx : nI (99 * h + j) + 1 = nI (99 * h + (j + 1)) := nI_1 _
    refine And.intro (vp_in_nI h1 (by decide)) (pk_le (99 * h + c) (99 * h + j) (fun z => absurd z (by omega)) (fun _ => ⟨hin, ?_⟩) (xq_end hL))
    refine pk_lt (P j) 96 (fun z1 => nm_r nx (J w ⟨hw.1, hw.2.1, fun j' hj' b1 => ?_⟩)) (fun z1 => ⟨hin, ?_⟩) (by rw [hcl, eP])
    · by_cases e : j' = j
      · subst e; omega
      · exact hw.2.2 j' (by omega) b1
    · rw [hcl]
      refine mv_moved h1 (fun s hs => (hN s hs).1) w hw.1 (hl j hj z1) (fun w' y a1 a2 a3 a4 => nm_r nx (J w' ⟨a1, mv_le_tr hw.2.1 a2, fun j' hj' b1 => ?_⟩))
      by_cases e : j' = j
      · subst e; exact mv_pk a3
      · exact mv_k_mono (hw.2.2 j' (by omega) b1) a2
theorem mv_81 {post : SX → Prop} (hh : h < 2) (hN : mv_N h c P N fl0 lo) (hg : ∀ g, g < 4 → mv_ref N (rg g)) (z0 : mv_Z) (hI : mv_J h L 0 N fl0 nu0 z0)
    (k : ∀ z : mv_Z, mv_J h L 0 N fl0 nu0 z → mv_le z0 z → (∀ g, g < 4 → mv_k L z (rg g)) → ∃ n, wX_move_111 post (nI (1 - h)) n (nI (99 * h + 0)) (nI h) us (nI z.1) (nI L) z.2.1 z.2.2.1 ro lc lp lo rg nw ld z.2.2.2.1 z.2.2.2.2 nt) :
    ∃ n, wX_move_81 post (nI (1 - h)) n 0 (nI h) us (nI z0.1) (nI L) z0.2.1 z0.2.2.1 ro lc lp lo rg nw ld z0.2.2.2.1 z0.2.2.2.2 nt := by
  refine loop_0 (fun n j (w : mv_Z) => wX_move_81 post (nI (1 - h)) n (nI j) (nI h) us (nI w.1) (nI L) w.2.1 w.2.2.1 ro lc lp lo rg nw ld w.2.2.2.1 w.2.2.2.2 nt) (fun j w => mv_J h L 0 N fl0 nu0 w ∧ mv_le z0 w ∧ ∀ g, g < j → mv_k L w (rg g)) 4 z0 ⟨hI, mv_le_rf, fun j' hj => absurd hj (Nat.not_lt_zero _)⟩ (fun n w hw => ?_) (fun n j w hj hw J => ?_)
  · exact pk_le 4 4 (fun _ => nm_r (ph_99 h) (k w hw.1 hw.2.1 hw.2.2)) (fun z => absurd z (Nat.lt_irrefl _))
  · refine pk_le 4 j (fun z => absurd z (by omega)) (fun _ => ⟨vp_in_nI hj (by decide), ?_⟩)
    rw [nI_clamp (n := j) (by omega)]
    refine mv_moved hh (fun s hs => (hN s hs).1) w hw.1 (hg j hj) (fun w' y a1 a2 a3 a4 => nm_r (nI_1 j) (J w' ⟨a1, mv_le_tr hw.2.1 a2, fun j' hj' => ?_⟩))
    by_cases e : j' = j
    · subst e; exact mv_pk a3
    · exact mv_k_mono (hw.2.2 j' (by omega)) a2
theorem mv_40 {post : SX → Prop} (hh : h < 2) (hN : mv_N h c P N fl0 lo) (hr : ∀ r, r < 3 → mv_ref N (ro (3 * h + r))) (z0 : mv_Z) (hI : mv_J h L 0 N fl0 nu0 z0)
    (k : ∀ (z : mv_Z) (ro' : Nat → Int32), mv_J h L 0 N fl0 nu0 z → (∀ r, r < 3 → mv_p L z (ro (3 * h + r)) (ro' (3 * (1 - h) + r))) → (∀ r, r < 3 → ro' (3 * h + r) = ro (3 * h + r)) → ∃ n, wX_move_81 post (nI (1 - h)) n 0 (nI h) us (nI z.1) (nI L) z.2.1 z.2.2.1 ro' lc lp lo rg nw ld z.2.2.2.1 z.2.2.2.2 nt) :
    ∃ n, wX_move_40 post (nI (1 - h)) n 0 (nI h) us (nI z0.1) (nI L) z0.2.1 z0.2.2.1 ro lc lp lo rg nw ld z0.2.2.2.1 z0.2.2.2.2 nt := by
  refine loop_0 (fun n j (s : mv_Z × (Nat → Int32)) => wX_move_40 post (nI (1 - h)) n (nI j) (nI h) us (nI s.1.1) (nI L) s.1.2.1 s.1.2.2.1 s.2 lc lp lo rg nw ld s.1.2.2.2.1 s.1.2.2.2.2 nt) (fun j s => mv_J h L 0 N fl0 nu0 s.1 ∧ (∀ r, r < j → mv_p L s.1 (ro (3 * h + r)) (s.2 (3 * (1 - h) + r))) ∧ (∀ r, r < 3 → s.2 (3 * h + r) = ro (3 * h + r))) 3 (z0, ro) ⟨hI, fun j' hj => absurd hj (Nat.not_lt_zero _), fun _ _ => rfl⟩ (fun n s hs => ?_) (fun n j s hj hs J => ?_)
  · exact pk_le 3 3 (fun _ => k s.1 s.2 hs.1 hs.2.1 hs.2.2) (fun z => absurd z (Nat.lt_irrefl _))
  · refine pk_le 3 j (fun z => absurd z (by omega)) (fun _ => ?_)
    rw [ph_rx, ph_rx, nI_clamp (n := 3 * h + j) (by omega), nI_clamp (n := 3 * (1 - h) + j) (by omega), hs.2.2 j hj]
    refine ⟨vp_in_nI (by omega) (by decide), mv_moved hh (fun s hs => (hN s hs).1) s.1 hs.1 (hr j hj) (fun w' y a1 a2 a3 a4 => ?_)⟩
    dsimp only
    refine ⟨vp_in_nI (by omega) (by decide), nm_r (e' := upd s.2 (3 * (1 - h) + j) y) (by rw [ph_rf_nbi a4]) (nm_r (nI_1 j) (J (w', upd s.2 (3 * (1 - h) + j) y) ⟨a1, fun r hr' => ?_, fun r hr' => ?_⟩))⟩
    · show mv_p L w' (ro (3 * h + r)) (upd s.2 (3 * (1 - h) + j) y (3 * (1 - h) + r))
      by_cases e : r = j
      · subst e
        rw [pk_us]
        exact a3
      · rw [pk_un (by omega)]
        exact mv_p_mono (hs.2.1 r (by omega)) a2
    · show upd s.2 (3 * (1 - h) + j) y (3 * h + r) = _
      rw [pk_un (by omega)]
      exact hs.2.2 r hr'
theorem mv_move {post : SX → Prop} {ar al : Int32} {fl nu gt cf : Nat → Int32} (hLL : L ≤ 32) (hL : xq_L h c P lc lp) (hN : mv_N h c P N fl lo) (hr : ∀ r, r < 3 → mv_ref N (ro (3 * h + r))) (hg : ∀ g, g < 4 → mv_ref N (rg g)) (hl : ∀ j, j < c → 96 ≤ P j → mv_ref N (lo (99 * h + j)))
    (k : ∀ (z : mv_Z) (ro' : Nat → Int32), mv_J h L (2 * z.1) N fl nu z → (∀ r, r < 3 → mv_p L z (ro (3 * h + r)) (ro' (3 * (1 - h) + r))) → (∀ r, r < 3 → ro' (3 * h + r) = ro (3 * h + r)) → (∀ g, g < 4 → mv_k L z (rg g)) → (∀ j, j < c → 96 ≤ P j → mv_k L z (lo (99 * h + j))) →
      (∀ t s, t < z.1 → s < 32 → z.2.2.2.2 t = nI s → ∀ j, j < c → P j < 96 → P j % 3 ≠ 2 → P j / 3 = s → mv_k L z (lo (99 * h + j))) → ∀ post' : SX → Prop, (∀ u, post u → post' u) → wpX_moveList post' (nI h, us, nI z.1, nI L, z.2.1, z.2.2.1, ro', lc, lp, lo, rg, nw, ld, z.2.2.2.1, z.2.2.2.2, nt) (nI (1 - h))) :
    wpX_move post (nI h, us, ar, al, fl, nu, ro, lc, lp, lo, rg, nw, ld, gt, cf, nt) (nI L) := by
  have h1 := hL.1
  unfold wpX_move
  dsimp only
  refine loop_0 (fun m i g => wX_move_12 post (nI h) us 0 (nI L) m (nI i) fl nu ro lc lp lo rg nw ld g cf nt) (fun i g => ∀ s, s < i → g s = -1) 32 gt (fun p hp => absurd hp (Nat.not_lt_zero _)) (fun m g hg0 => ?_) (fun m i g hi hg0 J => ?_)
  · refine pk_le 32 32 (fun _ => nm_r (ph_o1 h1) ?_) (fun z => absurd z (Nat.lt_irrefl _))
    refine mv_40 h1 hN hr (0, fl, nu, g, cf) ⟨⟨Nat.zero_le _, hLL, Nat.zero_le _⟩, fun _ _ _ => rfl, fun _ _ _ => rfl, fun t ht => absurd ht (Nat.not_lt_zero _), fun s hs => Or.inl (hg0 s hs), fun t s ht => absurd ht (Nat.not_lt_zero _)⟩ (fun z1 ro' a1 a2 a3 => ?_)
    refine mv_81 h1 hN hg z1 a1 (fun z2 b1 b2 b3 => mv_111 hL hN hl z2 b1 (fun z3 c1 c2 c3 => mv_162 hL hN z3 c1 (fun z4 d1 d2 d3 post' hp => ?_)))
    exact k z4 ro' d1 (fun r hr' => mv_p_mono (a2 r hr') (mv_le_tr b2 (mv_le_tr c2 d2))) a3 (fun g hg' => mv_k_mono (b3 g hg') (mv_le_tr c2 d2)) (fun j hj e => mv_k_mono (c3 j hj e) d2) d3 post' hp
  · refine pk_le 32 i (fun z => absurd z (by omega)) (fun _ => ⟨vp_in_nI hi (by decide), nm_r (e' := upd g i (-1)) (by rw [nI_clamp (by omega), ph_nm1]) (nm_r (nI_1 i) (J _ (fun p hp => ?_)))⟩)
    by_cases c : p = i
    · exact ph_us c
    · rw [pk_un c]; exact hg0 p (by omega)
end
end
section
/-! part 15: the collector: the list of the other half -/
def ml_c (h : Nat) (gt : Nat → Int32) (P : Nat → Nat) (lo : Nat → Int32) (P' : Nat → Nat) (lo' : Nat → Int32) (a j : Nat) : Prop :=
  ((96 ≤ P j ∧ P' a = P j) ∨ (P j < 96 ∧ ∃ t, t < 32 ∧ gt (P j / 3) = nI t ∧ P' a = 3 * t + P j % 3)) ∧
  ((96 ≤ P j ∨ P j % 3 ≠ 2) → (lo (99 * h + j) = -1 ∧ lo' (99 * (1 - h) + a) = -1) ∨ ∃ s, s < 32 ∧ lo (99 * h + j) = nI s ∧ lo' (99 * (1 - h) + a) = gt s) ∧
  (P j < 96 → P j % 3 = 2 → lo' (99 * (1 - h) + a) = lo (99 * h + j))
def ml_I (h : Nat) (gt : Nat → Int32) (P : Nat → Nat) (lp lo : Nat → Int32) (j i : Nat) (P' : Nat → Nat) (lp' lo' : Nat → Int32) : Prop :=
  i ≤ j ∧ (∀ q, 99 * h ≤ q → q < 99 * h + 99 → lp' q = lp q ∧ lo' q = lo q) ∧
  (∀ a, a < i → lp' (99 * (1 - h) + a) = nI (P' a) ∧ P' a < 99) ∧ (∀ a b, a < i → b < i → P' a = P' b → a = b) ∧
  (∀ a, a < i → ∃ j', j' < j ∧ ml_c h gt P lo P' lo' a j') ∧ (∀ j', j' < j → (96 ≤ P j' ∨ ∃ t, t < 32 ∧ gt (P j' / 3) = nI t) → ∃ a, a < i ∧ ml_c h gt P lo P' lo' a j')
theorem ml_inj {h : Nat} {gt : Nat → Int32} {P P' : Nat → Nat} {lo lo' : Nat → Int32} {P2 : Nat → Nat} {lo2 : Nat → Int32} {a b j j' : Nat} (g2 : ∀ s s' t, s < 32 → s' < 32 → t < 32 → gt s = nI t → gt s' = nI t → s = s') (h1 : ml_c h gt P lo P' lo' a j) (h2 : ml_c h gt P lo P2 lo2 b j') (e : P' a = P2 b) : P j = P j' := by
  rcases h1.1 with ⟨a1, a2⟩ | ⟨a1, t, ht, a2, a3⟩
  · rcases h2.1 with ⟨b1, b2⟩ | ⟨b1, t', ht', b2, b3⟩
    · omega
    · omega
  · rcases h2.1 with ⟨b1, b2⟩ | ⟨b1, t', ht', b2, b3⟩
    · omega
    · have et : t = t' := by omega
      subst et
      have := g2 _ _ t (by omega) (by omega) ht a2 b2
      omega
section
variable {h c : Nat} {P : Nat → Nat} {gt lp lo : Nat → Int32}
theorem ml_skip {j i : Nat} {P' : Nat → Nat} {lp' lo' : Nat → Int32} (hI : ml_I h gt P lp lo j i P' lp' lo') (hn : ¬ (96 ≤ P j ∨ ∃ t, t < 32 ∧ gt (P j / 3) = nI t)) : ml_I h gt P lp lo (j + 1) i P' lp' lo' := by
  obtain ⟨i1, i2, i3, i4, i5, i6⟩ := hI
  refine ⟨by omega, i2, i3, i4, fun a ha => ?_, fun j' hj' kp => ?_⟩
  · obtain ⟨j', hj', cc⟩ := i5 a ha
    exact ⟨j', by omega, cc⟩
  · by_cases e : j' = j
    · subst e; exact absurd kp hn
    · exact i6 j' (by omega) kp
theorem ml_add (hh : h < 2) (hd : ∀ i j, i < c → j < c → P i = P j → i = j) (g2 : ∀ s s' t, s < 32 → s' < 32 → t < 32 → gt s = nI t → gt s' = nI t → s = s') {j i : Nat} {P' : Nat → Nat} {lp' lo' : Nat → Int32} (hj : j < c) (hc : c ≤ 99) (hI : ml_I h gt P lp lo j i P' lp' lo') {p' : Nat} {v : Int32} (hp : p' < 99)
    (hc1 : (96 ≤ P j ∧ p' = P j) ∨ (P j < 96 ∧ ∃ t, t < 32 ∧ gt (P j / 3) = nI t ∧ p' = 3 * t + P j % 3)) (hc2 : (96 ≤ P j ∨ P j % 3 ≠ 2) → (lo (99 * h + j) = -1 ∧ v = -1) ∨ ∃ s, s < 32 ∧ lo (99 * h + j) = nI s ∧ v = gt s) (hc3 : P j < 96 → P j % 3 = 2 → v = lo (99 * h + j)) :
    ml_I h gt P lp lo (j + 1) (i + 1) (rl_up P' i p') (upd lp' (99 * (1 - h) + i) (nI p')) (upd lo' (99 * (1 - h) + i) v) := by
  obtain ⟨i1, i2, i3, i4, i5, i6⟩ := hI
  have new : ml_c h gt P lo (rl_up P' i p') (upd lo' (99 * (1 - h) + i) v) i j := by
    refine ⟨?_, ?_, ?_⟩
    · rw [rl_up_s]; exact hc1
    · rw [pk_us]; exact hc2
    · rw [pk_us]; exact hc3
  have old : ∀ a j', a < i → ml_c h gt P lo P' lo' a j' → ml_c h gt P lo (rl_up P' i p') (upd lo' (99 * (1 - h) + i) v) a j' := by
    intro a j' ha cc
    have e1 : upd lo' (99 * (1 - h) + i) v (99 * (1 - h) + a) = lo' (99 * (1 - h) + a) := pk_un (by omega)
    refine ⟨?_, ?_, ?_⟩
    · rw [rl_up_n ha]; exact cc.1
    · rw [e1]; exact cc.2.1
    · rw [e1]; exact cc.2.2
  have ne : ∀ a, a < i → P' a ≠ p' := by
    intro a ha e
    obtain ⟨j', hj', cc⟩ := i5 a ha
    have := ml_inj g2 cc new (by rw [rl_up_s]; exact e)
    have := hd j' j (by omega) hj this
    omega
  refine ⟨by omega, fun q h1 h2 => ?_, fun a ha => ?_, fun a b ha hb e => ?_, fun a ha => ?_, fun j' hj' kp => ?_⟩
  · rw [pk_un (by omega), pk_un (by omega)]; exact i2 q h1 h2
  · by_cases e : a = i
    · subst e; rw [pk_us, rl_up_s]; exact ⟨rfl, hp⟩
    · rw [pk_un (by omega), rl_up_n (by omega)]; exact i3 a (by omega)
  · by_cases ea : a = i
    · by_cases eb : b = i
      · omega
      · rw [ea, rl_up_s, rl_up_n (by omega)] at e
        exact absurd e.symm (ne b (by omega))
    · by_cases eb : b = i
      · rw [eb, rl_up_s, rl_up_n (by omega)] at e
        exact absurd e (ne a (by omega))
      · rw [rl_up_n (by omega), rl_up_n (by omega)] at e
        exact i4 a b (by omega) (by omega) e
  · by_cases e : a = i
    · subst e; exact ⟨j, by omega, new⟩
    · obtain ⟨j', hj', cc⟩ := i5 a (by omega)
      exact ⟨j', by omega, old a j' (by omega) cc⟩
  · by_cases e : j' = j
    · subst e; exact ⟨i, by omega, new⟩
    · obtain ⟨a, ha, cc⟩ := i6 j' (by omega) kp
      exact ⟨a, by omega, old a j' ha cc⟩
end
section
variable {h c : Nat} {P : Nat → Nat} {us ar al : Int32} {fl nu ro lc lp lo rg nw ld gt cf nt : Nat → Int32}
theorem ml_133 {post : SX → Prop} {J10 : Int32 → Int32 → (Nat → Int32) → (Nat → Int32) → (Nat → Int32) → (Nat → Int32) → (Nat → Int32) → (Nat → Int32) → (Nat → Int32) → (Nat → Int32) → (Nat → Int32) → (Nat → Int32) → (Nat → Int32) → (Nat → Int32) → Prop} {x6 : Int32} {hf : Int32} {i j p' : Nat} (hh : h < 2) (hi : i < 99) (hj : j < 99) (hp : p' < 99) (hrf : ¬ x6 = 0 → ph_rf (lo (99 * h + j)))
    (k1 : x6 = 0 ∨ lo (99 * h + j) = -1 → J10 (nI (i + 1)) (nI (99 * h + (j + 1))) fl nu ro lc (upd lp (99 * (1 - h) + i) (nI p')) (upd lo (99 * (1 - h) + i) (lo (99 * h + j))) rg nw ld gt cf nt)
    (k2 : ¬ x6 = 0 → ∀ s, s < 32 → lo (99 * h + j) = nI s → J10 (nI (i + 1)) (nI (99 * h + (j + 1))) fl nu ro lc (upd lp (99 * (1 - h) + i) (nI p')) (upd lo (99 * (1 - h) + i) (gt s)) rg nw ld gt cf nt) :
    wX_moveList_133 post J10 (nI (1 - h)) (nI i) (nI (99 * h + j)) x6 (nI (99 * (1 - h) + i)) (nI p') (nI (99 * (1 - h) + i)) hf us ar al fl nu ro lc lp lo rg nw ld gt cf nt := by
  have i1 : vp_in (nI (99 * (1 - h) + i)) 198 := vp_in_nI (by omega) (by decide)
  have i2 : vp_in (nI (99 * h + j)) 198 := vp_in_nI (by omega) (by decide)
  have c1 : (nI (99 * (1 - h) + i)).toNatClampNeg = 99 * (1 - h) + i := nI_clamp (by omega)
  have c2 : (nI (99 * h + j)).toNatClampNeg = 99 * h + j := nI_clamp (by omega)
  have nx : nI (99 * h + j) + 1 = nI (99 * h + (j + 1)) := nI_1 _
  unfold wX_moveList_133 wX_moveList_169
  refine ⟨i1, nm_r (e' := upd lp (99 * (1 - h) + i) (nI p')) (by rw [c1, ph_nbi (by omega)]) ?_⟩
  by_cases e6 : x6 = 0
  · exact br_t e6 ⟨i2, i1, nm_r (e' := upd lo (99 * (1 - h) + i) (lo (99 * h + j))) (by rw [c1, c2]) (nm_r (nI_1 i) (nm_r nx (k1 (Or.inl e6))))⟩
  · refine br_f e6 ⟨i2, ?_⟩
    rcases hrf e6 with e | ⟨s, hs, e⟩
    · exact br_t (by rw [c2, e]; decide) ⟨i2, i1, nm_r (e' := upd lo (99 * (1 - h) + i) (lo (99 * h + j))) (by rw [c1, c2]) (nm_r (nI_1 i) (nm_r nx (k1 (Or.inr e))))⟩
    · exact br_f (by rw [c2, e]; exact nI_pos (by omega)) ⟨i2, by rw [c2, e]; exact vp_in_nI hs (by decide), i1, nm_r (e' := upd lo (99 * (1 - h) + i) (gt s)) (by rw [c1, c2, e, nI_clamp (by omega)]) (nm_r (nI_1 i) (nm_r nx (k2 e6 s hs e)))⟩
theorem ml_list {post : SX → Prop} (hL : xq_L h c P lc lp) (hd : ∀ i j, i < c → j < c → P i = P j → i = j) (g1 : ∀ s, s < 32 → gt s = -1 ∨ ∃ t, t < 32 ∧ gt s = nI t) (g2 : ∀ s s' t, s < 32 → s' < 32 → t < 32 → gt s = nI t → gt s' = nI t → s = s')
    (hrf : ∀ j, j < c → (96 ≤ P j ∨ (P j < 96 ∧ P j % 3 ≠ 2 ∧ ∃ t, t < 32 ∧ gt (P j / 3) = nI t)) → ph_rf (lo (99 * h + j)))
    (k : ∀ i P' lp' lo', ml_I h gt P lp lo c i P' lp' lo' → post (nI h, us, ar, al, fl, nu, ro, upd lc (1 - h) (nI i), lp', lo', rg, nw, ld, gt, cf, nt)) : wpX_moveList post (nI h, us, ar, al, fl, nu, ro, lc, lp, lo, rg, nw, ld, gt, cf, nt) (nI (1 - h)) := by
  have h1 := hL.1
  have h2 := hL.2.1
  unfold wpX_moveList
  dsimp only
  refine nm_r (e' := nI (99 * h + 0)) (ph_99 h) ?_
  refine loop_0 (fun n j (s : Nat × (Nat → Nat) × (Nat → Int32) × (Nat → Int32)) => wX_moveList_10 post (nI (1 - h)) (nI h) us ar al n (nI s.1) (nI (99 * h + j)) fl nu ro lc s.2.2.1 s.2.2.2 rg nw ld gt cf nt) (fun j s => ml_I h gt P lp lo j s.1 s.2.1 s.2.2.1 s.2.2.2) c (0, P, lp, lo) ⟨Nat.le_refl _, fun _ _ _ => ⟨rfl, rfl⟩, fun a ha => absurd ha (Nat.not_lt_zero _), fun a b ha => absurd ha (Nat.not_lt_zero _), fun a ha => absurd ha (Nat.not_lt_zero _), fun j hj => absurd hj (Nat.not_lt_zero _)⟩ (fun n s hs => ?_) (fun n j s hj hs J => ?_)
  · have hi : s.1 ≤ c := hs.1
    refine And.intro (vp_in_nI h1 (by decide)) (pk_le (99 * h + c) (99 * h + c) (fun _ => ⟨vp_in_nI (by omega) (by decide), nm_r (e' := upd lc (1 - h) (nI s.1)) (by rw [nI_clamp (by omega), ph_nbi (by omega)]) (k _ _ _ _ hs)⟩) (fun z => absurd z (Nat.lt_irrefl _)) (xq_end hL))
  · obtain ⟨i, P', lp', lo'⟩ := s
    have hs' : ml_I h gt P lp lo j i P' lp' lo' := hs
    have hi : i ≤ j := hs'.1
    obtain ⟨eP, hP⟩ := hL.2.2.2 j hj
    have fr := hs'.2.1 (99 * h + j) (by omega) (by omega)
    have hcl : (nI (99 * h + j)).toNatClampNeg = 99 * h + j := nI_clamp (by omega)
    have hin : vp_in (nI (99 * h + j)) 198 := vp_in_nI (by omega) (by decide)
    have nx : nI (99 * h + j) + 1 = nI (99 * h + (j + 1)) := nI_1 _
    have hd3 : nI (P j) / 3 = nI (P j / 3) := ph_d3 (by omega)
    have e7 : (99 : Int32) * nI (1 - h) + nI i = nI (99 * (1 - h) + i) := ph_lx (1 - h) i
    refine And.intro (vp_in_nI h1 (by decide)) (pk_le (99 * h + c) (99 * h + j) (fun z => absurd z (by omega)) (fun _ => ⟨hin, nm_r (e' := nI (P j)) (by rw [hcl]; exact fr.1.trans eP) ?_⟩) (xq_end hL))
    refine pk_lt (P j) 96 (fun z => ?_) (fun z => ?_)
    · unfold wX_moveList_51
      have hcd : (nI (P j) / 3).toNatClampNeg = P j / 3 := by rw [hd3, nI_clamp (by omega)]
      have hid : vp_in (nI (P j) / 3) 32 := by rw [hd3]; exact vp_in_nI (by omega) (by decide)
      refine br_t rfl ⟨ph_30, hid, ?_⟩
      rcases g1 (P j / 3) (by omega) with eg | ⟨t, ht, eg⟩
      · refine br_f (by rw [hcd, eg]; decide) (nm_r nx (J (i, P', lp', lo') (ml_skip hs' (fun q => ?_))))
        rcases q with q | ⟨t, ht, e⟩
        · omega
        · rw [eg] at e; exact absurd e (ph_m1n (by omega))
      · refine br_t (by rw [hcd, eg]; exact nI_pos' (by omega)) ?_
        unfold wX_moveList_73
        have ep : (3 : Int32) * gt (nI (P j) / 3).toNatClampNeg + (nI (P j) - nI (P j) / 3 * 3) = nI (3 * t + P j % 3) := by rw [hcd, eg, ph_m3 (by omega), ph_rx]
        have c1 : (96 ≤ P j ∧ 3 * t + P j % 3 = P j) ∨ (P j < 96 ∧ ∃ t', t' < 32 ∧ gt (P j / 3) = nI t' ∧ 3 * t + P j % 3 = 3 * t' + P j % 3) := Or.inr ⟨z, t, ht, eg, rfl⟩
        refine br_t rfl ⟨ph_30, pk_eq (P j % 3) 2 (fun z2 => ?_) (fun z2 => ?_) (ph_m3 (by omega))⟩
        · unfold wX_moveList_91
          refine nm_r e7 (br_t rfl ⟨ph_30, hid, ph_30, ?_⟩)
          rw [ep]
          refine ml_133 h1 (by omega) (by omega) (by omega) (fun q => absurd rfl q) (fun _ => J (i + 1, rl_up P' i (3 * t + P j % 3), upd lp' (99 * (1 - h) + i) (nI (3 * t + P j % 3)), upd lo' (99 * (1 - h) + i) (lo' (99 * h + j))) (ml_add h1 hd g2 hj h2 hs' (by omega) c1 (fun q => by omega) (fun _ _ => fr.2))) (fun q => absurd rfl q)
        · unfold wX_moveList_86 wX_moveList_91
          refine nm_r e7 (br_t rfl ⟨ph_30, hid, ph_30, ?_⟩)
          rw [ep]
          refine ml_133 h1 (by omega) (by omega) (by omega) (fun _ => by show ph_rf (lo' (99 * h + j)); rw [fr.2]; exact hrf j hj (Or.inr ⟨z, z2, t, ht, eg⟩)) (fun q => J (i + 1, rl_up P' i (3 * t + P j % 3), upd lp' (99 * (1 - h) + i) (nI (3 * t + P j % 3)), upd lo' (99 * (1 - h) + i) (lo' (99 * h + j))) (ml_add h1 hd g2 hj h2 hs' (by omega) c1 (fun _ => Or.inl ?_) (fun _ q => absurd q z2))) (fun _ s hs es => J (i + 1, rl_up P' i (3 * t + P j % 3), upd lp' (99 * (1 - h) + i) (nI (3 * t + P j % 3)), upd lo' (99 * (1 - h) + i) (gt s)) (ml_add h1 hd g2 hj h2 hs' (by omega) c1 (fun _ => Or.inr ⟨s, hs, fr.2.symm.trans es, rfl⟩) (fun _ q => absurd q z2)))
          rcases q with q | q
          · exact absurd q ph_10
          · exact ⟨fr.2.symm.trans q, q⟩
    · unfold wX_moveList_51 wX_moveList_73 wX_moveList_86 wX_moveList_91
      have c1 : (96 ≤ P j ∧ P j = P j) ∨ (P j < 96 ∧ ∃ t', t' < 32 ∧ gt (P j / 3) = nI t' ∧ P j = 3 * t' + P j % 3) := Or.inl ⟨z, rfl⟩
      refine br_f ph_10 (br_f ph_10 (nm_r e7 (br_f ph_10 ?_)))
      refine ml_133 h1 (by omega) (by omega) hP (fun _ => by show ph_rf (lo' (99 * h + j)); rw [fr.2]; exact hrf j hj (Or.inl z)) (fun q => J (i + 1, rl_up P' i (P j), upd lp' (99 * (1 - h) + i) (nI (P j)), upd lo' (99 * (1 - h) + i) (lo' (99 * h + j))) (ml_add h1 hd g2 hj h2 hs' hP c1 (fun _ => Or.inl ?_) (fun q => by omega))) (fun _ s hs es => J (i + 1, rl_up P' i (P j), upd lp' (99 * (1 - h) + i) (nI (P j)), upd lo' (99 * (1 - h) + i) (gt s)) (ml_add h1 hd g2 hj h2 hs' hP c1 (fun _ => Or.inr ⟨s, hs, fr.2.symm.trans es, rfl⟩) (fun q => by omega)))
      rcases q with q | q
      · exact absurd q ph_10
      · exact ⟨fr.2.symm.trans q, q⟩
end
end
section
/-! part 16: the collector: settling -/
section
variable {h A c : Nat} {P : Nat → Nat} {us al : Int32} {fl nu ro lc lp lo rg nw ld gt cf nt : Nat → Int32}
theorem se_142 {post : SX → Prop} {ar : Int32} (hL : xq_L h c P lc lp) (hl : ∀ p, p < 99 → ld p = 0) (k : ∀ ld', (∀ p, p < 99 → (ld' p ≠ 0 ↔ ∃ a, a < c ∧ P a = p)) → post (nI h, us, ar, al, fl, nu, ro, lc, lp, lo, rg, nw, ld', gt, cf, nt)) : ∃ n, wX_settle_142 post (nI h) us ar al n (nI (99 * h + 0)) fl nu ro lc lp lo rg nw ld gt cf nt := by
  have h1 := hL.1
  have h2 := hL.2.1
  refine loop_0 (fun n j e => wX_settle_142 post (nI h) us ar al n (nI (99 * h + j)) fl nu ro lc lp lo rg nw e gt cf nt) (fun j e => ∀ p, p < 99 → (e p ≠ 0 ↔ ∃ a, a < j ∧ P a = p)) c ld (fun p hp => ⟨fun z => absurd (hl p hp) z, fun ⟨a, ha, _⟩ => absurd ha (Nat.not_lt_zero _)⟩) (fun n e he => ?_) (fun n j e hj he J => ?_)
  · exact And.intro (vp_in_nI h1 (by decide)) (pk_le (99 * h + c) (99 * h + c) (fun _ => k e he) (fun z => absurd z (Nat.lt_irrefl _)) (xq_end hL))
  · obtain ⟨eP, hP⟩ := hL.2.2.2 j hj
    have hcl : (nI (99 * h + j)).toNatClampNeg = 99 * h + j := nI_clamp (by omega)
    have nx : nI (99 * h + j) + 1 = nI (99 * h + (j + 1)) := nI_1 _
    refine And.intro (vp_in_nI h1 (by decide)) (pk_le (99 * h + c) (99 * h + j) (fun z => absurd z (by omega)) (fun _ => ⟨vp_in_nI (by omega) (by decide), by rw [hcl, eP]; exact vp_in_nI hP (by decide), nm_r (e' := upd e (P j) 1) (by rw [hcl, eP, nI_clamp (by omega), ph_vb1]) (nm_r nx (J _ (fun p hp => ?_)))⟩) (xq_end hL))
    by_cases c0 : p = P j
    · rw [ph_us c0]
      exact ⟨fun _ => ⟨j, by omega, c0.symm⟩, fun _ => ph_10⟩
    · rw [pk_un c0, he p hp]
      constructor
      · rintro ⟨a, ha, e1⟩
        exact ⟨a, by omega, e1⟩
      · rintro ⟨a, ha, e1⟩
        have : a ≠ j := fun e2 => by subst e2; exact c0 e1.symm
        exact ⟨a, by omega, e1⟩
theorem se_77 {post : SX → Prop} (hL : xq_L h c P lc lp) (hA : A ≤ 32) (hcf : ∀ t, t < A → ∃ s, s < 32 ∧ cf t = nI s)
    (k : ∀ nw' ld', (∀ t s, t < A → s < 32 → cf t = nI s → nw' t = if nt s = 0 then 0 else 1) → (∀ p, p < 99 → (ld' p ≠ 0 ↔ ∃ a, a < c ∧ P a = p)) → post (nI h, nI A, nI A, al, fl, nu, ro, lc, lp, lo, rg, nw', ld', gt, cf, nt)) : ∃ n, wX_settle_77 post (nI h) us (nI A) al n 0 fl nu ro lc lp lo rg nw ld gt cf nt := by
  refine loop_0 (fun n i w => wX_settle_77 post (nI h) us (nI A) al n (nI i) fl nu ro lc lp lo rg w ld gt cf nt) (fun i w => ∀ t s, t < i → t < A → s < 32 → cf t = nI s → w t = if nt s = 0 then 0 else 1) 32 nw (fun t s ht => absurd ht (Nat.not_lt_zero _)) (fun n w hw => ?_) (fun n i w hi hw J => ?_)
  · refine pk_le 32 32 (fun _ => xs_forget (fun ld' hl => ?_)) (fun z => absurd z (Nat.lt_irrefl _))
    dsimp only
    exact nm_r (e' := nI (99 * h + 0)) (ph_99 h) (se_142 hL hl (fun ld'' h'' => k w ld'' (fun t s ht => hw t s (by omega) ht) h''))
  · have hcl : (nI i).toNatClampNeg = i := nI_clamp (by omega)
    have hii : vp_in (nI i) 32 := vp_in_nI hi (by decide)
    refine pk_le 32 i (fun z => absurd z (by omega)) (fun _ => pk_le A i (fun z => ⟨hii, nm_r (e' := upd w i 0) (by rw [hcl, ph_vb0]) (nm_r (nI_1 i) (J _ (fun t s ht hA' hs e => ?_)))⟩) (fun z => ⟨hii, ?_⟩))
    · rw [pk_un (by omega)]
      exact hw t s (by omega) hA' hs e
    · obtain ⟨s, hs, ec⟩ := hcf i z
      have hcs : (nI s).toNatClampNeg = s := nI_clamp (by omega)
      rw [hcl, ec, hcs]
      refine ⟨vp_in_nI hs (by decide), ?_⟩
      by_cases zn : nt s = 0
      · refine br_t zn ⟨hii, nm_r (e' := upd w i 0) (by rw [ph_vb0]) (nm_r (nI_1 i) (J _ (fun t s' ht hA' hs' e => ?_)))⟩
        by_cases et : t = i
        · subst et
          have es : s = s' := ph_inj (by omega) (by omega) (ec.symm.trans e)
          subst es
          rw [pk_us, if_pos zn]
        · rw [pk_un et]; exact hw t s' (by omega) hA' hs' e
      · refine br_f zn ⟨hii, nm_r (e' := upd w i 1) (by rw [ph_vb1]) (nm_r (nI_1 i) (J _ (fun t s' ht hA' hs' e => ?_)))⟩
        by_cases et : t = i
        · subst et
          have es : s = s' := ph_inj (by omega) (by omega) (ec.symm.trans e)
          subst es
          rw [pk_us, if_neg zn]
        · rw [pk_un et]; exact hw t s' (by omega) hA' hs' e
theorem se_settle {post : SX → Prop} (hh : h < 2) (hL : xq_L (1 - h) c P lc lp) (hA : A ≤ 32) (hcf : ∀ t, t < A → ∃ s, s < 32 ∧ cf t = nI s) (hrg : ∀ g, g < 4 → ∃ y, mv_im gt (rg g) y)
    (k : ∀ rg' nw' ld' nt', (∀ g, g < 4 → mv_im gt (rg g) (rg' g)) → (∀ t s, t < A → s < 32 → cf t = nI s → nw' t = if vp_nar .boolean (nw s) = 0 then 0 else 1) → (∀ p, p < 99 → (ld' p ≠ 0 ↔ ∃ a, a < c ∧ P a = p)) → post (nI (1 - h), nI A, nI A, al, fl, nu, ro, lc, lp, lo, rg', nw', ld', gt, cf, nt')) :
    wpX_settle post (nI h, us, nI A, al, fl, nu, ro, lc, lp, lo, rg, nw, ld, gt, cf, nt) := by
  unfold wpX_settle
  dsimp only
  refine nm_r (ph_o1 hh) ?_
  refine loop_0 (fun n i g => wX_settle_12 post (nI (1 - h)) us (nI A) al n (nI i) fl nu ro lc lp lo g nw ld gt cf nt) (fun i g => (∀ j, j < i → mv_im gt (rg j) (g j)) ∧ (∀ j, i ≤ j → g j = rg j)) 4 rg ⟨fun j hj => absurd hj (Nat.not_lt_zero _), fun _ _ => rfl⟩ (fun n g hg => ?_) (fun n i g hi hg J => ?_)
  · refine pk_le 4 4 (fun _ => ?_) (fun z => absurd z (Nat.lt_irrefl _))
    refine loop_0 (fun n i e => wX_settle_51 post (nI (1 - h)) us (nI A) al n (nI i) fl nu ro lc lp lo g nw ld gt cf e) (fun i e => ∀ s, s < i → e s = vp_nar .boolean (nw s)) 32 nt (fun j hj => absurd hj (Nat.not_lt_zero _)) (fun n e he => ?_) (fun n i e hi he J => ?_)
    · refine pk_le 32 32 (fun _ => se_77 hL hA hcf (fun nw' ld' a1 a2 => k g nw' ld' e hg.1 (fun t s ht hs ec => ?_) a2)) (fun z => absurd z (Nat.lt_irrefl _))
      rw [← he s hs]
      exact a1 t s ht hs ec
    · refine pk_le 32 i (fun z => absurd z (by omega)) (fun _ => ⟨vp_in_nI hi (by decide), vp_in_nI hi (by decide), nm_r (e' := upd e i (vp_nar .boolean (nw i))) (by rw [nI_clamp (by omega)]) (nm_r (nI_1 i) (J _ (fun s hs => ?_)))⟩)
      by_cases c0 : s = i
      · rw [ph_us c0, c0]
      · rw [pk_un c0]; exact he s (by omega)
  · have hcl : (nI i).toNatClampNeg = i := nI_clamp (by omega)
    have hii : vp_in (nI i) 4 := vp_in_nI hi (by decide)
    have eg := hg.2 i (Nat.le_refl _)
    refine pk_le 4 i (fun z => absurd z (by omega)) (fun _ => ⟨hii, ?_⟩)
    rw [hcl, eg]
    obtain ⟨y, hy⟩ := hrg i hi
    rcases hy with ⟨e1, e2⟩ | ⟨s, t, hs, ht, e1, e2, e3⟩
    · refine br_t (by rw [e1]; decide) (nm_r (nI_1 i) (J _ ⟨fun j hj => ?_, fun j hj => hg.2 j (by omega)⟩))
      by_cases c0 : j = i
      · subst c0
        rw [eg, e1]; exact Or.inl ⟨rfl, rfl⟩
      · exact hg.1 j (by omega)
    · refine br_f (by rw [e1]; exact nI_pos (by omega)) ⟨hii, by rw [e1]; exact vp_in_nI hs (by decide), hii, nm_r (e' := upd g i (nI t)) (by rw [e1, nI_clamp (by omega), e2, ph_nb (by omega)]) (nm_r (nI_1 i) (J _ ⟨fun j hj => ?_, fun j hj => ?_⟩))⟩
      · by_cases c0 : j = i
        · subst c0
          rw [pk_us]
          exact Or.inr ⟨s, t, hs, ht, e1, e2, rfl⟩
        · rw [pk_un c0]; exact hg.1 j (by omega)
      · rw [pk_un (by omega)]; exact hg.2 j (by omega)
end
end
section
/-! part 17: the collection keeps the relation -/
/-- the needed slots -/
def co_N (R : Nat → Nat → Prop) (yf yo ys yr yp yg : Nat → Int32) (s : Nat) : Prop := ∃ k, R s k ∧ ph_R (yq_stN yr yp yg) (yq_E yf yo ys 1) k
/-- where the needed slots have gone -/
def co_R (A : Nat) (cf : Nat → Int32) (R : Nat → Nat → Prop) (t k : Nat) : Prop := t < A ∧ ∃ s, s < 32 ∧ cf t = nI s ∧ R s k
section
variable {h n c L : Nat} {P : Nat → Nat} {R : Nat → Nat → Prop} {fl nu ro lc lp lo rg nw ld yn yt yf yo ys yr yp yg : Nat → Int32}
theorem co_ref (B : rl_bij n R) (hn : n ≤ 32) {a b : Int32} (hr : rl_ref R a b) (hD : ∀ k, k < 24 → b = nI k → ph_R (yq_stN yr yp yg) (yq_E yf yo ys 1) k) : mv_ref (co_N R yf yo ys yr yp yg) a := by
  rcases hr with hr | ⟨s, k, hR, ea, eb⟩
  · exact Or.inl hr.1
  · have b := B.1 s k hR
    exact Or.inr ⟨s, by omega, ⟨k, hR, hD k b.2 eb⟩, ea⟩
theorem co_mvN (H : rl h n c P R fl nu ro lc lp lo rg nw ld yn yt yf yo ys yr yp yg) : mv_N h c P (co_N R yf yo ys yr yp yg) fl lo := by
  obtain ⟨B, L, Y, O, Q, N, T, G⟩ := H
  intro s hs
  obtain ⟨k, hR, hD⟩ := hs
  have b := B.1 s k hR
  refine ⟨fun f hf => co_ref B L.2.1 ((O s k hR).2.1 f hf) (fun k' hk' e => ph_R_E hD ⟨b.2, hk', f, hf, Or.inl e⟩), fun j hj a1 a2 a3 => ?_⟩
  have hv : ys k ≠ 0 := fun z => N s k hR z j hj a3
  exact co_ref B L.2.1 (((Q s k hR hv).1 (P j % 3) (by omega)).1 j hj (by omega)) (fun k' hk' e => ph_R_E hD ⟨b.2, hk', P j % 3, by omega, Or.inr ⟨by decide, hv, e⟩⟩)
theorem co_move {post : SX → Prop} {ar al : Int32} {gt cf nt : Nat → Int32} (H : rl h n c P R fl nu ro lc lp lo rg nw ld yn yt yf yo ys yr yp yg) (hLL : L ≤ 32)
    (k : ∀ (z : mv_Z) (ro' lp' lo' : Nat → Int32) (i : Nat) (P' : Nat → Nat), mv_J h L (2 * z.1) (co_N R yf yo ys yr yp yg) fl nu z → (∀ r, r < 3 → mv_p L z (ro (3 * h + r)) (ro' (3 * (1 - h) + r))) → (∀ r, r < 3 → ro' (3 * h + r) = ro (3 * h + r)) → (∀ g, g < 4 → mv_k L z (rg g)) → (∀ j, j < c → 96 ≤ P j → mv_k L z (lo (99 * h + j))) →
      (∀ t s, t < z.1 → s < 32 → z.2.2.2.2 t = nI s → ∀ j, j < c → P j < 96 → P j % 3 ≠ 2 → P j / 3 = s → mv_k L z (lo (99 * h + j))) → ml_I h z.2.2.2.1 P lp lo c i P' lp' lo' →
      post (nI h, nI n, nI z.1, nI L, z.2.1, z.2.2.1, ro', upd lc (1 - h) (nI i), lp', lo', rg, nw, ld, z.2.2.2.1, z.2.2.2.2, nt)) :
    wpX_move post (nI h, nI n, ar, al, fl, nu, ro, lc, lp, lo, rg, nw, ld, gt, cf, nt) (nI L) := by
  have hN := co_mvN H
  have B := H.1
  have Lr := H.2.1
  have T := H.2.2.2.2.2.2.1
  have G := H.2.2.2.2.2.2.2
  have hl : ∀ j, j < c → 96 ≤ P j → mv_ref (co_N R yf yo ys yr yp yg) (lo (99 * h + j)) := by
    intro j hj a
    have hp := (Lr.1.2.2.2 j hj).2
    exact co_ref B Lr.2.1 ((T (P j - 96) (by omega)).2.1 j hj (by omega)) (fun k hk e => ph_R_st ⟨hk, Or.inl (Or.inr ⟨P j - 96, by omega, e⟩)⟩)
  refine mv_move hLL Lr.1 hN (fun r hr => co_ref B Lr.2.1 (T r hr).1 (fun k hk e => ph_R_st ⟨hk, Or.inl (Or.inl ⟨r, hr, e⟩)⟩)) (fun g hg => co_ref B Lr.2.1 (G g hg) (fun k hk e => ph_R_st ⟨hk, Or.inr ⟨g, hg, e⟩⟩)) hl (fun z ro' a1 a2 a3 a4 a5 a6 post' hp => ?_)
  have a1' : mv_I h L (2 * z.1) z.1 (co_N R yf yo ys yr yp yg) fl nu z.2.1 z.2.2.1 z.2.2.2.1 z.2.2.2.2 := a1
  obtain ⟨⟨i1, i2, i3⟩, i4, i5, i6, i7, i8⟩ := a1'
  refine ml_list Lr.1 Lr.2.2.1 (fun s hs => ?_) (fun s s' t hs hs' ht e e' => ?_) (fun j hj q => ?_) (fun i P' lp' lo' m => hp _ (k z ro' lp' lo' i P' a1 a2 a3 a4 a5 a6 m))
  · rcases i7 s hs with e | ⟨t, ht, e, _⟩
    · exact Or.inl e
    · exact Or.inr ⟨t, by omega, e⟩
  · rcases i7 s hs with e1 | ⟨t1, ht1, e1, e2⟩
    · rw [e1] at e; exact absurd e (ph_m1n (by omega))
    · rcases i7 s' hs' with e3 | ⟨t3, ht3, e3, e4⟩
      · rw [e3] at e'; exact absurd e' (ph_m1n (by omega))
      · have et : t1 = t := ph_inj (by omega) (by omega) (e1.symm.trans e)
        have et' : t3 = t := ph_inj (by omega) (by omega) (e3.symm.trans e')
        subst et et'
        exact ph_inj (by omega) (by omega) (e2.symm.trans e4)
  · rcases q with q | ⟨q1, q2, t, ht, e⟩
    · exact mv_rf (hl j hj q)
    · rcases i7 (P j / 3) (by omega) with e1 | ⟨t1, ht1, e1, e2⟩
      · rw [e1] at e; exact absurd e (ph_m1n (by omega))
      · obtain ⟨s, hs, hNs, ec, _⟩ := i6 t1 ht1
        have es : P j / 3 = s := ph_inj (by omega) (by omega) (e2.symm.trans ec)
        exact mv_rf ((hN s hNs).2 j hj q1 q2 es)
theorem co_im {A : Nat} {gt cf : Nat → Int32} (B : rl_bij n R) (hn : n ≤ 32) (hA : A ≤ 32) (i7 : ∀ s, s < 32 → gt s = -1 ∨ ∃ t, t < A ∧ gt s = nI t ∧ cf t = nI s) {x y b : Int32} (hm : mv_im gt x y) (hr : rl_ref R x b) : rl_ref (co_R A cf R) y b := by
  rcases hm with ⟨e1, e2⟩ | ⟨s, t, hs, ht, e1, e2, e3⟩
  · rcases hr with hr | ⟨s, k, hR, ea, eb⟩
    · exact Or.inl ⟨e2, hr.2⟩
    · have b := B.1 s k hR
      exact absurd (e1.symm.trans ea) (ph_m1n (by omega))
  · rw [e1] at hr
    obtain ⟨k, hR, eb⟩ := rl_rx B hn hs hr
    rcases i7 s hs with e | ⟨t', ht', e, ec⟩
    · exact absurd (e.symm.trans e2) (ph_m1n (by omega))
    · have et : t' = t := ph_inj (by omega) (by omega) (e.symm.trans e2)
      subst et
      exact Or.inr ⟨t', k, ⟨ht', s, hs, ec, hR⟩, e3, eb⟩
theorem co_bij {A : Nat} {gt cf : Nat → Int32} (B : rl_bij n R) (hA : A ≤ 32) (i6 : ∀ t, t < A → ∃ s, s < 32 ∧ co_N R yf yo ys yr yp yg s ∧ cf t = nI s ∧ gt s = nI t) : rl_bij A (co_R A cf R) := by
  refine ⟨fun t k hR => ?_, fun t k k' hR hR' => ?_, fun t t' k hR hR' => ?_⟩
  · obtain ⟨ht, s, hs, ec, hR⟩ := hR
    exact ⟨ht, (B.1 s k hR).2⟩
  · obtain ⟨ht, s, hs, ec, hR⟩ := hR
    obtain ⟨_, s', hs', ec', hR'⟩ := hR'
    have es : s = s' := ph_inj (by omega) (by omega) (ec.symm.trans ec')
    subst es
    exact B.2.1 s k k' hR hR'
  · obtain ⟨ht, s, hs, ec, hR⟩ := hR
    obtain ⟨ht', s', hs', ec', hR'⟩ := hR'
    have es := B.2.2 s s' k hR hR'
    subst es
    obtain ⟨s1, q1, _, q2, q3⟩ := i6 t ht
    obtain ⟨s2, r1, _, r2, r3⟩ := i6 t' ht'
    have e1 : s1 = s := ph_inj (by omega) (by omega) (q2.symm.trans ec)
    have e2 : s2 = s := ph_inj (by omega) (by omega) (r2.symm.trans ec')
    subst e1 e2
    exact ph_inj (by omega) (by omega) (q3.symm.trans r3)
theorem co_24 {A : Nat} {gt cf : Nat → Int32} (B : rl_bij n R) (hA : A ≤ 32) (i6 : ∀ t, t < A → ∃ s, s < 32 ∧ co_N R yf yo ys yr yp yg s ∧ cf t = nI s ∧ gt s = nI t) : A ≤ 24 := by
  have bj := co_bij B hA i6
  have a : ph_cn (fun _ => true) A ≤ ph_cn (fun _ => true) 24 := ph_cn_inj (R := co_R A cf R) bj.2.2 (fun t ht _ => by
    obtain ⟨s, hs, ⟨k, hR, _⟩, ec, _⟩ := i6 t ht
    exact ⟨k, (B.1 s k hR).2, rfl, ht, s, hs, ec, hR⟩)
  rw [ph_cn_true, ph_cn_true] at a
  exact a
/-- what has arrived is what is needed -/
theorem co_cnt {A : Nat} {gt cf : Nat → Int32} (H : rl h n c P R fl nu ro lc lp lo rg nw ld yn yt yf yo ys yr yp yg) (hA : A ≤ 32) (i6 : ∀ t, t < A → ∃ s, s < 32 ∧ co_N R yf yo ys yr yp yg s ∧ cf t = nI s ∧ gt s = nI t)
    (H' : ∀ k, ph_R (yq_stN yr yp yg) (yq_E yf yo ys 1) k → ∃ t, co_R A cf R t k) {e : Nat → Int32} (he : ∀ k, k < 24 → (e k ≠ 0 ↔ ph_R (yq_stN yr yp yg) (yq_E yf yo ys 1) k)) : A = yq_c e := by
  have B := H.1
  have bj := co_bij B hA i6
  have a : ph_cn (fun _ => true) A ≤ ph_cn (fun k => decide (e k ≠ 0)) 24 := ph_cn_inj (R := co_R A cf R) bj.2.2 (fun t ht _ => by
    obtain ⟨s, hs, ⟨k, hR, hD⟩, ec, _⟩ := i6 t ht
    have hk := (B.1 s k hR).2
    exact ⟨k, hk, decide_eq_true ((he k hk).mpr hD), ht, s, hs, ec, hR⟩)
  have b : ph_cn (fun k => decide (e k ≠ 0)) 24 ≤ ph_cn (fun _ => true) A := ph_cn_inj (R := fun k t => co_R A cf R t k) (fun i i' j x x' => bj.2.1 j i i' x x') (fun k hk hb => by
    obtain ⟨t, ht⟩ := H' k ((he k hk).mp (of_decide_eq_true hb))
    exact ⟨t, ht.1, rfl, ht⟩)
  rw [ph_cn_true] at a b
  exact Nat.le_antisymm a b
theorem co_val {gt lo' : Nat → Int32} {P' : Nat → Nat} {z : mv_Z} {a j : Nat} (eg : z.2.2.2.1 = gt) (hz : z.1 < L) (cc : ml_c h gt P lo P' lo' a j) (q : 96 ≤ P j ∨ P j % 3 ≠ 2) (hk : mv_k L z (lo (99 * h + j))) : mv_im gt (lo (99 * h + j)) (lo' (99 * (1 - h) + a)) := by
  obtain ⟨y, hy⟩ := hk hz
  rw [eg] at hy
  rcases cc.2.1 q with ⟨e1, e2⟩ | ⟨s, hs, e1, e2⟩
  · exact Or.inl ⟨e1, e2⟩
  · rcases hy with ⟨e3, _⟩ | ⟨s', t, hs', ht, e3, e4, e5⟩
    · exact absurd (e3.symm.trans e1) (ph_m1n (by omega))
    · have es : s' = s := ph_inj (by omega) (by omega) (e3.symm.trans e1)
      subst es
      exact Or.inr ⟨s', t, hs', ht, e1, e4, e2.trans e4⟩
end
end
section
/-! part 18: the relation behind a collection -/
section
variable {h n c : Nat} {P : Nat → Nat} {R : Nat → Nat → Prop} {fl nu ro lc lp lo rg nw ld yn yt yf yo ys yr yp yg : Nat → Int32}
theorem co_rel (H : rl h n c P R fl nu ro lc lp lo rg nw ld yn yt yf yo ys yr yp yg) {z : mv_Z} {ro' lp' lo' rg' nw' ld' : Nat → Int32} {i : Nat} {P' : Nat → Nat} (a1 : mv_J h 32 (2 * z.1) (co_N R yf yo ys yr yp yg) fl nu z) (a2 : ∀ r, r < 3 → mv_p 32 z (ro (3 * h + r)) (ro' (3 * (1 - h) + r))) (a5 : ∀ j, j < c → 96 ≤ P j → mv_k 32 z (lo (99 * h + j)))
    (a6 : ∀ t s, t < z.1 → s < 32 → z.2.2.2.2 t = nI s → ∀ j, j < c → P j < 96 → P j % 3 ≠ 2 → P j / 3 = s → mv_k 32 z (lo (99 * h + j))) (m : ml_I h z.2.2.2.1 P lp lo c i P' lp' lo')
    (s0 : ∀ g, g < 4 → mv_im z.2.2.2.1 (rg g) (rg' g)) (s1 : ∀ t s, t < z.1 → s < 32 → z.2.2.2.2 t = nI s → nw' t = if vp_nar .boolean (nw s) = 0 then 0 else 1) (s2 : ∀ p, p < 99 → (ld' p ≠ 0 ↔ ∃ a, a < i ∧ P' a = p)) :
    rl (1 - h) z.1 i P' (co_R z.1 z.2.2.2.2 R) z.2.1 z.2.2.1 ro' (upd lc (1 - h) (nI i)) lp' lo' rg' nw' ld' yn yt yf yo ys yr yp yg := by
  have a1' : mv_I h 32 (2 * z.1) z.1 (co_N R yf yo ys yr yp yg) fl nu z.2.1 z.2.2.1 z.2.2.2.1 z.2.2.2.2 := a1
  obtain ⟨⟨i1, i2, i3⟩, i4, i5, i6, i7, i8⟩ := a1'
  obtain ⟨m1, m2, m3, m4, m5, m6⟩ := m
  obtain ⟨B, L, Y, O, Q, N, T, G⟩ := H
  have b3 := L.2.1
  have hc := L.1.2.1
  have hh := L.1.1
  have hA : z.1 ≤ 24 := co_24 B i1 i6
  have hz : z.1 < 32 := by omega
  have gtA : ∀ s t, s < 32 → t < 32 → z.2.2.2.1 s = nI t → t < z.1 ∧ z.2.2.2.2 t = nI s := by
    intro s t hs ht e
    rcases i7 s hs with e1 | ⟨t1, ht1, e1, e2⟩
    · rw [e1] at e; exact absurd e (ph_m1n (by omega))
    · have et : t1 = t := ph_inj (by omega) (by omega) (e1.symm.trans e)
      subst et
      exact ⟨ht1, e2⟩
  have loc : ∀ a t s f, a < i → t < z.1 → s < 32 → z.2.2.2.2 t = nI s → f < 3 → P' a = 3 * t + f → ∃ j, j < c ∧ P j = 3 * s + f ∧ ml_c h z.2.2.2.1 P lo P' lo' a j := by
    intro a t s f ha ht hs ec hf e
    obtain ⟨j, hj, cc⟩ := m5 a ha
    rcases cc.1 with ⟨c1, c2⟩ | ⟨c1, t', ht', c2, c3⟩
    · omega
    · have et : t' = t := by omega
      subst et
      have := (gtA _ _ (by omega) ht' c2).2
      have es : s = P j / 3 := ph_inj (by omega) (by omega) (ec.symm.trans this)
      exact ⟨j, hj, by omega, cc⟩
  have unl : ∀ t s f, t < z.1 → s < 32 → z.2.2.2.2 t = nI s → f < 3 → (∀ a, a < i → P' a ≠ 3 * t + f) → ∀ j, j < c → P j ≠ 3 * s + f := by
    intro t s f ht hs ec hf un j hj e
    obtain ⟨s', hs', _, ec', eg'⟩ := i6 t ht
    have es : s' = s := ph_inj (by omega) (by omega) (ec'.symm.trans ec)
    subst es
    have ed : P j / 3 = s' := by omega
    obtain ⟨a, ha, cc⟩ := m6 j hj (Or.inr ⟨t, by omega, by rw [ed]; exact eg'⟩)
    rcases cc.1 with ⟨c1, c2⟩ | ⟨c1, t', ht', c2, c3⟩
    · omega
    · rw [ed, eg'] at c2
      have et : t = t' := ph_inj (by omega) (by omega) c2
      exact un a ha (by omega)
  refine ⟨co_bij B i1 i6, ⟨⟨by omega, by omega, pk_us, m3⟩, i1, m4, s2, fun a ha q => ?_⟩, Y, fun t k hR => ?_, fun t k hR hv => ?_, fun t k hR hv a ha e => ?_, fun r hr => ?_, fun g hg => co_im B b3 i1 i7 (s0 g hg) (G g hg)⟩
  · obtain ⟨j, hj, cc⟩ := m5 a ha
    rcases cc.1 with ⟨c1, c2⟩ | ⟨c1, t', ht', c2, c3⟩
    · omega
    · have := (gtA _ _ (by omega) ht' c2).1
      omega
  · obtain ⟨ht, s, hs, ec, hR⟩ := hR
    obtain ⟨b1, b2⟩ := i8 t s ht hs ec
    obtain ⟨o1, o2, o3, o4⟩ := O s k hR
    have en : nw' t = nw s := by
      rw [s1 t s ht hs ec]
      rcases o3 with e | e
      · rw [e, ph_vb0, if_pos rfl]
      · rw [e, ph_vb1, if_neg ph_10]
    rw [en]
    exact ⟨b1.trans o1, fun f hf => co_im B b3 i1 i7 ((b2 f hf).2 (by omega) hz) (o2 f hf), o3, o4⟩
  · obtain ⟨ht, s, hs, ec, hR⟩ := hR
    obtain ⟨q1, q2, q3⟩ := Q s k hR hv
    refine ⟨fun f hf => ⟨fun a ha e => ?_, fun un => (q1 f hf).2.1 (unl t s f ht hs ec (by omega) un), (q1 f hf).2.2⟩, fun a ha e => ?_, fun un => q3 (unl t s 2 ht hs ec (by omega) un)⟩
    · obtain ⟨j, hj, ej, cc⟩ := loc a t s f ha ht hs ec (by omega) e
      exact co_im B b3 i1 i7 (co_val rfl hz cc (Or.inr (by omega)) (a6 t s ht hs ec j hj (by omega) (by omega) (by omega))) ((q1 f hf).1 j hj ej)
    · obtain ⟨j, hj, ej, cc⟩ := loc a t s 2 ha ht hs ec (by omega) e
      rw [cc.2.2 (by omega) (by omega)]
      exact q2 j hj ej
  · obtain ⟨ht, s, hs, ec, hR⟩ := hR
    obtain ⟨j, hj, ej, cc⟩ := loc a t s (P' a % 3) ha ht hs ec (by omega) (by omega)
    exact N s k hR hv j hj (by omega)
  · obtain ⟨t1, t2, t3, t4⟩ := T r hr
    refine ⟨co_im B b3 i1 i7 (a2 r hr hz) t1, fun a ha e => ?_, fun un => t3 (fun j hj e => ?_), t4⟩
    · obtain ⟨j, hj, cc⟩ := m5 a ha
      rcases cc.1 with ⟨c1, c2⟩ | ⟨c1, t', ht', c2, c3⟩
      · exact co_im B b3 i1 i7 (co_val rfl hz cc (Or.inl c1) (a5 j hj c1)) (t2 j hj (by omega))
      · omega
    · obtain ⟨a, ha, cc⟩ := m6 j hj (Or.inl (by omega))
      rcases cc.1 with ⟨c1, c2⟩ | ⟨c1, t', ht', c2, c3⟩
      · exact un a ha (by omega)
      · omega
theorem co_collect {post : Int32 → SX → Prop} {ar al : Int32} {gt cf nt : Nat → Int32} (H : rl h n c P R fl nu ro lc lp lo rg nw ld yn yt yf yo ys yr yp yg)
    (k : ∀ (A i : Nat) (P' : Nat → Nat) (R' : Nat → Nat → Prop) (fl' nu' ro' lc' lp' lo' rg' nw' ld' gt' cf' nt' : Nat → Int32), rl (1 - h) A i P' R' fl' nu' ro' lc' lp' lo' rg' nw' ld' yn yt yf yo ys yr yp yg → A ≤ 24 → (∀ e : Nat → Int32, (∀ k, k < 24 → (e k ≠ 0 ↔ ph_R (yq_stN yr yp yg) (yq_E yf yo ys 1) k)) → A = yq_c e) → post (nI A) (nI (1 - h), nI A, nI A, nI 32, fl', nu', ro', lc', lp', lo', rg', nw', ld', gt', cf', nt')) :
    wpX_collect post (nI h, nI n, ar, al, fl, nu, ro, lc, lp, lo, rg, nw, ld, gt, cf, nt) := by
  unfold wpX_collect
  refine co_move (L := 32) H (Nat.le_refl _) (fun z ro' lp' lo' i P' a1 a2 a3 a4 a5 a6 m => ?_)
  dsimp only
  have a1' : mv_I h 32 (2 * z.1) z.1 (co_N R yf yo ys yr yp yg) fl nu z.2.1 z.2.2.1 z.2.2.2.1 z.2.2.2.2 := a1
  have hA : z.1 ≤ 24 := co_24 H.1 a1'.1.1 a1'.2.2.2.1
  have hz : z.1 < 32 := by omega
  have hh := H.2.1.1.1
  have hc := H.2.1.1.2.1
  have hm1 := m.1
  refine se_settle (c := i) (P := P') hh ⟨by omega, by omega, pk_us, m.2.2.1⟩ (by omega) (fun t ht => ?_) (fun g hg => a4 g hg hz) (fun rg' nw' ld' nt' s0 s1 s2 => ?_)
  · obtain ⟨s, hs, _, ec, _⟩ := a1'.2.2.2.1 t ht
    exact ⟨s, hs, ec⟩
  · have H1 := co_rel (lc := lc) H a1 a2 a5 a6 m s0 s1 s2
    exact k z.1 i P' _ _ _ _ _ _ _ _ _ _ _ _ _ H1 hA (fun e he => co_cnt H (by omega) a1'.2.2.2.1 (fun k hk => by
      obtain ⟨t, ht, _⟩ := ph_bi (R := fun k t => co_R z.1 z.2.2.2.2 R t k) (rl_sy H1) (rl_Ey H1 1) hk
      exact ⟨t, ht⟩) he)
end
theorem i_vc_collect {k : Nat} {u : SX} {v : SY} (I : i_Rel k u v) (hk : k + 4 ≤ 2048) : wpX_collect (fun r u' => wpY_collect (fun r' v' => r' = r ∧ i_Rel (k + 4) u' v') v) u := by
  refine i_el (Pr := fun u v => wpX_collect (fun r u' => wpY_collect (fun r' v' => r' = r ∧ i_Rel (k + 4) u' v') v) u) I ?_
  intro h n c P R ar al fl nu ro lc lp lo rg nw ld gt cf nt yn yt yf yo ys yr yp yg ye H
  have Y := H.2.2.1
  refine co_collect H (fun A i P' R' fl' nu' ro' lc' lp' lo' rg' nw' ld' gt' cf' nt' H' hA hc => ?_)
  unfold wpY_collect
  dsimp only
  exact yq_need Y.1 Y.2.1 Y.2.2.1 Y.2.2.2.1 Y.2.2.2.2 (fun e he => ⟨congrArg nI (hc e he).symm, i_mk H'⟩)
end
section
/-! part 19: making an object -/
section
variable {h n c : Nat} {P : Nat → Nat} {R : Nat → Nat → Prop} {fl nu ro lc lp lo rg nw ld yn yt yf yo ys yr yp yg : Nat → Int32}
theorem rl_mk (H : rl h n c P R fl nu ro lc lp lo rg nw ld yn yt yf yo ys yr yp yg) {fr : Nat} {x : Int32} (hn : n < 32) (hfr : fr < 24) (hnf : ∀ s, ¬ R s fr) :
    rl h (n + 1) c P (fun s k => R s k ∨ (s = n ∧ k = fr)) (upd (upd fl (2 * (32 * h + n)) (-1)) (2 * (32 * h + n) + 1) (-1)) (upd nu (32 * h + n) x) ro lc lp lo rg (upd nw n 1) ld (upd yn fr x) yt (upd (upd yf (2 * fr) 24) (2 * fr + 1) 24) yo (upd ys fr 0) yr yp yg := by
  obtain ⟨B, L, Y, O, Q, N, T, G⟩ := H
  have mono : ∀ {a b : Int32}, rl_ref R a b → rl_ref (fun s k => R s k ∨ (s = n ∧ k = fr)) a b := fun hr => rl_mono hr (fun s k hR _ => Or.inl hR)
  have nofr : ∀ {a b : Int32}, rl_ref R a b → ∀ t, t < 24 → b = nI t → t ≠ fr := by
    intro a b hr t ht e et
    subst et
    rw [e] at hr
    obtain ⟨s, hs, _⟩ := rl_ry B ht hr
    exact hnf s hs
  have kfr : ∀ s k, R s k → k ≠ fr := fun s k hR e => by subst e; exact hnf s hR
  refine ⟨⟨?_, ?_, ?_⟩, ⟨L.1, by omega, L.2.2.1, L.2.2.2.1, fun j hj q => by have := L.2.2.2.2 j hj q; omega⟩, ⟨yq_ru (yq_ru Y.1 ⟨24, by omega, rfl⟩) ⟨24, by omega, rfl⟩, Y.2⟩, ?_, ?_, ?_, ?_, fun g hg => mono (G g hg)⟩
  · rintro s k (hR | ⟨e1, e2⟩)
    · have := B.1 s k hR
      exact ⟨by omega, this.2⟩
    · exact ⟨by omega, by omega⟩
  · rintro s k k' (hR | ⟨e1, e2⟩) (hR' | ⟨e1', e2'⟩)
    · exact B.2.1 s k k' hR hR'
    · have := (B.1 s k hR).1; omega
    · have := (B.1 s k' hR').1; omega
    · omega
  · rintro s s' k (hR | ⟨e1, e2⟩) (hR' | ⟨e1', e2'⟩)
    · exact B.2.2 s s' k hR hR'
    · exact absurd e2' (kfr s k hR)
    · exact absurd e2 (kfr s' k hR')
    · omega
  · rintro s k (hR | ⟨e1, e2⟩)
    · obtain ⟨o1, o2, o3, o4⟩ := O s k hR
      have hs := (B.1 s k hR).1
      have hk := kfr s k hR
      rw [pk_un (by omega), pk_un hk, pk_un (by omega), pk_un hk]
      refine ⟨o1, fun f hf => ?_, o3, o4⟩
      rw [pk_un (by omega), pk_un (by omega), pk_un (by omega), pk_un (by omega)]
      exact mono (o2 f hf)
    · subst e1 e2
      rw [pk_us, pk_us, pk_us, pk_us]
      refine ⟨rfl, fun f hf => ?_, Or.inr rfl, fun z => absurd z ph_10, fun z => absurd rfl z⟩
      have hf2 : f = 0 ∨ f = 1 := by omega
      rcases hf2 with rfl | rfl
      · rw [pk_un (by omega), ph_us (by omega), pk_un (by omega), ph_us (by omega)]
        exact Or.inl ⟨rfl, rfl⟩
      · rw [pk_us, pk_us]
        exact Or.inl ⟨rfl, rfl⟩
  · rintro s k (hR | ⟨e1, e2⟩) hv
    · have hk := kfr s k hR
      rw [pk_un hk] at hv
      obtain ⟨q1, q2, q3⟩ := Q s k hR hv
      rw [pk_un hk]
      refine ⟨fun f hf => ?_, q2, q3⟩
      obtain ⟨p1, p2, p3⟩ := q1 f hf
      refine ⟨fun j hj e => mono (p1 j hj e), fun un => ?_, fun t ht e => ?_⟩
      · rw [pk_un (by omega), pk_un (by omega)]
        exact p2 un
      · have : t ≠ fr := by
          by_cases hj : ∃ j, j < c ∧ P j = 3 * s + f
          · obtain ⟨j, hj, ej⟩ := hj
            exact nofr (p1 j hj ej) t ht e
          · have e2 := p2 (fun j hj2 ej => hj ⟨j, hj2, ej⟩)
            exact nofr ((O s k hR).2.1 f hf) t ht (e2.symm.trans e)
        rw [pk_un this]
        exact p3 t ht e
    · subst e1 e2
      rw [pk_us] at hv
      exact absurd rfl hv
  · rintro s k (hR | ⟨e1, e2⟩) hv j hj
    · rw [pk_un (kfr s k hR)] at hv
      exact N s k hR hv j hj
    · subst e1 e2
      have := L.2.2.2.2 j hj
      omega
  · intro r hr
    obtain ⟨t1, t2, t3, t4⟩ := T r hr
    refine ⟨mono t1, fun j hj e => mono (t2 j hj e), t3, fun t ht e => ?_⟩
    have : t ≠ fr := by
      by_cases hj : ∃ j, j < c ∧ P j = 96 + r
      · obtain ⟨j, hj, ej⟩ := hj
        exact nofr (t2 j hj ej) t ht e
      · have e2 := t3 (fun j hj2 ej => hj ⟨j, hj2, ej⟩)
        exact nofr t1 t ht (e2.symm.trans e)
    rw [pk_un this]
    exact t4 t ht e
end
theorem ym_free {post : Int32 → SY → Prop} {yn yt yf yo ys yr yp yg ye : Nat → Int32} {g : Nat} {x : Int32} (hg : g < 4) (hc : yq_c ye < 24) (h : ∀ fr, fr < 24 → ye fr = 0 → post 0 (upd yn fr x, yt, upd (upd yf (2 * fr) 24) (2 * fr + 1) 24, yo, upd ys fr 0, yr, yp, upd yg g (nI fr), ye)) : ∃ n, wY_make_28 post (nI g) x yn yt yf yo ys yr yp yg ye n 0 23 := by
  have ex : ∃ f, f < 24 ∧ ye f = 0 := by
    apply Classical.byContradiction
    intro hn
    have al : ∀ k, k < 24 → ye k ≠ 0 := fun k hk z => hn ⟨k, hk, z⟩
    have : ph_cn (fun k => decide (ye k ≠ 0)) 24 = 24 := (ph_cn_congr (q := fun _ => true) (fun k hk => decide_eq_true (al k hk))).trans (ph_cn_true 24)
    have h2 : ph_cn (fun k => decide (ye k ≠ 0)) 24 < 24 := hc
    omega
  rw [show (23 : Int32) = nI 24 - 1 from by decide]
  refine ⟨25, pk_loopD (fun m i (w : Int32) => wY_make_28 post (nI g) x yn yt yf yo ys yr yp yg ye m w (nI i - 1)) (fun i w => i ≤ 24 ∧ ∃ f, f < 24 ∧ w = nI f ∧ (ye f = 0 ∨ ∃ f', f' < i ∧ ye f' = 0)) (fun m w hw => ?_) (fun m i w hw J => ?_) 24 0 ⟨Nat.le_refl _, 0, by omega, rfl, Or.inr ex⟩⟩
  · obtain ⟨_, f, hf, rfl, q⟩ := hw
    have hz : ye f = 0 := q.elim id (fun ⟨_, z, _⟩ => absurd z (Nat.not_lt_zero _))
    refine br_t (by rw [nI_0]; decide) ?_
    rw [ph_2, nI_1, nI_clamp (n := f) (by omega), nI_clamp (n := 2 * f) (by omega), nI_clamp (n := 2 * f + 1) (by omega), nI_clamp (n := g) (by omega), ph_vb0]
    exact ⟨vp_in_nI hf (by decide), nm_e ⟨vp_in_nI (by omega) (by decide), nm_e ⟨vp_in_nI (by omega) (by decide), nm_e ⟨vp_in_nI hf (by decide), nm_e ⟨vp_in_nI hg (by decide), nm_e (h f hf hz)⟩⟩⟩⟩⟩
  · obtain ⟨hi, f, hf, rfl, q⟩ := hw
    have nx : nI i + (-1) = nI i - 1 := (Int32.sub_eq_add_neg _ _).symm
    show wY_make_28 post (nI g) x yn yt yf yo ys yr yp yg ye (m + 1) (nI f) (nI (i + 1) - 1)
    rw [nI_pred]
    have hcl : (nI i).toNatClampNeg = i := nI_clamp (by omega)
    refine br_f (nI_pos (by omega)) ⟨vp_in_nI (by omega) (by decide), ?_⟩
    by_cases z : ye i = 0
    · exact br_t (by rw [hcl]; exact z) (nm_r nx (J (nI i) ⟨by omega, i, by omega, rfl, Or.inl z⟩))
    · refine br_f (by rw [hcl]; exact z) (nm_r nx (J (nI f) ⟨by omega, f, hf, rfl, ?_⟩))
      rcases q with q | ⟨f', hf', q⟩
      · exact Or.inl q
      · have : f' ≠ i := fun e => by subst e; exact z q
        exact Or.inr ⟨f', by omega, q⟩
section
variable {h n c : Nat} {P : Nat → Nat} {R : Nat → Nat → Prop} {ar al : Int32} {fl nu ro lc lp lo rg nw ld gt cf nt yn yt yf yo ys yr yp yg ye : Nat → Int32}
theorem co_mk {j g : Nat} {x : Int32} (H : rl h n c P R fl nu ro lc lp lo rg nw ld yn yt yf yo ys yr yp yg) (hn : n < 32) (hg : g < 4) (hc : ∀ e : Nat → Int32, (∀ k, k < 24 → (e k ≠ 0 ↔ ph_R (yq_stN yr yp yg) (yq_E yf yo ys 1) k)) → yq_c e < 24) :
    wX_make_42 (fun r u' => wpY_make (fun r' v' => r' = r ∧ i_Rel j u' v') (yn, yt, yf, yo, ys, yr, yp, yg, ye) (nI g) x) (nI g) x (nI h) (nI n) ar al fl nu ro lc lp lo rg nw ld gt cf nt := by
  have hh := H.2.1.1.1
  have Y := H.2.2.1
  unfold wX_make_42
  refine nm_r (nI_1 n) ?_
  rw [ph_sl, ph_2, nI_1 (2 * (32 * h + n)), nI_clamp (n := 32 * h + n) (by omega), nI_clamp (n := 2 * (32 * h + n)) (by omega), nI_clamp (n := 2 * (32 * h + n) + 1) (by omega), nI_clamp (n := n) (by omega), nI_clamp (n := g) (by omega), ph_nm1, ph_vb1, ph_nbi (n := n) (by omega)]
  refine ⟨vp_in_nI (by omega) (by decide), nm_e ⟨vp_in_nI (by omega) (by decide), nm_e ⟨vp_in_nI (by omega) (by decide), nm_e ⟨vp_in_nI hn (by decide), nm_e ⟨vp_in_nI hg (by decide), nm_e ?_⟩⟩⟩⟩⟩
  unfold wpY_make
  dsimp only
  refine yb_reg1 hg (br_f ph_10 (yq_need Y.1 Y.2.1 Y.2.2.1 Y.2.2.2.1 Y.2.2.2.2 (fun e he => ?_)))
  dsimp only
  have hce := hc e he
  refine br_f (fun z => absurd (ph_inj (a := yq_c e) (b := 24) (by omega) (by omega) z) (by omega)) (ym_free hg hce (fun fr hfr hz => ⟨rfl, ?_⟩))
  have H1 := rl_res (D := ph_R (yq_stN yr yp yg) (yq_E yf yo ys 1)) (n' := n) H H.2.1.2.1 (fun s k hR _ => (H.1.1 s k hR).1) H.2.1.2.2.2.2 (fun k hk => ph_R_st hk) (fun s k k' hR hD hE => ph_R_E hD hE)
  have H2 := rl_mk (x := x) H1 hn hfr (fun s hs => absurd hz ((he fr hfr).mpr hs.2))
  exact i_mk (rl_wg H2 (Or.inr ⟨n, fr, Or.inr ⟨rfl, rfl⟩, rfl, rfl⟩))
end
theorem i_vc_make {k : Nat} {u : SX} {v : SY} (I : i_Rel k u v) (hk : k + 4 ≤ 2048) (v1 : Int32) (v2 : Int32) : wpX_make (fun r u' => wpY_make (fun r' v' => r' = r ∧ i_Rel (k + 4) u' v') v v1 v2) u v1 v2 := by
  refine i_el (Pr := fun u v => wpX_make (fun r u' => wpY_make (fun r' v' => r' = r ∧ i_Rel (k + 4) u' v') v v1 v2) u v1 v2) I ?_
  intro h n c P R ar al fl nu ro lc lp lo rg nw ld gt cf nt yn yt yf yo ys yr yp yg ye H
  have Y := H.2.2.1
  have hn := H.2.1.2.1
  unfold wpX_make
  dsimp only
  rcases ph_reg 3 (by omega) v1 with ⟨g, hg, rfl⟩ | hb
  · refine xb_reg1 hg (br_f ph_10 (rl_xNeed H (fun S hS => xq_count ?_)))
    have cnt : ∀ e : Nat → Int32, (∀ k, k < 24 → (e k ≠ 0 ↔ ph_R (yq_stN yr yp yg) (yq_E yf yo ys 1) k)) → ph_cn (bt S) 32 = yq_c e := fun e he => rl_cnt H 1 (rl_sx H) (rl_sy H) hS he
    have le32 := ph_cn_le (bt S) 32
    refine pk_lt (ph_cn (bt S) 32) 24 (fun z => ?_) (fun z => ?_)
    · have hc : ∀ e : Nat → Int32, (∀ k, k < 24 → (e k ≠ 0 ↔ ph_R (yq_stN yr yp yg) (yq_E yf yo ys 1) k)) → yq_c e < 24 := fun e he => by rw [← cnt e he]; exact z
      refine pk_eq n 32 (fun _ => ?_) (fun zn => co_mk H (by omega) hg hc)
      refine co_collect H (fun A i P' R' fl' nu' ro' lc' lp' lo' rg' nw' ld' gt' cf' nt' H' hA hc' => ?_)
      dsimp only
      exact co_mk H' (by omega) hg hc
    · unfold wpY_make
      dsimp only
      refine yb_reg1 hg (br_f ph_10 (yq_need Y.1 Y.2.1 Y.2.2.1 Y.2.2.2.1 Y.2.2.2.2 (fun e he => ?_)))
      dsimp only
      have e1 := cnt e he
      have e2 : yq_c e ≤ 24 := ph_cn_le _ 24
      exact br_t (by rw [show yq_c e = 24 from by omega]; rfl) ⟨rfl, i_mk H⟩
  · unfold wpY_make
    exact xb_reg0 hb (br_t rfl (yb_reg0 hb (br_t rfl ⟨rfl, i_mk H⟩)))
end
section
/-! part 20: a crash amid a collection; the constructors -/
section
variable {h n c : Nat} {P : Nat → Nat} {R : Nat → Nat → Prop} {fl nu ro lc lp lo rg nw ld yn yt yf yo ys yr yp yg : Nat → Int32}
theorem rl_cg (H : rl h n c P R fl nu ro lc lp lo rg nw ld yn yt yf yo ys yr yp yg) {fl' nu' ro' lc' lp' lo' : Nat → Int32} (e1 : ∀ j, 64 * h ≤ j → j < 64 * h + 64 → fl' j = fl j) (e2 : ∀ j, 32 * h ≤ j → j < 32 * h + 32 → nu' j = nu j) (e3 : ∀ r, r < 3 → ro' (3 * h + r) = ro (3 * h + r)) (e4 : lc' h = lc h) (e5 : ∀ q, 99 * h ≤ q → q < 99 * h + 99 → lp' q = lp q ∧ lo' q = lo q) :
    rl h n c P R fl' nu' ro' lc' lp' lo' rg nw ld yn yt yf yo ys yr yp yg := by
  obtain ⟨B, L, Y, O, Q, N, T, G⟩ := H
  have b3 := L.2.1
  have hc := L.1.2.1
  refine ⟨B, ⟨⟨L.1.1, hc, by rw [e4]; exact L.1.2.2.1, fun j hj => by rw [(e5 (99 * h + j) (by omega) (by omega)).1]; exact L.1.2.2.2 j hj⟩, L.2⟩, Y, fun s k hR => ?_, fun s k hR hv => ?_, N, fun r hr => ?_, G⟩
  · obtain ⟨o1, o2, o3⟩ := O s k hR
    have hs := (B.1 s k hR).1
    refine ⟨by rw [e2 _ (by omega) (by omega)]; exact o1, fun f hf => ?_, o3⟩
    rw [e1 _ (by omega) (by omega)]
    exact o2 f hf
  · obtain ⟨q1, q2, q3⟩ := Q s k hR hv
    refine ⟨fun f hf => ⟨fun j hj e => ?_, (q1 f hf).2⟩, fun j hj e => ?_, q3⟩
    · rw [(e5 (99 * h + j) (by omega) (by omega)).2]
      exact (q1 f hf).1 j hj e
    · rw [(e5 (99 * h + j) (by omega) (by omega)).2]
      exact q2 j hj e
  · obtain ⟨t1, t2, t3⟩ := T r hr
    refine ⟨by rw [e3 r hr]; exact t1, fun j hj e => ?_, t3⟩
    rw [(e5 (99 * h + j) (by omega) (by omega)).2]
    exact t2 j hj e
theorem co_crash {post : Int32 → SX → Prop} {ar al : Int32} {gt cf nt : Nat → Int32} {L : Nat} (hLL : L ≤ 32) (H : rl h n c P R fl nu ro lc lp lo rg nw ld yn yt yf yo ys yr yp yg)
    (k : ∀ (r : Int32) (u' : SX), (∀ (j : Nat) (ye : Nat → Int32), ∃ m, wY_crash_23 (fun r' v' => r' = r ∧ i_Rel j u' v') m 0 yn yt yf yo ys yr yp yg ye) → post r u') :
    wX_collectAndCrash_21 post (nI L) (nI h) (nI n) ar al fl nu ro lc lp lo rg nw ld gt cf nt := by
  unfold wX_collectAndCrash_21
  refine co_move H hLL (fun z ro' lp' lo' i P' a1 a2 a3 a4 a5 a6 m => ?_)
  have a1' : mv_I h L (2 * z.1) z.1 (co_N R yf yo ys yr yp yg) fl nu z.2.1 z.2.2.1 z.2.2.2.1 z.2.2.2.2 := a1
  have hh := H.2.1.1.1
  have H1 : rl h n c P R z.2.1 z.2.2.1 ro' (upd lc (1 - h) (nI i)) lp' lo' rg nw ld yn yt yf yo ys yr yp yg := rl_cg H a1'.2.1 a1'.2.2.1 a3 (pk_un (by omega)) m.2.1
  exact xs_crash (post := post) H1 (fun r u' K => k r u' (fun j ye => K j _ _ _ _ _ _ _ _ _ _ _ _ _ ye H1))
end
theorem i_vc_collectAndCrash {k : Nat} {u : SX} {v : SY} (I : i_Rel k u v) (hk : k + 4 ≤ 2048) (v1 : Int32) : wpX_collectAndCrash (fun r u' => wpY_collectAndCrash (fun r' v' => r' = r ∧ i_Rel (k + 4) u' v') v v1) u v1 := by
  refine i_el (Pr := fun u v => wpX_collectAndCrash (fun r u' => wpY_collectAndCrash (fun r' v' => r' = r ∧ i_Rel (k + 4) u' v') v v1) u v1) I ?_
  intro h n c P R ar al fl nu ro lc lp lo rg nw ld gt cf nt yn yt yf yo ys yr yp yg ye H
  have key : ∀ L : Nat, L ≤ 32 → wX_collectAndCrash_21 (fun r u' => wpY_collectAndCrash (fun r' v' => r' = r ∧ i_Rel (k + 4) u' v') (yn, yt, yf, yo, ys, yr, yp, yg, ye) v1) (nI L) (nI h) (nI n) ar al fl nu ro lc lp lo rg nw ld gt cf nt := by
    intro L hL
    refine co_crash hL H (fun r u' K => ?_)
    unfold wpY_collectAndCrash wpY_crash
    dsimp only
    exact br_f (by decide) (br_t (by decide) (br_f (by decide) (K (k + 4) ye)))
  unfold wpX_collectAndCrash
  dsimp only
  by_cases h0 : 0 ≤ v1
  · refine br_t h0 ?_
    by_cases h24 : v1 ≤ 24
    · obtain ⟨L, hL, rfl⟩ := nI_of2 (M := 24) (n := 24) (by decide) (Int32.not_lt.mpr h0) h24
      exact br_t h24 (key L (by omega))
    · exact br_f h24 (key 24 (by omega))
  · exact br_f h0 (key 0 (by omega))
theorem i_vc0 : wpX_init (fun u => wpY_init (fun v => i_Rel 0 u v)) := by
  unfold wpX_init
  refine loop_0 (fun m i e => wX_init_103 (fun u => wpY_init (fun v => i_Rel 0 u v)) 0 0 0 0 m (nI i) (fun _ => 0) (fun _ => 0) e (fun _ => 0) (fun _ => 0) (fun _ => 0) (fun _ => 0) (fun _ => 0) (fun _ => 0) (fun _ => 0) (fun _ => 0) (fun _ => 0)) (fun i e => ∀ r, r < i → e r = -1) 6 (fun _ => 0) (fun p hp => absurd hp (Nat.not_lt_zero _)) (fun m ro hro => ?_) (fun m i e hi he J => ?_)
  · refine pk_le 6 6 (fun _ => ?_) (fun z => absurd z (Nat.lt_irrefl _))
    refine loop_0 (fun m i e => wX_init_124 (fun u => wpY_init (fun v => i_Rel 0 u v)) 0 0 0 0 m (nI i) (fun _ => 0) (fun _ => 0) ro (fun _ => 0) (fun _ => 0) (fun _ => 0) e (fun _ => 0) (fun _ => 0) (fun _ => 0) (fun _ => 0) (fun _ => 0)) (fun i e => ∀ r, r < i → e r = -1) 4 (fun _ => 0) (fun p hp => absurd hp (Nat.not_lt_zero _)) (fun m rg hrg => ?_) (fun m i e hi he J => ?_)
    · refine pk_le 4 4 (fun _ => ?_) (fun z => absurd z (Nat.lt_irrefl _))
      unfold wpY_init
      refine loop_0 (fun m i e => wY_init_75 (fun v => i_Rel 0 (0, 0, 0, 0, (fun _ => 0), (fun _ => 0), ro, (fun _ => 0), (fun _ => 0), (fun _ => 0), rg, (fun _ => 0), (fun _ => 0), (fun _ => 0), (fun _ => 0), (fun _ => 0)) v) m (nI i) (fun _ => 0) (fun _ => 0) (fun _ => 0) (fun _ => 0) (fun _ => 0) e (fun _ => 0) (fun _ => 0) (fun _ => 0)) (fun i e => ∀ r, r < i → e r = 24) 3 (fun _ => 0) (fun p hp => absurd hp (Nat.not_lt_zero _)) (fun m yr hyr => ?_) (fun m i e hi he J => ?_)
      · refine pk_le 3 3 (fun _ => ?_) (fun z => absurd z (Nat.lt_irrefl _))
        refine loop_0 (fun m i e => wY_init_96 (fun v => i_Rel 0 (0, 0, 0, 0, (fun _ => 0), (fun _ => 0), ro, (fun _ => 0), (fun _ => 0), (fun _ => 0), rg, (fun _ => 0), (fun _ => 0), (fun _ => 0), (fun _ => 0), (fun _ => 0)) v) m (nI i) (fun _ => 0) (fun _ => 0) (fun _ => 0) (fun _ => 0) (fun _ => 0) yr e (fun _ => 0) (fun _ => 0)) (fun i e => ∀ r, r < i → e r = 24) 3 (fun _ => 0) (fun p hp => absurd hp (Nat.not_lt_zero _)) (fun m yp hyp => ?_) (fun m i e hi he J => ?_)
        · refine pk_le 3 3 (fun _ => ?_) (fun z => absurd z (Nat.lt_irrefl _))
          refine loop_0 (fun m i e => wY_init_117 (fun v => i_Rel 0 (0, 0, 0, 0, (fun _ => 0), (fun _ => 0), ro, (fun _ => 0), (fun _ => 0), (fun _ => 0), rg, (fun _ => 0), (fun _ => 0), (fun _ => 0), (fun _ => 0), (fun _ => 0)) v) m (nI i) (fun _ => 0) (fun _ => 0) (fun _ => 0) (fun _ => 0) (fun _ => 0) yr yp e (fun _ => 0)) (fun i e => ∀ r, r < i → e r = 24) 4 (fun _ => 0) (fun p hp => absurd hp (Nat.not_lt_zero _)) (fun m yg hyg => ?_) (fun m i e hi he J => ?_)
          · refine pk_le 4 4 (fun _ => ?_) (fun z => absurd z (Nat.lt_irrefl _))
            refine loop_0 (fun m i e => wY_init_138 (fun v => i_Rel 0 (0, 0, 0, 0, (fun _ => 0), (fun _ => 0), ro, (fun _ => 0), (fun _ => 0), (fun _ => 0), rg, (fun _ => 0), (fun _ => 0), (fun _ => 0), (fun _ => 0), (fun _ => 0)) v) m (nI i) (fun _ => 0) (fun _ => 0) e (fun _ => 0) (fun _ => 0) yr yp yg (fun _ => 0)) (fun i e => ∀ r, r < i → e r = 24) 48 (fun _ => 0) (fun p hp => absurd hp (Nat.not_lt_zero _)) (fun m yf hyf => ?_) (fun m i e hi he J => ?_)
            · refine pk_le 48 48 (fun _ => ?_) (fun z => absurd z (Nat.lt_irrefl _))
              refine loop_0 (fun m i e => wY_init_160 (fun v => i_Rel 0 (0, 0, 0, 0, (fun _ => 0), (fun _ => 0), ro, (fun _ => 0), (fun _ => 0), (fun _ => 0), rg, (fun _ => 0), (fun _ => 0), (fun _ => 0), (fun _ => 0), (fun _ => 0)) v) m (nI i) (fun _ => 0) (fun _ => 0) yf e (fun _ => 0) yr yp yg (fun _ => 0)) (fun i e => ∀ r, r < i → e r = 24) 48 (fun _ => 0) (fun p hp => absurd hp (Nat.not_lt_zero _)) (fun m yo hyo => ?_) (fun m i e hi he J => ?_)
              · refine pk_le 48 48 (fun _ => ?_) (fun z => absurd z (Nat.lt_irrefl _))
                refine ⟨0, 0, 0, (fun _ => 0), (fun _ _ => False), rfl, rfl, ⟨fun _ _ z => z.elim, fun _ _ _ z => z.elim, fun _ _ _ z => z.elim⟩, ⟨⟨by omega, by omega, rfl, fun j hj => absurd hj (Nat.not_lt_zero _)⟩, by omega, fun i j hi => absurd hi (Nat.not_lt_zero _), fun p hp => ⟨fun z => absurd rfl z, fun ⟨j, hj, _⟩ => absurd hj (Nat.not_lt_zero _)⟩, fun j hj => absurd hj (Nat.not_lt_zero _)⟩, ⟨fun i hi => ⟨24, by omega, hyf i hi⟩, fun i hi => ⟨24, by omega, hyo i hi⟩, fun i hi => ⟨24, by omega, hyr i hi⟩, fun i hi => ⟨24, by omega, hyp i hi⟩, fun i hi => ⟨24, by omega, hyg i hi⟩⟩, fun _ _ z => z.elim, fun _ _ z => z.elim, fun _ _ z => z.elim, fun r hr => ⟨Or.inl ⟨hro _ (by omega), hyr r hr⟩, fun j hj => absurd hj (Nat.not_lt_zero _), fun _ => (hyp r hr).trans (hyr r hr).symm, fun t ht e => ?_⟩, fun g hg => Or.inl ⟨hrg g hg, hyg g hg⟩⟩
                rw [hyp r hr] at e
                exact absurd (ph_inj (a := 24) (b := t) (by omega) (by omega) e) (by omega)
              · refine pk_le 48 i (fun z => absurd z (by omega)) (fun _ => ⟨vp_in_nI hi (by decide), nm_r (e' := upd e i 24) (by rw [nI_clamp (by omega)]) (nm_r (nI_1 i) (J _ (fun p hp => ?_)))⟩)
                by_cases c : p = i
                · exact ph_us c
                · rw [pk_un c]; exact he p (by omega)
            · refine pk_le 48 i (fun z => absurd z (by omega)) (fun _ => ⟨vp_in_nI hi (by decide), nm_r (e' := upd e i 24) (by rw [nI_clamp (by omega)]) (nm_r (nI_1 i) (J _ (fun p hp => ?_)))⟩)
              by_cases c : p = i
              · exact ph_us c
              · rw [pk_un c]; exact he p (by omega)
          · refine pk_le 4 i (fun z => absurd z (by omega)) (fun _ => ⟨vp_in_nI hi (by decide), nm_r (e' := upd e i 24) (by rw [nI_clamp (by omega)]) (nm_r (nI_1 i) (J _ (fun p hp => ?_)))⟩)
            by_cases c : p = i
            · exact ph_us c
            · rw [pk_un c]; exact he p (by omega)
        · refine pk_le 3 i (fun z => absurd z (by omega)) (fun _ => ⟨vp_in_nI hi (by decide), nm_r (e' := upd e i 24) (by rw [nI_clamp (by omega)]) (nm_r (nI_1 i) (J _ (fun p hp => ?_)))⟩)
          by_cases c : p = i
          · exact ph_us c
          · rw [pk_un c]; exact he p (by omega)
      · refine pk_le 3 i (fun z => absurd z (by omega)) (fun _ => ⟨vp_in_nI hi (by decide), nm_r (e' := upd e i 24) (by rw [nI_clamp (by omega)]) (nm_r (nI_1 i) (J _ (fun p hp => ?_)))⟩)
        by_cases c : p = i
        · exact ph_us c
        · rw [pk_un c]; exact he p (by omega)
    · refine pk_le 4 i (fun z => absurd z (by omega)) (fun _ => ⟨vp_in_nI hi (by decide), nm_r (e' := upd e i (-1)) (by rw [nI_clamp (by omega), ph_nm1]) (nm_r (nI_1 i) (J _ (fun p hp => ?_)))⟩)
      by_cases c : p = i
      · exact ph_us c
      · rw [pk_un c]; exact he p (by omega)
  · refine pk_le 6 i (fun z => absurd z (by omega)) (fun _ => ⟨vp_in_nI hi (by decide), nm_r (e' := upd e i (-1)) (by rw [nI_clamp (by omega), ph_nm1]) (nm_r (nI_1 i) (J _ (fun p hp => ?_)))⟩)
    by_cases c : p = i
    · exact ph_us c
    · rw [pk_un c]; exact he p (by omega)
end
