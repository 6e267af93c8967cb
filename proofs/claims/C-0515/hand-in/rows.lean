section
/-! numbers, stores -/
theorem pk_us {f : Nat → Int32} {k : Nat} {x : Int32} : upd f k x k = x := if_pos rfl
theorem pk_un {f : Nat → Int32} {k j : Nat} {x : Int32} (h : j ≠ k) : upd f k x j = f j := if_neg h
theorem pk_sub {a b : Nat} (h : b ≤ a) : nI a - nI b = nI (a - b) := by
  obtain ⟨c, rfl⟩ : ∃ c, a = c + b := ⟨a - b, by omega⟩
  rw [← nI_add, Int32.add_sub_cancel, Nat.add_sub_cancel]
theorem pk_m1 (n : Nat) : nI (n + 1) + (-1) = nI n := by
  rw [← nI_1, Int32.add_assoc, show (1 : Int32) + (-1) = 0 from rfl, Int32.add_zero]
theorem pk_mul (a b : Nat) : nI a * nI b = nI (a * b) := (Int32.ofNat_mul a b).symm
theorem pk_div {a d : Nat} (ha : a < 2 ^ 31) (h0 : 0 < d) (hd : d < 2 ^ 31) : nI a / nI d = nI (a / d) := by
  apply Int32.toInt_inj.mp
  rw [lg_idiv_nonneg (by rw [nI_toInt ha]; omega) (by rw [nI_toInt hd]; omega), nI_toInt ha, nI_toInt hd, nI_toInt (Nat.lt_of_le_of_lt (Nat.div_le_self a d) ha)]
  first | rfl | exact (Int.natCast_ediv _ _).symm
theorem pk_le {x y : Int32} {A B : Prop} (a b : Nat) (f : a ≤ b → A) (g : b < a → B) (hx : x = nI a := by rfl) (hy : y = nI b := by rfl) (ha : a < 2 ^ 31 := by omega) (hb : b < 2 ^ 31 := by omega) : (x ≤ y → A) ∧ (¬ x ≤ y → B) := by
  subst hx hy
  rw [nI_leI ha hb]
  exact ⟨f, fun z => g (by omega)⟩
theorem pk_lt {x y : Int32} {A B : Prop} (a b : Nat) (f : a < b → A) (g : b ≤ a → B) (hx : x = nI a := by rfl) (hy : y = nI b := by rfl) (ha : a < 2 ^ 31 := by omega) (hb : b < 2 ^ 31 := by omega) : (x < y → A) ∧ (¬ x < y → B) := by
  subst hx hy
  rw [nI_ltI ha hb]
  exact ⟨f, fun z => g (by omega)⟩
theorem pk_eq {x y : Int32} {A B : Prop} (a b : Nat) (f : a = b → A) (g : a ≠ b → B) (hx : x = nI a := by rfl) (hy : y = nI b := by rfl) (ha : a < 2 ^ 31 := by omega) (hb : b < 2 ^ 31 := by omega) : (x = y → A) ∧ (¬ x = y → B) := by
  subst hx hy
  rw [nI_eq ha hb]
  exact ⟨f, g⟩
theorem pk_tn {n : Nat} (h : n < 2 ^ 32) : (nI n).toBitVec.toNat = n := Nat.mod_eq_of_lt h
theorem pk_and (x : Int32) {m : Int32} (k : Nat) (hm : m.toBitVec.toNat = 2 ^ k - 1) : x &&& m = nI (x.toBitVec.toNat % 2 ^ k) := by
  apply Int32.toBitVec_inj.mp
  apply BitVec.eq_of_toNat_eq
  rw [Int32.toBitVec_and, BitVec.toNat_and, hm, Nat.and_two_pow_sub_one_eq_mod]
  show _ = (BitVec.ofNat 32 _).toNat
  rw [BitVec.toNat_ofNat]
  exact (Nat.mod_eq_of_lt (Nat.lt_of_le_of_lt (Nat.mod_le _ _) x.toBitVec.isLt)).symm
theorem pk_andN {n : Nat} (h : n < 2 ^ 32) {m : Int32} (k : Nat) (hm : m.toBitVec.toNat = 2 ^ k - 1) : nI n &&& m = nI (n % 2 ^ k) := by
  rw [pk_and _ k hm, pk_tn h]
theorem pk_andE (x : Int32) {m : Int32} (k : Nat) (hm : m.toBitVec.toNat = 2 ^ k - 1) : ∃ j : Nat, j < 2 ^ k ∧ x &&& m = nI j := ⟨_, Nat.mod_lt _ (Nat.two_pow_pos k), pk_and x k hm⟩
theorem pk_least (P : Nat → Prop) (h : ∃ k, P k) : ∃ k, P k ∧ ∀ j, j < k → ¬ P j := by
  obtain ⟨k, hk⟩ := h
  induction k using Nat.strongRecOn with
  | _ k ih =>
    by_cases z : ∃ j, j < k ∧ P j
    · obtain ⟨j, hj, pj⟩ := z
      exact ih j hj pj
    · exact ⟨k, hk, fun j hj pj => z ⟨j, hj, pj⟩⟩
theorem pk_sub_toInt {a b : Nat} (ha : a < 2 ^ 30) (hb : b < 2 ^ 30) : (nI a - nI b).toInt = (a : Int) - b := by
  rw [Int32.toInt_sub, nI_toInt (by omega), nI_toInt (by omega)]
  exact Int.bmod_eq_of_le (by omega) (by omega)
theorem pk_sneg {a b : Nat} (hb : b < 2 ^ 30) (h : a < b) : nI a - nI b < 0 := by
  rw [Int32.lt_iff_toInt_lt, pk_sub_toInt (by omega) hb, show (0 : Int32).toInt = 0 from by decide]
  omega
/-! bits -/
def bt (x : Int32) (i : Nat) : Bool := x.toBitVec.getLsbD i
theorem b_ext {x y : Int32} (h : ∀ i, i < 32 → bt x i = bt y i) : x = y := Int32.toBitVec_inj.mp (BitVec.eq_of_getLsbD_eq (fun i hi => h i hi))
theorem b_or (x y : Int32) (i : Nat) : bt (x ||| y) i = (bt x i || bt y i) := by unfold bt; rw [Int32.toBitVec_or, BitVec.getLsbD_or]
theorem b_and (x y : Int32) (i : Nat) : bt (x &&& y) i = (bt x i && bt y i) := by unfold bt; rw [Int32.toBitVec_and, BitVec.getLsbD_and]
theorem b_xor (x y : Int32) (i : Nat) : bt (x ^^^ y) i = (bt x i ^^ bt y i) := by unfold bt; rw [Int32.toBitVec_xor, BitVec.getLsbD_xor]
theorem b_big {x : Int32} {i : Nat} (h : 32 ≤ i) : bt x i = false := BitVec.getLsbD_of_ge _ _ h
theorem b_255 (i : Nat) : bt 255 i = decide (i < 8) := by
  rcases Nat.lt_or_ge i 32 with h | h
  · exact (by decide +kernel : ∀ i, i < 32 → bt 255 i = decide (i < 8)) i h
  · rw [b_big h, decide_eq_false (by omega)]
theorem b_m1 : ∀ i, i < 32 → bt (-1) i = true := by decide +kernel
theorem b_0 (i : Nat) : bt 0 i = false := BitVec.getLsbD_zero
theorem nf_sh : ∀ l, l < 32 → ((1 : Int32) <<< (nI l &&& 31)).toBitVec = BitVec.twoPow 32 l := by decide +kernel
theorem nf_sl : ∀ l, l < 32 → (((nI l).toUInt32 &&& Int32.toUInt32 31).toBitVec % 32).toNat = l := by decide +kernel
theorem nf_tp : ∀ l, l < 32 → BitVec.twoPow 32 l ≠ 0#32 := by decide +kernel
theorem nf_bit (m : Int32) (l : Nat) (hl : l < 32) : ((m.toUInt32 >>> ((nI l).toUInt32 &&& Int32.toUInt32 31)).toInt32 &&& 1) = 0 ↔ (m &&& ((1 : Int32) <<< (nI l &&& 31))) = 0 := by
  have e : ((m.toUInt32 >>> ((nI l).toUInt32 &&& Int32.toUInt32 31)).toInt32).toBitVec = m.toBitVec >>> l := by
    show m.toBitVec >>> (((nI l).toUInt32 &&& Int32.toUInt32 31).toBitVec % 32) = m.toBitVec >>> l
    rw [BitVec.ushiftRight_eq', nf_sl l hl]
  rw [← Int32.toBitVec_inj, ← Int32.toBitVec_inj, Int32.toBitVec_and, Int32.toBitVec_and, nf_sh l hl, e, BitVec.and_twoPow]
  show (m.toBitVec >>> l &&& 1#32) = 0#32 ↔ _ = 0#32
  rw [BitVec.and_one_eq_setWidth_ofBool_getLsbD, BitVec.getLsbD_ushiftRight, Nat.add_zero]
  cases hb : m.toBitVec.getLsbD l
  · exact ⟨fun _ => by simp, fun _ => by decide⟩
  · exact ⟨fun z => absurd z (by decide), fun z => absurd ((if_pos rfl).symm.trans z) (nf_tp l hl)⟩
/-- one bit of a word: tested by a shifted one -/
theorem ap_b1 (m : Int32) (l : Nat) (hl : l < 32) : (m &&& ((1 : Int32) <<< (nI l &&& 31))) = 0 ↔ bt m l = false := by
  unfold bt
  rw [← Int32.toBitVec_inj, Int32.toBitVec_and, nf_sh l hl, BitVec.and_twoPow]
  show _ = 0#32 ↔ _
  cases hb : m.toBitVec.getLsbD l
  · exact ⟨fun _ => rfl, fun _ => by simp⟩
  · exact ⟨fun z => absurd ((if_pos rfl).symm.trans z) (nf_tp l hl), fun z => absurd z (by decide)⟩
theorem ap_bu (m : Int32) (l : Nat) (hl : l < 32) : ((m.toUInt32 >>> ((nI l).toUInt32 &&& Int32.toUInt32 31)).toInt32 &&& 1) = 0 ↔ bt m l = false :=
  (nf_bit m l hl).trans (ap_b1 m l hl)
theorem ap_255 (x : Int32) : ∃ n, n < 256 ∧ x &&& 255 = nI n := pk_andE x 8 (by decide)
theorem ap_n255 {n : Nat} (h : n < 256) : nI n &&& 255 = nI n := by
  rw [pk_andN (by omega) 8 (by decide)]
  exact congrArg nI (Nat.mod_eq_of_lt h)
theorem ap_hi {n i : Nat} (h : n < 256) (hi : 8 ≤ i) : bt (nI n) i = false := by
  have e := congrArg (fun z => bt z i) (ap_n255 h)
  simp only [b_and, b_255, decide_eq_false (show ¬ i < 8 by omega), Bool.and_false] at e
  exact e.symm
/-- the two afters are one number below 256 -/
theorem ap_low {s a : Nat} (hs : s < 256) (ha : a < 256) (y : Int32) : ((nI s &&& y) ||| nI a) &&& 255 = (nI s &&& y) ||| nI a := by
  apply b_ext
  intro i _
  rw [b_and, b_or, b_and, b_255]
  by_cases h : i < 8
  · rw [decide_eq_true h, Bool.and_true]
  · rw [decide_eq_false h, ap_hi hs (by omega), ap_hi ha (by omega)]; rfl
/-! counting -/
def ap_cn (p : Nat → Bool) : Nat → Nat
  | 0 => 0
  | n + 1 => ap_cn p n + (if p n = true then 1 else 0)
theorem cn_s (p : Nat → Bool) (n : Nat) : ap_cn p (n + 1) = ap_cn p n + (if p n = true then 1 else 0) := rfl
theorem cn_t {p : Nat → Bool} {n : Nat} (h : p n = true) : ap_cn p (n + 1) = ap_cn p n + 1 := by rw [cn_s, if_pos h]
theorem cn_f {p : Nat → Bool} {n : Nat} (h : ¬ p n = true) : ap_cn p (n + 1) = ap_cn p n := by rw [cn_s, if_neg h]; rfl
theorem cn_le (p : Nat → Bool) : ∀ n, ap_cn p n ≤ n := by
  intro n
  induction n with
  | zero => exact Nat.le_refl _
  | succ n ih => rw [cn_s]; split <;> omega
theorem cn_mono {p q : Nat → Bool} : ∀ n, (∀ x, x < n → p x = true → q x = true) → ap_cn p n ≤ ap_cn q n := by
  intro n
  induction n with
  | zero => intro _; exact Nat.le_refl _
  | succ n ih =>
    intro h
    have i := ih fun x hx => h x (by omega)
    by_cases z : p n = true
    · rw [cn_t z, cn_t (h n (by omega) z)]; omega
    · rw [cn_f z, cn_s]; omega
theorem cn_eq {p q : Nat → Bool} {n : Nat} (h : ∀ x, x < n → (p x = true ↔ q x = true)) : ap_cn p n = ap_cn q n :=
  Nat.le_antisymm (cn_mono n fun x hx => (h x hx).1) (cn_mono n fun x hx => (h x hx).2)
theorem cn_upd {p q : Nat → Bool} {y : Nat} (hp : ¬ p y = true) (hq : q y = true) : ∀ n, y < n → (∀ x, x < n → x ≠ y → (p x = true ↔ q x = true)) → ap_cn q n = ap_cn p n + 1 := by
  intro n
  induction n with
  | zero => intro h; omega
  | succ n ih =>
    intro h e
    by_cases z : y = n
    · subst z
      rw [cn_t hq, cn_f hp, cn_eq fun x hx => e x (by omega) (by omega)]
    · have i := ih (by omega) fun x hx => e x (by omega)
      have en := e n (by omega) (by omega)
      by_cases u : p n = true
      · rw [cn_t u, cn_t (en.1 u)]; omega
      · rw [cn_f u, cn_f (fun v => u (en.2 v))]; omega
theorem cn_lt {p q : Nat → Bool} {y : Nat} (hp : ¬ p y = true) (hq : q y = true) : ∀ n, y < n → (∀ x, x < n → p x = true → q x = true) → ap_cn p n < ap_cn q n := by
  intro n
  induction n with
  | zero => intro h; omega
  | succ n ih =>
    intro h e
    have m := cn_mono n fun x hx => e x (by omega)
    by_cases z : y = n
    · subst z
      rw [cn_t hq, cn_f hp]; omega
    · have i := ih (by omega) fun x hx => e x (by omega)
      by_cases u : p n = true
      · rw [cn_t u, cn_t (e n (by omega) u)]; omega
      · rw [cn_f u, cn_s]; omega
theorem cn_all {p : Nat → Bool} : ∀ n, n ≤ ap_cn p n → ∀ x, x < n → p x = true := by
  intro n
  induction n with
  | zero => intro _ x hx; omega
  | succ n ih =>
    intro h x hx
    have l := cn_le p n
    by_cases u : p n = true
    · rw [cn_t u] at h
      by_cases z : x = n
      · rw [z]; exact u
      · exact ih (by omega) x (by omega)
    · rw [cn_f u] at h; omega
theorem cn_zero {p : Nat → Bool} : ∀ n, (∀ x, x < n → ¬ p x = true) → ap_cn p n = 0 := by
  intro n
  induction n with
  | zero => intro _; rfl
  | succ n ih => intro h; rw [cn_f (h n (by omega))]; exact ih fun x hx => h x (by omega)
def ap_pm (f : Nat → Nat) : Nat → Nat → Bool
  | 0, _ => false
  | j + 1, x => ap_pm f j x || decide (f j = x)
theorem pm_in {f : Nat → Nat} {x : Nat} : ∀ j, ap_pm f j x = true → ∃ i, i < j ∧ f i = x := by
  intro j
  induction j with
  | zero => intro h; exact absurd h Bool.false_ne_true
  | succ j ih =>
    intro h
    rcases (Bool.or_eq_true _ _).mp h with h | h
    · obtain ⟨i, hi, e⟩ := ih h
      exact ⟨i, by omega, e⟩
    · exact ⟨j, by omega, of_decide_eq_true h⟩
/-- the pigeon hole: n different numbers below N -/
theorem ap_pig {f : Nat → Nat} {N : Nat} : ∀ n, (∀ i, i < n → f i < N) → (∀ i j, i < j → j < n → f i ≠ f j) → n ≤ N := by
  intro n hb hd
  have key : ∀ j, j ≤ n → ap_cn (ap_pm f j) N = j := by
    intro j
    induction j with
    | zero => intro _; exact cn_zero N fun x _ h => absurd h Bool.false_ne_true
    | succ j ih =>
      intro hj
      have hn : ¬ ap_pm f j (f j) = true := fun h => by
        obtain ⟨i, hi, e⟩ := pm_in j h
        exact hd i j hi (by omega) e
      rw [cn_upd (p := ap_pm f j) (q := ap_pm f (j + 1)) (y := f j) hn (by show (ap_pm f j (f j) || decide (f j = f j)) = true; simp) N (hb j (by omega)) ?_, ih (by omega)]
      intro x _ hx
      show _ ↔ (ap_pm f j x || decide (f j = x)) = true
      rw [decide_eq_false (fun e => hx e.symm), Bool.or_false]
  have := cn_le (ap_pm f n) N
  rw [key n (Nat.le_refl _)] at this
  exact this
end
section
section GR
variable {C : Nat → Nat → Prop} {T : Nat → Nat → Nat} {w : Nat → Nat} {G : Nat → Prop} {s a n : Nat}
/-- a plan of k actions from s with price n -/
def gr_pl (C : Nat → Nat → Prop) (T : Nat → Nat → Nat) (w : Nat → Nat) (G : Nat → Prop) : Nat → Nat → Nat → Prop
  | 0, s, n => G s ∧ n = 0
  | k + 1, s, n => ∃ a, a < 10 ∧ C a s ∧ ∃ m, n = w a + m ∧ gr_pl C T w G k (T a s) m
def gr_P (C : Nat → Nat → Prop) (T : Nat → Nat → Nat) (w : Nat → Nat) (G : Nat → Prop) (s n : Nat) : Prop := n < 1000000 ∧ ∃ k, gr_pl C T w G k s n
theorem gr_ex (C : Nat → Nat → Prop) (T : Nat → Nat → Nat) (w : Nat → Nat) (G : Nat → Prop) (s : Nat) : ∃ n, n ≤ 1000000 ∧ (n < 1000000 → gr_P C T w G s n) ∧ ∀ m, gr_P C T w G s m → n ≤ m := by
  by_cases h : ∃ n, gr_P C T w G s n
  · obtain ⟨n, hn, hl⟩ := pk_least _ h
    exact ⟨n, Nat.le_of_lt hn.1, fun _ => hn, fun m hm => Nat.le_of_not_lt fun z => hl m z hm⟩
  · exact ⟨1000000, Nat.le_refl _, fun z => absurd z (Nat.lt_irrefl _), fun m hm => absurd ⟨m, hm⟩ h⟩
/-- the least price from s to the goal, 1000000 if there is none -/
noncomputable def gr_d (C : Nat → Nat → Prop) (T : Nat → Nat → Nat) (w : Nat → Nat) (G : Nat → Prop) (s : Nat) : Nat := Classical.choose (gr_ex C T w G s)
theorem d_sp (s : Nat) : gr_d C T w G s ≤ 1000000 ∧ (gr_d C T w G s < 1000000 → gr_P C T w G s (gr_d C T w G s)) ∧ ∀ m, gr_P C T w G s m → gr_d C T w G s ≤ m := Classical.choose_spec (gr_ex C T w G s)
theorem d_le (s : Nat) : gr_d C T w G s ≤ 1000000 := (d_sp s).1
theorem d_G (h : G s) : gr_d C T w G s = 0 := Nat.le_zero.mp ((d_sp s).2.2 0 ⟨by decide, 0, h, rfl⟩)
theorem d_st (ha : a < 10) (hc : C a s) : gr_d C T w G s ≤ w a + gr_d C T w G (T a s) := by
  by_cases h : w a + gr_d C T w G (T a s) < 1000000
  · obtain ⟨_, k, hk⟩ := (d_sp (C := C) (T := T) (w := w) (G := G) (T a s)).2.1 (by omega)
    exact (d_sp s).2.2 _ ⟨h, k + 1, a, ha, hc, _, rfl, hk⟩
  · have := d_le (C := C) (T := T) (w := w) (G := G) s
    omega
theorem d_at (hg : ¬ G s) (h : gr_d C T w G s < 1000000) : ∃ a, a < 10 ∧ C a s ∧ w a + gr_d C T w G (T a s) = gr_d C T w G s := by
  obtain ⟨_, k, hk⟩ := (d_sp s).2.1 h
  cases k with
  | zero => exact absurd hk.1 hg
  | succ k =>
    obtain ⟨a, ha, hc, m, e, hm⟩ := hk
    have h1 := (d_sp (C := C) (T := T) (w := w) (G := G) (T a s)).2.2 m ⟨by omega, k, hm⟩
    have h2 := d_st (T := T) (w := w) (G := G) ha hc
    exact ⟨a, ha, hc, by omega⟩
theorem d_0 (hw : ∀ a s, a < 10 → C a s → 1 ≤ w a) (h : gr_d C T w G s = 0) : G s := by
  by_cases g : G s
  · exact g
  · obtain ⟨a, ha, hc, e⟩ := d_at (T := T) (w := w) (C := C) g (by omega)
    have := hw a s ha hc
    omega
/-- a settled table is below d -/
theorem d_up {l : Nat → Nat} (hT : ∀ a s, T a s < 256) (hw : ∀ a s, a < 10 → C a s → 1 ≤ w a) (h0 : ∀ s, s < 256 → G s → l s = 0) (h1 : ∀ s, s < 256 → l s ≤ 1000000)
    (h2 : ∀ s, s < 256 → ∀ a, a < 10 → C a s → l s ≤ w a + l (T a s)) : ∀ s, s < 256 → l s ≤ gr_d C T w G s := by
  have key : ∀ n s, gr_d C T w G s = n → s < 256 → l s ≤ gr_d C T w G s := by
    intro n
    induction n using Nat.strongRecOn with
    | _ n ih =>
      intro s e hs
      by_cases g : G s
      · rw [h0 s hs g]; omega
      · by_cases h : gr_d C T w G s < 1000000
        · obtain ⟨a, ha, hc, ea⟩ := d_at g h
          have w1 := hw a s ha hc
          have i := ih _ (by omega) (T a s) rfl (hT a s)
          have := h2 s hs a ha hc
          omega
        · have := h1 s hs
          omega
  exact fun s => key _ s rfl
/-- a consistent bound is below d -/
theorem d_hb {hb : Nat → Nat} (hw : ∀ a s, a < 10 → C a s → 1 ≤ w a) (h0 : ∀ s, G s → hb s = 0) (h1 : ∀ s, hb s ≤ 1000000)
    (h2 : ∀ s a, a < 10 → C a s → hb s ≤ w a + hb (T a s)) : ∀ s, hb s ≤ gr_d C T w G s := by
  have key : ∀ n s, gr_d C T w G s = n → hb s ≤ gr_d C T w G s := by
    intro n
    induction n using Nat.strongRecOn with
    | _ n ih =>
      intro s e
      by_cases g : G s
      · rw [h0 s g]; omega
      · by_cases h : gr_d C T w G s < 1000000
        · obtain ⟨a, ha, hc, ea⟩ := d_at g h
          have w1 := hw a s ha hc
          have i := ih _ (by omega) (T a s) rfl
          have := h2 s a ha hc
          omega
        · have := h1 s
          omega
  exact fun s => key _ s rfl
/-- the first action of the chosen plan -/
def gr_Q (C : Nat → Nat → Prop) (T : Nat → Nat → Nat) (w : Nat → Nat) (G : Nat → Prop) (s a : Nat) : Prop := C a s ∧ w a + gr_d C T w G (T a s) = gr_d C T w G s
theorem fa_ex (C : Nat → Nat → Prop) (T : Nat → Nat → Nat) (w : Nat → Nat) (G : Nat → Prop) (s : Nat) : ∃ a, ¬ G s → gr_d C T w G s < 1000000 → (a < 10 ∧ gr_Q C T w G s a ∧ ∀ b, b < a → ¬ gr_Q C T w G s b) := by
  by_cases h : ¬ G s ∧ gr_d C T w G s < 1000000
  · obtain ⟨a, ha, hc, e⟩ := d_at h.1 h.2
    obtain ⟨b, hb, hl⟩ := pk_least (fun a => gr_Q C T w G s a) ⟨a, hc, e⟩
    refine ⟨b, fun _ _ => ⟨?_, hb, hl⟩⟩
    exact Nat.lt_of_le_of_lt (Nat.le_of_not_lt fun z => hl a z ⟨hc, e⟩) ha
  · exact ⟨0, fun g z => absurd ⟨g, z⟩ h⟩
noncomputable def gr_fa (C : Nat → Nat → Prop) (T : Nat → Nat → Nat) (w : Nat → Nat) (G : Nat → Prop) (s : Nat) : Nat := Classical.choose (fa_ex C T w G s)
theorem fa_sp (hg : ¬ G s) (h : gr_d C T w G s < 1000000) : gr_fa C T w G s < 10 ∧ gr_Q C T w G s (gr_fa C T w G s) ∧ ∀ b, b < gr_fa C T w G s → ¬ gr_Q C T w G s b := Classical.choose_spec (fa_ex C T w G s) hg h
theorem fa_uq (hg : ¬ G s) (h : gr_d C T w G s < 1000000) (hq : gr_Q C T w G s a) (hl : ∀ b, b < a → ¬ gr_Q C T w G s b) : gr_fa C T w G s = a := by
  obtain ⟨_, h2, h3⟩ := fa_sp hg h
  rcases Nat.lt_trichotomy (gr_fa C T w G s) a with z | z | z
  · exact absurd h2 (hl _ z)
  · exact z
  · exact absurd hq (h3 _ z)
noncomputable def gr_it (C : Nat → Nat → Prop) (T : Nat → Nat → Nat) (w : Nat → Nat) (G : Nat → Prop) : Nat → Nat → Nat
  | 0, s => s
  | k + 1, s => gr_it C T w G k (T (gr_fa C T w G s) s)
theorem it_0 (s : Nat) : gr_it C T w G 0 s = s := rfl
theorem it_f (k s : Nat) : gr_it C T w G (k + 1) s = gr_it C T w G k (T (gr_fa C T w G s) s) := rfl
theorem it_s : ∀ k s, gr_it C T w G (k + 1) s = T (gr_fa C T w G (gr_it C T w G k s)) (gr_it C T w G k s) := by
  intro k
  induction k with
  | zero => intro s; rfl
  | succ k ih => intro s; rw [it_f, ih]; rfl
theorem it_lt (hT : ∀ a s, T a s < 256) (hs : s < 256) (k : Nat) : gr_it C T w G k s < 256 := by
  cases k with
  | zero => exact hs
  | succ k => rw [it_s]; exact hT _ _
theorem it_d (hw : ∀ a s, a < 10 → C a s → 1 ≤ w a) (hd : gr_d C T w G s < 1000000) : ∀ j, (∀ i, i < j → gr_d C T w G (gr_it C T w G i s) ≠ 0) → gr_d C T w G (gr_it C T w G j s) + j ≤ gr_d C T w G s := by
  intro j
  induction j with
  | zero => intro _; exact Nat.le_refl _
  | succ j ih =>
    intro h
    have i := ih fun x hx => h x (by omega)
    have nz := h j (by omega)
    have g : ¬ G (gr_it C T w G j s) := fun g => nz (d_G g)
    obtain ⟨ha, ⟨hc, e⟩, _⟩ := fa_sp (C := C) (T := T) (w := w) g (by omega)
    have w1 := hw _ _ ha hc
    rw [it_s]
    omega
theorem it_ex (hw : ∀ a s, a < 10 → C a s → 1 ≤ w a) : ∀ n s, gr_d C T w G s = n → n < 1000000 → ∃ l, gr_d C T w G (gr_it C T w G l s) = 0 ∧ ∀ j, j < l → gr_d C T w G (gr_it C T w G j s) ≠ 0 := by
  intro n
  induction n using Nat.strongRecOn with
  | _ n ih =>
    intro s e hn
    by_cases z : n = 0
    · exact ⟨0, by rw [it_0, e, z], fun j hj => absurd hj (Nat.not_lt_zero _)⟩
    · have g : ¬ G s := fun g => z (by rw [← e]; exact d_G g)
      obtain ⟨ha, ⟨hc, ea⟩, _⟩ := fa_sp (C := C) (T := T) (w := w) g (by omega)
      have w1 := hw _ _ ha hc
      obtain ⟨l, h1, h2⟩ := ih _ (by omega) (T (gr_fa C T w G s) s) rfl (by omega)
      refine ⟨l + 1, h1, fun j hj => ?_⟩
      cases j with
      | zero => rw [it_0, e]; exact z
      | succ j => exact h2 j (by omega)
/-- a chosen plan has at most 255 actions -/
theorem it_len (hT : ∀ a s, T a s < 256) (hw : ∀ a s, a < 10 → C a s → 1 ≤ w a) (hs : s < 256) (hd : gr_d C T w G s < 1000000) :
    ∃ l, l ≤ 255 ∧ gr_d C T w G (gr_it C T w G l s) = 0 ∧ ∀ j, j < l → gr_d C T w G (gr_it C T w G j s) ≠ 0 := by
  obtain ⟨l, h1, h2⟩ := it_ex (C := C) (T := T) (w := w) (G := G) hw _ s rfl hd
  refine ⟨l, ?_, h1, h2⟩
  have nx : ∀ j, j < l → gr_d C T w G (gr_it C T w G (j + 1) s) < gr_d C T w G (gr_it C T w G j s) := by
    intro j hj
    have b := it_d (C := C) (T := T) (w := w) (G := G) hw hd j fun i hi => h2 i (by omega)
    have g : ¬ G (gr_it C T w G j s) := fun g => h2 j hj (d_G g)
    obtain ⟨ha, ⟨hc, ea⟩, _⟩ := fa_sp (C := C) (T := T) (w := w) g (by omega)
    have w1 := hw _ _ ha hc
    rw [it_s]
    omega
  have mono : ∀ k i, i + k < l + 1 → gr_d C T w G (gr_it C T w G (i + k) s) + k ≤ gr_d C T w G (gr_it C T w G i s) := by
    intro k
    induction k with
    | zero => intro i _; exact Nat.le_refl _
    | succ k ih =>
      intro i hi
      have a := ih i (by omega)
      have b := nx (i + k) (by omega)
      have c : i + (k + 1) = i + k + 1 := rfl
      rw [c]
      omega
  have := ap_pig (f := fun i => gr_it C T w G i s) (N := 256) (l + 1) (fun i _ => it_lt hT hs i) (fun i j hij hj e => by
    have m := mono (j - i) i (by omega)
    rw [show i + (j - i) = j by omega] at m
    have e' : gr_it C T w G i s = gr_it C T w G j s := e
    rw [e'] at m
    omega)
  omega
/-- what can be reached -/
def gr_R (C : Nat → Nat → Prop) (T : Nat → Nat → Nat) (o x : Nat) : Prop := ∀ P : Nat → Prop, P o → (∀ y a, a < 10 → C a y → P y → P (T a y)) → P x
theorem R_0 (o : Nat) : gr_R C T o o := fun _ h _ => h
theorem R_s {o x : Nat} (h : gr_R C T o x) (ha : a < 10) (hc : C a x) : gr_R C T o (T a x) := fun P h0 hs => hs x a ha hc (h P h0 hs)
/-- what the search leaves -/
def gr_F (C : Nat → Nat → Prop) (T : Nat → Nat → Nat) (w : Nat → Nat) (G : Nat → Prop) (hb c : Nat → Nat) (In : Nat → Prop) (o b : Nat) : Prop :=
  (∀ x, In x → x < 256) ∧ (∀ x, x < 256 → gr_d C T w G o ≤ c x + gr_d C T w G x) ∧ c o = 0 ∧
  (∀ x, In x → ¬ G x → ∀ a, a < 10 → C a x → c (T a x) ≤ c x + w a) ∧
  (∀ x, x < 256 → c x < 1000000 → c x + hb x ≤ b → c x + hb x < 1000000 → In x) ∧
  (∀ x, In x → G x → b ≤ c x) ∧ gr_d C T w G o ≤ b ∧ b ≤ 1000000
theorem F_2 {hb c : Nat → Nat} {In : Nat → Prop} {o b x : Nat} (F : gr_F C T w G hb c In o b) (hT : ∀ a s, T a s < 256) (hh : ∀ s, hb s ≤ gr_d C T w G s) (hd : gr_d C T w G o < 1000000)
    (hx : In x) (he : c x + gr_d C T w G x = gr_d C T w G o) (hg : ¬ G x) (ha : a < 10) (hq : gr_Q C T w G x a) : In (T a x) ∧ c (T a x) = c x + w a := by
  obtain ⟨f0, f1, f2, f3, f4, f5, f6, f7⟩ := F
  have h1 := f3 x hx hg a ha hq.1
  have h2 := f1 (T a x) (hT a x)
  have h3 := hq.2
  have h4 := hh (T a x)
  exact ⟨f4 _ (hT a x) (by omega) (by omega) (by omega), by omega⟩
theorem F_1 {hb c : Nat → Nat} {In : Nat → Prop} {o b : Nat} (F : gr_F C T w G hb c In o b) (ho : o < 256) (hh : ∀ s, hb s ≤ gr_d C T w G s) (hd : gr_d C T w G o < 1000000) : In o := by
  obtain ⟨f0, f1, f2, f3, f4, f5, f6, f7⟩ := F
  have h4 := hh o
  exact f4 o ho (by omega) (by omega) (by omega)
theorem F_b {hb c : Nat → Nat} {In : Nat → Prop} {o b : Nat} (F : gr_F C T w G hb c In o b) (ho : o < 256) (hT : ∀ a s, T a s < 256) (hw : ∀ a s, a < 10 → C a s → 1 ≤ w a) (hh : ∀ s, hb s ≤ gr_d C T w G s) : b = gr_d C T w G o := by
  by_cases hd : gr_d C T w G o < 1000000
  · have key : ∀ n x, gr_d C T w G x = n → In x → c x + gr_d C T w G x = gr_d C T w G o → b ≤ gr_d C T w G o := by
      intro n
      induction n using Nat.strongRecOn with
      | _ n ih =>
        intro x e hx he
        by_cases g : G x
        · have := F.2.2.2.2.2.1 x hx g
          omega
        · obtain ⟨a, ha, hc, ea⟩ := d_at (C := C) (T := T) (w := w) g (by omega)
          have w1 := hw a x ha hc
          obtain ⟨i, ec⟩ := F_2 F hT hh hd hx he g ha ⟨hc, ea⟩
          exact ih _ (by omega) (T a x) rfl i (by omega)
    have h1 := key _ o rfl (F_1 F ho hh hd) (by rw [F.2.2.1]; omega)
    have h2 := F.2.2.2.2.2.2.1
    omega
  · have h2 := F.2.2.2.2.2.2
    have h3 := d_le (C := C) (T := T) (w := w) (G := G) o
    omega
end GR
end
section
section HPP
variable {S h k : Nat → Nat} {m e b : Nat} {pc he : Nat → Int32}
def hp_w (h : Nat → Nat) (i j : Nat) : Nat → Nat := fun x => if x = i then h j else if x = j then h i else h x
theorem hw_1 (h : Nat → Nat) (i j : Nat) : hp_w h i j i = h j := if_pos rfl
theorem hw_2 (h : Nat → Nat) (i j : Nat) : hp_w h i j j = h i := by
  unfold hp_w
  by_cases z : j = i
  · rw [if_pos z, z]
  · rw [if_neg z, if_pos rfl]
theorem hw_3 (h : Nat → Nat) {i j x : Nat} (h1 : x ≠ i) (h2 : x ≠ j) : hp_w h i j x = h x := by
  unfold hp_w
  rw [if_neg h1, if_neg h2]
/-- the heap's arrays hold h but at the hole e -/
def hp_A (S : Nat → Nat) (m e : Nat) (h : Nat → Nat) (pc he : Nat → Int32) : Prop :=
  (∀ i, i < m → h i < 256 ∧ S (h i) = 1) ∧ (∀ i j, i < m → j < m → h i = h j → i = j) ∧
  (∀ i, i < m → i ≠ e → he i = nI (h i) ∧ pc (h i) = nI i) ∧
  (∀ x, x < 256 → S x = 0 → pc x = -1) ∧ (∀ x, x < 256 → S x = 2 → pc x = -2) ∧
  (∀ x, x < 256 → S x = 1 → ∃ i, i < m ∧ h i = x) ∧ (∀ x, x < 256 → S x ≤ 2)
theorem hA_put (H : hp_A S m e h pc he) (h0 : e < m) : hp_A S m m h (upd pc (h e) (nI e)) (upd he e (nI (h e))) := by
  obtain ⟨h1, h2, h3, h4, h5, h6, h7⟩ := H
  refine ⟨h1, h2, fun i hi _ => ?_, fun x hx sx => ?_, fun x hx sx => ?_, h6, h7⟩
  · by_cases z : i = e
    · rw [z, pk_us, pk_us]; exact ⟨rfl, rfl⟩
    · rw [pk_un z, pk_un fun u => z (h2 _ _ hi h0 u)]; exact h3 i hi z
  · rw [pk_un (fun u => by rw [u, (h1 e h0).2] at sx; omega)]; exact h4 x hx sx
  · rw [pk_un (fun u => by rw [u, (h1 e h0).2] at sx; omega)]; exact h5 x hx sx
theorem hA_move (H : hp_A S m e h pc he) (he0 : e < m) (hb : b < m) (hn : b ≠ e) : hp_A S m b (hp_w h e b) (upd pc (h b) (nI e)) (upd he e (nI (h b))) := by
  obtain ⟨h1, h2, h3, h4, h5, h6, h7⟩ := H
  refine ⟨fun i hi => ?_, fun i j hi hj u => ?_, fun i hi ni => ?_, fun x hx sx => ?_, fun x hx sx => ?_, fun x hx sx => ?_, h7⟩
  · by_cases z : i = e
    · rw [z, hw_1]; exact h1 b hb
    · by_cases y : i = b
      · rw [y, hw_2]; exact h1 e he0
      · rw [hw_3 h z y]; exact h1 i hi
  · by_cases z : i = e
    · by_cases y : j = e
      · rw [z, y]
      · by_cases x : j = b
        · rw [z, x, hw_1, hw_2] at u
          exact absurd (h2 _ _ hb he0 u) hn
        · rw [z, hw_1, hw_3 h y x] at u
          exact absurd (h2 _ _ hb hj u).symm x
    · by_cases y : i = b
      · by_cases x : j = e
        · rw [y, x, hw_1, hw_2] at u
          exact absurd (h2 _ _ hb he0 u.symm) hn
        · by_cases v : j = b
          · rw [y, v]
          · rw [y, hw_2, hw_3 h x v] at u
            exact absurd (h2 _ _ he0 hj u).symm x
      · rw [hw_3 h z y] at u
        by_cases x : j = e
        · rw [x, hw_1] at u
          exact absurd (h2 _ _ hi hb u) y
        · by_cases v : j = b
          · rw [v, hw_2] at u
            exact absurd (h2 _ _ hi he0 u) z
          · rw [hw_3 h x v] at u
            exact h2 _ _ hi hj u
  · by_cases z : i = e
    · rw [z, hw_1, pk_us, pk_us]; exact ⟨rfl, rfl⟩
    · rw [hw_3 h z ni, pk_un z, pk_un fun u => ni (h2 _ _ hi hb u)]; exact h3 i hi z
  · rw [pk_un (fun u => by rw [u, (h1 b hb).2] at sx; omega)]; exact h4 x hx sx
  · rw [pk_un (fun u => by rw [u, (h1 b hb).2] at sx; omega)]; exact h5 x hx sx
  · obtain ⟨i, hi, u⟩ := h6 x hx sx
    by_cases z : i = e
    · exact ⟨b, hb, by rw [hw_2, ← z, u]⟩
    · by_cases y : i = b
      · exact ⟨e, he0, by rw [hw_1, ← y, u]⟩
      · exact ⟨i, hi, by rw [hw_3 h z y, u]⟩
/-- the order; but at e, going up; but below e, going down -/
def hp_O (k : Nat → Nat) (m : Nat) (h : Nat → Nat) : Prop := ∀ i, 0 < i → i < m → k (h ((i - 1) / 2)) ≤ k (h i)
def hp_R (k : Nat → Nat) (m e : Nat) (h : Nat → Nat) : Prop :=
  (∀ i, 0 < i → i < m → i ≠ e → k (h ((i - 1) / 2)) ≤ k (h i)) ∧ (0 < e → ∀ i, 0 < i → i < m → (i - 1) / 2 = e → k (h ((e - 1) / 2)) ≤ k (h i))
def hp_S (k : Nat → Nat) (m e : Nat) (h : Nat → Nat) : Prop :=
  (∀ i, 0 < i → i < m → (i - 1) / 2 ≠ e → k (h ((i - 1) / 2)) ≤ k (h i)) ∧ (0 < e → ∀ i, 0 < i → i < m → (i - 1) / 2 = e → k (h ((e - 1) / 2)) ≤ k (h i))
theorem hO_min (H : hp_O k m h) : ∀ i, i < m → k (h 0) ≤ k (h i) := by
  intro i
  induction i using Nat.strongRecOn with
  | _ i ih =>
    intro hi
    by_cases z : i = 0
    · rw [z]; exact Nat.le_refl _
    · exact Nat.le_trans (ih ((i - 1) / 2) (by omega) (by omega)) (H i (by omega) hi)
theorem hR_end (H : hp_R k m e h) (z : e = 0 ∨ k (h ((e - 1) / 2)) ≤ k (h e)) : hp_O k m h := by
  intro i i0 hi
  by_cases y : i = e
  · rcases z with z | z
    · omega
    · rw [y]; exact z
  · exact H.1 i i0 hi y
theorem hR_go (H : hp_R k m e h) (e0 : 0 < e) (hm : e < m) (z : k (h e) < k (h ((e - 1) / 2))) : hp_R k m ((e - 1) / 2) (hp_w h e ((e - 1) / 2)) := by
  obtain ⟨H1, H2⟩ := H
  have H3 := H2 e0
  generalize hp : (e - 1) / 2 = p at *
  have pe : p ≠ e := by omega
  refine ⟨fun i i0 hi ne => ?_, fun p0 i i0 hi ip => ?_⟩
  · by_cases y : i = e
    · subst y
      rw [hp, hw_2, hw_1]; omega
    · rw [hw_3 h y ne]
      by_cases x : (i - 1) / 2 = e
      · rw [x, hw_1]; exact H3 i i0 hi x
      · by_cases v : (i - 1) / 2 = p
        · rw [v, hw_2]
          have := H1 i i0 hi y
          rw [v] at this
          omega
        · rw [hw_3 h x v]; exact H1 i i0 hi y
  · have hpp := H1 p p0 (by omega) pe
    have g1 : (p - 1) / 2 ≠ e := by omega
    have g2 : (p - 1) / 2 ≠ p := by omega
    rw [hw_3 h g1 g2]
    by_cases y : i = e
    · rw [y, hw_1]; exact hpp
    · have ni : i ≠ p := by omega
      rw [hw_3 h y ni]
      have := H1 i i0 hi y
      rw [ip] at this
      omega
theorem hS_end (H : hp_S k m e h) (z : ∀ i, 0 < i → i < m → (i - 1) / 2 = e → k (h e) ≤ k (h i)) : hp_O k m h := by
  intro i i0 hi
  by_cases y : (i - 1) / 2 = e
  · rw [y]; exact z i i0 hi y
  · exact H.1 i i0 hi y
theorem hS_go (H : hp_S k m e h) (b0 : 0 < b) (hb : b < m) (be : (b - 1) / 2 = e) (hl : ∀ i, 0 < i → i < m → (i - 1) / 2 = e → k (h b) ≤ k (h i)) (z : k (h b) < k (h e)) : hp_S k m b (hp_w h e b) := by
  obtain ⟨H1, H2⟩ := H
  have nb : b ≠ e := by omega
  refine ⟨fun i i0 hi ne => ?_, fun _ i i0 hi ip => ?_⟩
  · by_cases y : i = e
    · subst y
      have g1 : (i - 1) / 2 ≠ i := by omega
      rw [hw_1, hw_3 h g1 ne]
      exact H2 i0 b b0 hb be
    · by_cases x : i = b
      · subst x
        rw [be, hw_1, hw_2]; omega
      · rw [hw_3 h y x]
        by_cases v : (i - 1) / 2 = e
        · rw [v, hw_1]; exact hl i i0 hi v
        · rw [hw_3 h v ne]; exact H1 i i0 hi v
  · have g1 : i ≠ e := by omega
    have g2 : i ≠ b := by omega
    rw [be, hw_1, hw_3 h g1 g2]
    have := H1 i i0 hi (by omega)
    rw [ip] at this
    exact this
end HPP
end
section
/-! the graph of a state -/
def ap_C (gv ne ba : Nat → Int32) (a s : Nat) : Prop := ¬ gv a = 0 ∧ nI s &&& ne a = ne a ∧ nI s &&& ba a = 0
def ap_T (ad dr : Nat → Int32) (a s : Nat) : Nat := (((nI s &&& (dr a ^^^ (-1))) ||| ad a) &&& 255).toNatClampNeg
def ap_w (pr : Nat → Int32) (a : Nat) : Nat := (pr a).toNatClampNeg
def ap_G (wT wF : Int32) (s : Nat) : Prop := nI s &&& wT = wT ∧ nI s &&& wF = 0
def ap_V (gv ad pr : Nat → Int32) : Prop := ∀ a, a < 10 → (∃ n, n < 256 ∧ ad a = nI n) ∧ ∃ n, n ≤ 50 ∧ pr a = nI n ∧ (¬ gv a = 0 → 1 ≤ n)
section SM
variable {wT wF nw pd hP pL pA rs hz lc : Int32} {gv ne ba ad dr pr pn co pc he lf ob ra lo : Nat → Int32} {a s : Nat}
theorem T_y : nI ((ap_T ad dr) a s) = ((nI s &&& (dr a ^^^ (-1))) ||| ad a) &&& 255 := by
  unfold ap_T
  obtain ⟨n, hn, e⟩ := ap_255 ((nI s &&& (dr a ^^^ (-1))) ||| ad a)
  rw [e, nI_clamp (by omega)]
theorem T_lt (ad dr : Nat → Int32) : ∀ a s, (ap_T ad dr) a s < 256 := by
  intro a s
  unfold ap_T
  obtain ⟨n, hn, e⟩ := ap_255 ((nI s &&& (dr a ^^^ (-1))) ||| ad a)
  rw [e, nI_clamp (by omega)]
  exact hn
theorem T_x (V : ap_V gv ad pr) (ha : a < 10) (hs : s < 256) : nI ((ap_T ad dr) a s) = (nI s &&& (dr a ^^^ (-1))) ||| ad a := by
  obtain ⟨⟨n, hn, e⟩, _⟩ := V a ha
  rw [T_y, e]
  exact ap_low hs hn _
theorem w_e (V : ap_V gv ad pr) (ha : a < 10) : pr a = nI ((ap_w pr) a) ∧ (ap_w pr) a ≤ 50 := by
  obtain ⟨_, n, hn, e, _⟩ := V a ha
  have : ap_w pr a = n := by unfold ap_w; rw [e, nI_clamp (by omega)]
  rw [this]
  exact ⟨e, hn⟩
theorem w_1 (V : ap_V gv ad pr) : ∀ a s, a < 10 → (ap_C gv ne ba) a s → 1 ≤ (ap_w pr) a := by
  intro a s ha hc
  obtain ⟨_, n, hn, e, h⟩ := V a ha
  have : ap_w pr a = n := by unfold ap_w; rw [e, nI_clamp (by omega)]
  rw [this]
  exact h hc.1
theorem in10 (h : a < 10) : vp_in (nI a) 10 := vp_in_nI h (by decide)
theorem in256 (h : a < 256) : vp_in (nI a) 256 := vp_in_nI h (by decide)
theorem cl10 (h : a < 10) : (nI a).toNatClampNeg = a := nI_clamp (by omega)
theorem cl256 (h : a < 256) : (nI a).toNatClampNeg = a := nI_clamp (by omega)
theorem b_n0 : vp_nar .boolean 0 = 0 := by decide
theorem b_n1 : vp_nar .boolean 1 = 1 := by decide
theorem ap_ix (x : Int32) : x < 0 ∨ 9 < x ∨ ∃ a, a < 10 ∧ x = nI a := by
  by_cases h : x < 0
  · exact Or.inl h
  · obtain ⟨j, hj, rfl⟩ := nI_of h
    by_cases h2 : j < 10
    · exact Or.inr (Or.inr ⟨j, h2, rfl⟩)
    · exact Or.inr (Or.inl (nI_lt (a := 9) (by omega) hj))
theorem ix_n (h : a < 10) : ¬ nI a < 0 ∧ ¬ 9 < nI a ∧ nI a ≤ 9 := ⟨nI_pos (by omega), nI_nlt (b := a) (a := 9) (by omega) (by decide), nI_le (b := 9) (by omega) (by decide)⟩
/-! X: the small methods -/
theorem xc_can {post : Int32 → Prop} (ha : a < 10) (h1 : nI s &&& ne a = ne a → nI s &&& ba a = 0 → post 1) (h0 : ¬ (nI s &&& ne a = ne a ∧ nI s &&& ba a = 0) → post 0) : wpX_canDo post (wT, wF, nw, pd, hP, pL, pA, rs, hz, lc, gv, ne, ba, ad, dr, pr, pn, co, pc, he, lf, ob, ra, lo) (nI a) (nI s) := by
  unfold wpX_canDo
  dsimp only
  rw [cl10 ha]
  exact ⟨in10 ha, in10 ha, br_c (fun e => ⟨in10 ha, br_c (fun f => h1 e f) (fun f => h0 fun z => f z.2)⟩) (fun e => h0 fun z => e z.1)⟩
theorem xc_aft {post : Int32 → Prop} (V : ap_V gv ad pr) (ha : a < 10) (hs : s < 256) (h : post (nI ((ap_T ad dr) a s))) : wpX_after post (wT, wF, nw, pd, hP, pL, pA, rs, hz, lc, gv, ne, ba, ad, dr, pr, pn, co, pc, he, lf, ob, ra, lo) (nI a) (nI s) := by
  unfold wpX_after
  dsimp only
  rw [cl10 ha]
  rw [T_x V ha hs] at h
  exact ⟨in10 ha, in10 ha, h⟩
theorem xc_goal {post : Int32 → Prop} (h1 : (ap_G wT wF) s → post 1) (h0 : ¬ (ap_G wT wF) s → post 0) : wpX_isGoal post (wT, wF, nw, pd, hP, pL, pA, rs, hz, lc, gv, ne, ba, ad, dr, pr, pn, co, pc, he, lf, ob, ra, lo) (nI s) := by
  unfold wpX_isGoal
  dsimp only
  exact br_c (fun e => br_c (fun f => h1 ⟨e, f⟩) (fun f => h0 fun z => f z.2)) (fun e => h0 fun z => e z.1)
theorem xc_giv {post : Int32 → Prop} {x : Int32} (h0 : (∀ a, a < 10 → x = nI a → gv a = 0) → post 0) (h1 : ∀ a, a < 10 → x = nI a → ¬ gv a = 0 → post 1) : wpX_isGiven post (wT, wF, nw, pd, hP, pL, pA, rs, hz, lc, gv, ne, ba, ad, dr, pr, pn, co, pc, he, lf, ob, ra, lo) x := by
  unfold wpX_isGiven
  dsimp only
  rcases ap_ix x with h | h | ⟨a, ha, rfl⟩
  · refine br_t h (h0 fun a ha e => ?_)
    rw [e] at h
    exact absurd h (ix_n ha).1
  · refine br_c (fun z => h0 fun a ha e => ?_) (fun _ => br_t h (h0 fun a ha e => ?_))
    · rw [e] at z
      exact absurd z (ix_n ha).1
    · rw [e] at h
      exact absurd h (ix_n ha).2.1
  · obtain ⟨i1, i2, i3⟩ := ix_n ha
    rw [cl10 ha]
    refine br_f i1 (br_f i2 ⟨in10 ha, br_c (fun g => h0 fun b hb e => ?_) (fun g => h1 a ha rfl g)⟩)
    rw [← (nI_eq (by omega) (by omega)).mp e]
    exact g
end SM
section SMY
variable {nw wT wF : Int32} {gv ne ba ad dr pr le re : Nat → Int32} {a s : Nat}
/-! Y: the small methods -/
theorem yc_bad {post : Int32 → Prop} {x : Int32} (h0 : ∀ a, a < 10 → x = nI a → post 0) (h1 : (∀ a, a < 10 → ¬ x = nI a) → post 1) : wpY_bad post x := by
  unfold wpY_bad
  rcases ap_ix x with h | h | ⟨a, ha, rfl⟩
  · refine br_t h (h1 fun a ha e => ?_)
    rw [e] at h
    exact absurd h (ix_n ha).1
  · have hn : ∀ a, a < 10 → ¬ x = nI a := fun a ha e => by
      rw [e] at h
      exact absurd h (ix_n ha).2.1
    exact br_c (fun _ => h1 hn) (fun _ => br_f (Int32.not_le.mpr h) (h1 hn))
  · exact br_f (ix_n ha).1 (br_t (ix_n ha).2.2 (h0 a ha rfl))
theorem yc_can {post : Int32 → Prop} (ha : a < 10) (h1 : (ap_C gv ne ba) a s → post 1) (h0 : ¬ (ap_C gv ne ba) a s → post 0) : wpY_canDo post (nw, wT, wF, gv, ne, ba, ad, dr, pr, le, re) (nI a) (nI s) := by
  unfold wpY_canDo
  dsimp only
  rw [cl10 ha]
  exact ⟨in10 ha, br_c (fun g => h0 fun z => z.1 g) (fun g => ⟨in10 ha, in10 ha, br_c (fun e => ⟨in10 ha, br_c (fun f => h1 ⟨g, e, f⟩) (fun f => h0 fun z => f z.2.2)⟩) (fun e => h0 fun z => e z.2.1)⟩)⟩
theorem yc_aft {post : Int32 → Prop} (ha : a < 10) (h : post (nI ((ap_T ad dr) a s))) : wpY_after post (nw, wT, wF, gv, ne, ba, ad, dr, pr, le, re) (nI a) (nI s) := by
  unfold wpY_after
  dsimp only
  rw [cl10 ha]
  rw [T_y] at h
  exact ⟨in10 ha, in10 ha, h⟩
theorem yc_goal {post : Int32 → Prop} (h1 : (ap_G wT wF) s → post 1) (h0 : ¬ (ap_G wT wF) s → post 0) : wpY_wanted post (nw, wT, wF, gv, ne, ba, ad, dr, pr, le, re) (nI s) := by
  unfold wpY_wanted
  dsimp only
  exact br_c (fun e => br_c (fun f => h1 ⟨e, f⟩) (fun f => h0 fun z => f z.2)) (fun e => h0 fun z => e z.1)
end SMY
end
section
section YWK
def ap_u (l : Nat → Nat) (s v : Nat) : Nat → Nat := fun x => if x = s then v else l x
theorem u_s (l : Nat → Nat) (s v : Nat) : ap_u l s v s = v := if_pos rfl
theorem u_n (l : Nat → Nat) {s v x : Nat} (h : x ≠ s) : ap_u l s v x = l x := if_neg h
/-- an array of prices -/
def ap_A (le : Nat → Int32) (l : Nat → Nat) : Prop := ∀ x, x < 256 → le x = nI (l x) ∧ l x ≤ 1000000
theorem A_u {le : Nat → Int32} {l : Nat → Nat} {s v : Nat} (h : ap_A le l) (hv : v ≤ 1000000) : ap_A (upd le s (nI v)) (ap_u l s v) := by
  intro x hx
  by_cases z : x = s
  · rw [z, pk_us, u_s]; exact ⟨rfl, hv⟩
  · rw [pk_un z, u_n l z]; exact h x hx
variable {nw wT wF : Int32} {gv ne ba ad dr pr le re : Nat → Int32} {s : Nat} {l : Nat → Nat}
theorem y_low4 {post : Int32 → SY → Prop} (V : ap_V gv ad pr) (hs : s < 256)
    (K : ∀ (r : Int32) le' l', ap_A le' l' → (∀ x, x < 256 → (gr_d (ap_C gv ne ba) (ap_T ad dr) (ap_w pr) (ap_G wT wF)) x ≤ l' x ∧ l' x ≤ l x) → (∀ a, a < 10 → (ap_C gv ne ba) a s → l' s ≤ (ap_w pr) a + l ((ap_T ad dr) a s)) → (r = 0 ∧ (∀ x, x < 256 → l' x = l x) ∨ r = 1) → post r (nw, wT, wF, gv, ne, ba, ad, dr, pr, le', re)) :
    ∀ n j (r : Int32) le' l', 10 - j < n → j ≤ 10 → ap_A le' l' → (∀ x, x < 256 → (gr_d (ap_C gv ne ba) (ap_T ad dr) (ap_w pr) (ap_G wT wF)) x ≤ l' x ∧ l' x ≤ l x) → (∀ a, a < j → (ap_C gv ne ba) a s → l' s ≤ (ap_w pr) a + l ((ap_T ad dr) a s)) → (r = 0 ∧ (∀ x, x < 256 → l' x = l x) ∨ r = 1) →
      wY_lower_4 post (nI s) nw wT wF n r (nI j) gv ne ba ad dr pr le' re := by
  intro n
  induction n with
  | zero => intro j r le' l' h; omega
  | succ n ih =>
  intro j r le' l' hn hj A1 A2 A3 A4
  refine pk_le 10 j (fun h => ?_) (fun h => ?_)
  · have e : j = 10 := by omega
    subst e
    refine ⟨?_, K r le' l' A1 A2 A3 A4⟩
    rcases A4 with ⟨rfl, _⟩ | rfl <;> rfl
  · refine yc_aft h ?_
    have tl := T_lt ad dr j s
    have wl := w_e V h
    have al := A1 _ tl
    have as := A1 s hs
    have d2 := A2 _ tl
    refine ⟨in10 h, in256 tl, nm_r (e' := nI ((ap_w pr) j + l' ((ap_T ad dr) j s))) ?_ ?_⟩
    · rw [cl10 h, cl256 tl, wl.1, al.1, nI_add]
    · refine yc_can h (fun hc => ?_) (fun hc => ?_)
      · refine br_f (show ¬ (1 : Int32) = 0 by decide) ⟨in256 hs, ?_⟩
        rw [cl256 hs, as.1]
        refine pk_le (l' s) ((ap_w pr) j + l' ((ap_T ad dr) j s)) (fun q => ?_) (fun q => ?_) rfl rfl (by omega) (by omega)
        · refine nm_r (nI_1 j) (ih (j + 1) r le' l' (by omega) (by omega) A1 A2 (fun a ha hca => ?_) A4)
          by_cases z : a = j
          · rw [z]; omega
          · exact A3 a (by omega) hca
        · refine ⟨in256 hs, nm_e (nm_r (nI_1 j) (ih (j + 1) 1 _ _ (by omega) (by omega) (A_u A1 (by omega)) (fun x hx => ?_) (fun a ha hca => ?_) (Or.inr rfl)))⟩
          · by_cases z : x = s
            · subst z
              rw [u_s]
              have d1 := d_st (T := (ap_T ad dr)) (w := (ap_w pr)) (G := (ap_G wT wF)) h hc
              have d3 := A2 x hx
              omega
            · rw [u_n l' z]; exact A2 x hx
          · rw [u_s]
            by_cases z : a = j
            · rw [z]; omega
            · have := A3 a (by omega) hca
              omega
      · refine br_t rfl (nm_r (nI_1 j) (ih (j + 1) r le' l' (by omega) (by omega) A1 A2 (fun a ha hca => ?_) A4))
        by_cases z : a = j
        · exact absurd (z ▸ hca) hc
        · exact A3 a (by omega) hca
theorem y_low {post : Int32 → SY → Prop} (V : ap_V gv ad pr) (hs : s < 256) (A : ap_A le l) (hd : ∀ x, x < 256 → (gr_d (ap_C gv ne ba) (ap_T ad dr) (ap_w pr) (ap_G wT wF)) x ≤ l x)
    (K : ∀ (r : Int32) le' l', ap_A le' l' → (∀ x, x < 256 → (gr_d (ap_C gv ne ba) (ap_T ad dr) (ap_w pr) (ap_G wT wF)) x ≤ l' x ∧ l' x ≤ l x) → (∀ a, a < 10 → (ap_C gv ne ba) a s → l' s ≤ (ap_w pr) a + l ((ap_T ad dr) a s)) → (r = 0 ∧ (∀ x, x < 256 → l' x = l x) ∨ r = 1) → post r (nw, wT, wF, gv, ne, ba, ad, dr, pr, le', re)) :
    wpY_lower post (nw, wT, wF, gv, ne, ba, ad, dr, pr, le, re) (nI s) := by
  unfold wpY_lower
  exact ⟨11, y_low4 V hs K 11 0 0 le l (by omega) (by omega) A (fun x hx => ⟨hd x hx, Nat.le_refl _⟩) (fun a ha => absurd ha (Nat.not_lt_zero _)) (Or.inl ⟨rfl, fun _ _ => rfl⟩)⟩
theorem y_w54 {post : SY → Prop} {J : (Int32 → Int32 → Int32 → Int32 → Int32 → (Nat → Int32) → (Nat → Int32) → (Nat → Int32) → (Nat → Int32) → (Nat → Int32) → (Nat → Int32) → (Nat → Int32) → (Nat → Int32) → Prop)} {x2 : Int32} (V : ap_V gv ad pr)
    (K : ∀ (r : Int32) le' l', ap_A le' l' → (∀ x, x < 256 → (gr_d (ap_C gv ne ba) (ap_T ad dr) (ap_w pr) (ap_G wT wF)) x ≤ l' x ∧ l' x ≤ l x) → (∀ x, x < 256 → ∀ a, a < 10 → (ap_C gv ne ba) a x → l' x ≤ (ap_w pr) a + l ((ap_T ad dr) a x)) → (r = 0 ∧ (∀ x, x < 256 → l' x = l x) ∨ r = 1) → J r (x2 + 1) nw wT wF gv ne ba ad dr pr le' re) :
    ∀ n i (r : Int32) le' l', 256 - i < n → i ≤ 256 → ap_A le' l' → (∀ x, x < 256 → (gr_d (ap_C gv ne ba) (ap_T ad dr) (ap_w pr) (ap_G wT wF)) x ≤ l' x ∧ l' x ≤ l x) → (∀ x, x < i → ∀ a, a < 10 → (ap_C gv ne ba) a x → l' x ≤ (ap_w pr) a + l ((ap_T ad dr) a x)) → (r = 0 ∧ (∀ x, x < 256 → l' x = l x) ∨ r = 1) →
      wY_work_54 post J x2 n r (nI i) nw wT wF gv ne ba ad dr pr le' re := by
  intro n
  induction n with
  | zero => intro i r le' l' h; omega
  | succ n ih =>
  intro i r le' l' hn hi A1 A2 A3 A4
  refine pk_le 256 i (fun h => ?_) (fun h => ?_)
  · have e : i = 256 := by omega
    subst e
    exact nm_e (K r le' l' A1 A2 A3 A4)
  · refine y_low V h A1 (fun x hx => (A2 x hx).1) ?_
    intro r' le2 l2 B1 B2 B3 B4
    have C2 : ∀ x, x < 256 → (gr_d (ap_C gv ne ba) (ap_T ad dr) (ap_w pr) (ap_G wT wF)) x ≤ l2 x ∧ l2 x ≤ l x := fun x hx => ⟨(B2 x hx).1, Nat.le_trans (B2 x hx).2 (A2 x hx).2⟩
    have C3 : ∀ x, x < i + 1 → ∀ a, a < 10 → (ap_C gv ne ba) a x → l2 x ≤ (ap_w pr) a + l ((ap_T ad dr) a x) := by
      intro x hx a ha hc
      by_cases z : x = i
      · subst z
        have h1 := B3 a ha hc
        have h2 := (A2 _ (T_lt ad dr a x)).2
        omega
      · have h1 := A3 x (by omega) a ha hc
        have h2 := (B2 x (by omega)).2
        omega
    rcases B4 with ⟨rfl, e⟩ | rfl
    · refine br_t rfl (nm_r (nI_1 i) (ih (i + 1) r le2 l2 (by omega) (by omega) B1 C2 C3 ?_))
      rcases A4 with ⟨rfl, f⟩ | f
      · exact Or.inl ⟨rfl, fun x hx => (e x hx).trans (f x hx)⟩
      · exact Or.inr f
    · exact br_f (show ¬ (1 : Int32) = 0 by decide) (nm_r (nI_1 i) (ih (i + 1) 1 le2 l2 (by omega) (by omega) B1 C2 C3 (Or.inr rfl)))
/-- a round settles one state more -/
theorem y_cnt {C : Nat → Nat → Prop} {T : Nat → Nat → Nat} {w : Nat → Nat} {G : Nat → Prop} {l1 : Nat → Nat} {t : Nat} (hT : ∀ a s, T a s < 256) (hw : ∀ a s, a < 10 → C a s → 1 ≤ w a)
    (h0 : ∀ x, x < 256 → G x → l x = 0) (h1 : ∀ x, x < 256 → l x ≤ 1000000) (h2 : ∀ x, x < 256 → gr_d C T w G x ≤ l1 x ∧ l1 x ≤ l x) (h3 : ∀ x, x < 256 → ∀ a, a < 10 → C a x → l1 x ≤ w a + l (T a x))
    (ht : t < 256) (hc : t ≤ ap_cn (fun x => decide (l x = gr_d C T w G x)) 256) : t + 1 ≤ ap_cn (fun x => decide (l1 x = gr_d C T w G x)) 256 := by
  have mono : ∀ x, x < 256 → l x = gr_d C T w G x → l1 x = gr_d C T w G x := fun x hx e => by
    have := h2 x hx
    omega
  by_cases z : ∃ n x, x < 256 ∧ l x ≠ gr_d C T w G x ∧ gr_d C T w G x = n
  · obtain ⟨n, ⟨x, hx, hn, en⟩, hl⟩ := pk_least _ z
    have b1 := h1 x hx
    have b2 := h2 x hx
    have g : ¬ G x := fun g => hn (by rw [h0 x hx g, d_G g])
    obtain ⟨a, ha, hca, ea⟩ := d_at (C := C) (T := T) (w := w) g (by omega)
    have w1 := hw a x ha hca
    have st : l (T a x) = gr_d C T w G (T a x) := by
      by_cases y : l (T a x) = gr_d C T w G (T a x)
      · exact y
      · exact absurd ⟨T a x, hT a x, y, rfl⟩ (hl _ (by omega))
    have b3 := h3 x hx a ha hca
    have ex : l1 x = gr_d C T w G x := by omega
    have := cn_lt (p := fun x => decide (l x = gr_d C T w G x)) (q := fun x => decide (l1 x = gr_d C T w G x)) (y := x) (fun z => hn (of_decide_eq_true z)) (decide_eq_true ex) 256 hx (fun y hy e => decide_eq_true (mono y hy (of_decide_eq_true e)))
    omega
  · have all : ∀ x, x < 256 → l1 x = gr_d C T w G x := fun x hx => mono x hx (by
      by_cases y : l x = gr_d C T w G x
      · exact y
      · exact absurd ⟨_, x, hx, y, rfl⟩ z)
    have e : ap_cn (fun x => decide (l1 x = gr_d C T w G x)) 256 = ap_cn (fun _ => true) 256 := cn_eq fun x hx => ⟨fun _ => rfl, fun _ => decide_eq_true (all x hx)⟩
    have f : ap_cn (fun _ => true) 256 = 256 := by decide +kernel
    omega
theorem y_w39 {post : SY → Prop} (V : ap_V gv ad pr) (K : ∀ le', (∀ x, x < 256 → le' x = nI ((gr_d (ap_C gv ne ba) (ap_T ad dr) (ap_w pr) (ap_G wT wF)) x)) → post (nw, wT, wF, gv, ne, ba, ad, dr, pr, le', re)) :
    ∀ n t (r : Int32) le' l', 256 - t < n → t ≤ 256 → ap_A le' l' → (∀ x, x < 256 → (gr_d (ap_C gv ne ba) (ap_T ad dr) (ap_w pr) (ap_G wT wF)) x ≤ l' x) → (∀ x, x < 256 → (ap_G wT wF) x → l' x = 0) → t ≤ ap_cn (fun x => decide (l' x = (gr_d (ap_C gv ne ba) (ap_T ad dr) (ap_w pr) (ap_G wT wF)) x)) 256 →
      (r = 0 → ∀ x, x < 256 → ∀ a, a < 10 → (ap_C gv ne ba) a x → l' x ≤ (ap_w pr) a + l' ((ap_T ad dr) a x)) → wY_work_39 post n r (nI t) nw wT wF gv ne ba ad dr pr le' re := by
  intro n
  induction n with
  | zero => intro t r le' l' h; omega
  | succ n ih =>
  intro t r le' l' hn ht A1 A2 A3 A4 A5
  refine pk_le 256 t (fun h => ?_) (fun h => ?_)
  · refine K le' fun x hx => ?_
    rw [(A1 x hx).1, of_decide_eq_true (cn_all (p := fun x => decide (l' x = (gr_d (ap_C gv ne ba) (ap_T ad dr) (ap_w pr) (ap_G wT wF)) x)) 256 (by omega) x hx)]
  · refine br_c (fun z => K le' fun x hx => ?_) (fun z => ?_)
    · rw [(A1 x hx).1]
      have h1 := d_up (C := (ap_C gv ne ba)) (T := (ap_T ad dr)) (w := (ap_w pr)) (G := (ap_G wT wF)) (T_lt ad dr) (w_1 V) A3 (fun x hx => (A1 x hx).2) (A5 z) x hx
      have h2 := A2 x hx
      exact congrArg nI (by omega)
    · refine ⟨257, y_w54 (l := l') V ?_ 257 0 0 le' l' (by omega) (by omega) A1 (fun x hx => ⟨A2 x hx, Nat.le_refl _⟩) (fun x hx => absurd hx (Nat.not_lt_zero _)) (Or.inl ⟨rfl, fun _ _ => rfl⟩)⟩
      intro r' le2 l2 B1 B2 B3 B4
      rw [nI_1]
      refine ih (t + 1) r' le2 l2 (by omega) (by omega) B1 (fun x hx => (B2 x hx).1) (fun x hx g => ?_) ?_ ?_
      · have h1 := A3 x hx g
        have h2 := B2 x hx
        omega
      · exact y_cnt (T_lt ad dr) (w_1 V) A3 (fun x hx => (A1 x hx).2) B2 B3 (by omega) A4
      · intro e x hx a ha hc
        rcases B4 with ⟨_, f⟩ | f
        · have h1 := B3 x hx a ha hc
          rw [← f _ (T_lt ad dr a x)] at h1
          exact h1
        · exact absurd (f.symm.trans e) (by decide)
theorem y_w2 {post : SY → Prop} (V : ap_V gv ad pr) (K : ∀ le', (∀ x, x < 256 → le' x = nI ((gr_d (ap_C gv ne ba) (ap_T ad dr) (ap_w pr) (ap_G wT wF)) x)) → post (nw, wT, wF, gv, ne, ba, ad, dr, pr, le', re)) :
    ∀ n i le', 256 - i < n → i ≤ 256 → (∀ x, x < i → ((ap_G wT wF) x → le' x = nI 0) ∧ (¬ (ap_G wT wF) x → le' x = nI 1000000)) → wY_work_2 post nw wT wF n (nI i) gv ne ba ad dr pr le' re := by
  intro n
  induction n with
  | zero => intro i le' h; omega
  | succ n ih =>
  intro i le' hn hi A
  refine pk_le 256 i (fun h => ?_) (fun h => ?_)
  · have e : i = 256 := by omega
    subst e
    have A0 : ∀ x, x < 256 → ((ap_G wT wF) x → (le' x).toNatClampNeg = 0) ∧ (¬ (ap_G wT wF) x → (le' x).toNatClampNeg = 1000000) := fun x hx =>
      ⟨fun g => by rw [(A x hx).1 g, nI_clamp (by decide)], fun g => by rw [(A x hx).2 g, nI_clamp (by decide)]⟩
    refine ⟨257, y_w39 V K 257 0 1 le' (fun x => (le' x).toNatClampNeg) (by omega) (by omega) (fun x hx => ?_) (fun x hx => ?_) (fun x hx g => (A0 x hx).1 g) (Nat.zero_le _) (fun z => absurd z (by decide))⟩
    · show _ = nI (le' x).toNatClampNeg ∧ (le' x).toNatClampNeg ≤ _
      by_cases g : (ap_G wT wF) x
      · rw [(A0 x hx).1 g]; exact ⟨(A x hx).1 g, by omega⟩
      · rw [(A0 x hx).2 g]; exact ⟨(A x hx).2 g, by omega⟩
    · show _ ≤ (le' x).toNatClampNeg
      by_cases g : (ap_G wT wF) x
      · rw [d_G g]; omega
      · rw [(A0 x hx).2 g]; exact d_le x
  · refine yc_goal (fun g => ?_) (fun g => ?_)
    · refine br_f (show ¬ (1 : Int32) = 0 by decide) ⟨in256 h, nm_e (nm_r (nI_1 i) ?_)⟩
      rw [cl256 h]
      refine ih (i + 1) _ (by omega) (by omega) fun x hx => ?_
      by_cases z : x = i
      · subst z
        rw [pk_us]; exact ⟨fun _ => rfl, fun q => absurd g q⟩
      · rw [pk_un z]; exact A x (by omega)
    · refine br_t rfl ⟨in256 h, nm_e (nm_r (nI_1 i) ?_)⟩
      rw [cl256 h]
      refine ih (i + 1) _ (by omega) (by omega) fun x hx => ?_
      by_cases z : x = i
      · subst z
        rw [pk_us]; exact ⟨fun q => absurd q g, fun _ => rfl⟩
      · rw [pk_un z]; exact A x (by omega)
theorem y_work {post : SY → Prop} (V : ap_V gv ad pr) (K : ∀ le', (∀ x, x < 256 → le' x = nI ((gr_d (ap_C gv ne ba) (ap_T ad dr) (ap_w pr) (ap_G wT wF)) x)) → post (nw, wT, wF, gv, ne, ba, ad, dr, pr, le', re)) : wpY_work post (nw, wT, wF, gv, ne, ba, ad, dr, pr, le, re) := by
  unfold wpY_work
  exact ⟨257, y_w2 V K 257 0 le (by omega) (by omega) fun x hx => absurd hx (Nat.not_lt_zero _)⟩
end YWK
end
section
section YPL
variable {nw wT wF : Int32} {gv ne ba ad dr pr le re : Nat → Int32} {s l : Nat}
theorem d_z (V : ap_V gv ad pr) (s : Nat) : (gr_d (ap_C gv ne ba) (ap_T ad dr) (ap_w pr) (ap_G wT wF)) s = 0 ↔ (ap_G wT wF) s := ⟨fun h => d_0 (w_1 V) h, fun h => d_G h⟩
theorem y_f24 {post : Int32 → Prop} (V : ap_V gv ad pr) (A : ∀ x, x < 256 → le x = nI ((gr_d (ap_C gv ne ba) (ap_T ad dr) (ap_w pr) (ap_G wT wF)) x)) (hs : s < 256) (hg : ¬ (ap_G wT wF) s) (hd : (gr_d (ap_C gv ne ba) (ap_T ad dr) (ap_w pr) (ap_G wT wF)) s < 1000000) (K : post (nI ((gr_fa (ap_C gv ne ba) (ap_T ad dr) (ap_w pr) (ap_G wT wF)) s))) :
    ∀ n j, 10 - j < n → j ≤ 10 → (∀ b, b < j → ¬ (gr_Q (ap_C gv ne ba) (ap_T ad dr) (ap_w pr) (ap_G wT wF)) s b) → wY_first_24 post (nI s) nw wT wF gv ne ba ad dr pr le re n (nI j) := by
  intro n
  induction n with
  | zero => intro j h; omega
  | succ n ih =>
  intro j hn hj B
  have sp := fa_sp hg hd
  refine pk_le 10 j (fun h => ?_) (fun h => ?_)
  · exact absurd sp.2.1 (B _ (by omega))
  · have tl := T_lt ad dr j s
    refine yc_aft h (yc_can h (fun hc => ?_) (fun hc => ?_))
    · refine br_f (show ¬ (1 : Int32) = 0 by decide) ⟨in10 h, in256 tl, in256 hs, ?_⟩
      have wl := w_e V h
      have b1 := d_le (C := (ap_C gv ne ba)) (T := (ap_T ad dr)) (w := (ap_w pr)) (G := (ap_G wT wF)) s
      have b2 := d_le (C := (ap_C gv ne ba)) (T := (ap_T ad dr)) (w := (ap_w pr)) (G := (ap_G wT wF)) ((ap_T ad dr) j s)
      rw [cl10 h, cl256 tl, cl256 hs, wl.1, A _ tl, A _ hs, nI_add]
      refine pk_eq ((ap_w pr) j + (gr_d (ap_C gv ne ba) (ap_T ad dr) (ap_w pr) (ap_G wT wF)) ((ap_T ad dr) j s)) ((gr_d (ap_C gv ne ba) (ap_T ad dr) (ap_w pr) (ap_G wT wF)) s) (fun e => ?_) (fun e => ?_) rfl rfl (by omega) (by omega)
      · rw [fa_uq hg hd ⟨hc, e⟩ B] at K
        exact K
      · refine nm_r (nI_1 j) (ih (j + 1) (by omega) (by omega) fun b hb => ?_)
        by_cases z : b = j
        · rw [z]; exact fun q => e q.2
        · exact B b (by omega)
    · refine br_t rfl (nm_r (nI_1 j) (ih (j + 1) (by omega) (by omega) fun b hb => ?_))
      by_cases z : b = j
      · rw [z]; exact fun q => hc q.1
      · exact B b (by omega)
theorem y_first {post : Int32 → Prop} (V : ap_V gv ad pr) (A : ∀ x, x < 256 → le x = nI ((gr_d (ap_C gv ne ba) (ap_T ad dr) (ap_w pr) (ap_G wT wF)) x)) (hs : s < 256) (h1 : ¬ (ap_G wT wF) s → (gr_d (ap_C gv ne ba) (ap_T ad dr) (ap_w pr) (ap_G wT wF)) s < 1000000 → post (nI ((gr_fa (ap_C gv ne ba) (ap_T ad dr) (ap_w pr) (ap_G wT wF)) s))) (h0 : ((ap_G wT wF) s ∨ ¬ (gr_d (ap_C gv ne ba) (ap_T ad dr) (ap_w pr) (ap_G wT wF)) s < 1000000) → post (-1)) : wpY_first post (nw, wT, wF, gv, ne, ba, ad, dr, pr, le, re) (nI s) := by
  unfold wpY_first
  dsimp only
  rw [cl256 hs, A s hs]
  have b := d_le (C := (ap_C gv ne ba)) (T := (ap_T ad dr)) (w := (ap_w pr)) (G := (ap_G wT wF)) s
  refine ⟨in256 hs, pk_eq ((gr_d (ap_C gv ne ba) (ap_T ad dr) (ap_w pr) (ap_G wT wF)) s) 0 (fun e => h0 (Or.inl ((d_z V s).mp e))) (fun e => ⟨in256 hs, pk_lt ((gr_d (ap_C gv ne ba) (ap_T ad dr) (ap_w pr) (ap_G wT wF)) s) 1000000 (fun q => ?_) (fun q => h0 (Or.inr (by omega))) rfl rfl (by omega) (by omega)⟩) rfl rfl (by omega) (by omega)⟩
  have g : ¬ (ap_G wT wF) s := fun g => e ((d_z V s).mpr g)
  exact ⟨11, y_f24 V A hs g q (h1 g q) 11 0 (by omega) (by omega) fun b hb => absurd hb (Nat.not_lt_zero _)⟩
/-- the chosen plan from s has l actions -/
def ap_l (wT wF : Int32) (gv ne ba ad dr pr : Nat → Int32) (s l : Nat) : Prop := l ≤ 255 ∧ (gr_d (ap_C gv ne ba) (ap_T ad dr) (ap_w pr) (ap_G wT wF)) s < 1000000 ∧ (gr_d (ap_C gv ne ba) (ap_T ad dr) (ap_w pr) (ap_G wT wF)) ((gr_it (ap_C gv ne ba) (ap_T ad dr) (ap_w pr) (ap_G wT wF)) l s) = 0 ∧ ∀ j, j < l → (gr_d (ap_C gv ne ba) (ap_T ad dr) (ap_w pr) (ap_G wT wF)) ((gr_it (ap_C gv ne ba) (ap_T ad dr) (ap_w pr) (ap_G wT wF)) j s) ≠ 0
theorem l_ex (V : ap_V gv ad pr) (hs : s < 256) (hd : (gr_d (ap_C gv ne ba) (ap_T ad dr) (ap_w pr) (ap_G wT wF)) s < 1000000) : ∃ l, ap_l wT wF gv ne ba ad dr pr s l := by
  obtain ⟨l, h1, h2, h3⟩ := it_len (C := (ap_C gv ne ba)) (T := (ap_T ad dr)) (w := (ap_w pr)) (G := (ap_G wT wF)) (T_lt ad dr) (w_1 V) hs hd
  exact ⟨l, h1, hd, h2, h3⟩
theorem l_j (V : ap_V gv ad pr) (hs : s < 256) (L : ap_l wT wF gv ne ba ad dr pr s l) {j : Nat} (hj : j < l) : ¬ (ap_G wT wF) ((gr_it (ap_C gv ne ba) (ap_T ad dr) (ap_w pr) (ap_G wT wF)) j s) ∧ (gr_d (ap_C gv ne ba) (ap_T ad dr) (ap_w pr) (ap_G wT wF)) ((gr_it (ap_C gv ne ba) (ap_T ad dr) (ap_w pr) (ap_G wT wF)) j s) < 1000000 ∧ (gr_fa (ap_C gv ne ba) (ap_T ad dr) (ap_w pr) (ap_G wT wF)) ((gr_it (ap_C gv ne ba) (ap_T ad dr) (ap_w pr) (ap_G wT wF)) j s) < 10 ∧ (gr_it (ap_C gv ne ba) (ap_T ad dr) (ap_w pr) (ap_G wT wF)) j s < 256 ∧ (ap_C gv ne ba) ((gr_fa (ap_C gv ne ba) (ap_T ad dr) (ap_w pr) (ap_G wT wF)) ((gr_it (ap_C gv ne ba) (ap_T ad dr) (ap_w pr) (ap_G wT wF)) j s)) ((gr_it (ap_C gv ne ba) (ap_T ad dr) (ap_w pr) (ap_G wT wF)) j s) := by
  have g : ¬ (ap_G wT wF) ((gr_it (ap_C gv ne ba) (ap_T ad dr) (ap_w pr) (ap_G wT wF)) j s) := fun g => L.2.2.2 j hj (d_G g)
  have b := it_d (C := (ap_C gv ne ba)) (T := (ap_T ad dr)) (w := (ap_w pr)) (G := (ap_G wT wF)) (w_1 V) L.2.1 j fun i hi => L.2.2.2 i (by omega)
  have q : (gr_d (ap_C gv ne ba) (ap_T ad dr) (ap_w pr) (ap_G wT wF)) ((gr_it (ap_C gv ne ba) (ap_T ad dr) (ap_w pr) (ap_G wT wF)) j s) < 1000000 := Nat.lt_of_le_of_lt (by omega) L.2.1
  have f := fa_sp g q
  exact ⟨g, q, f.1, it_lt (T_lt ad dr) hs j, f.2.1.1⟩
theorem l_uq {l' : Nat} (L : ap_l wT wF gv ne ba ad dr pr s l) (L' : ap_l wT wF gv ne ba ad dr pr s l') : l = l' := by
  rcases Nat.lt_trichotomy l l' with z | z | z
  · exact absurd L.2.2.1 (L'.2.2.2 l z)
  · exact z
  · exact absurd L'.2.2.1 (L.2.2.2 l' z)
theorem y_s27 {post : Int32 → SY → Prop} (V : ap_V gv ad pr) (A : ∀ x, x < 256 → le x = nI ((gr_d (ap_C gv ne ba) (ap_T ad dr) (ap_w pr) (ap_G wT wF)) x)) (hs : s < 256) (L : ap_l wT wF gv ne ba ad dr pr s l) (K : post (nI l) (nw, wT, wF, gv, ne, ba, ad, dr, pr, le, re)) :
    ∀ n i, l - i < n → i ≤ l → wY_steps_27 post nw wT wF gv ne ba ad dr pr le re n (nI ((gr_it (ap_C gv ne ba) (ap_T ad dr) (ap_w pr) (ap_G wT wF)) i s)) (nI i) := by
  intro n
  induction n with
  | zero => intro i h; omega
  | succ n ih =>
  intro i hn hi
  have l5 := L.1
  refine br_f (nI_ge (b := 256) (by omega) (by decide)) (y_first V A (it_lt (T_lt ad dr) hs i) (fun g d => ?_) (fun z => ?_))
  · have hi' : i < l := by
      rcases Nat.lt_or_ge i l with h | h
      · exact h
      · have e : i = l := by omega
        subst e
        exact absurd ((d_z V _).mp L.2.2.1) g
    have f := l_j V hs L hi'
    refine br_t (nI_pos' (by omega)) (yc_aft f.2.2.1 (nm_r (nI_1 i) ?_))
    rw [← it_s (C := (ap_C gv ne ba)) (T := (ap_T ad dr)) (w := (ap_w pr)) (G := (ap_G wT wF))]
    exact ih (i + 1) (by omega) (by omega)
  · have e : i = l := by
      rcases Nat.lt_or_ge i l with h | h
      · have f := l_j V hs L h
        rcases z with z | z
        · exact absurd z f.1
        · exact absurd f.2.1 z
      · omega
    subst e
    exact br_f (by decide) K
theorem y_steps {post : Int32 → SY → Prop} (V : ap_V gv ad pr) (hs : s < 256) (hn : nw = nI s)
    (K1 : ∀ l le', ap_l wT wF gv ne ba ad dr pr s l → post (nI l) (nw, wT, wF, gv, ne, ba, ad, dr, pr, le', re)) (K0 : ∀ le', (gr_d (ap_C gv ne ba) (ap_T ad dr) (ap_w pr) (ap_G wT wF)) s = 1000000 → post (-1) (nw, wT, wF, gv, ne, ba, ad, dr, pr, le', re)) : wpY_steps post (nw, wT, wF, gv, ne, ba, ad, dr, pr, le, re) := by
  unfold wpY_steps
  subst hn
  refine y_work V fun le' A => ⟨in256 hs, ?_⟩
  have b := d_le (C := (ap_C gv ne ba)) (T := (ap_T ad dr)) (w := (ap_w pr)) (G := (ap_G wT wF)) s
  rw [cl256 hs, A s hs]
  refine pk_lt ((gr_d (ap_C gv ne ba) (ap_T ad dr) (ap_w pr) (ap_G wT wF)) s) 1000000 (fun q => ?_) (fun q => K0 le' (by omega)) rfl rfl (by omega) (by omega)
  obtain ⟨l, L⟩ := l_ex (wT := wT) (wF := wF) (ne := ne) (ba := ba) V hs q
  exact ⟨l + 1, y_s27 V A hs L (K1 l le' L) (l + 1) 0 (by omega) (by omega)⟩
theorem y_p11 {post : Int32 → SY → Prop} {p : Int32} (V : ap_V gv ad pr) (A : ∀ x, x < 256 → le x = nI ((gr_d (ap_C gv ne ba) (ap_T ad dr) (ap_w pr) (ap_G wT wF)) x)) (hs : s < 256) (L : ap_l wT wF gv ne ba ad dr pr s l)
    (K1 : ∀ j, j < l → p = nI j → post (nI ((gr_fa (ap_C gv ne ba) (ap_T ad dr) (ap_w pr) (ap_G wT wF)) ((gr_it (ap_C gv ne ba) (ap_T ad dr) (ap_w pr) (ap_G wT wF)) j s))) (nw, wT, wF, gv, ne, ba, ad, dr, pr, le, re)) (K0 : (∀ j, j < l → ¬ p = nI j) → post (-1) (nw, wT, wF, gv, ne, ba, ad, dr, pr, le, re)) :
    ∀ n i, l - i < n → i ≤ l → (∀ j, j < i → ¬ p = nI j) → wY_planned_11 post p nw wT wF gv ne ba ad dr pr le re n (nI ((gr_it (ap_C gv ne ba) (ap_T ad dr) (ap_w pr) (ap_G wT wF)) i s)) (nI i) := by
  intro n
  induction n with
  | zero => intro i h; omega
  | succ n ih =>
  intro i hn hi B
  have l5 := L.1
  refine br_f (nI_ge (b := 256) (by omega) (by decide)) (y_first V A (it_lt (T_lt ad dr) hs i) (fun g d => ?_) (fun z => ?_))
  · have hi' : i < l := by
      rcases Nat.lt_or_ge i l with h | h
      · exact h
      · have e : i = l := by omega
        subst e
        exact absurd ((d_z V _).mp L.2.2.1) g
    have f := l_j V hs L hi'
    refine br_f (nI_pos (by omega)) (br_c (fun e => K1 i hi' e.symm) (fun e => yc_aft f.2.2.1 (nm_r (nI_1 i) ?_)))
    rw [← it_s (C := (ap_C gv ne ba)) (T := (ap_T ad dr)) (w := (ap_w pr)) (G := (ap_G wT wF))]
    refine ih (i + 1) (by omega) (by omega) fun j hj => ?_
    by_cases z : j = i
    · rw [z]; exact fun q => e q.symm
    · exact B j (by omega)
  · have e : i = l := by
      rcases Nat.lt_or_ge i l with h | h
      · have f := l_j V hs L h
        rcases z with z | z
        · exact absurd z f.1
        · exact absurd f.2.1 z
      · omega
    subst e
    exact br_t (by decide) (K0 B)
theorem y_planned {post : Int32 → SY → Prop} {p : Int32} (V : ap_V gv ad pr) (hs : s < 256) (hn : nw = nI s)
    (K1 : ∀ l le' j, ap_l wT wF gv ne ba ad dr pr s l → j < l → p = nI j → post (nI ((gr_fa (ap_C gv ne ba) (ap_T ad dr) (ap_w pr) (ap_G wT wF)) ((gr_it (ap_C gv ne ba) (ap_T ad dr) (ap_w pr) (ap_G wT wF)) j s))) (nw, wT, wF, gv, ne, ba, ad, dr, pr, le', re)) (K0 : ∀ l le', ap_l wT wF gv ne ba ad dr pr s l → (∀ j, j < l → ¬ p = nI j) → post (-1) (nw, wT, wF, gv, ne, ba, ad, dr, pr, le', re))
    (Kn : ∀ le', (gr_d (ap_C gv ne ba) (ap_T ad dr) (ap_w pr) (ap_G wT wF)) s = 1000000 → post (-1) (nw, wT, wF, gv, ne, ba, ad, dr, pr, le', re)) : wpY_planned post (nw, wT, wF, gv, ne, ba, ad, dr, pr, le, re) p := by
  unfold wpY_planned
  subst hn
  refine y_work V fun le' A => ?_
  have b := d_le (C := (ap_C gv ne ba)) (T := (ap_T ad dr)) (w := (ap_w pr)) (G := (ap_G wT wF)) s
  by_cases q : (gr_d (ap_C gv ne ba) (ap_T ad dr) (ap_w pr) (ap_G wT wF)) s < 1000000
  · obtain ⟨l, L⟩ := l_ex (wT := wT) (wF := wF) (ne := ne) (ba := ba) V hs q
    exact ⟨l + 1, y_p11 V A hs L (fun j hj e => K1 l le' j L hj e) (K0 l le' L) (l + 1) 0 (by omega) (by omega) fun j hj => absurd hj (Nat.not_lt_zero _)⟩
  · exact ⟨1, br_f (by decide) (y_first V A hs (fun _ d => absurd d q) (fun _ => br_t (by decide) (Kn le' (by omega))))⟩
theorem y_price {post : Int32 → SY → Prop} (V : ap_V gv ad pr) (hs : s < 256) (hn : nw = nI s)
    (K1 : ∀ le', (gr_d (ap_C gv ne ba) (ap_T ad dr) (ap_w pr) (ap_G wT wF)) s < 1000000 → post (nI ((gr_d (ap_C gv ne ba) (ap_T ad dr) (ap_w pr) (ap_G wT wF)) s)) (nw, wT, wF, gv, ne, ba, ad, dr, pr, le', re)) (K0 : ∀ le', (gr_d (ap_C gv ne ba) (ap_T ad dr) (ap_w pr) (ap_G wT wF)) s = 1000000 → post (-1) (nw, wT, wF, gv, ne, ba, ad, dr, pr, le', re)) : wpY_price post (nw, wT, wF, gv, ne, ba, ad, dr, pr, le, re) := by
  unfold wpY_price
  subst hn
  refine y_work V fun le' A => ⟨in256 hs, ?_⟩
  have b := d_le (C := (ap_C gv ne ba)) (T := (ap_T ad dr)) (w := (ap_w pr)) (G := (ap_G wT wF)) s
  rw [cl256 hs, A s hs]
  exact pk_le 1000000 ((gr_d (ap_C gv ne ba) (ap_T ad dr) (ap_w pr) (ap_G wT wF)) s) (fun q => K0 le' (by omega)) (fun q => ⟨in256 hs, K1 le' (by omega)⟩) rfl rfl (by omega) (by omega)
theorem y_advance {post : Int32 → SY → Prop} (V : ap_V gv ad pr) (hs : s < 256) (hn : nw = nI s)
    (K1 : ∀ le', ¬ (ap_G wT wF) s → (gr_d (ap_C gv ne ba) (ap_T ad dr) (ap_w pr) (ap_G wT wF)) s < 1000000 → post (nI ((gr_fa (ap_C gv ne ba) (ap_T ad dr) (ap_w pr) (ap_G wT wF)) s)) (nI ((gr_it (ap_C gv ne ba) (ap_T ad dr) (ap_w pr) (ap_G wT wF)) 1 s), wT, wF, gv, ne, ba, ad, dr, pr, le', re)) (K0 : ∀ le', ((ap_G wT wF) s ∨ ¬ (gr_d (ap_C gv ne ba) (ap_T ad dr) (ap_w pr) (ap_G wT wF)) s < 1000000) → post (-1) (nw, wT, wF, gv, ne, ba, ad, dr, pr, le', re)) : wpY_advance post (nw, wT, wF, gv, ne, ba, ad, dr, pr, le, re) := by
  unfold wpY_advance
  subst hn
  refine y_work V fun le' A => y_first V A hs (fun g d => ?_) (fun z => br_t (by decide) (K0 le' z))
  have f := fa_sp g d
  exact br_f (nI_pos (by omega)) (yc_aft f.1 (K1 le' g d))
end YPL
end
section
section BND
variable {wT wF nw pd hP pL pA rs hz lc : Int32} {gv ne ba ad dr pr pn co pc he lf ob ra lo : Nat → Int32} {a s f j : Nat}
/-! the least price of an action that makes a fact true or false -/
def fc_1 (gv ad dr pr ra : Nat → Int32) (f j : Nat) : Prop := ∃ n, n ≤ 1000000 ∧ ra f = nI n ∧ ∀ a, a < j → ¬ gv a = 0 → bt (ad a) f = true → n ≤ (ap_w pr) a
def fc_2 (gv ad dr pr lo : Nat → Int32) (f j : Nat) : Prop := ∃ n, n ≤ 1000000 ∧ lo f = nI n ∧ ∀ a, a < j → ¬ gv a = 0 → bt (dr a) f = true → bt (ad a) f = false → n ≤ (ap_w pr) a
theorem c1_s (h : fc_1 gv ad dr pr ra f j) (hx : ¬ gv j = 0 → bt (ad j) f = true → False) : fc_1 gv ad dr pr ra f (j + 1) := by
  obtain ⟨n, h1, h2, h3⟩ := h
  refine ⟨n, h1, h2, fun a ha g b => ?_⟩
  by_cases z : a = j
  · subst z; exact absurd b (fun b => hx g b)
  · exact h3 a (by omega) g b
theorem c2_s (h : fc_2 gv ad dr pr lo f j) (hx : ¬ gv j = 0 → bt (dr j) f = true → bt (ad j) f = false → False) : fc_2 gv ad dr pr lo f (j + 1) := by
  obtain ⟨n, h1, h2, h3⟩ := h
  refine ⟨n, h1, h2, fun a ha g b c => ?_⟩
  by_cases z : a = j
  · subst z; exact absurd c (fun c => hx g b c)
  · exact h3 a (by omega) g b c
theorem in8 (h : f < 8) : vp_in (nI f) 8 := vp_in_nI h (by decide)
theorem cl8 (h : f < 8) : (nI f).toNatClampNeg = f := nI_clamp (by omega)
theorem x_f129 {post : SX → Prop} {J2 J26 : (Int32 → (Nat → Int32) → (Nat → Int32) → (Nat → Int32) → (Nat → Int32) → (Nat → Int32) → (Nat → Int32) → (Nat → Int32) → (Nat → Int32) → (Nat → Int32) → (Nat → Int32) → (Nat → Int32) → (Nat → Int32) → (Nat → Int32) → (Nat → Int32) → Prop)} {x4 : Int32} (V : ap_V gv ad pr) (hf : f < 8) (hj : j < 10) (R2 : fc_2 gv ad dr pr lo f j)
    (hx : x4 = 0 → ¬ gv j = 0 → bt (dr j) f = true → bt (ad j) f = false → False)
    (K : ∀ lo', (∀ g, g ≠ f → lo' g = lo g) → fc_2 gv ad dr pr lo' f (j + 1) → J26 (nI (j + 1)) gv ne ba ad dr pr pn co pc he lf ob ra lo') : wX_findCheapest_129 post J2 J26 (nI f) (nI j) x4 wT wF nw pd hP pL pA rs hz lc gv ne ba ad dr pr pn co pc he lf ob ra lo := by
  unfold wX_findCheapest_129
  refine br_c (fun z => nm_r (nI_1 j) (K lo (fun _ _ => rfl) (c2_s R2 (hx z)))) (fun z => ⟨in10 hj, in8 hf, ?_⟩)
  obtain ⟨n, h1, h2, h3⟩ := R2
  have wl := w_e V hj
  rw [cl10 hj, cl8 hf, h2, wl.1]
  refine pk_le n ((ap_w pr) j) (fun q => nm_r (nI_1 j) (K lo (fun _ _ => rfl) ⟨n, h1, h2, fun a ha g b c => ?_⟩)) (fun q => ⟨in10 hj, in8 hf, nm_e (nm_r (nI_1 j) (K _ (fun g hg => pk_un hg) ⟨(ap_w pr) j, by omega, pk_us, fun a ha g b c => ?_⟩))⟩) rfl rfl (by omega) (by omega)
  · by_cases z : a = j
    · rw [z]; exact q
    · exact h3 a (by omega) g b c
  · by_cases z : a = j
    · rw [z]; exact Nat.le_refl _
    · have := h3 a (by omega) g b c
      omega
theorem x_f96 {post : SX → Prop} {J2 J26 : (Int32 → (Nat → Int32) → (Nat → Int32) → (Nat → Int32) → (Nat → Int32) → (Nat → Int32) → (Nat → Int32) → (Nat → Int32) → (Nat → Int32) → (Nat → Int32) → (Nat → Int32) → (Nat → Int32) → (Nat → Int32) → (Nat → Int32) → (Nat → Int32) → Prop)} {x3 z0 : Int32} (V : ap_V gv ad pr) (hf : f < 8) (hj : j < 10) (R1 : fc_1 gv ad dr pr ra f j) (R2 : fc_2 gv ad dr pr lo f j)
    (hy : x3 = 0 → ¬ gv j = 0 → bt (ad j) f = true → False) (hx : z0 = 0 → ¬ gv j = 0 → bt (dr j) f = true → bt (ad j) f = false → False)
    (K : ∀ ra' lo', (∀ g, g ≠ f → ra' g = ra g ∧ lo' g = lo g) → fc_1 gv ad dr pr ra' f (j + 1) → fc_2 gv ad dr pr lo' f (j + 1) → J26 (nI (j + 1)) gv ne ba ad dr pr pn co pc he lf ob ra' lo') : wX_findCheapest_96 post J2 J26 (nI f) (nI j) x3 z0 wT wF nw pd hP pL pA rs hz lc gv ne ba ad dr pr pn co pc he lf ob ra lo := by
  unfold wX_findCheapest_96
  refine br_c (fun z => x_f129 V hf hj R2 hx fun lo' e r => K ra lo' (fun g hg => ⟨rfl, e g hg⟩) (c1_s R1 (hy z)) r) (fun z => ⟨in10 hj, in8 hf, ?_⟩)
  obtain ⟨n, h1, h2, h3⟩ := R1
  have wl := w_e V hj
  rw [cl10 hj, cl8 hf, h2, wl.1]
  refine pk_le n ((ap_w pr) j) (fun q => x_f129 V hf hj R2 hx fun lo' e r => K ra lo' (fun g hg => ⟨rfl, e g hg⟩) ⟨n, h1, h2, fun a ha g b => ?_⟩ r)
    (fun q => ⟨in10 hj, in8 hf, nm_e (x_f129 V hf hj R2 hx fun lo' e r => K _ lo' (fun g hg => ⟨pk_un hg, e g hg⟩) ⟨(ap_w pr) j, by omega, pk_us, fun a ha g b => ?_⟩ r)⟩) rfl rfl (by omega) (by omega)
  · by_cases z : a = j
    · rw [z]; exact q
    · exact h3 a (by omega) g b
  · by_cases z : a = j
    · rw [z]; exact Nat.le_refl _
    · have := h3 a (by omega) g b
      omega
theorem x_f59 {post : SX → Prop} {J2 J26 : (Int32 → (Nat → Int32) → (Nat → Int32) → (Nat → Int32) → (Nat → Int32) → (Nat → Int32) → (Nat → Int32) → (Nat → Int32) → (Nat → Int32) → (Nat → Int32) → (Nat → Int32) → (Nat → Int32) → (Nat → Int32) → (Nat → Int32) → (Nat → Int32) → Prop)} {z0 : Int32} (V : ap_V gv ad pr) (hf : f < 8) (hj : j < 10) (R1 : fc_1 gv ad dr pr ra f j) (R2 : fc_2 gv ad dr pr lo f j)
    (hy : z0 = 0 → ¬ gv j = 0 → bt (ad j) f = true → False)
    (K : ∀ ra' lo', (∀ g, g ≠ f → ra' g = ra g ∧ lo' g = lo g) → fc_1 gv ad dr pr ra' f (j + 1) → fc_2 gv ad dr pr lo' f (j + 1) → J26 (nI (j + 1)) gv ne ba ad dr pr pn co pc he lf ob ra' lo') : wX_findCheapest_59 post J2 J26 (nI f) (nI j) z0 wT wF nw pd hP pL pA rs hz lc gv ne ba ad dr pr pn co pc he lf ob ra lo := by
  unfold wX_findCheapest_59
  rw [cl10 hj]
  refine ⟨in10 hj, br_c (fun z => ?_) (fun z => ⟨in10 hj, in10 hj, br_c (fun b => ?_) (fun _ => ?_)⟩)⟩
  · unfold wX_findCheapest_95
    exact x_f96 V hf hj R1 R2 hy (fun _ g => absurd z g) K
  · unfold wX_findCheapest_95
    refine x_f96 V hf hj R1 R2 hy (fun _ _ d c => ?_) K
    rw [ap_b1 _ f (by omega), b_and, b_xor, b_m1 f (by omega), d, c] at b
    exact absurd b (by decide)
  · exact x_f96 V hf hj R1 R2 hy (fun z => absurd z (by decide)) K
theorem x_f26 {post : SX → Prop} {J2 : (Int32 → (Nat → Int32) → (Nat → Int32) → (Nat → Int32) → (Nat → Int32) → (Nat → Int32) → (Nat → Int32) → (Nat → Int32) → (Nat → Int32) → (Nat → Int32) → (Nat → Int32) → (Nat → Int32) → (Nat → Int32) → (Nat → Int32) → (Nat → Int32) → Prop)} (V : ap_V gv ad pr) (hf : f < 8) {ra0 lo0 : Nat → Int32}
    (K : ∀ ra' lo', (∀ g, g ≠ f → ra' g = ra0 g ∧ lo' g = lo0 g) → fc_1 gv ad dr pr ra' f 10 → fc_2 gv ad dr pr lo' f 10 → J2 (nI (f + 1)) gv ne ba ad dr pr pn co pc he lf ob ra' lo') :
    ∀ n j ra lo, 10 - j < n → j ≤ 10 → (∀ g, g ≠ f → ra g = ra0 g ∧ lo g = lo0 g) → fc_1 gv ad dr pr ra f j → fc_2 gv ad dr pr lo f j → wX_findCheapest_26 post J2 (nI f) wT wF nw pd hP pL pA rs hz lc n (nI j) gv ne ba ad dr pr pn co pc he lf ob ra lo := by
  intro n
  induction n with
  | zero => intro j ra lo h; omega
  | succ n ih =>
  intro j ra lo hn hj E R1 R2
  refine pk_le 10 j (fun h => ?_) (fun h => ⟨in10 h, ?_⟩)
  · have e : j = 10 := by omega
    subst e
    exact nm_r (nI_1 f) (K ra lo E R1 R2)
  · have KK : ∀ ra' lo', (∀ g, g ≠ f → ra' g = ra g ∧ lo' g = lo g) → fc_1 gv ad dr pr ra' f (j + 1) → fc_2 gv ad dr pr lo' f (j + 1) → wX_findCheapest_26 post J2 (nI f) wT wF nw pd hP pL pA rs hz lc n (nI (j + 1)) gv ne ba ad dr pr pn co pc he lf ob ra' lo' :=
      fun ra' lo' e r1 r2 => ih (j + 1) ra' lo' (by omega) (by omega) (fun g hg => ⟨(e g hg).1.trans (E g hg).1, (e g hg).2.trans (E g hg).2⟩) r1 r2
    rw [cl10 h]
    refine br_c (fun z => ?_) (fun z => ⟨in10 h, br_c (fun b => ?_) (fun _ => ?_)⟩)
    · unfold wX_findCheapest_58
      exact x_f59 V hf h R1 R2 (fun _ g => absurd z g) KK
    · unfold wX_findCheapest_58
      refine x_f59 V hf h R1 R2 (fun _ _ c => ?_) KK
      rw [ap_bu _ f (by omega), c] at b
      exact absurd b (by decide)
    · exact x_f59 V hf h R1 R2 (fun z => absurd z (by decide)) KK
theorem x_f2 {post : SX → Prop} (V : ap_V gv ad pr) (K : ∀ ra' lo', (∀ g, g < 8 → fc_1 gv ad dr pr ra' g 10 ∧ fc_2 gv ad dr pr lo' g 10) → post (wT, wF, nw, pd, hP, pL, pA, rs, hz, lc, gv, ne, ba, ad, dr, pr, pn, co, pc, he, lf, ob, ra', lo')) :
    ∀ n f ra lo, 8 - f < n → f ≤ 8 → (∀ g, g < f → fc_1 gv ad dr pr ra g 10 ∧ fc_2 gv ad dr pr lo g 10) → wX_findCheapest_2 post wT wF nw pd hP pL pA rs hz lc n (nI f) gv ne ba ad dr pr pn co pc he lf ob ra lo := by
  intro n
  induction n with
  | zero => intro f ra lo h; omega
  | succ n ih =>
  intro f ra lo hn hf R
  refine pk_le 8 f (fun h => ?_) (fun h => ⟨in8 h, nm_e ⟨in8 h, nm_e ⟨11, ?_⟩⟩⟩)
  · have e : f = 8 := by omega
    subst e
    exact K ra lo R
  · rw [cl8 h]
    refine x_f26 V h (ra0 := ra) (lo0 := lo) (fun ra' lo' e r1 r2 => ?_) 11 0 _ _ (by omega) (by omega) (fun g hg => ⟨pk_un hg, pk_un hg⟩)
      ⟨1000000, Nat.le_refl _, pk_us, fun a ha => absurd ha (Nat.not_lt_zero _)⟩ ⟨1000000, Nat.le_refl _, pk_us, fun a ha => absurd ha (Nat.not_lt_zero _)⟩
    refine ih (f + 1) ra' lo' (by omega) (by omega) fun g hg => ?_
    by_cases z : g = f
    · rw [z]; exact ⟨r1, r2⟩
    · have r := R g (by omega)
      unfold fc_1 fc_2 at r ⊢
      rw [(e g z).1, (e g z).2]
      exact r
theorem x_cheap {post : SX → Prop} (V : ap_V gv ad pr) (K : ∀ ra' lo', (∀ g, g < 8 → fc_1 gv ad dr pr ra' g 10 ∧ fc_2 gv ad dr pr lo' g 10) → post (wT, wF, nw, pd, hP, pL, pA, rs, hz, lc, gv, ne, ba, ad, dr, pr, pn, co, pc, he, lf, ob, ra', lo')) : wpX_findCheapest post (wT, wF, nw, pd, hP, pL, pA, rs, hz, lc, gv, ne, ba, ad, dr, pr, pn, co, pc, he, lf, ob, ra, lo) := by
  unfold wpX_findCheapest
  exact ⟨9, x_f2 V K 9 0 ra lo (by omega) (by omega) fun g hg => absurd hg (Nat.not_lt_zero _)⟩
/-! the bound -/
def ap_t1 (wT : Int32) (ra : Nat → Int32) (s f : Nat) : Nat := if bt wT f = true ∧ bt (nI s) f = false then (ra f).toNatClampNeg else 0
def ap_t2 (wF : Int32) (lo : Nat → Int32) (s f : Nat) : Nat := if bt wF f = true ∧ bt (nI s) f = true then (lo f).toNatClampNeg else 0
def ap_hk (wT wF : Int32) (ra lo : Nat → Int32) (s : Nat) : Nat → Nat
  | 0 => 0
  | f + 1 => max (max (ap_hk wT wF ra lo s f) (ap_t1 wT ra s f)) (ap_t2 wF lo s f)
theorem hk_s (f : Nat) : ap_hk wT wF ra lo s (f + 1) = max (max (ap_hk wT wF ra lo s f) (ap_t1 wT ra s f)) (ap_t2 wF lo s f) := rfl
theorem hk_le {x : Nat} : ∀ n, ap_hk wT wF ra lo s n ≤ x ↔ ∀ f, f < n → ap_t1 wT ra s f ≤ x ∧ ap_t2 wF lo s f ≤ x := by
  intro n
  induction n with
  | zero => exact ⟨fun _ f hf => absurd hf (Nat.not_lt_zero _), fun _ => Nat.zero_le _⟩
  | succ n ih =>
    rw [hk_s]
    constructor
    · intro h f hf
      by_cases z : f = n
      · rw [z]; omega
      · exact ih.mp (by omega) f (by omega)
    · intro h
      have h1 := ih.mpr fun f hf => h f (by omega)
      have h2 := h n (by omega)
      omega
def ap_B (ra lo : Nat → Int32) : Prop := ∀ f, f < 8 → (∃ n, n ≤ 1000000 ∧ ra f = nI n) ∧ ∃ n, n ≤ 1000000 ∧ lo f = nI n
theorem B_1 (B : ap_B ra lo) (hf : f < 8) : ra f = nI (ra f).toNatClampNeg ∧ (ra f).toNatClampNeg ≤ 1000000 := by
  obtain ⟨⟨n, h, e⟩, _⟩ := B f hf
  rw [e, nI_clamp (by omega)]
  exact ⟨rfl, h⟩
theorem B_2 (B : ap_B ra lo) (hf : f < 8) : lo f = nI (lo f).toNatClampNeg ∧ (lo f).toNatClampNeg ≤ 1000000 := by
  obtain ⟨_, n, h, e⟩ := B f hf
  rw [e, nI_clamp (by omega)]
  exact ⟨rfl, h⟩
theorem hk_B (B : ap_B ra lo) : ∀ n, n ≤ 8 → ap_hk wT wF ra lo s n ≤ 1000000 := by
  intro n hn
  refine (hk_le n).mpr fun f hf => ?_
  unfold ap_t1 ap_t2
  have b1 := B_1 B (f := f) (by omega)
  have b2 := B_2 B (f := f) (by omega)
  constructor
  · split <;> omega
  · split <;> omega
theorem x_b49 {post : Int32 → Prop} {J : Int32 → Int32 → Prop} {m : Nat} (B : ap_B ra lo) (hf : f < 8) (hm : m ≤ 1000000) (K : J (nI (max m (ap_t2 wF lo s f))) (nI (f + 1))) :
    wX_bound_49 post J (nI s) (nI m) (nI f) ((1 : Int32) <<< (nI f &&& 31)) wT wF nw pd hP pL pA rs hz lc gv ne ba ad dr pr pn co pc he lf ob ra lo := by
  unfold wX_bound_49
  rw [ap_b1 _ f (by omega), ap_b1 _ f (by omega)]
  by_cases h1 : bt wF f = false
  · have e : ap_t2 wF lo s f = 0 := if_neg fun z => by rw [h1] at z; exact absurd z.1 (by decide)
    rw [e, Nat.max_zero] at K
    exact br_t h1 (nm_r (nI_1 f) K)
  · by_cases h2 : bt (nI s) f = false
    · have e : ap_t2 wF lo s f = 0 := if_neg fun z => by rw [h2] at z; exact absurd z.2 (by decide)
      rw [e, Nat.max_zero] at K
      exact br_f h1 (br_t h2 (nm_r (nI_1 f) K))
    · have e : ap_t2 wF lo s f = (lo f).toNatClampNeg := if_pos ⟨Bool.of_not_eq_false h1, Bool.of_not_eq_false h2⟩
      rw [e] at K
      refine br_f h1 (br_f h2 ⟨in8 hf, ?_⟩)
      have b2 := B_2 B hf
      rw [cl8 hf]
      refine pk_le (lo f).toNatClampNeg m (fun q => nm_r (nI_1 f) ?_) (fun q => ⟨in8 hf, nm_r b2.1 (nm_r (nI_1 f) ?_)⟩) b2.1 rfl (by omega) (by omega)
      · rw [Nat.max_eq_left q] at K
        exact K
      · rw [Nat.max_eq_right (by omega)] at K
        exact K
theorem x_b4 {post : Int32 → Prop} (B : ap_B ra lo) (K : post (nI (ap_hk wT wF ra lo s 8))) : ∀ n f, 8 - f < n → f ≤ 8 → wX_bound_4 post (nI s) wT wF nw pd hP pL pA rs hz lc gv ne ba ad dr pr pn co pc he lf ob ra lo n (nI (ap_hk wT wF ra lo s f)) (nI f) := by
  intro n
  induction n with
  | zero => intro f h; omega
  | succ n ih =>
  intro f hn hf
  refine pk_le 8 f (fun h => ?_) (fun h => nm_e ?_)
  · have e : f = 8 := by omega
    subst e
    exact K
  · have hm := hk_B (wT := wT) (wF := wF) (s := s) B f hf
    have KK := ih (f + 1) (by omega) (by omega)
    rw [hk_s] at KK
    rw [ap_b1 _ f (by omega), ap_b1 _ f (by omega)]
    by_cases h1 : bt wT f = false
    · have e : ap_t1 wT ra s f = 0 := if_neg fun z => by rw [h1] at z; exact absurd z.1 (by decide)
      rw [e, Nat.max_zero] at KK
      exact br_t h1 (x_b49 B h hm KK)
    · by_cases h2 : bt (nI s) f = false
      · have e : ap_t1 wT ra s f = (ra f).toNatClampNeg := if_pos ⟨Bool.of_not_eq_false h1, h2⟩
        rw [e] at KK
        refine br_f h1 (br_t h2 ⟨in8 h, ?_⟩)
        have b1 := B_1 B h
        rw [cl8 h]
        refine pk_le (ra f).toNatClampNeg (ap_hk wT wF ra lo s f) (fun q => ?_) (fun q => ⟨in8 h, nm_r b1.1 ?_⟩) b1.1 rfl (by omega) (by omega)
        · rw [Nat.max_eq_left q] at KK
          exact x_b49 B h hm KK
        · rw [Nat.max_eq_right (Nat.le_of_lt q)] at KK
          exact x_b49 B h b1.2 KK
      · have e : ap_t1 wT ra s f = 0 := if_neg fun z => h2 z.2
        rw [e, Nat.max_zero] at KK
        exact br_f h1 (br_f h2 (x_b49 B h hm KK))
def ap_hb (wT wF : Int32) (ra lo : Nat → Int32) (s : Nat) : Nat := ap_hk wT wF ra lo s 8
theorem xc_bound {post : Int32 → Prop} (B : ap_B ra lo) (h : post (nI (ap_hb wT wF ra lo s))) : wpX_bound post (wT, wF, nw, pd, hP, pL, pA, rs, hz, lc, gv, ne, ba, ad, dr, pr, pn, co, pc, he, lf, ob, ra, lo) (nI s) := by
  unfold wpX_bound
  exact ⟨9, x_b4 B h 9 0 (by omega) (by omega)⟩
theorem hb_B (B : ap_B ra lo) (s : Nat) : ap_hb wT wF ra lo s ≤ 1000000 := hk_B B 8 (Nat.le_refl _)
theorem xc_key {post : Int32 → Prop} {c : Nat → Nat} (B : ap_B ra lo) (A : ap_A co c) (hs : s < 256) (h : post (nI (c s + ap_hb wT wF ra lo s))) : wpX_keyOf post (wT, wF, nw, pd, hP, pL, pA, rs, hz, lc, gv, ne, ba, ad, dr, pr, pn, co, pc, he, lf, ob, ra, lo) (nI s) := by
  unfold wpX_keyOf
  refine ⟨in256 hs, xc_bound B ?_⟩
  rw [cl256 hs, (A s hs).1, nI_add]
  exact h
/-! the bound is consistent -/
theorem hb_G (s : Nat) (h : (ap_G wT wF) s) : ap_hb wT wF ra lo s = 0 := by
  refine Nat.le_zero.mp ((hk_le 8).mpr fun f _ => ⟨?_, ?_⟩)
  · refine Nat.le_of_eq (if_neg fun z => ?_)
    have e := congrArg (fun x => bt x f) h.1
    simp only [b_and, z.1, z.2] at e
    exact absurd e (by decide)
  · refine Nat.le_of_eq (if_neg fun z => ?_)
    have e := congrArg (fun x => bt x f) h.2
    simp only [b_and, z.1, z.2, b_0] at e
    exact absurd e (by decide)
theorem T_bt (hf : f < 8) : bt (nI ((ap_T ad dr) a s)) f = ((bt (nI s) f && !(bt (dr a) f)) || bt (ad a) f) := by
  rw [T_y, b_and, b_or, b_and, b_xor, b_m1 f (by omega), b_255, decide_eq_true hf, Bool.and_true, Bool.xor_true]
theorem hb_C (R : ∀ g, g < 8 → fc_1 gv ad dr pr ra g 10 ∧ fc_2 gv ad dr pr lo g 10) (s a : Nat) (ha : a < 10) (hc : (ap_C gv ne ba) a s) : ap_hb wT wF ra lo s ≤ (ap_w pr) a + ap_hb wT wF ra lo ((ap_T ad dr) a s) := by
  refine (hk_le 8).mpr fun f hf => ?_
  have up := (hk_le (wT := wT) (wF := wF) (ra := ra) (lo := lo) (s := (ap_T ad dr) a s) (x := ap_hb wT wF ra lo ((ap_T ad dr) a s)) 8).mp (Nat.le_refl _) f hf
  have tb := T_bt (ad := ad) (dr := dr) (a := a) (s := s) hf
  obtain ⟨⟨n1, l1, e1, r1⟩, n2, l2, e2, r2⟩ := R f hf
  constructor
  · by_cases z : bt wT f = true ∧ bt (nI s) f = false
    · have e : ap_t1 wT ra s f = n1 := by unfold ap_t1; rw [if_pos z, e1, nI_clamp (by omega)]
      rw [e]
      by_cases y : bt (nI ((ap_T ad dr) a s)) f = false
      · have e' : ap_t1 wT ra ((ap_T ad dr) a s) f = n1 := by unfold ap_t1; rw [if_pos ⟨z.1, y⟩, e1, nI_clamp (by omega)]
        rw [e'] at up
        omega
      · rw [z.2, Bool.false_and, Bool.false_or] at tb
        rw [tb] at y
        have := r1 a ha hc.1 (Bool.of_not_eq_false y)
        omega
    · have e : ap_t1 wT ra s f = 0 := if_neg z
      rw [e]
      exact Nat.zero_le _
  · by_cases z : bt wF f = true ∧ bt (nI s) f = true
    · have e : ap_t2 wF lo s f = n2 := by unfold ap_t2; rw [if_pos z, e2, nI_clamp (by omega)]
      rw [e]
      by_cases y : bt (nI ((ap_T ad dr) a s)) f = true
      · have e' : ap_t2 wF lo ((ap_T ad dr) a s) f = n2 := by unfold ap_t2; rw [if_pos ⟨z.1, y⟩, e2, nI_clamp (by omega)]
        rw [e'] at up
        omega
      · rw [tb, z.2, Bool.true_and, Bool.or_eq_true, not_or] at y
        have y1 : bt (dr a) f = true := by
          cases u : bt (dr a) f
          · rw [u] at y; exact absurd rfl y.1
          · rfl
        have := r2 a ha hc.1 y1 (Bool.of_not_eq_true y.2)
        omega
    · have e : ap_t2 wF lo s f = 0 := if_neg z
      rw [e]
      exact Nat.zero_le _
theorem B_of (R : ∀ g, g < 8 → fc_1 gv ad dr pr ra g 10 ∧ fc_2 gv ad dr pr lo g 10) : ap_B ra lo := by
  intro f hf
  obtain ⟨⟨n1, l1, e1, _⟩, n2, l2, e2, _⟩ := R f hf
  exact ⟨⟨n1, l1, e1⟩, n2, l2, e2⟩
theorem hb_d (V : ap_V gv ad pr) (R : ∀ g, g < 8 → fc_1 gv ad dr pr ra g 10 ∧ fc_2 gv ad dr pr lo g 10) (s : Nat) : ap_hb wT wF ra lo s ≤ (gr_d (ap_C gv ne ba) (ap_T ad dr) (ap_w pr) (ap_G wT wF)) s :=
  d_hb (w_1 V) hb_G (hb_B (B_of R)) (hb_C R) s
end BND
end
section
def ap_k (wT wF : Int32) (ra lo : Nat → Int32) (c : Nat → Nat) (x : Nat) : Nat := c x + ap_hb wT wF ra lo x
section XHP
variable {wT wF nw pd hP pL pA rs hz lc : Int32} {gv ne ba ad dr pr pn co pc he lf ob ra lo : Nat → Int32} {c S h : Nat → Nat} {m e s : Nat}
theorem k_B (B : ap_B ra lo) (A : ap_A co c) {x : Nat} (hx : x < 256) : (ap_k wT wF ra lo c) x ≤ 2000000 := by
  have h1 := hb_B (wT := wT) (wF := wF) B x
  have h2 := (A x hx).2
  unfold ap_k
  omega
theorem xk_key {post : Int32 → Prop} (B : ap_B ra lo) (A : ap_A co c) (hs : s < 256) (h : post (nI ((ap_k wT wF ra lo c) s))) : wpX_keyOf post (wT, wF, nw, pd, hP, pL, pA, rs, hz, lc, gv, ne, ba, ad, dr, pr, pn, co, pc, he, lf, ob, ra, lo) (nI s) := xc_key B A hs h
theorem xc_set {post : SX → Prop} (he0 : e < 256) (hs : s < 256) (K : post (wT, wF, nw, pd, hP, pL, pA, rs, hz, lc, gv, ne, ba, ad, dr, pr, pn, co, upd pc s (nI e), upd he e (nI s), lf, ob, ra, lo)) : wpX_setHeap post (wT, wF, nw, pd, hP, pL, pA, rs, hz, lc, gv, ne, ba, ad, dr, pr, pn, co, pc, he, lf, ob, ra, lo) (nI e) (nI s) := by
  unfold wpX_setHeap
  dsimp only
  rw [cl256 he0, cl256 hs]
  exact ⟨in256 he0, nm_e ⟨in256 hs, nm_e K⟩⟩
theorem hA_hole (H : hp_A S m m h pc he) (e : Nat) : hp_A S m e h pc he :=
  ⟨H.1, H.2.1, fun i hi _ => H.2.2.1 i hi (by omega), H.2.2.2⟩
/-! rise -/
theorem x_r98 {post : SX → Prop} (hm : m ≤ 256) (H : hp_A S m e h pc he) (h0 : e < m) (hs : h e = s) (K : ∀ pc' he', hp_A S m m h pc' he' → post (wT, wF, nw, pd, hP, pL, pA, rs, hz, lc, gv, ne, ba, ad, dr, pr, pn, co, pc', he', lf, ob, ra, lo)) : wX_rise_98 post (nI e) (nI s) wT wF nw pd hP pL pA rs hz lc gv ne ba ad dr pr pn co pc he lf ob ra lo := by
  unfold wX_rise_98
  subst hs
  exact xc_set (by omega) (H.1 e h0).1 (K _ _ (hA_put H h0))
theorem x_r22 {post : SX → Prop} (B : ap_B ra lo) (A : ap_A co c) (hm : m ≤ 256) (hs : s < 256) (K : ∀ h' pc' he', hp_A S m m h' pc' he' → hp_O (ap_k wT wF ra lo c) m h' → post (wT, wF, nw, pd, hP, pL, pA, rs, hz, lc, gv, ne, ba, ad, dr, pr, pn, co, pc', he', lf, ob, ra, lo)) :
    ∀ n t e h pc he (mv : Int32), 9 - t < n → t ≤ 9 → hp_A S m e h pc he → e < m → h e = s → (mv = 1 ∧ hp_R (ap_k wT wF ra lo c) m e h ∧ (e + 1) * 2 ^ t ≤ 256 ∨ mv = 0 ∧ hp_O (ap_k wT wF ra lo c) m h) → wX_rise_22 post (nI s) (nI ((ap_k wT wF ra lo c) s)) n (nI e) mv (nI t) wT wF nw pd hP pL pA rs hz lc gv ne ba ad dr pr pn co pc he lf ob ra lo := by
  intro n
  induction n with
  | zero => intro t e h pc he mv z; omega
  | succ n ih =>
  intro t e h pc he mv hn ht H h0 hs' I
  have ex : hp_O (ap_k wT wF ra lo c) m h → wX_rise_98 post (nI e) (nI s) wT wF nw pd hP pL pA rs hz lc gv ne ba ad dr pr pn co pc he lf ob ra lo := fun O => x_r98 hm H h0 hs' fun pc' he' H' => K h pc' he' H' O
  refine pk_le 9 t (fun q => ex ?_) (fun q => pk_le e 0 (fun z => ex ?_) (fun z => ?_))
  · rcases I with ⟨_, _, y⟩ | ⟨_, O⟩
    · have e9 : t = 9 := by omega
      subst e9
      omega
    · exact O
  · rcases I with ⟨_, R, _⟩ | ⟨_, O⟩
    · exact hR_end R (Or.inl (by omega))
    · exact O
  · rcases I with ⟨rfl, R, y⟩ | ⟨rfl, O⟩
    · have hp : (e - 1) / 2 < m := by omega
      have pe : (e - 1) / 2 ≠ e := by omega
      have hp' := H.1 _ hp
      have ha := H.2.2.1 _ hp pe
      have b1 := k_B (wT := wT) (wF := wF) B A hp'.1
      have b2 := k_B (wT := wT) (wF := wF) B A hs
      refine br_f (by decide) ⟨by decide, nm_r (e' := nI ((e - 1) / 2)) ?_ ⟨in256 (by omega), ?_⟩⟩
      · rw [show (1 : Int32) = nI 1 from rfl, pk_sub (by omega)]
        exact pk_div (d := 2) (by omega) (by omega) (by omega)
      · rw [cl256 (by omega), ha.1]
        refine xk_key B A hp'.1 (pk_le ((ap_k wT wF ra lo c) (h ((e - 1) / 2))) ((ap_k wT wF ra lo c) s) (fun u => ?_) (fun u => ?_) rfl rfl (by omega) (by omega))
        · unfold wX_rise_70
          refine br_t rfl (nm_r (nI_1 t) (ih (t + 1) e h pc he 0 (by omega) (by omega) H h0 hs' (Or.inr ⟨rfl, hR_end R (Or.inr ?_)⟩)))
          rw [hs']
          exact u
        · unfold wX_rise_70
          refine br_f (by decide) ⟨in256 (by omega), ?_⟩
          rw [cl256 (by omega), ha.1]
          refine xc_set (by omega) hp'.1 (nm_r (nI_1 t) (ih (t + 1) _ _ _ _ 1 (by omega) (by omega) (hA_move H h0 hp pe) hp (by rw [hw_2]; exact hs') (Or.inl ⟨rfl, hR_go R z h0 (by rw [hs']; exact u), ?_⟩)))
          have y1 : (e - 1) / 2 * 2 + 2 ≤ e + 1 := by omega
          have y2 := Nat.mul_le_mul_right (2 ^ t) y1
          rw [Nat.pow_succ, Nat.mul_comm (2 ^ t) 2, ← Nat.mul_assoc, Nat.add_mul _ 1 2]
          exact Nat.le_trans y2 y
    · exact br_t rfl (ex O)
theorem x_rise {post : SX → Prop} (B : ap_B ra lo) (A : ap_A co c) (hm : m ≤ 256) (H : hp_A S m m h pc he) (h0 : e < m) (R : hp_R (ap_k wT wF ra lo c) m e h) (K : ∀ h' pc' he', hp_A S m m h' pc' he' → hp_O (ap_k wT wF ra lo c) m h' → post (wT, wF, nw, pd, hP, pL, pA, rs, hz, lc, gv, ne, ba, ad, dr, pr, pn, co, pc', he', lf, ob, ra, lo)) : wpX_rise post (wT, wF, nw, pd, hP, pL, pA, rs, hz, lc, gv, ne, ba, ad, dr, pr, pn, co, pc, he, lf, ob, ra, lo) (nI e) := by
  unfold wpX_rise
  dsimp only
  have hp := (H.1 e h0).1
  rw [cl256 (by omega), (H.2.2.1 e h0 (by omega)).1]
  refine ⟨in256 (by omega), nm_e (xk_key B A hp ⟨10, x_r22 B A hm hp K 10 0 e h pc he 1 (by omega) (by omega) (hA_hole H e) h0 rfl (Or.inl ⟨rfl, R, ?_⟩)⟩)⟩
  rw [Nat.pow_zero]
  omega
/-! reach -/
def hp_I (k : Nat → Nat) (S : Nat → Nat) (m : Nat) (pc he : Nat → Int32) : Prop := ∃ h, hp_A S m m h pc he ∧ hp_O k m h ∧ m = ap_cn (fun x => decide (S x = 1)) 256
theorem hI_m {k : Nat → Nat} (I : hp_I k S m pc he) : m ≤ 256 := by
  obtain ⟨h, _, _, e⟩ := I
  rw [e]
  exact cn_le _ _
theorem u_1 {t : Nat} (h : S t = 1) : ap_u S t 1 = S := by
  funext x
  by_cases z : x = t
  · rw [z, u_s, h]
  · rw [u_n S z]
theorem x_reach {post : SX → Prop} {t p : Nat} (B : ap_B ra lo) (A : ap_A co c) (I : hp_I (ap_k wT wF ra lo c) S m pc he) (ht : t < 256) (hp : p < 2 ^ 30)
    (K0 : (S t = 2 ∨ c t ≤ p) → post (wT, wF, nw, pd, hP, pL, pA, rs, nI m, lc, gv, ne, ba, ad, dr, pr, pn, co, pc, he, lf, ob, ra, lo)) (K1 : ∀ m' pc' he', S t ≠ 2 → p < c t → hp_I (ap_k wT wF ra lo (ap_u c t p)) (ap_u S t 1) m' pc' he' → post (wT, wF, nw, pd, hP, pL, pA, rs, nI m', lc, gv, ne, ba, ad, dr, pr, pn, upd co t (nI p), pc', he', lf, ob, ra, lo)) : wpX_reach post (wT, wF, nw, pd, hP, pL, pA, rs, nI m, lc, gv, ne, ba, ad, dr, pr, pn, co, pc, he, lf, ob, ra, lo) (nI t) (nI p) := by
  obtain ⟨h, H, O, em⟩ := I
  have hm := cn_le (fun x => decide (S x = 1)) 256
  rw [← em] at hm
  have at1 := A t ht
  unfold wpX_reach
  dsimp only
  rw [cl256 ht, at1.1]
  have sb := H.2.2.2.2.2.2 t ht
  by_cases s2 : S t = 2
  · exact ⟨in256 ht, br_t (H.2.2.2.2.1 t ht s2) (K0 (Or.inl s2))⟩
  · have n2 : ¬ pc t = -2 := by
      by_cases s0 : S t = 0
      · rw [H.2.2.2.1 t ht s0]; decide
      · obtain ⟨i, hi, ei⟩ := H.2.2.2.2.2.1 t ht (by omega)
        rw [← ei, (H.2.2.1 i hi (by omega)).2]
        intro z
        have := nI_pos (n := i) (by omega)
        rw [z] at this
        exact this (by decide)
    refine ⟨in256 ht, br_f n2 ⟨in256 ht, pk_lt p (c t) (fun q => ⟨in256 ht, nm_e ⟨in256 ht, ?_⟩⟩) (fun q => K0 (Or.inr q)) rfl rfl (by omega) (by omega)⟩⟩
    have A' : ap_A (upd co t (nI p)) (ap_u c t p) := A_u A (by omega)
    have k1 : ap_k wT wF ra lo (ap_u c t p) t ≤ (ap_k wT wF ra lo c) t := by
      unfold ap_k
      rw [u_s]
      omega
    have k2 : ∀ x, x ≠ t → ap_k wT wF ra lo (ap_u c t p) x = (ap_k wT wF ra lo c) x := fun x hx => by
      unfold ap_k
      rw [u_n c hx]
    by_cases s0 : S t = 0
    · have hlt : m < 256 := by
        have := cn_lt (p := fun x => decide (S x = 1)) (q := fun _ => true) (y := t) (fun z => by have := of_decide_eq_true z; omega) rfl 256 ht (fun _ _ _ => rfl)
        rw [← em, show ap_cn (fun _ => true) 256 = 256 by decide +kernel] at this
        exact this
      have nt : ∀ i, i < m → h i ≠ t := fun i hi z => by
        have := (H.1 i hi).2
        rw [z] at this
        omega
      refine br_t (H.2.2.2.1 t ht s0) ⟨in256 ht, nm_e ⟨in256 hlt, nm_e (nm_r (nI_1 m) ?_)⟩⟩
      unfold wX_reach_69
      rw [cl256 ht, pk_us, cl256 hlt]
      have H' : hp_A (ap_u S t 1) (m + 1) (m + 1) (ap_u h m t) (upd pc t (nI m)) (upd he m (nI t)) := by
        refine ⟨fun i hi => ?_, fun i j hi hj => ?_, fun i hi _ => ?_, fun x hx sx => ?_, fun x hx sx => ?_, fun x hx sx => ?_, fun x hx => ?_⟩
        · by_cases z : i = m
          · rw [z, u_s, u_s]; exact ⟨ht, rfl⟩
          · rw [u_n h z, u_n S (nt i (by omega))]; exact H.1 i (by omega)
        · by_cases z : i = m
          · by_cases y : j = m
            · intro _; rw [z, y]
            · rw [z, u_s, u_n h y]
              exact fun w => absurd w.symm (nt j (by omega))
          · by_cases y : j = m
            · rw [y, u_s, u_n h z]
              exact fun w => absurd w (nt i (by omega))
            · rw [u_n h z, u_n h y]
              exact H.2.1 i j (by omega) (by omega)
        · by_cases z : i = m
          · rw [z, u_s, pk_us, pk_us]; exact ⟨rfl, rfl⟩
          · rw [u_n h z, pk_un z, pk_un (nt i (by omega))]; exact H.2.2.1 i (by omega) z
        · by_cases z : x = t
          · rw [z, u_s] at sx; omega
          · rw [u_n S z] at sx
            rw [pk_un z]; exact H.2.2.2.1 x hx sx
        · by_cases z : x = t
          · rw [z, u_s] at sx; omega
          · rw [u_n S z] at sx
            rw [pk_un z]; exact H.2.2.2.2.1 x hx sx
        · by_cases z : x = t
          · exact ⟨m, by omega, by rw [u_s, z]⟩
          · rw [u_n S z] at sx
            obtain ⟨i, hi, ei⟩ := H.2.2.2.2.2.1 x hx sx
            exact ⟨i, by omega, by rw [u_n h (by omega), ei]⟩
        · by_cases z : x = t
          · rw [z, u_s]; omega
          · rw [u_n S z]; exact H.2.2.2.2.2.2 x hx
      refine ⟨in256 ht, x_rise B A' (by omega) H' (by omega) ⟨fun i i0 hi ne => ?_, fun _ i i0 hi ie => by omega⟩ fun h' pc' he' H2 O2 => K1 (m + 1) pc' he' s2 q ⟨h', H2, O2, ?_⟩⟩
      · rw [u_n h (by omega), u_n h ne, k2 _ (nt _ (by omega)), k2 _ (nt _ (by omega))]
        exact O i i0 (by omega)
      · rw [cn_upd (p := fun x => decide (S x = 1)) (q := fun x => decide (ap_u S t 1 x = 1)) (y := t) (fun z => by have := of_decide_eq_true z; omega) (decide_eq_true (u_s S t 1)) 256 ht (fun x _ hx => by show decide (S x = 1) = true ↔ decide (ap_u S t 1 x = 1) = true; rw [u_n S hx]), ← em]
    · have s1 : S t = 1 := by omega
      obtain ⟨i, hi, ei⟩ := H.2.2.2.2.2.1 t ht s1
      have ha := (H.2.2.1 i hi (by omega)).2
      rw [ei] at ha
      have n1 : ¬ pc t = -1 := by
        rw [ha]
        intro z
        have := nI_pos (n := i) (by omega)
        rw [z] at this
        exact this (by decide)
      have nt : ∀ j, j < m → j ≠ i → h j ≠ t := fun j hj ne z => ne (H.2.1 j i hj hi (z.trans ei.symm))
      refine br_f n1 ?_
      unfold wX_reach_69
      rw [cl256 ht, ha]
      rw [u_1 s1] at K1
      refine ⟨in256 ht, x_rise B A' hm H hi ⟨fun j j0 hj ne => ?_, fun i0 j j0 hj je => ?_⟩ fun h' pc' he' H2 O2 => K1 m pc' he' s2 q ⟨h', H2, O2, em⟩⟩
      · rw [k2 _ (nt j hj ne)]
        have oj := O j j0 hj
        by_cases z : (j - 1) / 2 = i
        · rw [z, ei] at oj ⊢
          omega
        · rw [k2 _ (nt _ (by omega) z)]
          exact oj
      · rw [k2 _ (nt _ (by omega) (by omega)), k2 _ (nt j hj (by omega))]
        have o1 := O i i0 hi
        have o2 := O j j0 hj
        rw [je] at o2
        omega
/-! sink -/
theorem x_less {post : Int32 → Prop} (B : ap_B ra lo) (A : ap_A co c) (hm : m ≤ 256) (H : hp_A S m e h pc he) (h0 : e < m) (K0 : m ≤ 2 * e + 1 → post (-1))
    (K1 : ∀ b, 0 < b → b < m → (b - 1) / 2 = e → (∀ i, 0 < i → i < m → (i - 1) / 2 = e → (ap_k wT wF ra lo c) (h b) ≤ (ap_k wT wF ra lo c) (h i)) → post (nI b)) : wpX_lesserChild post (wT, wF, nw, pd, hP, pL, pA, rs, nI m, lc, gv, ne, ba, ad, dr, pr, pn, co, pc, he, lf, ob, ra, lo) (nI e) := by
  unfold wpX_lesserChild
  dsimp only
  refine nm_r (e' := nI (2 * e + 1)) ?_ (nm_r (nI_1 (2 * e + 1)) (pk_lt (2 * e + 1) m (fun q => pk_lt (2 * e + 1 + 1) m (fun q2 => ⟨in256 (by omega), ?_⟩) (fun q2 => ?_)) (fun q => K0 q)))
  · rw [show (2 : Int32) = nI 2 from rfl, pk_mul, nI_1]
  · have a1 := H.1 (2 * e + 1) q
    have a2 := H.1 (2 * e + 1 + 1) q2
    have e1 := (H.2.2.1 (2 * e + 1) q (by omega)).1
    have e2 := (H.2.2.1 (2 * e + 1 + 1) q2 (by omega)).1
    have b1 := k_B (wT := wT) (wF := wF) B A a1.1
    have b2 := k_B (wT := wT) (wF := wF) B A a2.1
    rw [cl256 (show 2 * e + 1 < 256 by omega), cl256 (show 2 * e + 1 + 1 < 256 by omega), e1, e2]
    refine xk_key B A a1.1 ⟨in256 (by omega), xk_key B A a2.1 (pk_le ((ap_k wT wF ra lo c) (h (2 * e + 1))) ((ap_k wT wF ra lo c) (h (2 * e + 1 + 1))) (fun u => K1 (2 * e + 1) (by omega) q (by omega) fun i i0 hi ie => ?_) (fun u => K1 (2 * e + 1 + 1) (by omega) q2 (by omega) fun i i0 hi ie => ?_) rfl rfl (by omega) (by omega))⟩
    · by_cases z : i = 2 * e + 1
      · rw [z]; exact Nat.le_refl _
      · rw [show i = 2 * e + 1 + 1 by omega]; exact u
    · by_cases z : i = 2 * e + 1 + 1
      · rw [z]; exact Nat.le_refl _
      · rw [show i = 2 * e + 1 by omega]; omega
  · refine K1 (2 * e + 1) (by omega) q (by omega) fun i i0 hi ie => ?_
    rw [show i = 2 * e + 1 by omega]
    exact Nat.le_refl _
theorem x_s102 {post : SX → Prop} (hm : m ≤ 256) (H : hp_A S m e h pc he) (h0 : e < m) (hs : h e = s) (K : ∀ pc' he', hp_A S m m h pc' he' → post (wT, wF, nw, pd, hP, pL, pA, rs, hz, lc, gv, ne, ba, ad, dr, pr, pn, co, pc', he', lf, ob, ra, lo)) : wX_sink_102 post (nI s) (nI e) wT wF nw pd hP pL pA rs hz lc gv ne ba ad dr pr pn co pc he lf ob ra lo := by
  unfold wX_sink_102
  subst hs
  exact xc_set (by omega) (H.1 e h0).1 (K _ _ (hA_put H h0))
theorem x_s14 {post : SX → Prop} (B : ap_B ra lo) (A : ap_A co c) (hm : m ≤ 256) (hs : s < 256) (K : ∀ h' pc' he', hp_A S m m h' pc' he' → hp_O (ap_k wT wF ra lo c) m h' → post (wT, wF, nw, pd, hP, pL, pA, rs, nI m, lc, gv, ne, ba, ad, dr, pr, pn, co, pc', he', lf, ob, ra, lo)) :
    ∀ n t e h pc he (mv : Int32), 9 - t < n → t ≤ 9 → hp_A S m e h pc he → e < m → h e = s → (mv = 1 ∧ hp_S (ap_k wT wF ra lo c) m e h ∧ 2 ^ t ≤ e + 1 ∨ mv = 0 ∧ hp_O (ap_k wT wF ra lo c) m h) → wX_sink_14 post (nI s) (nI ((ap_k wT wF ra lo c) s)) n (nI e) mv (nI t) wT wF nw pd hP pL pA rs (nI m) lc gv ne ba ad dr pr pn co pc he lf ob ra lo := by
  intro n
  induction n with
  | zero => intro t e h pc he mv z; omega
  | succ n ih =>
  intro t e h pc he mv hn ht H h0 hs' I
  have ex : hp_O (ap_k wT wF ra lo c) m h → wX_sink_102 post (nI s) (nI e) wT wF nw pd hP pL pA rs (nI m) lc gv ne ba ad dr pr pn co pc he lf ob ra lo := fun O => x_s102 hm H h0 hs' fun pc' he' H' => K h pc' he' H' O
  refine pk_le 9 t (fun q => ex ?_) (fun q => ?_)
  · rcases I with ⟨_, _, y⟩ | ⟨_, O⟩
    · have e9 : t = 9 := by omega
      subst e9
      omega
    · exact O
  · rcases I with ⟨rfl, R, y⟩ | ⟨rfl, O⟩
    · refine br_f (by decide) (x_less B A hm H h0 (fun z => br_t (by decide) ?_) (fun b b0 hb be hl => br_f (nI_pos (by omega)) ?_))
      · unfold wX_sink_43
        refine br_t rfl ?_
        unfold wX_sink_76
        exact br_t rfl (nm_r (nI_1 t) (ih (t + 1) e h pc he 0 (by omega) (by omega) H h0 hs' (Or.inr ⟨rfl, hS_end R fun i i0 hi ie => by omega⟩)))
      · have hp' := H.1 b hb
        have ne : b ≠ e := by omega
        have ha := H.2.2.1 b hb ne
        have b1 := k_B (wT := wT) (wF := wF) B A hp'.1
        have b2 := k_B (wT := wT) (wF := wF) B A hs
        unfold wX_sink_43
        refine br_f (by decide) ⟨in256 (by omega), ?_⟩
        rw [cl256 (by omega), ha.1]
        refine xk_key B A hp'.1 (pk_le ((ap_k wT wF ra lo c) s) ((ap_k wT wF ra lo c) (h b)) (fun u => ?_) (fun u => ?_) rfl rfl (by omega) (by omega))
        · unfold wX_sink_74 wX_sink_76
          refine br_t rfl (nm_r (nI_1 t) (ih (t + 1) e h pc he 0 (by omega) (by omega) H h0 hs' (Or.inr ⟨rfl, hS_end R fun i i0 hi ie => ?_⟩)))
          rw [hs']
          exact Nat.le_trans u (hl i i0 hi ie)
        · unfold wX_sink_74 wX_sink_76
          refine br_f (by decide) ⟨in256 (by omega), ?_⟩
          rw [cl256 (by omega), ha.1]
          refine xc_set (by omega) hp'.1 (nm_r (nI_1 t) (ih (t + 1) _ _ _ _ 1 (by omega) (by omega) (hA_move H h0 hb ne) hb (by rw [hw_2]; exact hs') (Or.inl ⟨rfl, hS_go R b0 hb be hl (by rw [hs']; exact u), ?_⟩)))
          rw [Nat.pow_succ]
          omega
    · exact br_t rfl (ex O)
theorem x_sink {post : SX → Prop} (B : ap_B ra lo) (A : ap_A co c) (hm : m ≤ 256) (H : hp_A S m 0 h pc he) (h0 : 0 < m) (R : hp_S (ap_k wT wF ra lo c) m 0 h) (hs : h 0 = s) (K : ∀ h' pc' he', hp_A S m m h' pc' he' → hp_O (ap_k wT wF ra lo c) m h' → post (wT, wF, nw, pd, hP, pL, pA, rs, nI m, lc, gv, ne, ba, ad, dr, pr, pn, co, pc', he', lf, ob, ra, lo)) : wpX_sink post (wT, wF, nw, pd, hP, pL, pA, rs, nI m, lc, gv, ne, ba, ad, dr, pr, pn, co, pc, he, lf, ob, ra, lo) (nI s) := by
  unfold wpX_sink
  dsimp only
  have hp : s < 256 := by rw [← hs]; exact (H.1 0 h0).1
  exact xk_key B A hp ⟨10, x_s14 B A hm hp K 10 0 0 h pc he 1 (by omega) (by omega) H h0 hs (Or.inl ⟨rfl, R, by decide⟩)⟩
theorem x_take {post : Int32 → SX → Prop} (B : ap_B ra lo) (A : ap_A co c) (I : hp_I (ap_k wT wF ra lo c) S m pc he) (h0 : 0 < m)
    (K : ∀ t m' pc' he', t < 256 → S t = 1 → (∀ x, x < 256 → S x = 1 → (ap_k wT wF ra lo c) t ≤ (ap_k wT wF ra lo c) x) → hp_I (ap_k wT wF ra lo c) (ap_u S t 2) m' pc' he' → post (nI t) (wT, wF, nw, pd, hP, pL, pA, rs, nI m', lc, gv, ne, ba, ad, dr, pr, pn, co, pc', he', lf, ob, ra, lo)) : wpX_takeLeast post (wT, wF, nw, pd, hP, pL, pA, rs, nI m, lc, gv, ne, ba, ad, dr, pr, pn, co, pc, he, lf, ob, ra, lo) := by
  obtain ⟨h, H, O, em⟩ := I
  have hm := cn_le (fun x => decide (S x = 1)) 256
  rw [← em] at hm
  have t1 := H.1 0 h0
  have KK := fun m' pc' he' => K (h 0) m' pc' he' t1.1 t1.2 (fun x hx sx => by
    obtain ⟨i, hi, ei⟩ := H.2.2.2.2.2.1 x hx sx
    rw [← ei]
    exact hO_min O i hi)
  have cnt : m - 1 = ap_cn (fun x => decide (ap_u S (h 0) 2 x = 1)) 256 := by
    have := cn_upd (p := fun x => decide (ap_u S (h 0) 2 x = 1)) (q := fun x => decide (S x = 1)) (y := h 0) (fun z => by have := of_decide_eq_true z; rw [u_s] at this; omega) (decide_eq_true t1.2) 256 t1.1 (fun x _ hx => by show decide (ap_u S (h 0) 2 x = 1) = true ↔ decide (S x = 1) = true; rw [u_n S hx])
    rw [← em] at this
    omega
  have nt : ∀ i, i < m → i ≠ 0 → h i ≠ h 0 := fun i hi ne z => ne (H.2.1 i 0 hi h0 z)
  have P4 : ∀ x, x < 256 → ap_u S (h 0) 2 x = 0 → upd pc (h 0) (-2) x = -1 := fun x hx sx => by
    by_cases z : x = h 0
    · rw [z, u_s] at sx; omega
    · rw [u_n S z] at sx
      rw [pk_un z]; exact H.2.2.2.1 x hx sx
  have P5 : ∀ x, x < 256 → ap_u S (h 0) 2 x = 2 → upd pc (h 0) (-2) x = -2 := fun x hx sx => by
    by_cases z : x = h 0
    · rw [z, pk_us]
    · rw [u_n S z] at sx
      rw [pk_un z]; exact H.2.2.2.2.1 x hx sx
  have P7 : ∀ x, x < 256 → ap_u S (h 0) 2 x ≤ 2 := fun x hx => by
    by_cases z : x = h 0
    · rw [z, u_s]; omega
    · rw [u_n S z]; exact H.2.2.2.2.2.2 x hx
  have P6 : ∀ x, x < 256 → ap_u S (h 0) 2 x = 1 → ∃ i, i < m ∧ i ≠ 0 ∧ h i = x := fun x hx sx => by
    by_cases z : x = h 0
    · rw [z, u_s] at sx; omega
    · rw [u_n S z] at sx
      obtain ⟨i, hi, ei⟩ := H.2.2.2.2.2.1 x hx sx
      exact ⟨i, hi, fun y => z (by rw [← ei, y]), ei⟩
  unfold wpX_takeLeast
  dsimp only
  rw [(H.2.2.1 0 h0 (by omega)).1]
  refine nm_e ⟨in256 t1.1, nm_e (nm_r (e' := nI (m - 1)) (pk_sub (b := 1) h0) (pk_le (m - 1) 0 (fun q => ?_) (fun q => ⟨in256 (by omega), ?_⟩)))⟩
  · rw [cl256 t1.1]
    refine KK (m - 1) _ _ ⟨h, ⟨fun i hi => by omega, fun i j hi => by omega, fun i hi => by omega, P4, P5, fun x hx sx => ?_, P7⟩, fun i i0 hi => by omega, cnt⟩
    obtain ⟨i, hi, ni, _⟩ := P6 x hx sx
    omega
  · rw [cl256 t1.1, cl256 (by omega), (H.2.2.1 (m - 1) (by omega) (by omega)).1]
    refine x_sink (S := ap_u S (h 0) 2) (h := ap_u h 0 (h (m - 1))) B A (by omega) ⟨fun i hi => ?_, fun i j hi hj => ?_, fun i hi ne => ?_, P4, P5, fun x hx sx => ?_, P7⟩ q ⟨fun i i0 hi ne => ?_, fun z => by omega⟩ (u_s _ _ _) fun h' pc' he' H' O' => KK (m - 1) pc' he' ⟨h', H', O', cnt⟩
    · by_cases z : i = 0
      · rw [z, u_s, u_n S (nt _ (by omega) (by omega))]; exact H.1 _ (by omega)
      · rw [u_n h z, u_n S (nt _ (by omega) z)]; exact H.1 _ (by omega)
    · by_cases z : i = 0
      · by_cases y : j = 0
        · intro _; rw [z, y]
        · rw [z, u_s, u_n h y]
          intro w
          have := H.2.1 _ _ (by omega) (by omega) w
          omega
      · by_cases y : j = 0
        · rw [y, u_s, u_n h z]
          intro w
          have := H.2.1 _ _ (by omega) (by omega) w
          omega
        · rw [u_n h z, u_n h y]
          exact H.2.1 i j (by omega) (by omega)
    · rw [u_n h ne, pk_un (nt i (by omega) ne)]
      exact H.2.2.1 i (by omega) (by omega)
    · obtain ⟨i, hi, ni, ei⟩ := P6 x hx sx
      by_cases z : i = m - 1
      · exact ⟨0, q, by rw [u_s, ← z, ei]⟩
      · exact ⟨i, by omega, by rw [u_n h ni, ei]⟩
    · rw [u_n h ne, u_n h (by omega)]
      exact O i i0 (by omega)
end XHP
end
section
/-- the search: prices c, status S, the last key K -/
def sr_C (wT wF : Int32) (gv ne ba ad dr pr ra lo : Nat → Int32) (o : Nat) (co : Nat → Int32) (c S : Nat → Nat) (K : Nat) : Prop :=
  ap_A co c ∧ (∀ x, x < 256 → (gr_d (ap_C gv ne ba) (ap_T ad dr) (ap_w pr) (ap_G wT wF)) o ≤ c x + (gr_d (ap_C gv ne ba) (ap_T ad dr) (ap_w pr) (ap_G wT wF)) x) ∧ c o = 0 ∧ (∀ x, x < 256 → S x = 0 → c x = 1000000) ∧ (∀ x, x < 256 → S x = 2 → (ap_k wT wF ra lo c) x ≤ K) ∧ (∀ x, x < 256 → S x = 1 → K ≤ (ap_k wT wF ra lo c) x)
def sr_X (wT wF : Int32) (gv ne ba ad dr pr : Nat → Int32) (c S : Nat → Nat) (s j : Nat) : Prop :=
  ∀ x, x < 256 → S x = 2 → ¬ (ap_G wT wF) x → ∀ a, a < 10 → (x = s → a < j) → (ap_C gv ne ba) a x → c ((ap_T ad dr) a x) ≤ c x + (ap_w pr) a
def sr_L (lf : Nat → Int32) (t : Nat) (q S : Nat → Nat) : Prop :=
  (∀ i, i < t → lf i = nI (q i) ∧ q i < 256 ∧ S (q i) = 2) ∧ (∀ x, x < 256 → S x = 2 → ∃ i, i < t ∧ q i = x) ∧ ap_cn (fun x => decide (S x = 2)) 256 = t
section XSR
variable {wT wF nw pd hP pL pA rs hz lc : Int32} {gv ne ba ad dr pr pn co pc he lf ob ra lo : Nat → Int32} {o s : Nat}
theorem x_sp2 {post : SX → Prop} {c0 S0 : Nat → Nat} (V : ap_V gv ad pr) (R : ∀ g, g < 8 → fc_1 gv ad dr pr ra g 10 ∧ fc_2 gv ad dr pr lo g 10) (hs : s < 256) (s2 : S0 s = 2)
    (K : ∀ m' c' S' co' pc' he', sr_C wT wF gv ne ba ad dr pr ra lo o co' c' S' (ap_k wT wF ra lo c0 s) → sr_X wT wF gv ne ba ad dr pr c' S' s 10 → hp_I (ap_k wT wF ra lo c') S' m' pc' he' →
      (∀ x, S' x = 2 ↔ S0 x = 2) → (∀ x, S0 x = 2 → c' x = c0 x) → post (wT, wF, nw, pd, hP, pL, pA, rs, nI m', lc, gv, ne, ba, ad, dr, pr, pn, co', pc', he', lf, ob, ra, lo)) :
    ∀ n j m c S co pc he, 10 - j < n → j ≤ 10 → sr_C wT wF gv ne ba ad dr pr ra lo o co c S (ap_k wT wF ra lo c0 s) → sr_X wT wF gv ne ba ad dr pr c S s j → hp_I (ap_k wT wF ra lo c) S m pc he →
      (∀ x, S x = 2 ↔ S0 x = 2) → (∀ x, S0 x = 2 → c x = c0 x) → wX_spread_2 post (nI s) n (nI j) wT wF nw pd hP pL pA rs (nI m) lc gv ne ba ad dr pr pn co pc he lf ob ra lo := by
  intro n
  induction n with
  | zero => intro j m c S co pc he h; omega
  | succ n ih =>
  intro j m c S co pc he hn hj I1 I2 I3 I4 I5
  refine pk_le 10 j (fun q => ?_) (fun q => ⟨in10 q, ?_⟩)
  · have e : j = 10 := by omega
    subst e
    exact K m c S co pc he I1 I2 I3 I4 I5
  · have sx : S s = 2 := (I4 s).mpr s2
    have skip : ((ap_C gv ne ba) j s → c ((ap_T ad dr) j s) ≤ c s + (ap_w pr) j) → wX_spread_2 post (nI s) n (nI (j + 1)) wT wF nw pd hP pL pA rs (nI m) lc gv ne ba ad dr pr pn co pc he lf ob ra lo := fun z => by
      refine ih (j + 1) m c S co pc he (by omega) (by omega) I1 (fun x hx sx g a ha ha' hc => ?_) I3 I4 I5
      by_cases y : x = s ∧ a = j
      · rw [y.1, y.2] at hc ⊢
        exact z hc
      · exact I2 x hx sx g a ha (fun xs => by have := ha' xs; have : a ≠ j := fun aj => y ⟨xs, aj⟩; omega) hc
    rw [cl10 q]
    refine br_c (fun g => nm_r (nI_1 j) (skip fun hc => absurd g hc.1)) (fun g => xc_can q (fun c1 c2 => br_f (by decide) ?_) (fun z => br_t rfl (nm_r (nI_1 j) (skip fun hc => absurd hc.2 z))))
    have hc : (ap_C gv ne ba) j s := ⟨g, c1, c2⟩
    refine xc_aft V q hs ⟨in256 hs, in10 q, ?_⟩
    have A := I1.1
    have tl := T_lt ad dr j s
    have wl := w_e V q
    have as := A s hs
    have hcon := hb_C (wT := wT) (wF := wF) R s j q hc
    have ks : ap_k wT wF ra lo c0 s = c s + ap_hb wT wF ra lo s := by
      show c0 s + _ = _
      rw [I5 s s2]
    rw [cl256 hs, as.1, wl.1, nI_add]
    refine x_reach (B_of R) A I3 tl (by omega) (fun z => nm_r (nI_1 j) (skip fun _ => ?_)) (fun m' pc' he' z1 z2 I' => nm_r (nI_1 j) ?_)
    · rcases z with z | z
      · have h1 := I1.2.2.2.2.1 _ tl z
        rw [ks] at h1
        unfold ap_k at h1
        omega
      · exact z
    · have nts : s ≠ (ap_T ad dr) j s := fun e => z1 (by rw [← e]; exact sx)
      have ntx : ∀ x, S x = 2 → x ≠ (ap_T ad dr) j s := fun x h e => z1 (by rw [← e]; exact h)
      have le1 : ∀ x, ap_u c ((ap_T ad dr) j s) (c s + (ap_w pr) j) x ≤ c x := fun x => by
        by_cases y : x = (ap_T ad dr) j s
        · rw [y, u_s]; omega
        · rw [u_n c y]; exact Nat.le_refl _
      have kn : ∀ x, x ≠ (ap_T ad dr) j s → ap_k wT wF ra lo (ap_u c ((ap_T ad dr) j s) (c s + (ap_w pr) j)) x = (ap_k wT wF ra lo c) x := fun x hx => by
        unfold ap_k
        rw [u_n c hx]
      refine ih (j + 1) m' _ _ _ pc' he' (by omega) (by omega) ⟨A_u A (by have := (A _ tl).2; omega), fun x hx => ?_, ?_, fun x hx sx => ?_, fun x hx sx => ?_, fun x hx sx => ?_⟩ (fun x hx sx' g' a ha ha' hc' => ?_) I' (fun x => ?_) (fun x hx => ?_)
      · by_cases y : x = (ap_T ad dr) j s
        · rw [y, u_s]
          have h1 := I1.2.1 s hs
          have h2 := d_st (T := (ap_T ad dr)) (w := (ap_w pr)) (G := (ap_G wT wF)) q hc
          omega
        · rw [u_n c y]; exact I1.2.1 x hx
      · by_cases y : o = (ap_T ad dr) j s
        · rw [← y, I1.2.2.1] at z2
          omega
        · rw [u_n c y]; exact I1.2.2.1
      · by_cases y : x = (ap_T ad dr) j s
        · rw [y, u_s] at sx; omega
        · rw [u_n S y] at sx
          rw [u_n c y]; exact I1.2.2.2.1 x hx sx
      · by_cases y : x = (ap_T ad dr) j s
        · rw [y, u_s] at sx; omega
        · rw [u_n S y] at sx
          rw [kn x y]; exact I1.2.2.2.2.1 x hx sx
      · by_cases y : x = (ap_T ad dr) j s
        · rw [y, ks]
          unfold ap_k
          rw [u_s]
          omega
        · rw [u_n S y] at sx
          rw [kn x y]; exact I1.2.2.2.2.2 x hx sx
      · by_cases y : x = (ap_T ad dr) j s
        · rw [y, u_s] at sx'; omega
        · rw [u_n S y] at sx'
          rw [u_n c y]
          by_cases w : x = s ∧ a = j
          · rw [w.1, w.2, u_s]
            exact Nat.le_refl _
          · exact Nat.le_trans (le1 _) (I2 x hx sx' g' a ha (fun xs => by have := ha' xs; have : a ≠ j := fun aj => w ⟨xs, aj⟩; omega) hc')
      · by_cases y : x = (ap_T ad dr) j s
        · rw [y, u_s, ← I4]
          exact ⟨fun h => by omega, fun h => absurd h z1⟩
        · rw [u_n S y]; exact I4 x
      · rw [u_n c (ntx x ((I4 x).mpr hx))]
        exact I5 x hx
theorem x_stop {post : Int32 → SX → Prop} {b t n : Nat} (hn : 0 < n) (ht : t ≤ 256) (K : post (nI b) (wT, wF, nw, pd, hP, pL, pA, rs, 0, lc, gv, ne, ba, ad, dr, pr, pn, co, pc, he, lf, ob, ra, lo)) : wX_searchForward_54 post n (nI b) (nI t) wT wF nw pd hP pL pA rs 0 lc gv ne ba ad dr pr pn co pc he lf ob ra lo := by
  obtain ⟨n', rfl⟩ : ∃ n', n = n' + 1 := ⟨n - 1, by omega⟩
  exact pk_le 256 t (fun _ => K) (fun _ => br_t (by decide) K)
/-- what the search hands on -/
def sr_E (wT wF : Int32) (gv ne ba ad dr pr ra lo : Nat → Int32) (o b n : Nat) (co lf : Nat → Int32) (c q : Nat → Nat) : Prop :=
  n ≤ 256 ∧ ap_A co c ∧ (∀ i, i < n → lf i = nI (q i) ∧ q i < 256) ∧ gr_F (ap_C gv ne ba) (ap_T ad dr) (ap_w pr) (ap_G wT wF) (ap_hb wT wF ra lo) c (fun x => ∃ i, i < n ∧ q i = x) o b
theorem x_s54 {post : Int32 → SX → Prop} (V : ap_V gv ad pr) (R : ∀ g, g < 8 → fc_1 gv ad dr pr ra g 10 ∧ fc_2 gv ad dr pr lo g 10)
    (K : ∀ b n hz' c q co' pc' he' lf', sr_E wT wF gv ne ba ad dr pr ra lo o b n co' lf' c q → post (nI b) (wT, wF, nw, pd, hP, pL, pA, rs, hz', nI n, gv, ne, ba, ad, dr, pr, pn, co', pc', he', lf', ob, ra, lo)) :
    ∀ n t b m k0 c S q co pc he lf, 256 - t < n → t ≤ 256 → sr_C wT wF gv ne ba ad dr pr ra lo o co c S k0 → sr_X wT wF gv ne ba ad dr pr c S 0 10 → hp_I (ap_k wT wF ra lo c) S m pc he → sr_L lf t q S →
      b ≤ 1000000 → (gr_d (ap_C gv ne ba) (ap_T ad dr) (ap_w pr) (ap_G wT wF)) o ≤ b → (∀ x, x < 256 → S x = 2 → (ap_G wT wF) x → b ≤ c x) → wX_searchForward_54 post n (nI b) (nI t) wT wF nw pd hP pL pA rs (nI m) (nI t) gv ne ba ad dr pr pn co pc he lf ob ra lo := by
  intro n
  induction n with
  | zero => intro t b m k0 c S q co pc he lf h; omega
  | succ n ih =>
  intro t b m k0 c S q co pc he lf hn ht I1 I2 I3 I4 b1 b2 b3
  have hm := hI_m I3
  have A := I1.1
  have S2 : ∀ x, x < 256 → S x ≤ 2 := by
    obtain ⟨h, H, _⟩ := I3
    exact H.2.2.2.2.2.2
  have fin : (∀ x, x < 256 → S x = 1 → (ap_k wT wF ra lo c) x ≤ b → (ap_k wT wF ra lo c) x < 1000000 → False) → sr_E wT wF gv ne ba ad dr pr ra lo o b t co lf c q := fun f => by
    refine ⟨ht, A, fun i hi => ⟨(I4.1 i hi).1, (I4.1 i hi).2.1⟩, fun x hx => ?_, I1.2.1, I1.2.2.1, fun x hx g a ha hc => ?_, fun x hx cx kb kf => ?_, fun x hx g => ?_, b2, b1⟩
    · obtain ⟨i, hi, e⟩ := hx
      rw [← e]; exact (I4.1 i hi).2.1
    · obtain ⟨i, hi, e⟩ := hx
      have h1 := I4.1 i hi
      rw [e] at h1
      exact I2 x h1.2.1 h1.2.2 g a ha (fun _ => ha) hc
    · have := S2 x hx
      by_cases y0 : S x = 0
      · have := I1.2.2.2.1 x hx y0
        omega
      · by_cases y1 : S x = 1
        · exact (f x hx y1 kb kf).elim
        · exact I4.2.1 x hx (by omega)
    · obtain ⟨i, hi, e⟩ := hx
      have h1 := I4.1 i hi
      rw [e] at h1
      exact b3 x h1.2.1 h1.2.2 g
  refine pk_le 256 t (fun h => K b t _ c q co pc he lf (fin fun x hx sx _ _ => ?_)) (fun h => pk_le m 0 (fun z => K b t _ c q co pc he lf (fin fun x hx sx _ _ => ?_)) (fun z => ?_))
  · have := of_decide_eq_true (cn_all (p := fun x => decide (S x = 2)) 256 (by rw [I4.2.2]; omega) x hx)
    omega
  · obtain ⟨hh, H, _⟩ := I3
    obtain ⟨i, hi, _⟩ := H.2.2.2.2.2.1 x hx sx
    omega
  · refine x_take (B_of R) A I3 z fun z m' pc' he' hz sz lz I' => ⟨in256 hz, xc_bound (B_of R) ?_⟩
    have kB := k_B (wT := wT) (wF := wF) (B_of R) A hz
    have stop : (b < (ap_k wT wF ra lo c) z ∨ 1000000 ≤ (ap_k wT wF ra lo c) z) → wX_searchForward_54 post n (nI b) (nI (t + 1)) wT wF nw pd hP pL pA rs 0 (nI t) gv ne ba ad dr pr pn co pc' he' lf ob ra lo := fun y =>
      x_stop (by omega) (by omega) (K b t _ c q co pc' he' lf (fin fun x hx sx k1 k2 => by have := lz x hx sx; omega))
    refine nm_r (e' := nI ((ap_k wT wF ra lo c) z)) ?_ (pk_lt b ((ap_k wT wF ra lo c) z) (fun y => nm_r (nI_1 t) (stop (Or.inl y))) (fun y => pk_lt ((ap_k wT wF ra lo c) z) 1000000 (fun u => ⟨in256 h, nm_e (nm_r (nI_1 t) ?_)⟩) (fun u => nm_r (nI_1 t) (stop (Or.inr u))) rfl rfl (by omega) (by omega)) rfl rfl (by omega) (by omega))
    · rw [cl256 hz, (A z hz).1, nI_add]
      rfl
    · rw [cl256 h]
      have J1 : sr_C wT wF gv ne ba ad dr pr ra lo o co c (ap_u S z 2) ((ap_k wT wF ra lo c) z) := by
        refine ⟨A, I1.2.1, I1.2.2.1, fun x hx sx => ?_, fun x hx sx => ?_, fun x hx sx => ?_⟩
        · by_cases v : x = z
          · rw [v, u_s] at sx; omega
          · rw [u_n S v] at sx; exact I1.2.2.2.1 x hx sx
        · by_cases v : x = z
          · rw [v]; exact Nat.le_refl _
          · rw [u_n S v] at sx
            have h1 := I1.2.2.2.2.1 x hx sx
            have h2 := I1.2.2.2.2.2 z hz sz
            omega
        · by_cases v : x = z
          · rw [v, u_s] at sx; omega
          · rw [u_n S v] at sx; exact lz x hx sx
      have J4 : sr_L (upd lf t (nI z)) (t + 1) (ap_u q t z) (ap_u S z 2) := by
        refine ⟨fun i hi => ?_, fun x hx sx => ?_, ?_⟩
        · by_cases v : i = t
          · rw [v, pk_us, u_s, u_s]; exact ⟨rfl, hz, rfl⟩
          · have h1 := I4.1 i (by omega)
            rw [pk_un v, u_n q v]
            refine ⟨h1.1, h1.2.1, ?_⟩
            by_cases w : q i = z
            · rw [w, u_s]
            · rw [u_n S w]; exact h1.2.2
        · by_cases v : x = z
          · exact ⟨t, by omega, by rw [u_s, v]⟩
          · rw [u_n S v] at sx
            obtain ⟨i, hi, e⟩ := I4.2.1 x hx sx
            exact ⟨i, by omega, by rw [u_n q (by omega), e]⟩
        · rw [cn_upd (p := fun x => decide (S x = 2)) (q := fun x => decide (ap_u S z 2 x = 2)) (y := z) (fun v => by have := of_decide_eq_true v; omega) (decide_eq_true (u_s S z 2)) 256 hz (fun x _ hx => by show decide (S x = 2) = true ↔ decide (ap_u S z 2 x = 2) = true; rw [u_n S hx]), I4.2.2]
      have az := A z hz
      refine xc_goal (fun g => br_f (by decide) ⟨in256 hz, ?_⟩) (fun g => br_t rfl ?_)
      · have J2 : sr_X wT wF gv ne ba ad dr pr c (ap_u S z 2) 0 10 := fun x hx sx g' a ha _ hc => by
          by_cases v : x = z
          · rw [v] at g'; exact absurd g g'
          · rw [u_n S v] at sx; exact I2 x hx sx g' a ha (fun _ => ha) hc
        rw [cl256 hz, az.1]
        refine pk_le b (c z) (fun v => nm_r (nI_1 t) (ih (t + 1) b m' ((ap_k wT wF ra lo c) z) c _ _ co pc' he' _ (by omega) (by omega) J1 J2 I' J4 b1 b2 fun x hx sx gx => ?_))
          (fun v => ⟨in256 hz, nm_e (nm_r (nI_1 t) (ih (t + 1) (c z) m' ((ap_k wT wF ra lo c) z) c _ _ co pc' he' _ (by omega) (by omega) J1 J2 I' J4 az.2 ?_ fun x hx sx gx => ?_))⟩) rfl rfl (by omega) (by omega)
        · by_cases w : x = z
          · rw [w]; exact v
          · rw [u_n S w] at sx; exact b3 x hx sx gx
        · have := I1.2.1 z hz
          rw [d_G (C := (ap_C gv ne ba)) (T := (ap_T ad dr)) (w := (ap_w pr)) g] at this
          exact this
        · by_cases w : x = z
          · rw [w]; exact Nat.le_refl _
          · rw [u_n S w] at sx
            have := b3 x hx sx gx
            omega
      · unfold wpX_spread
        dsimp only
        have J2 : sr_X wT wF gv ne ba ad dr pr c (ap_u S z 2) z 0 := fun x hx sx g' a ha ha' hc => by
          by_cases v : x = z
          · exact absurd (ha' v) (Nat.not_lt_zero _)
          · rw [u_n S v] at sx; exact I2 x hx sx g' a ha (fun _ => ha) hc
        refine ⟨11, x_sp2 (c0 := c) (S0 := ap_u S z 2) V R hz (u_s S z 2) (fun m2 c2 S2' co2 pc2 he2 L1 L2 L3 L4 L5 => nm_r (nI_1 t) ?_) 11 0 m' c _ co pc' he' (by omega) (by omega) J1 J2 I' (fun _ => Iff.rfl) (fun _ _ => rfl)⟩
        refine ih (t + 1) b m2 ((ap_k wT wF ra lo c) z) c2 S2' _ co2 pc2 he2 _ (by omega) (by omega) L1 (fun x hx sx g' a ha _ hc => L2 x hx sx g' a ha (fun _ => ha) hc) L3 ⟨fun i hi => ?_, fun x hx sx => J4.2.1 x hx ((L4 x).mp sx), ?_⟩ b1 b2 (fun x hx sx gx => ?_)
        · have h1 := J4.1 i hi
          exact ⟨h1.1, h1.2.1, (L4 _).mpr h1.2.2⟩
        · rw [← J4.2.2]
          exact cn_eq fun x _ => by
            show decide (S2' x = 2) = true ↔ decide (ap_u S z 2 x = 2) = true
            rw [decide_eq_true_iff, decide_eq_true_iff]
            exact L4 x
        · have s' := (L4 x).mp sx
          rw [L5 x s']
          by_cases w : x = z
          · rw [w] at gx; exact absurd gx g
          · rw [u_n S w] at s'; exact b3 x hx s' gx
theorem x_s2 {post : Int32 → SX → Prop} (V : ap_V gv ad pr) (R : ∀ g, g < 8 → fc_1 gv ad dr pr ra g 10 ∧ fc_2 gv ad dr pr lo g 10) (ho : o < 256)
    (K : ∀ b n hz' c q co' pc' he' lf', sr_E wT wF gv ne ba ad dr pr ra lo o b n co' lf' c q → post (nI b) (wT, wF, nI o, pd, hP, pL, pA, rs, hz', nI n, gv, ne, ba, ad, dr, pr, pn, co', pc', he', lf', ob, ra, lo)) :
    ∀ n i co pc, 256 - i < n → i ≤ 256 → (∀ x, x < i → co x = nI 1000000 ∧ pc x = -1) → wX_searchForward_2 post wT wF (nI o) pd hP pL pA rs hz lc n (nI i) gv ne ba ad dr pr pn co pc he lf ob ra lo := by
  intro n
  induction n with
  | zero => intro i co pc h; omega
  | succ n ih =>
  intro i co pc hn hi I
  refine pk_le 256 i (fun h => ?_) (fun h => ⟨in256 h, nm_e ⟨in256 h, nm_e (nm_r (nI_1 i) ?_)⟩⟩)
  · have e : i = 256 := by omega
    subst e
    refine x_reach (c := fun _ => 1000000) (S := fun _ => 0) (m := 0) (p := 0) (B_of R) (fun x hx => ⟨(I x hx).1, Nat.le_refl _⟩) ?_ ho (by decide) (fun z => ?_) (fun m' pc' he' _ _ I' => ?_)
    · exact ⟨fun _ => 0, ⟨fun i hi => absurd hi (Nat.not_lt_zero _), fun i j hi => absurd hi (Nat.not_lt_zero _), fun i hi => absurd hi (Nat.not_lt_zero _), fun x hx _ => (I x hx).2, fun x _ z => absurd z (show ¬ (0 : Nat) = 2 by decide), fun x _ z => absurd z (show ¬ (0 : Nat) = 1 by decide), fun x _ => Nat.zero_le _⟩,
        fun i _ hi => absurd hi (Nat.not_lt_zero _), (cn_zero 256 fun x _ z => absurd (of_decide_eq_true z) (show ¬ (0 : Nat) = 1 by decide)).symm⟩
    · rcases z with z | z <;> omega
    · refine ⟨257, x_s54 (o := o) V R K 257 0 1000000 m' 0 (ap_u (fun _ => 1000000) o 0) (ap_u (fun _ => 0) o 1) (fun _ => 0) _ pc' he' lf (by omega) (by omega) ⟨A_u (fun x hx => ⟨(I x hx).1, Nat.le_refl _⟩) (by omega), fun x hx => ?_, u_s _ _ _, fun x hx sx => ?_, fun x hx sx => ?_, fun x hx sx => Nat.zero_le _⟩ (fun x hx sx => ?_) I' ⟨fun i hi => absurd hi (Nat.not_lt_zero _), fun x hx sx => ?_, cn_zero 256 fun x hx z => ?_⟩ (Nat.le_refl _) (d_le o) (fun x hx sx => ?_)⟩
      · by_cases z : x = o
        · rw [z, u_s]; omega
        · rw [u_n _ z]
          have := d_le (C := (ap_C gv ne ba)) (T := (ap_T ad dr)) (w := (ap_w pr)) (G := (ap_G wT wF)) o
          omega
      · by_cases z : x = o
        · rw [z, u_s] at sx; omega
        · rw [u_n _ z]
      · by_cases z : x = o
        · rw [z, u_s] at sx; omega
        · rw [u_n _ z] at sx; omega
      · by_cases z : x = o
        · rw [z, u_s] at sx; omega
        · rw [u_n _ z] at sx; omega
      · by_cases z : x = o
        · rw [z, u_s] at sx; omega
        · rw [u_n _ z] at sx; omega
      · have y := of_decide_eq_true z
        by_cases z : x = o
        · rw [z, u_s] at y; omega
        · rw [u_n _ z] at y; omega
      · by_cases z : x = o
        · rw [z, u_s] at sx; omega
        · rw [u_n _ z] at sx; omega
  · rw [cl256 h]
    refine ih (i + 1) _ _ (by omega) (by omega) fun x hx => ?_
    by_cases z : x = i
    · rw [z, pk_us, pk_us]; exact ⟨rfl, rfl⟩
    · rw [pk_un z, pk_un z]; exact I x (by omega)
theorem x_search {post : Int32 → SX → Prop} (V : ap_V gv ad pr) (R : ∀ g, g < 8 → fc_1 gv ad dr pr ra g 10 ∧ fc_2 gv ad dr pr lo g 10) (ho : o < 256)
    (K : ∀ b n hz' c q co' pc' he' lf', sr_E wT wF gv ne ba ad dr pr ra lo o b n co' lf' c q → post (nI b) (wT, wF, nI o, pd, hP, pL, pA, rs, hz', nI n, gv, ne, ba, ad, dr, pr, pn, co', pc', he', lf', ob, ra, lo)) : wpX_searchForward post (wT, wF, nI o, pd, hP, pL, pA, rs, hz, lc, gv, ne, ba, ad, dr, pr, pn, co, pc, he, lf, ob, ra, lo) := by
  unfold wpX_searchForward
  exact ⟨257, x_s2 V R ho K 257 0 co pc (by omega) (by omega) fun x hx => absurd hx (Nat.not_lt_zero _)⟩
end XSR
end
section
def ap_q (gv ne ba ad dr pr ob : Nat → Int32) (c : Nat → Nat) (x a : Nat) : Prop := (ap_C gv ne ba) a x ∧ ¬ ob ((ap_T ad dr) a x) = 0 ∧ c ((ap_T ad dr) a x) = c x + (ap_w pr) a
section XPL
variable {wT wF nw pd hP pL pA rs hz lc : Int32} {gv ne ba ad dr pr pn co pc he lf ob ra lo : Nat → Int32} {c q : Nat → Nat} {o s b m l : Nat}
theorem x_ba12 {post : Int32 → Prop} (V : ap_V gv ad pr) (A : ap_A co c) (hs : s < 256) (K1 : ∀ a, a < 10 → ap_q gv ne ba ad dr pr ob c s a → (∀ b, b < a → ¬ ap_q gv ne ba ad dr pr ob c s b) → post (nI a)) (K0 : (∀ a, a < 10 → ¬ ap_q gv ne ba ad dr pr ob c s a) → post (-1)) :
    ∀ n j, 10 - j < n → j ≤ 10 → (∀ b, b < j → ¬ ap_q gv ne ba ad dr pr ob c s b) → wX_bestAction_12 post (nI s) wT wF nw pd hP pL pA rs hz lc gv ne ba ad dr pr pn co pc he lf ob ra lo n (nI j) := by
  intro n
  induction n with
  | zero => intro j h; omega
  | succ n ih =>
  intro j hn hj B
  refine pk_le 10 j (fun h => K0 fun a ha => B a (by omega)) (fun h => ⟨in10 h, ?_⟩)
  have skip : ¬ ap_q gv ne ba ad dr pr ob c s j → wX_bestAction_12 post (nI s) wT wF nw pd hP pL pA rs hz lc gv ne ba ad dr pr pn co pc he lf ob ra lo n (nI (j + 1)) := fun z => ih (j + 1) (by omega) (by omega) fun b hb => by
    by_cases y : b = j
    · rw [y]; exact z
    · exact B b (by omega)
  rw [cl10 h]
  refine br_c (fun g => nm_r (nI_1 j) (skip fun z => z.1.1 g)) (fun g => xc_can h (fun c1 c2 => br_f (by decide) ?_) (fun z => br_t rfl (nm_r (nI_1 j) (skip fun y => z y.1.2))))
  have hc : (ap_C gv ne ba) j s := ⟨g, c1, c2⟩
  have tl := T_lt ad dr j s
  have wl := w_e V h
  have as := A s hs
  have at' := A _ tl
  refine xc_aft V h hs ⟨in256 tl, ?_⟩
  rw [cl256 tl, cl256 hs, as.1, at'.1, wl.1, nI_add]
  refine br_c (fun z => nm_r (nI_1 j) (skip fun y => y.2.1 z)) (fun z => ⟨in256 tl, in256 hs, in10 h, ?_⟩)
  exact pk_eq (c ((ap_T ad dr) j s)) (c s + (ap_w pr) j) (fun e => K1 j h ⟨hc, z, e⟩ B) (fun e => nm_r (nI_1 j) (skip fun y => e y.2.2)) rfl rfl (by omega) (by omega)
theorem x_best {post : Int32 → Prop} (V : ap_V gv ad pr) (A : ap_A co c) (hs : s < 256) (Kg : (ap_G wT wF) s → post (-1)) (K1 : ¬ (ap_G wT wF) s → ∀ a, a < 10 → ap_q gv ne ba ad dr pr ob c s a → (∀ b, b < a → ¬ ap_q gv ne ba ad dr pr ob c s b) → post (nI a)) (K0 : ¬ (ap_G wT wF) s → (∀ a, a < 10 → ¬ ap_q gv ne ba ad dr pr ob c s a) → post (-1)) :
    wpX_bestAction post (wT, wF, nw, pd, hP, pL, pA, rs, hz, lc, gv, ne, ba, ad, dr, pr, pn, co, pc, he, lf, ob, ra, lo) (nI s) := by
  unfold wpX_bestAction
  dsimp only
  refine xc_goal (fun g => br_f (by decide) (Kg g)) (fun g => br_t rfl ⟨11, x_ba12 V A hs (K1 g) (K0 g) 11 0 (by omega) (by omega) fun b hb => absurd hb (Nat.not_lt_zero _)⟩)
/-! marking -/
def mk_c (wT wF : Int32) (gv ne ba ad dr pr ob : Nat → Int32) (c : Nat → Nat) (b x : Nat) : Prop := (ap_G wT wF) x ∧ c x = b ∨ ¬ (ap_G wT wF) x ∧ ∃ a, a < 10 ∧ ap_q gv ne ba ad dr pr ob c x a
def mk_s (wT wF : Int32) (gv ne ba ad dr pr ob : Nat → Int32) (c q : Nat → Nat) (m o : Nat) : Prop := ∀ x, x < 256 → ¬ ob x = 0 → (∃ i, i < m ∧ q i = x) ∧ c x + (gr_d (ap_C gv ne ba) (ap_T ad dr) (ap_w pr) (ap_G wT wF)) x = (gr_d (ap_C gv ne ba) (ap_T ad dr) (ap_w pr) (ap_G wT wF)) o
def mk_F (wT wF : Int32) (gv ne ba ad dr pr ob : Nat → Int32) (c q : Nat → Nat) (m o : Nat) : Prop := ∀ x, x < 256 → (¬ ob x = 0 ↔ ((∃ i, i < m ∧ q i = x) ∧ c x + (gr_d (ap_C gv ne ba) (ap_T ad dr) (ap_w pr) (ap_G wT wF)) x = (gr_d (ap_C gv ne ba) (ap_T ad dr) (ap_w pr) (ap_G wT wF)) o))
def ap_n (ob : Nat → Int32) : Nat := ap_cn (fun x => decide (¬ ob x = 0)) 256
theorem n_put {x : Nat} (hx : x < 256) (h : ob x = 0) : ap_n ob < ap_n (upd ob x 1) :=
  cn_lt (p := fun x => decide (¬ ob x = 0)) (q := fun y => decide (¬ upd ob x 1 y = 0)) (y := x) (fun z => of_decide_eq_true z h) (decide_eq_true (by rw [pk_us]; decide)) 256 hx (fun y _ e => decide_eq_true (by
    by_cases z : y = x
    · rw [z, pk_us]; decide
    · rw [pk_un z]; exact of_decide_eq_true e))
theorem mk_put {x : Nat} (E : sr_E wT wF gv ne ba ad dr pr ra lo o b m co lf c q) (eb : b = (gr_d (ap_C gv ne ba) (ap_T ad dr) (ap_w pr) (ap_G wT wF)) o) (hx : x < 256) (hi : ∃ i, i < m ∧ q i = x) (M : mk_s wT wF gv ne ba ad dr pr ob c q m o) (h : mk_c wT wF gv ne ba ad dr pr ob c b x) : mk_s wT wF gv ne ba ad dr pr (upd ob x 1) c q m o := by
  intro y hy hn
  by_cases z : y = x
  · rw [z]
    refine ⟨hi, ?_⟩
    rcases h with ⟨g, e⟩ | ⟨g, a, ha, hc, e1, e2⟩
    · rw [d_G g, e, eb]; rfl
    · have h1 := (M _ (T_lt ad dr a x) e1).2
      have h2 := E.2.2.2.2.1 x hx
      have h3 := d_st (T := (ap_T ad dr)) (w := (ap_w pr)) (G := (ap_G wT wF)) ha hc
      omega
  · rw [pk_un z] at hn
    exact M y hy hn
theorem x_m41 {post : SX → Prop} {J24 : (Int32 → (Nat → Int32) → (Nat → Int32) → (Nat → Int32) → (Nat → Int32) → (Nat → Int32) → (Nat → Int32) → (Nat → Int32) → (Nat → Int32) → (Nat → Int32) → (Nat → Int32) → (Nat → Int32) → (Nat → Int32) → (Nat → Int32) → (Nat → Int32) → Prop)} {x2 : Int32} {ob0 : Nat → Int32} (V : ap_V gv ad pr) (E : sr_E wT wF gv ne ba ad dr pr ra lo o b m co lf c q) (eb : b = (gr_d (ap_C gv ne ba) (ap_T ad dr) (ap_w pr) (ap_G wT wF)) o)
    (K0 : (∀ j, j < m → ¬ ob0 (q j) = 0 ∨ ¬ mk_c wT wF gv ne ba ad dr pr ob0 c b (q j)) → post (wT, wF, nw, pd, hP, pL, pA, rs, hz, nI m, gv, ne, ba, ad, dr, pr, pn, co, pc, he, lf, ob0, ra, lo))
    (K1 : ∀ ob', mk_s wT wF gv ne ba ad dr pr ob' c q m o → ap_n ob0 < ap_n ob' → J24 (x2 + 1) gv ne ba ad dr pr pn co pc he lf ob' ra lo) :
    ∀ n i (z x4 : Int32) ob, i < n → i ≤ m → x4 = nI i + (-1) → mk_s wT wF gv ne ba ad dr pr ob c q m o →
      (z = 0 ∧ ob = ob0 ∧ (∀ j, i ≤ j → j < m → ¬ ob0 (q j) = 0 ∨ ¬ mk_c wT wF gv ne ba ad dr pr ob0 c b (q j)) ∨ z = 1 ∧ ap_n ob0 < ap_n ob) → wX_markBest_41 post J24 (nI b) x2 wT wF nw pd hP pL pA rs hz (nI m) n z x4 gv ne ba ad dr pr pn co pc he lf ob ra lo := by
  intro n
  induction n with
  | zero => intro i z x4 ob h; omega
  | succ n ih =>
  intro i z x4 ob hn hi hx M I
  have A := E.2.1
  have hb := E.2.2.2.2.2.2.2.2.2.2
  have hm := E.1
  subst hx
  cases i with
  | zero =>
    refine br_t (by decide) ?_
    rcases I with ⟨rfl, rfl, I⟩ | ⟨rfl, I⟩
    · exact br_t rfl (K0 fun j hj => I j (by omega) hj)
    · exact br_f (by decide) (nm_e (K1 ob M I))
  | succ i =>
    have hq := E.2.2.1 i (by omega)
    have go : wX_markBest_41 post J24 (nI b) x2 wT wF nw pd hP pL pA rs hz (nI m) n 1 (nI i + (-1)) gv ne ba ad dr pr pn co pc he lf (upd ob (q i) 1) ra lo ∨ ¬ (ob (q i) = 0 ∧ mk_c wT wF gv ne ba ad dr pr ob c b (q i)) := by
      by_cases y : ob (q i) = 0 ∧ mk_c wT wF gv ne ba ad dr pr ob c b (q i)
      · refine Or.inl (ih i 1 _ _ (by omega) (by omega) rfl (mk_put E eb hq.2 ⟨i, by omega, rfl⟩ M y.2) (Or.inr ⟨rfl, ?_⟩))
        have h1 := n_put hq.2 y.1
        rcases I with ⟨_, rfl, _⟩ | ⟨_, I⟩
        · exact h1
        · omega
      · exact Or.inr y
    have skip : ¬ (ob (q i) = 0 ∧ mk_c wT wF gv ne ba ad dr pr ob c b (q i)) → wX_markBest_41 post J24 (nI b) x2 wT wF nw pd hP pL pA rs hz (nI m) n z (nI i + (-1)) gv ne ba ad dr pr pn co pc he lf ob ra lo := fun y => by
      refine ih i z _ ob (by omega) (by omega) rfl M ?_
      rcases I with ⟨e1, rfl, I⟩ | I
      · refine Or.inl ⟨e1, rfl, fun j h1 h2 => ?_⟩
        by_cases w : j = i
        · rw [w]
          by_cases u : ob (q i) = 0
          · exact Or.inr fun v => y ⟨u, v⟩
          · exact Or.inl u
        · exact I j (by omega) h2
      · exact Or.inr I
    rw [pk_m1]
    refine br_f (nI_pos (by omega)) ⟨in256 (by omega), nm_r (e' := nI (q i)) (by rw [cl256 (by omega)]; exact hq.1) ⟨in256 hq.2, ?_⟩⟩
    rw [cl256 hq.2]
    refine br_c (fun u => ?_) (fun u => nm_e (skip fun y => u y.1))
    have g94 : mk_c wT wF gv ne ba ad dr pr ob c b (q i) → wX_markBest_94 post J24 (wX_markBest_41 post J24 (nI b) x2 wT wF nw pd hP pL pA rs hz (nI m) n) (nI b) x2 (nI i) (nI (q i)) wT wF nw pd hP pL pA rs hz (nI m) gv ne ba ad dr pr pn co pc he lf ob ra lo := fun y => by
      unfold wX_markBest_94
      rw [cl256 hq.2, b_n1]
      rcases go with go | go
      · exact ⟨in256 hq.2, nm_e (nm_e go)⟩
      · exact absurd ⟨u, y⟩ go
    have g85 : ¬ ((ap_G wT wF) (q i) ∧ c (q i) = b) → wX_markBest_85 post J24 (wX_markBest_41 post J24 (nI b) x2 wT wF nw pd hP pL pA rs hz (nI m) n) (nI b) x2 z (nI i) (nI (q i)) wT wF nw pd hP pL pA rs hz (nI m) gv ne ba ad dr pr pn co pc he lf ob ra lo := fun y => by
      unfold wX_markBest_85
      refine x_best V A hq.2 (fun g => br_t (by decide) (nm_e (skip fun v => ?_))) (fun g a ha h1 _ => br_f (nI_pos (by omega)) (g94 (Or.inr ⟨g, a, ha, h1⟩))) (fun g h0 => br_t (by decide) (nm_e (skip fun v => ?_)))
      · rcases v.2 with v | v
        · exact y v
        · exact v.1 g
      · rcases v.2 with v | ⟨_, a, ha, v⟩
        · exact y v
        · exact h0 a ha v
    refine xc_goal (fun g => br_f (by decide) ⟨in256 hq.2, ?_⟩) (fun g => br_t rfl (g85 fun y => g y.1))
    have aq := A _ hq.2
    rw [aq.1]
    exact pk_eq (c (q i)) b (fun e => g94 (Or.inl ⟨g, e⟩)) (fun e => g85 fun y => e y.2) rfl rfl (by omega) (by omega)
theorem mk_all {ob : Nat → Int32} (V : ap_V gv ad pr) (E : sr_E wT wF gv ne ba ad dr pr ra lo o b m co lf c q) (eb : b = (gr_d (ap_C gv ne ba) (ap_T ad dr) (ap_w pr) (ap_G wT wF)) o) (hh : ∀ s, ap_hb wT wF ra lo s ≤ (gr_d (ap_C gv ne ba) (ap_T ad dr) (ap_w pr) (ap_G wT wF)) s) (hd : (gr_d (ap_C gv ne ba) (ap_T ad dr) (ap_w pr) (ap_G wT wF)) o < 1000000)
    (M : mk_s wT wF gv ne ba ad dr pr ob c q m o) (I : ∀ j, j < m → ¬ ob (q j) = 0 ∨ ¬ mk_c wT wF gv ne ba ad dr pr ob c b (q j)) : mk_F wT wF gv ne ba ad dr pr ob c q m o := by
  have key : ∀ n x, (gr_d (ap_C gv ne ba) (ap_T ad dr) (ap_w pr) (ap_G wT wF)) x = n → (∃ i, i < m ∧ q i = x) → c x + (gr_d (ap_C gv ne ba) (ap_T ad dr) (ap_w pr) (ap_G wT wF)) x = (gr_d (ap_C gv ne ba) (ap_T ad dr) (ap_w pr) (ap_G wT wF)) o → ¬ ob x = 0 := by
    intro n
    induction n using Nat.strongRecOn with
    | _ n ih =>
      intro x e hx he
      obtain ⟨j, hj, ej⟩ := hx
      rcases I j hj with h | h
      · rw [ej] at h; exact h
      · rw [ej] at h
        by_cases g : (ap_G wT wF) x
        · exact absurd (Or.inl ⟨g, by rw [d_G g] at he; omega⟩) h
        · obtain ⟨a, ha, hc, ea⟩ := d_at (C := (ap_C gv ne ba)) (T := (ap_T ad dr)) (w := (ap_w pr)) g (by omega)
          obtain ⟨h1, h2⟩ := F_2 E.2.2.2 (T_lt ad dr) hh hd ⟨j, hj, ej⟩ he g ha ⟨hc, ea⟩
          have w1 := w_1 V a x ha hc
          have h3 := ih _ (by omega) ((ap_T ad dr) a x) rfl h1 (by omega)
          exact absurd (Or.inr ⟨g, a, ha, hc, h3, h2⟩) h
  exact fun x hx => ⟨M x hx, fun y => key _ x rfl y.1 y.2⟩
theorem x_m24 {post : SX → Prop} (V : ap_V gv ad pr) (E : sr_E wT wF gv ne ba ad dr pr ra lo o b m co lf c q) (eb : b = (gr_d (ap_C gv ne ba) (ap_T ad dr) (ap_w pr) (ap_G wT wF)) o) (hh : ∀ s, ap_hb wT wF ra lo s ≤ (gr_d (ap_C gv ne ba) (ap_T ad dr) (ap_w pr) (ap_G wT wF)) s) (hd : (gr_d (ap_C gv ne ba) (ap_T ad dr) (ap_w pr) (ap_G wT wF)) o < 1000000)
    (K : ∀ ob', mk_F wT wF gv ne ba ad dr pr ob' c q m o → post (wT, wF, nw, pd, hP, pL, pA, rs, hz, nI m, gv, ne, ba, ad, dr, pr, pn, co, pc, he, lf, ob', ra, lo)) :
    ∀ n r ob, 256 - r < n → r ≤ 256 → mk_s wT wF gv ne ba ad dr pr ob c q m o → r ≤ ap_n ob → wX_markBest_24 post (nI b) wT wF nw pd hP pL pA rs hz (nI m) n (nI r) gv ne ba ad dr pr pn co pc he lf ob ra lo := by
  intro n
  induction n with
  | zero => intro r ob h; omega
  | succ n ih =>
  intro r ob hn hr M hc
  refine pk_le 256 r (fun h => K ob fun x hx => ⟨M x hx, fun _ => ?_⟩) (fun h => nm_e ⟨m + 1, ?_⟩)
  · exact of_decide_eq_true (cn_all (p := fun x => decide (¬ ob x = 0)) 256 (Nat.le_trans h hc) x hx)
  · refine x_m41 (ob0 := ob) V E eb (fun I => K ob (mk_all V E eb hh hd M I)) (fun ob' M' h' => ?_) (m + 1) m 0 _ ob (by omega) (Nat.le_refl _) (Int32.sub_eq_add_neg _ _) M (Or.inl ⟨rfl, rfl, fun j h1 h2 => by omega⟩)
    rw [nI_1]
    exact ih (r + 1) ob' (by omega) (by omega) M' (by omega)
theorem x_m2 {post : SX → Prop} (V : ap_V gv ad pr) (E : sr_E wT wF gv ne ba ad dr pr ra lo o b m co lf c q) (eb : b = (gr_d (ap_C gv ne ba) (ap_T ad dr) (ap_w pr) (ap_G wT wF)) o) (hh : ∀ s, ap_hb wT wF ra lo s ≤ (gr_d (ap_C gv ne ba) (ap_T ad dr) (ap_w pr) (ap_G wT wF)) s) (hd : (gr_d (ap_C gv ne ba) (ap_T ad dr) (ap_w pr) (ap_G wT wF)) o < 1000000)
    (K : ∀ ob', mk_F wT wF gv ne ba ad dr pr ob' c q m o → post (wT, wF, nw, pd, hP, pL, pA, rs, hz, nI m, gv, ne, ba, ad, dr, pr, pn, co, pc, he, lf, ob', ra, lo)) :
    ∀ n i ob, 256 - i < n → i ≤ 256 → (∀ x, x < i → ob x = 0) → wX_markBest_2 post (nI b) wT wF nw pd hP pL pA rs hz (nI m) n (nI i) gv ne ba ad dr pr pn co pc he lf ob ra lo := by
  intro n
  induction n with
  | zero => intro i ob h; omega
  | succ n ih =>
  intro i ob hn hi Z
  refine pk_le 256 i (fun h => ⟨257, x_m24 V E eb hh hd K 257 0 ob (by omega) (by omega) (fun x hx z => absurd (Z x (by omega)) z) (Nat.zero_le _)⟩) (fun h => ⟨in256 h, nm_e (nm_r (nI_1 i) ?_)⟩)
  rw [cl256 h, b_n0]
  refine ih (i + 1) _ (by omega) (by omega) fun x hx => ?_
  by_cases z : x = i
  · rw [z, pk_us]
  · rw [pk_un z]; exact Z x (by omega)
theorem x_mark {post : SX → Prop} (V : ap_V gv ad pr) (E : sr_E wT wF gv ne ba ad dr pr ra lo o b m co lf c q) (eb : b = (gr_d (ap_C gv ne ba) (ap_T ad dr) (ap_w pr) (ap_G wT wF)) o) (hh : ∀ s, ap_hb wT wF ra lo s ≤ (gr_d (ap_C gv ne ba) (ap_T ad dr) (ap_w pr) (ap_G wT wF)) s) (hd : (gr_d (ap_C gv ne ba) (ap_T ad dr) (ap_w pr) (ap_G wT wF)) o < 1000000)
    (K : ∀ ob', mk_F wT wF gv ne ba ad dr pr ob' c q m o → post (wT, wF, nw, pd, hP, pL, pA, rs, hz, nI m, gv, ne, ba, ad, dr, pr, pn, co, pc, he, lf, ob', ra, lo)) : wpX_markBest post (wT, wF, nw, pd, hP, pL, pA, rs, hz, nI m, gv, ne, ba, ad, dr, pr, pn, co, pc, he, lf, ob, ra, lo) (nI b) := by
  unfold wpX_markBest
  exact ⟨257, x_m2 V E eb hh hd K 257 0 ob (by omega) (by omega) fun x hx => absurd hx (Nat.not_lt_zero _)⟩
/-! choosing -/
theorem q_Q {a : Nat} (E : sr_E wT wF gv ne ba ad dr pr ra lo o b m co lf c q) (hh : ∀ s, ap_hb wT wF ra lo s ≤ (gr_d (ap_C gv ne ba) (ap_T ad dr) (ap_w pr) (ap_G wT wF)) s) (hd : (gr_d (ap_C gv ne ba) (ap_T ad dr) (ap_w pr) (ap_G wT wF)) o < 1000000) (M : mk_F wT wF gv ne ba ad dr pr ob c q m o)
    (hs : s < 256) (hm : ¬ ob s = 0) (g : ¬ (ap_G wT wF) s) (ha : a < 10) : ap_q gv ne ba ad dr pr ob c s a ↔ (gr_Q (ap_C gv ne ba) (ap_T ad dr) (ap_w pr) (ap_G wT wF)) s a := by
  have h0 := (M s hs).mp hm
  constructor
  · rintro ⟨hc, h1, h2⟩
    have h3 := ((M _ (T_lt ad dr a s)).mp h1).2
    exact ⟨hc, by omega⟩
  · intro hq
    obtain ⟨h1, h2⟩ := F_2 E.2.2.2 (T_lt ad dr) hh hd h0.1 h0.2 g ha hq
    have h3 := hq.2
    exact ⟨hq.1, (M _ (T_lt ad dr a s)).mpr ⟨h1, by omega⟩, h2⟩
theorem x_c7 {post : SX → Prop} (V : ap_V gv ad pr) (E : sr_E wT wF gv ne ba ad dr pr ra lo o b m co lf c q) (eb : b = (gr_d (ap_C gv ne ba) (ap_T ad dr) (ap_w pr) (ap_G wT wF)) o) (hh : ∀ s, ap_hb wT wF ra lo s ≤ (gr_d (ap_C gv ne ba) (ap_T ad dr) (ap_w pr) (ap_G wT wF)) s) (ho : o < 256) (L : ap_l wT wF gv ne ba ad dr pr o l) (M : mk_F wT wF gv ne ba ad dr pr ob c q m o)
    (K : ∀ pn', (∀ i, i < l → pn' i = nI ((gr_fa (ap_C gv ne ba) (ap_T ad dr) (ap_w pr) (ap_G wT wF)) ((gr_it (ap_C gv ne ba) (ap_T ad dr) (ap_w pr) (ap_G wT wF)) i o))) → post (wT, wF, nw, pd, hP, nI l, pA, rs, hz, lc, gv, ne, ba, ad, dr, pr, pn', co, pc, he, lf, ob, ra, lo)) :
    ∀ n j pn, l - j < n → j ≤ l → ¬ ob ((gr_it (ap_C gv ne ba) (ap_T ad dr) (ap_w pr) (ap_G wT wF)) j o) = 0 → (∀ i, i < j → pn i = nI ((gr_fa (ap_C gv ne ba) (ap_T ad dr) (ap_w pr) (ap_G wT wF)) ((gr_it (ap_C gv ne ba) (ap_T ad dr) (ap_w pr) (ap_G wT wF)) i o))) → wX_choosePlan_7 post (nI b) wT wF nw pd hP pA rs hz lc n (nI ((gr_it (ap_C gv ne ba) (ap_T ad dr) (ap_w pr) (ap_G wT wF)) j o)) (nI j) (nI j) gv ne ba ad dr pr pn co pc he lf ob ra lo := by
  intro n
  induction n with
  | zero => intro j pn h; omega
  | succ n ih =>
  intro j pn hn hj hm P
  have l5 := L.1
  have hs : (gr_it (ap_C gv ne ba) (ap_T ad dr) (ap_w pr) (ap_G wT wF)) j o < 256 := it_lt (T_lt ad dr) ho j
  have ms := ((M _ hs).mp hm).2
  have A := E.2.1
  have dl := L.2.1
  have fin : j = l → post (wT, wF, nw, pd, hP, nI j, pA, rs, hz, lc, gv, ne, ba, ad, dr, pr, pn, co, pc, he, lf, ob, ra, lo) := fun e => by
    subst e
    exact K pn P
  refine pk_le 255 j (fun h => fin (by omega)) (fun h => xc_goal (fun g => br_f (by decide) ⟨in256 hs, ?_⟩) (fun g => br_t rfl ?_))
  · have as := A _ hs
    rw [cl256 hs, as.1]
    have z : (gr_d (ap_C gv ne ba) (ap_T ad dr) (ap_w pr) (ap_G wT wF)) ((gr_it (ap_C gv ne ba) (ap_T ad dr) (ap_w pr) (ap_G wT wF)) j o) = 0 := d_G g
    refine pk_eq (c ((gr_it (ap_C gv ne ba) (ap_T ad dr) (ap_w pr) (ap_G wT wF)) j o)) b (fun _ => fin ?_) (fun e => absurd (by omega) e) rfl rfl (by omega) (by omega)
    rcases Nat.lt_or_ge j l with y | y
    · exact absurd z (L.2.2.2 j y)
    · omega
  · have jl : j < l := by
      rcases Nat.lt_or_ge j l with y | y
      · exact y
      · have e : j = l := by omega
        subst e
        exact absurd ((d_z V _).mp L.2.2.1) g
    have f := l_j V ho L jl
    have sp := fa_sp g f.2.1
    unfold wX_choosePlan_32
    refine x_best V A hs (fun y => absurd y g) (fun _ a ha h1 h2 => br_t (nI_pos' (by omega)) ⟨in256 (by omega), nm_e (nm_r (nI_1 j) ?_)⟩) (fun _ h0 => absurd ((q_Q E hh dl M hs hm g sp.1).mpr sp.2.1) (h0 _ sp.1))
    have ea : (gr_fa (ap_C gv ne ba) (ap_T ad dr) (ap_w pr) (ap_G wT wF)) ((gr_it (ap_C gv ne ba) (ap_T ad dr) (ap_w pr) (ap_G wT wF)) j o) = a := fa_uq g f.2.1 ((q_Q E hh dl M hs hm g ha).mp h1) fun b' hb' y => h2 b' hb' ((q_Q E hh dl M hs hm g (by omega)).mpr y)
    have ei : (ap_T ad dr) a ((gr_it (ap_C gv ne ba) (ap_T ad dr) (ap_w pr) (ap_G wT wF)) j o) = (gr_it (ap_C gv ne ba) (ap_T ad dr) (ap_w pr) (ap_G wT wF)) (j + 1) o := by rw [it_s, ea]
    rw [cl256 (by omega)]
    refine xc_aft V ha hs (nm_r (nI_1 j) ?_)
    rw [ei]
    refine ih (j + 1) _ (by omega) (by omega) ?_ (fun i hi => ?_)
    · rw [← ei]; exact h1.2.1
    · by_cases y : i = j
      · rw [y, pk_us, ea]
      · rw [pk_un y]; exact P i (by omega)
theorem x_choose {post : SX → Prop} (V : ap_V gv ad pr) (E : sr_E wT wF gv ne ba ad dr pr ra lo o b m co lf c q) (eb : b = (gr_d (ap_C gv ne ba) (ap_T ad dr) (ap_w pr) (ap_G wT wF)) o) (hh : ∀ s, ap_hb wT wF ra lo s ≤ (gr_d (ap_C gv ne ba) (ap_T ad dr) (ap_w pr) (ap_G wT wF)) s) (ho : o < 256) (L : ap_l wT wF gv ne ba ad dr pr o l) (M : mk_F wT wF gv ne ba ad dr pr ob c q m o)
    (K : ∀ pn', (∀ i, i < l → pn' i = nI ((gr_fa (ap_C gv ne ba) (ap_T ad dr) (ap_w pr) (ap_G wT wF)) ((gr_it (ap_C gv ne ba) (ap_T ad dr) (ap_w pr) (ap_G wT wF)) i o))) → post (wT, wF, nI o, pd, hP, nI l, pA, rs, hz, lc, gv, ne, ba, ad, dr, pr, pn', co, pc, he, lf, ob, ra, lo)) : wpX_choosePlan post (wT, wF, nI o, pd, hP, 0, pA, rs, hz, lc, gv, ne, ba, ad, dr, pr, pn, co, pc, he, lf, ob, ra, lo) (nI b) := by
  unfold wpX_choosePlan
  have F := E.2.2.2
  refine ⟨l + 1, x_c7 V E eb hh ho L M K (l + 1) 0 pn (by omega) (by omega) ?_ fun i hi => absurd hi (Nat.not_lt_zero _)⟩
  exact (M o ho).mpr ⟨F_1 F ho hh L.2.1, by rw [F.2.2.1]; omega⟩
/-! the plan that is kept -/
def ap_pc (wT wF : Int32) (gv ne ba ad dr pr : Nat → Int32) (hP pL pA rs : Int32) (pn : Nat → Int32) (o : Nat) : Prop :=
  hP = 0 ∧ (gr_d (ap_C gv ne ba) (ap_T ad dr) (ap_w pr) (ap_G wT wF)) o = 1000000 ∨ hP = 1 ∧ ∃ a l, pA = nI a ∧ pL = nI (a + l) ∧ a + l ≤ 255 ∧ rs = nI ((gr_d (ap_C gv ne ba) (ap_T ad dr) (ap_w pr) (ap_G wT wF)) o) ∧ ap_l wT wF gv ne ba ad dr pr o l ∧ ∀ i, i < l → pn (a + i) = nI ((gr_fa (ap_C gv ne ba) (ap_T ad dr) (ap_w pr) (ap_G wT wF)) ((gr_it (ap_C gv ne ba) (ap_T ad dr) (ap_w pr) (ap_G wT wF)) i o))
theorem d_no {C : Nat → Nat → Prop} {T : Nat → Nat → Nat} {w : Nat → Nat} {G : Nat → Prop} (hw : ∀ a s, a < 10 → C a s → 1 ≤ w a) (h : ∀ s, ¬ G s) (s : Nat) : gr_d C T w G s = 1000000 := by
  have key : ∀ n s, gr_d C T w G s = n → ¬ n < 1000000 := by
    intro n
    induction n using Nat.strongRecOn with
    | _ n ih =>
      intro s e hn
      obtain ⟨a, ha, hc, ea⟩ := d_at (C := C) (T := T) (w := w) (h s) (by omega)
      have w1 := hw a s ha hc
      exact ih _ (by omega) (T a s) rfl (by omega)
  have h1 := key _ s rfl
  have h2 := d_le (C := C) (T := T) (w := w) (G := G) s
  omega
theorem G_no (h : ¬ wT &&& wF = 0) (s : Nat) : ¬ (ap_G wT wF) s := by
  intro g
  apply h
  rw [← g.1, Int32.and_assoc, Int32.and_comm wT wF, ← Int32.and_assoc, g.2, Int32.zero_and]
theorem x_make {post : SX → Prop} (V : ap_V gv ad pr) (ho : o < 256) (hp : ¬ pd = 0 → ap_pc wT wF gv ne ba ad dr pr hP pL pA rs pn o)
    (K : ∀ pd' hP' pL' pA' rs' hz' lc' pn' co' pc' he' lf' ob' ra' lo', ap_pc wT wF gv ne ba ad dr pr hP' pL' pA' rs' pn' o → post (wT, wF, nI o, pd', hP', pL', pA', rs', hz', lc', gv, ne, ba, ad, dr, pr, pn', co', pc', he', lf', ob', ra', lo')) : wpX_makePlan post (wT, wF, nI o, pd, hP, pL, pA, rs, hz, lc, gv, ne, ba, ad, dr, pr, pn, co, pc, he, lf, ob, ra, lo) := by
  unfold wpX_makePlan
  dsimp only
  refine br_c (fun _ => br_c (fun _ => ?_) (fun h => K 1 0 0 0 0 _ _ _ _ _ _ _ _ _ _ (Or.inl ⟨rfl, d_no (w_1 V) (G_no h) o⟩))) (fun h => K _ _ _ _ _ _ _ _ _ _ _ _ _ _ _ (hp h))
  refine x_cheap V fun ra' lo' R => x_search V R ho fun b m hz' c q co' pc' he' lf' E0 => ?_
  have E : sr_E wT wF gv ne ba ad dr pr ra' lo' o b m co' lf' c q := E0
  have hh := fun s => hb_d (wT := wT) (wF := wF) (ne := ne) (ba := ba) V R s
  have eb : b = (gr_d (ap_C gv ne ba) (ap_T ad dr) (ap_w pr) (ap_G wT wF)) o := F_b E.2.2.2 ho (T_lt ad dr) (w_1 V) hh
  have db := d_le (C := (ap_C gv ne ba)) (T := (ap_T ad dr)) (w := (ap_w pr)) (G := (ap_G wT wF)) o
  refine pk_lt b 1000000 (fun u => ?_) (fun u => K _ _ _ _ _ _ _ _ _ _ _ _ _ _ _ (Or.inl ⟨rfl, by omega⟩)) rfl rfl (by omega) (by omega)
  have hd : (gr_d (ap_C gv ne ba) (ap_T ad dr) (ap_w pr) (ap_G wT wF)) o < 1000000 := by omega
  obtain ⟨l, L⟩ := l_ex (wT := wT) (wF := wF) (ne := ne) (ba := ba) V ho hd
  refine x_mark V E eb hh hd fun ob' M => x_choose V E eb hh ho L M fun pn' P => K _ _ _ _ _ _ _ _ _ _ _ _ _ _ _ (Or.inr ⟨rfl, 0, l, rfl, ?_, ?_, ?_, L, fun i hi => ?_⟩)
  · rw [Nat.zero_add]
  · have := L.1
    omega
  · rw [eb]
  · rw [Nat.zero_add]; exact P i hi
end XPL
end
section
section RXX
variable {wT wF nw pd hP pL pA rs hz lc : Int32} {gv ne ba ad dr pr pn co pc he lf ob ra lo : Nat → Int32} {q : Nat → Nat} {o m k j y : Nat}
/-- what is found so far -/
def rx_I (gv ne ba ad dr ob lf : Nat → Int32) (o m : Nat) (q : Nat → Nat) : Prop :=
  (∀ i, i < m → lf i = nI (q i) ∧ q i < 256 ∧ ¬ ob (q i) = 0) ∧ (∀ x, x < 256 → ¬ ob x = 0 → ∃ i, i < m ∧ q i = x) ∧ (∀ x, x < 256 → ¬ ob x = 0 → gr_R (ap_C gv ne ba) (ap_T ad dr) o x) ∧ ¬ ob o = 0 ∧ ap_n ob = m
def rx_X (gv ne ba ad dr ob : Nat → Int32) (q : Nat → Nat) (k j : Nat) : Prop := ∀ i, i ≤ k → ∀ a, a < 10 → (i = k → a < j) → (ap_C gv ne ba) a (q i) → ¬ ob ((ap_T ad dr) a (q i)) = 0
theorem n_one {x : Nat} (hx : x < 256) (h : ob x = 0) : ap_n (upd ob x 1) = ap_n ob + 1 :=
  cn_upd (p := fun x => decide (¬ ob x = 0)) (q := fun y => decide (¬ upd ob x 1 y = 0)) (y := x) (fun z => of_decide_eq_true z h) (decide_eq_true (by rw [pk_us]; decide)) 256 hx (fun y _ e => by
    show decide (¬ ob y = 0) = true ↔ decide (¬ upd ob x 1 y = 0) = true
    rw [pk_un e])
theorem n_le (ob : Nat → Int32) : ap_n ob ≤ 256 := cn_le _ _
theorem x_r107 {post : Int32 → SX → Prop} {J46 J60 : (Int32 → Int32 → (Nat → Int32) → (Nat → Int32) → (Nat → Int32) → (Nat → Int32) → (Nat → Int32) → (Nat → Int32) → (Nat → Int32) → (Nat → Int32) → (Nat → Int32) → (Nat → Int32) → (Nat → Int32) → (Nat → Int32) → (Nat → Int32) → (Nat → Int32) → Prop)} {x2 : Int32} (I : rx_I gv ne ba ad dr ob lf o m q) (hy : y < 256) (Ry : gr_R (ap_C gv ne ba) (ap_T ad dr) o y)
    (K : ∀ m' q' ob' lf', rx_I gv ne ba ad dr ob' lf' o m' q' → (∀ x, ¬ ob x = 0 → ¬ ob' x = 0) → m ≤ m' → (∀ i, i < m → q' i = q i) → ¬ ob' y = 0 → J60 (nI m') (nI (j + 1)) gv ne ba ad dr pr pn co pc he lf' ob' ra lo) :
    wX_reachable_107 post J46 J60 (nI m) x2 (nI j) (nI y) wT wF nw pd hP pL pA rs hz lc gv ne ba ad dr pr pn co pc he lf ob ra lo := by
  unfold wX_reachable_107
  rw [cl256 hy, b_n1]
  refine ⟨in256 hy, br_c (fun z => ?_) (fun z => nm_r (nI_1 j) (K m q ob lf I (fun _ h => h) (Nat.le_refl _) (fun _ _ => rfl) z))⟩
  have n1 := n_one hy z
  have n2 := n_le (upd ob y 1)
  have em := I.2.2.2.2
  have hm : m < 256 := by omega
  have up : ∀ x, ¬ ob x = 0 → ¬ upd ob y 1 x = 0 := fun x h => by
    by_cases w : x = y
    · rw [w, pk_us]; decide
    · rw [pk_un w]; exact h
  refine ⟨in256 hy, nm_e ⟨in256 hm, nm_e (nm_r (nI_1 m) (nm_r (nI_1 j) ?_))⟩⟩
  rw [cl256 hm]
  refine K (m + 1) (ap_u q m y) _ _ ⟨fun i hi => ?_, fun x hx h => ?_, fun x hx h => ?_, up o I.2.2.2.1, by omega⟩ up (by omega) (fun i hi => u_n q (by omega)) (by rw [pk_us]; decide)
  · by_cases w : i = m
    · rw [w, pk_us, u_s, pk_us]; exact ⟨rfl, hy, by decide⟩
    · have h1 := I.1 i (by omega)
      rw [pk_un w, u_n q w]
      exact ⟨h1.1, h1.2.1, up _ h1.2.2⟩
  · by_cases w : x = y
    · exact ⟨m, by omega, by rw [u_s, w]⟩
    · rw [pk_un w] at h
      obtain ⟨i, hi, e⟩ := I.2.1 x hx h
      exact ⟨i, by omega, by rw [u_n q (by omega), e]⟩
  · by_cases w : x = y
    · rw [w]; exact Ry
    · rw [pk_un w] at h
      exact I.2.2.1 x hx h
theorem x_r60 {post : Int32 → SX → Prop} {J46 : (Int32 → Int32 → (Nat → Int32) → (Nat → Int32) → (Nat → Int32) → (Nat → Int32) → (Nat → Int32) → (Nat → Int32) → (Nat → Int32) → (Nat → Int32) → (Nat → Int32) → (Nat → Int32) → (Nat → Int32) → (Nat → Int32) → (Nat → Int32) → (Nat → Int32) → Prop)} (V : ap_V gv ad pr) (hk : k < 256) (ho : o < 256)
    (K : ∀ m' q' ob' lf', rx_I gv ne ba ad dr ob' lf' o m' q' → k < m' → rx_X gv ne ba ad dr ob' q' k 10 → J46 (nI m') (nI (k + 1)) gv ne ba ad dr pr pn co pc he lf' ob' ra lo) :
    ∀ n j m q ob lf, 10 - j < n → j ≤ 10 → rx_I gv ne ba ad dr ob lf o m q → k < m → rx_X gv ne ba ad dr ob q k j → wX_reachable_60 post J46 (nI k) wT wF (nI o) pd hP pL pA rs hz lc n (nI m) (nI j) gv ne ba ad dr pr pn co pc he lf ob ra lo := by
  intro n
  induction n with
  | zero => intro j m q ob lf h; omega
  | succ n ih =>
  intro j m q ob lf hn hj I hkm X
  refine pk_le 10 j (fun h => nm_r (nI_1 k) (K m q ob lf I hkm ?_)) (fun h => ⟨in10 h, ?_⟩)
  · have e : j = 10 := by omega
    subst e
    exact X
  · have qk := I.1 k hkm
    have KK : ∀ y, ((ap_C gv ne ba) j (q k) → y = (ap_T ad dr) j (q k)) → ∀ m' q' ob' lf', rx_I gv ne ba ad dr ob' lf' o m' q' → (∀ x, ¬ ob x = 0 → ¬ ob' x = 0) → m ≤ m' → (∀ i, i < m → q' i = q i) → ¬ ob' y = 0 → wX_reachable_60 post J46 (nI k) wT wF (nI o) pd hP pL pA rs hz lc n (nI m') (nI (j + 1)) gv ne ba ad dr pr pn co pc he lf' ob' ra lo := fun y hy m' q' ob' lf' I' up hm hq ny => by
      refine ih (j + 1) m' q' ob' lf' (by omega) (by omega) I' (by omega) fun i hi a ha ha' hc => ?_
      rw [hq i (by omega)] at hc ⊢
      by_cases w : i = k ∧ a = j
      · rw [w.1, w.2] at hc ⊢
        rw [← hy hc]
        exact ny
      · exact up _ (X i hi a ha (fun ik => by have := ha' ik; have : a ≠ j := fun aj => w ⟨ik, aj⟩; omega) hc)
    rw [cl10 h]
    refine br_c (fun g => ?_) (fun g => ⟨in256 hk, ?_⟩)
    · unfold wX_reachable_103
      exact x_r107 I ho (R_0 o) (KK o fun hc => absurd g hc.1)
    · rw [cl256 hk, qk.1]
      refine xc_can h (fun c1 c2 => br_f (by decide) ⟨in256 hk, xc_aft V h qk.2.1 ?_⟩) (fun z => br_t rfl ?_)
      · exact x_r107 I (T_lt ad dr _ _) (R_s (I.2.2.1 _ qk.2.1 qk.2.2) h ⟨g, c1, c2⟩) (KK _ fun _ => rfl)
      · unfold wX_reachable_103
        exact x_r107 I ho (R_0 o) (KK o fun hc => absurd hc.2 z)
theorem x_r46 {post : Int32 → SX → Prop} (V : ap_V gv ad pr) (ho : o < 256) (K : ∀ ob' lf', (∀ x, x < 256 → (¬ ob' x = 0 ↔ gr_R (ap_C gv ne ba) (ap_T ad dr) o x)) → post (nI (ap_n ob')) (wT, wF, nI o, pd, hP, pL, pA, rs, hz, lc, gv, ne, ba, ad, dr, pr, pn, co, pc, he, lf', ob', ra, lo)) :
    ∀ n k m q ob lf, 256 - k < n → k ≤ m → rx_I gv ne ba ad dr ob lf o m q → rx_X gv ne ba ad dr ob q k 0 → wX_reachable_46 post wT wF (nI o) pd hP pL pA rs hz lc n (nI m) (nI k) gv ne ba ad dr pr pn co pc he lf ob ra lo := by
  intro n
  induction n with
  | zero => intro k m q ob lf h; omega
  | succ n ih =>
  intro k m q ob lf hn hkm I X
  have n2 := n_le ob
  have em := I.2.2.2.2
  have fin : m ≤ k → post (nI m) (wT, wF, nI o, pd, hP, pL, pA, rs, hz, lc, gv, ne, ba, ad, dr, pr, pn, co, pc, he, lf, ob, ra, lo) := fun h => by
    have := K ob lf fun x hx => ⟨I.2.2.1 x hx, fun r => ?_⟩
    · rw [em] at this
      exact this
    · refine (r (fun x => x < 256 ∧ ¬ ob x = 0) ⟨ho, I.2.2.2.1⟩ fun y a ha hc hy => ⟨T_lt ad dr a y, ?_⟩).2
      obtain ⟨i, hi, e⟩ := I.2.1 y hy.1 hy.2
      rw [← e] at hc ⊢
      exact X i (by omega) a ha (fun ik => by omega) hc
  refine pk_le m k (fun h => fin h) (fun h => pk_le 256 k (fun h' => fin (by omega)) (fun h' => ⟨11, ?_⟩))
  refine x_r60 V h' ho (fun m' q' ob' lf' I' hk' X' => ?_) 11 0 m q ob lf (by omega) (by omega) I h X
  refine ih (k + 1) m' q' ob' lf' (by omega) (by omega) I' fun i hi a ha ha' hc => ?_
  by_cases w : i = k + 1
  · exact absurd (ha' w) (Nat.not_lt_zero _)
  · exact X' i (by omega) a ha (fun _ => ha) hc
theorem x_r2 {post : Int32 → SX → Prop} (V : ap_V gv ad pr) (ho : o < 256) (K : ∀ ob' lf', (∀ x, x < 256 → (¬ ob' x = 0 ↔ gr_R (ap_C gv ne ba) (ap_T ad dr) o x)) → post (nI (ap_n ob')) (wT, wF, nI o, pd, hP, pL, pA, rs, hz, lc, gv, ne, ba, ad, dr, pr, pn, co, pc, he, lf', ob', ra, lo)) :
    ∀ n i ob, 256 - i < n → i ≤ 256 → (∀ x, x < i → ob x = 0) → wX_reachable_2 post wT wF (nI o) pd hP pL pA rs hz lc n (nI i) gv ne ba ad dr pr pn co pc he lf ob ra lo := by
  intro n
  induction n with
  | zero => intro i ob h; omega
  | succ n ih =>
  intro i ob hn hi Z
  refine pk_le 256 i (fun h => ⟨in256 ho, nm_e (nm_e ⟨257, ?_⟩)⟩) (fun h => ⟨in256 h, nm_e (nm_r (nI_1 i) ?_)⟩)
  · have e : i = 256 := by omega
    subst e
    rw [cl256 ho, b_n1]
    have z1 : ∀ x, x < 256 → ¬ upd ob o 1 x = 0 → x = o := fun x hx h => by
      by_cases w : x = o
      · exact w
      · rw [pk_un w] at h
        exact absurd (Z x hx) h
    refine x_r46 V ho K 257 0 1 (fun _ => o) _ _ (by omega) (by omega) ⟨fun i hi => ?_, fun x hx h => ⟨0, by omega, (z1 x hx h).symm⟩, fun x hx h => ?_, by rw [pk_us]; decide, ?_⟩ (fun i hi a ha ha' => absurd (ha' (by omega)) (Nat.not_lt_zero _))
    · have e0 : i = 0 := by omega
      subst e0
      exact ⟨pk_us, ho, by rw [pk_us]; decide⟩
    · rw [z1 x hx h]; exact R_0 o
    · rw [n_one ho (Z o ho)]
      exact congrArg (· + 1) (cn_zero 256 fun x hx z => of_decide_eq_true z (Z x hx))
  · rw [cl256 h, b_n0]
    refine ih (i + 1) _ (by omega) (by omega) fun x hx => ?_
    by_cases z : x = i
    · rw [z, pk_us]
    · rw [pk_un z]; exact Z x (by omega)
theorem x_reachable {post : Int32 → SX → Prop} (V : ap_V gv ad pr) (ho : o < 256) (K : ∀ ob' lf', (∀ x, x < 256 → (¬ ob' x = 0 ↔ gr_R (ap_C gv ne ba) (ap_T ad dr) o x)) → post (nI (ap_n ob')) (wT, wF, nI o, pd, hP, pL, pA, rs, hz, lc, gv, ne, ba, ad, dr, pr, pn, co, pc, he, lf', ob', ra, lo)) : wpX_reachable post (wT, wF, nI o, pd, hP, pL, pA, rs, hz, lc, gv, ne, ba, ad, dr, pr, pn, co, pc, he, lf, ob, ra, lo) := by
  unfold wpX_reachable
  exact ⟨257, x_r2 V ho K 257 0 ob (by omega) (by omega) fun x hx => absurd hx (Nat.not_lt_zero _)⟩
end RXX
section RYY
variable {nw wT wF : Int32} {gv ne ba ad dr pr le re : Nat → Int32} {o s : Nat}
def ry_s (gv ne ba ad dr re : Nat → Int32) (o : Nat) : Prop := ∀ x, x < 256 → ¬ re x = 0 → gr_R (ap_C gv ne ba) (ap_T ad dr) o x
theorem y_sp4 {post : Int32 → SY → Prop} {re0 : Nat → Int32} (hs : s < 256) (Rs : gr_R (ap_C gv ne ba) (ap_T ad dr) o s)
    (K : ∀ (r : Int32) re', (∀ x, ¬ re0 x = 0 → ¬ re' x = 0) → ry_s gv ne ba ad dr re' o → (∀ a, a < 10 → (ap_C gv ne ba) a s → ¬ re' ((ap_T ad dr) a s) = 0) → (r = 0 ∧ re' = re0 ∨ r = 1 ∧ ap_n re0 < ap_n re') → post r (nw, wT, wF, gv, ne, ba, ad, dr, pr, le, re')) :
    ∀ n j (r : Int32) re, 10 - j < n → j ≤ 10 → (∀ x, ¬ re0 x = 0 → ¬ re x = 0) → ry_s gv ne ba ad dr re o → (∀ a, a < j → (ap_C gv ne ba) a s → ¬ re ((ap_T ad dr) a s) = 0) → (r = 0 ∧ re = re0 ∨ r = 1 ∧ ap_n re0 < ap_n re) →
      wY_spread_4 post (nI s) nw wT wF n r (nI j) gv ne ba ad dr pr le re := by
  intro n
  induction n with
  | zero => intro j r re h; omega
  | succ n ih =>
  intro j r re hn hj I1 I2 I3 I4
  refine pk_le 10 j (fun h => ?_) (fun h => ?_)
  · have e : j = 10 := by omega
    subst e
    refine ⟨?_, K r re I1 I2 I3 I4⟩
    rcases I4 with ⟨rfl, _⟩ | ⟨rfl, _⟩ <;> rfl
  · have tl := T_lt ad dr j s
    refine yc_aft h (yc_can h (fun hc => br_f (by decide) ⟨in256 tl, ?_⟩) (fun hc => br_t rfl (nm_r (nI_1 j) ?_)))
    · rw [cl256 tl, b_n1]
      refine br_c (fun z => ⟨in256 tl, nm_e (nm_r (nI_1 j) ?_)⟩) (fun z => nm_r (nI_1 j) ?_)
      · have up : ∀ x, ¬ re x = 0 → ¬ upd re ((ap_T ad dr) j s) 1 x = 0 := fun x h => by
          by_cases w : x = (ap_T ad dr) j s
          · rw [w, pk_us]; decide
          · rw [pk_un w]; exact h
        refine ih (j + 1) 1 _ (by omega) (by omega) (fun x h => up x (I1 x h)) (fun x hx h => ?_) (fun a ha hca => ?_) (Or.inr ⟨rfl, ?_⟩)
        · by_cases w : x = (ap_T ad dr) j s
          · rw [w]; exact R_s Rs (by omega) hc
          · rw [pk_un w] at h; exact I2 x hx h
        · by_cases w : a = j
          · rw [w, pk_us]; decide
          · exact up _ (I3 a (by omega) hca)
        · have h1 := n_put tl z
          rcases I4 with ⟨_, rfl⟩ | ⟨_, h2⟩
          · exact h1
          · omega
      · refine ih (j + 1) r re (by omega) (by omega) I1 I2 (fun a ha hca => ?_) I4
        by_cases w : a = j
        · rw [w]; exact z
        · exact I3 a (by omega) hca
    · refine ih (j + 1) r re (by omega) (by omega) I1 I2 (fun a ha hca => ?_) I4
      by_cases w : a = j
      · rw [w] at hca; exact absurd hca hc
      · exact I3 a (by omega) hca
theorem y_r53 {post : Int32 → SY → Prop} {J : (Int32 → Int32 → Int32 → Int32 → Int32 → (Nat → Int32) → (Nat → Int32) → (Nat → Int32) → (Nat → Int32) → (Nat → Int32) → (Nat → Int32) → (Nat → Int32) → (Nat → Int32) → Prop)} {x2 : Int32} {re0 : Nat → Int32}
    (K : ∀ (r : Int32) re', (∀ x, ¬ re0 x = 0 → ¬ re' x = 0) → ry_s gv ne ba ad dr re' o → (∀ x, x < 256 → ¬ re0 x = 0 → ∀ a, a < 10 → (ap_C gv ne ba) a x → ¬ re' ((ap_T ad dr) a x) = 0) → (r = 0 ∧ re' = re0 ∨ r = 1 ∧ ap_n re0 < ap_n re') → J r (x2 + 1) nw wT wF gv ne ba ad dr pr le re') :
    ∀ n i (r : Int32) re, 256 - i < n → i ≤ 256 → (∀ x, ¬ re0 x = 0 → ¬ re x = 0) → ry_s gv ne ba ad dr re o → (∀ x, x < i → ¬ re0 x = 0 → ∀ a, a < 10 → (ap_C gv ne ba) a x → ¬ re ((ap_T ad dr) a x) = 0) → (r = 0 ∧ re = re0 ∨ r = 1 ∧ ap_n re0 < ap_n re) →
      wY_reachable_53 post J x2 n r (nI i) nw wT wF gv ne ba ad dr pr le re := by
  intro n
  induction n with
  | zero => intro i r re h; omega
  | succ n ih =>
  intro i r re hn hi I1 I2 I3 I4
  refine pk_le 256 i (fun h => ?_) (fun h => ⟨in256 h, ?_⟩)
  · have e : i = 256 := by omega
    subst e
    exact nm_e (K r re I1 I2 I3 I4)
  · rw [cl256 h]
    refine br_c (fun z => nm_r (nI_1 i) (ih (i + 1) r re (by omega) (by omega) I1 I2 (fun x hx h0 => ?_) I4)) (fun z => ?_)
    · by_cases w : x = i
      · rw [w] at h0; exact absurd z (I1 i h0)
      · exact I3 x (by omega) h0
    · unfold wpY_spread
      refine ⟨11, y_sp4 (re0 := re) h (I2 i h z) (fun r' re' L1 L2 L3 L4 => ?_) 11 0 0 re (by omega) (by omega) (fun _ h => h) I2 (fun a ha => absurd ha (Nat.not_lt_zero _)) (Or.inl ⟨rfl, rfl⟩)⟩
      have M1 : ∀ x, ¬ re0 x = 0 → ¬ re' x = 0 := fun x h => L1 x (I1 x h)
      have M3 : ∀ x, x < i + 1 → ¬ re0 x = 0 → ∀ a, a < 10 → (ap_C gv ne ba) a x → ¬ re' ((ap_T ad dr) a x) = 0 := fun x hx h0 a ha hc => by
        by_cases w : x = i
        · rw [w] at hc ⊢; exact L3 a ha hc
        · exact L1 _ (I3 x (by omega) h0 a ha hc)
      rcases L4 with ⟨rfl, e⟩ | ⟨rfl, e⟩
      · refine br_t rfl (nm_r (nI_1 i) (ih (i + 1) r re' (by omega) (by omega) M1 L2 M3 ?_))
        rw [e]
        exact I4
      · refine br_f (by decide) (nm_r (nI_1 i) (ih (i + 1) 1 re' (by omega) (by omega) M1 L2 M3 (Or.inr ⟨rfl, ?_⟩)))
        rcases I4 with ⟨_, rfl⟩ | ⟨_, h2⟩
        · exact e
        · omega
theorem y_r95 {post : Int32 → SY → Prop} (K : post (nI (ap_n re)) (nw, wT, wF, gv, ne, ba, ad, dr, pr, le, re)) : ∀ n i, 256 - i < n → i ≤ 256 → wY_reachable_95 post nw wT wF gv ne ba ad dr pr le re n (nI (ap_cn (fun x => decide (¬ re x = 0)) i)) (nI i) := by
  intro n
  induction n with
  | zero => intro i h; omega
  | succ n ih =>
  intro i hn hi
  refine pk_le 256 i (fun h => ?_) (fun h => ⟨in256 h, ?_⟩)
  · have e : i = 256 := by omega
    subst e
    exact K
  · rw [cl256 h]
    have KK := ih (i + 1) (by omega) (by omega)
    refine br_c (fun z => nm_r (nI_1 i) ?_) (fun z => nm_r (nI_1 _) (nm_r (nI_1 i) ?_))
    · rw [cn_f (p := fun x => decide (¬ re x = 0)) (fun w => of_decide_eq_true w z)] at KK
      exact KK
    · rw [cn_t (p := fun x => decide (¬ re x = 0)) (decide_eq_true z)] at KK
      exact KK
theorem y_r38 {post : Int32 → SY → Prop} (ho : o < 256) (K : ∀ re', (∀ x, x < 256 → (¬ re' x = 0 ↔ gr_R (ap_C gv ne ba) (ap_T ad dr) o x)) → post (nI (ap_n re')) (nw, wT, wF, gv, ne, ba, ad, dr, pr, le, re')) :
    ∀ n t (r : Int32) re, 256 - t < n → t ≤ 256 → ry_s gv ne ba ad dr re o → ¬ re o = 0 → t ≤ ap_n re → (r = 0 → ∀ x, x < 256 → ¬ re x = 0 → ∀ a, a < 10 → (ap_C gv ne ba) a x → ¬ re ((ap_T ad dr) a x) = 0) → wY_reachable_38 post n r (nI t) nw wT wF gv ne ba ad dr pr le re := by
  intro n
  induction n with
  | zero => intro t r re h; omega
  | succ n ih =>
  intro t r re hn ht I1 I2 I3 I4
  have fin : (∀ x, x < 256 → gr_R (ap_C gv ne ba) (ap_T ad dr) o x → ¬ re x = 0) → ∃ n95, wY_reachable_95 post nw wT wF gv ne ba ad dr pr le re n95 0 0 := fun f =>
    ⟨257, y_r95 (K re fun x hx => ⟨I1 x hx, f x hx⟩) 257 0 (by omega) (by omega)⟩
  refine pk_le 256 t (fun h => fin fun x hx _ => ?_) (fun h => br_c (fun z => fin fun x hx g => ?_) (fun z => ?_))
  · exact of_decide_eq_true (cn_all (p := fun x => decide (¬ re x = 0)) 256 (Nat.le_trans h I3) x hx)
  · exact (g (fun x => x < 256 ∧ ¬ re x = 0) ⟨ho, I2⟩ fun y a ha hc hy => ⟨T_lt ad dr a y, I4 z y hy.1 hy.2 a ha hc⟩).2
  · refine ⟨257, y_r53 (re0 := re) (fun r' re' L1 L2 L3 L4 => ?_) 257 0 0 re (by omega) (by omega) (fun _ h => h) I1 (fun x hx => absurd hx (Nat.not_lt_zero _)) (Or.inl ⟨rfl, rfl⟩)⟩
    rw [nI_1]
    rcases L4 with ⟨rfl, e⟩ | ⟨rfl, e⟩
    · subst e
      cases n with
      | zero => omega
      | succ n =>
        have fin' : ∃ n95, wY_reachable_95 post nw wT wF gv ne ba ad dr pr le re' n95 0 0 := fin fun x hx g =>
          (g (fun x => x < 256 ∧ ¬ re' x = 0) ⟨ho, I2⟩ fun y a ha hc hy => ⟨T_lt ad dr a y, L3 y hy.1 hy.2 a ha hc⟩).2
        exact pk_le 256 (t + 1) (fun _ => fin') (fun _ => br_t rfl fin')
    · exact ih (t + 1) 1 re' (by omega) (by omega) L2 (L1 o I2) (by omega) (fun z => absurd z (by decide))
theorem y_r2 {post : Int32 → SY → Prop} (ho : o < 256) (K : ∀ re', (∀ x, x < 256 → (¬ re' x = 0 ↔ gr_R (ap_C gv ne ba) (ap_T ad dr) o x)) → post (nI (ap_n re')) (nI o, wT, wF, gv, ne, ba, ad, dr, pr, le, re')) :
    ∀ n i re, 256 - i < n → i ≤ 256 → (∀ x, x < i → (¬ re x = 0 ↔ x = o)) → wY_reachable_2 post (nI o) wT wF n (nI i) gv ne ba ad dr pr le re := by
  intro n
  induction n with
  | zero => intro i re h; omega
  | succ n ih =>
  intro i re hn hi Z
  refine pk_le 256 i (fun h => ?_) (fun h => pk_eq i o (fun e => ⟨in256 h, nm_e (nm_r (nI_1 i) ?_)⟩) (fun e => ⟨in256 h, nm_e (nm_r (nI_1 i) ?_)⟩))
  · have e : i = 256 := by omega
    subst e
    refine ⟨257, y_r38 ho K 257 0 1 re (by omega) (by omega) (fun x hx h => ?_) ((Z o ho).mpr rfl) (Nat.zero_le _) (fun z => absurd z (by decide))⟩
    rw [(Z x hx).mp h]
    exact R_0 o
  · rw [cl256 h, b_n1]
    refine ih (i + 1) _ (by omega) (by omega) fun x hx => ?_
    by_cases z : x = i
    · rw [z, pk_us]; exact ⟨fun _ => e, fun _ => by decide⟩
    · rw [pk_un z]; exact Z x (by omega)
  · rw [cl256 h, b_n0]
    refine ih (i + 1) _ (by omega) (by omega) fun x hx => ?_
    by_cases z : x = i
    · rw [z, pk_us]; exact ⟨fun w => absurd rfl w, fun w => absurd w e⟩
    · rw [pk_un z]; exact Z x (by omega)
theorem y_reachable {post : Int32 → SY → Prop} (ho : o < 256) (K : ∀ re', (∀ x, x < 256 → (¬ re' x = 0 ↔ gr_R (ap_C gv ne ba) (ap_T ad dr) o x)) → post (nI (ap_n re')) (nI o, wT, wF, gv, ne, ba, ad, dr, pr, le, re')) : wpY_reachable post (nI o, wT, wF, gv, ne, ba, ad, dr, pr, le, re) := by
  unfold wpY_reachable
  exact ⟨257, y_r2 ho K 257 0 re (by omega) (by omega) fun x hx => absurd hx (Nat.not_lt_zero _)⟩
end RYY
end
section
section MTX
variable {wT wF nw pd hP pL pA rs hz lc : Int32} {gv ne ba ad dr pr pn co pc he lf ob ra lo : Nat → Int32} {o a l : Nat} {v1 v2 v3 v4 : Int32}
def ap_cl (p : Int32) : Int32 := if 1 ≤ p then (if p ≤ 50 then p else 50) else 1
theorem cl_ok (p : Int32) : ∃ n, n ≤ 50 ∧ ap_cl p = nI n ∧ 1 ≤ n := by
  unfold ap_cl
  by_cases h : 1 ≤ p
  · rw [if_pos h]
    by_cases h2 : p ≤ 50
    · rw [if_pos h2]
      obtain ⟨n, hn, e⟩ := nI_of2 (x := p) (M := 50) (n := 50) (by decide) (Int32.not_lt.mpr (Int32.le_trans (by decide) h)) h2
      refine ⟨n, hn, e, ?_⟩
      rw [e] at h
      exact (nI_leI (a := 1) (by decide) (by omega)).mp h
    · rw [if_neg h2]
      exact ⟨50, by omega, rfl, by omega⟩
  · rw [if_neg h]
    exact ⟨1, by omega, rfl, by omega⟩
theorem x_req {post : Int32 → SX → Prop} (h0 : (∀ a, a < 10 → ¬ v1 = nI a) → post (-1) (wT, wF, nw, pd, hP, pL, pA, rs, hz, lc, gv, ne, ba, ad, dr, pr, pn, co, pc, he, lf, ob, ra, lo))
    (h1 : ∀ a, a < 10 → v1 = nI a → gv a = 0 → post 0 (wT, wF, nw, 0, hP, pL, pA, rs, hz, lc, upd gv a 1, upd ne a (v2 &&& 255), upd ba a (v3 &&& 255), upd ad a 0, upd dr a 0, upd pr a 1, pn, co, pc, he, lf, ob, ra, lo))
    (h2 : ∀ a, a < 10 → v1 = nI a → ¬ gv a = 0 → post 0 (wT, wF, nw, 0, hP, pL, pA, rs, hz, lc, gv, upd ne a (v2 &&& 255), upd ba a (v3 &&& 255), ad, dr, pr, pn, co, pc, he, lf, ob, ra, lo)) : wpX_require post (wT, wF, nw, pd, hP, pL, pA, rs, hz, lc, gv, ne, ba, ad, dr, pr, pn, co, pc, he, lf, ob, ra, lo) v1 v2 v3 := by
  unfold wpX_require
  dsimp only
  rcases ap_ix v1 with h | h | ⟨a, ha, rfl⟩
  · refine br_t h (h0 fun a ha e => ?_)
    rw [e] at h
    exact absurd h (ix_n ha).1
  · have hn : ∀ a, a < 10 → ¬ v1 = nI a := fun a ha e => by
      rw [e] at h
      exact absurd h (ix_n ha).2.1
    exact br_c (fun _ => h0 hn) (fun _ => br_f (Int32.not_le.mpr h) (h0 hn))
  · rw [cl10 ha, b_n1]
    refine br_f (ix_n ha).1 (br_t (ix_n ha).2.2 ⟨in10 ha, br_c (fun g => ⟨in10 ha, nm_e ⟨in10 ha, nm_e ⟨in10 ha, nm_e ⟨in10 ha, nm_e ?_⟩⟩⟩⟩) (fun g => ?_)⟩)
    · unfold wX_require_49
      rw [cl10 ha]
      exact ⟨in10 ha, nm_e ⟨in10 ha, nm_e (h1 a ha rfl g)⟩⟩
    · unfold wX_require_49
      rw [cl10 ha]
      exact ⟨in10 ha, nm_e ⟨in10 ha, nm_e (h2 a ha rfl g)⟩⟩
theorem x_eff {post : Int32 → SX → Prop} (h0 : (∀ a, a < 10 → v1 = nI a → gv a = 0) → post (-1) (wT, wF, nw, pd, hP, pL, pA, rs, hz, lc, gv, ne, ba, ad, dr, pr, pn, co, pc, he, lf, ob, ra, lo))
    (h1 : ∀ a, a < 10 → v1 = nI a → ¬ gv a = 0 → post 0 (wT, wF, nw, 0, hP, pL, pA, rs, hz, lc, gv, ne, ba, upd ad a (v2 &&& 255), upd dr a (v3 &&& 255), upd pr a (ap_cl v4), pn, co, pc, he, lf, ob, ra, lo)) : wpX_effect post (wT, wF, nw, pd, hP, pL, pA, rs, hz, lc, gv, ne, ba, ad, dr, pr, pn, co, pc, he, lf, ob, ra, lo) v1 v2 v3 v4 := by
  unfold wpX_effect
  dsimp only
  refine xc_giv (fun z => br_t rfl (h0 z)) (fun a ha e g => br_f (by decide) ?_)
  have K := h1 a ha e g
  subst e
  rw [cl10 ha]
  refine ⟨in10 ha, nm_e ⟨in10 ha, nm_e (br_c (fun p1 => br_c (fun p2 => ⟨in10 ha, nm_e ?_⟩) (fun p2 => ⟨in10 ha, nm_e ?_⟩)) (fun p1 => ⟨in10 ha, nm_e ?_⟩))⟩⟩
  · rw [show ap_cl v4 = v4 by unfold ap_cl; rw [if_pos p1, if_pos p2]] at K
    exact K
  · rw [show ap_cl v4 = 50 by unfold ap_cl; rw [if_pos p1, if_neg p2]] at K
    exact K
  · rw [show ap_cl v4 = 1 by unfold ap_cl; rw [if_neg p1]] at K
    exact K
theorem x_for {post : Int32 → SX → Prop} (h0 : (∀ a, a < 10 → v1 = nI a → gv a = 0) → post (-1) (wT, wF, nw, pd, hP, pL, pA, rs, hz, lc, gv, ne, ba, ad, dr, pr, pn, co, pc, he, lf, ob, ra, lo))
    (h1 : ∀ a, a < 10 → v1 = nI a → ¬ gv a = 0 → post 0 (wT, wF, nw, 0, hP, pL, pA, rs, hz, lc, upd gv a 0, ne, ba, ad, dr, pr, pn, co, pc, he, lf, ob, ra, lo)) : wpX_forget post (wT, wF, nw, pd, hP, pL, pA, rs, hz, lc, gv, ne, ba, ad, dr, pr, pn, co, pc, he, lf, ob, ra, lo) v1 := by
  unfold wpX_forget
  dsimp only
  refine xc_giv (fun z => br_t rfl (h0 z)) (fun a ha e g => br_f (by decide) ?_)
  have K := h1 a ha e g
  subst e
  rw [cl10 ha, b_n0]
  exact ⟨in10 ha, nm_e K⟩
theorem x_follow {post : SX → Prop} (V : ap_V gv ad pr) (ho : o < 256) (L : ap_l wT wF gv ne ba ad dr pr o l) (hl : 0 < l) (hal : a + l ≤ 255) (P : ∀ i, i < l → pn (a + i) = nI ((gr_fa (ap_C gv ne ba) (ap_T ad dr) (ap_w pr) (ap_G wT wF)) ((gr_it (ap_C gv ne ba) (ap_T ad dr) (ap_w pr) (ap_G wT wF)) i o)))
    (K : ap_pc wT wF gv ne ba ad dr pr 1 (nI (a + l)) (nI (a + 1)) (nI ((gr_d (ap_C gv ne ba) (ap_T ad dr) (ap_w pr) (ap_G wT wF)) ((gr_it (ap_C gv ne ba) (ap_T ad dr) (ap_w pr) (ap_G wT wF)) 1 o))) pn ((gr_it (ap_C gv ne ba) (ap_T ad dr) (ap_w pr) (ap_G wT wF)) 1 o) → post (wT, wF, nI ((gr_it (ap_C gv ne ba) (ap_T ad dr) (ap_w pr) (ap_G wT wF)) 1 o), pd, 1, nI (a + l), nI (a + 1), nI ((gr_d (ap_C gv ne ba) (ap_T ad dr) (ap_w pr) (ap_G wT wF)) ((gr_it (ap_C gv ne ba) (ap_T ad dr) (ap_w pr) (ap_G wT wF)) 1 o)), hz, lc, gv, ne, ba, ad, dr, pr, pn, co, pc, he, lf, ob, ra, lo)) : wpX_followPlan post (wT, wF, nI o, pd, 1, nI (a + l), nI a, nI ((gr_d (ap_C gv ne ba) (ap_T ad dr) (ap_w pr) (ap_G wT wF)) o), hz, lc, gv, ne, ba, ad, dr, pr, pn, co, pc, he, lf, ob, ra, lo) := by
  have f := l_j V ho L hl
  have f0 : (gr_fa (ap_C gv ne ba) (ap_T ad dr) (ap_w pr) (ap_G wT wF)) o < 10 := f.2.2.1
  have sp := fa_sp f.1 f.2.1
  have eq : (ap_w pr) ((gr_fa (ap_C gv ne ba) (ap_T ad dr) (ap_w pr) (ap_G wT wF)) o) + (gr_d (ap_C gv ne ba) (ap_T ad dr) (ap_w pr) (ap_G wT wF)) ((gr_it (ap_C gv ne ba) (ap_T ad dr) (ap_w pr) (ap_G wT wF)) 1 o) = (gr_d (ap_C gv ne ba) (ap_T ad dr) (ap_w pr) (ap_G wT wF)) o := sp.2.1.2
  have P0 : pn a = nI ((gr_fa (ap_C gv ne ba) (ap_T ad dr) (ap_w pr) (ap_G wT wF)) o) := P 0 hl
  have wl := w_e V f0
  have dl := L.2.1
  unfold wpX_followPlan
  dsimp only
  refine ⟨in256 (by omega), nm_r (e' := nI ((gr_fa (ap_C gv ne ba) (ap_T ad dr) (ap_w pr) (ap_G wT wF)) o)) (by rw [cl256 (by omega)]; exact P0) (xc_aft V f0 ho ⟨in10 f0, nm_r (e' := nI ((gr_d (ap_C gv ne ba) (ap_T ad dr) (ap_w pr) (ap_G wT wF)) ((gr_it (ap_C gv ne ba) (ap_T ad dr) (ap_w pr) (ap_G wT wF)) 1 o))) ?_ (nm_r (nI_1 a) (K (Or.inr ⟨rfl, a + 1, l - 1, rfl, ?_, by omega, rfl, ⟨?_, ?_, ?_, ?_⟩, ?_⟩)))⟩)⟩
  · rw [cl10 f0, wl.1, pk_sub (by omega)]
    exact congrArg nI (by omega)
  · exact congrArg nI (by omega)
  · omega
  · omega
  · have h := L.2.2.1
    rw [show l = (l - 1) + 1 by omega] at h
    exact h
  · intro j hj
    exact L.2.2.2 (j + 1) (by omega)
  · intro i hi
    have h := P (i + 1) (by omega)
    rw [show a + (i + 1) = a + 1 + i by omega] at h
    exact h
theorem x_a66 {post : Int32 → SX → Prop} (V : ap_V gv ad pr) (ho : o < 256) (ha : a < 10) (hp : ¬ pd = 0 → ap_pc wT wF gv ne ba ad dr pr hP pL pA rs pn o)
    (K : ∀ pd' pA' rs', (¬ pd' = 0 → ap_pc wT wF gv ne ba ad dr pr hP pL pA' rs' pn ((ap_T ad dr) a o)) → post 0 (wT, wF, nI ((ap_T ad dr) a o), pd', hP, pL, pA', rs', hz, lc, gv, ne, ba, ad, dr, pr, pn, co, pc, he, lf, ob, ra, lo)) : wX_act_66 post (nI a) wT wF (nI o) pd hP pL pA rs hz lc gv ne ba ad dr pr pn co pc he lf ob ra lo := by
  unfold wX_act_66
  have tl := T_lt ad dr a o
  refine xc_aft V ha ho (pk_eq ((ap_T ad dr) a o) o (fun e => K pd pA rs ?_) (fun _ => K 0 pA rs fun z => absurd rfl z))
  rw [e]
  exact hp
theorem x_act {post : Int32 → SX → Prop} (V : ap_V gv ad pr) (ho : o < 256) (hp : ¬ pd = 0 → ap_pc wT wF gv ne ba ad dr pr hP pL pA rs pn o)
    (K0 : (∀ a, a < 10 → v1 = nI a → ¬ (ap_C gv ne ba) a o) → post (-1) (wT, wF, nI o, pd, hP, pL, pA, rs, hz, lc, gv, ne, ba, ad, dr, pr, pn, co, pc, he, lf, ob, ra, lo))
    (K1 : ∀ a, a < 10 → v1 = nI a → (ap_C gv ne ba) a o → ∀ pd' pA' rs', (¬ pd' = 0 → ap_pc wT wF gv ne ba ad dr pr hP pL pA' rs' pn ((ap_T ad dr) a o)) → post 0 (wT, wF, nI ((ap_T ad dr) a o), pd', hP, pL, pA', rs', hz, lc, gv, ne, ba, ad, dr, pr, pn, co, pc, he, lf, ob, ra, lo)) : wpX_act post (wT, wF, nI o, pd, hP, pL, pA, rs, hz, lc, gv, ne, ba, ad, dr, pr, pn, co, pc, he, lf, ob, ra, lo) v1 := by
  unfold wpX_act
  dsimp only
  refine xc_giv (fun z => br_t rfl (K0 fun a ha e hc => hc.1 (z a ha e))) (fun a ha e g => br_f (by decide) ?_)
  subst e
  have nj : ∀ b, b < 10 → nI a = nI b → b = a := fun b hb e => ((nI_eq (by omega) (by omega)).mp e).symm
  refine xc_can ha (fun c1 c2 => br_f (by decide) ?_) (fun z => br_t rfl (K0 fun b hb e hc => z (by rw [nj b hb e] at hc; exact hc.2)))
  have K := K1 a ha rfl ⟨g, c1, c2⟩
  have ex := x_a66 (post := post) (hz := hz) (lc := lc) (co := co) (pc := pc) (he := he) (lf := lf) (ob := ob) (ra := ra) (lo := lo) V ho ha hp K
  refine br_c (fun _ => ex) (fun p => ?_)
  rcases hp p with ⟨rfl, _⟩ | ⟨rfl, b, l, rfl, rfl, hbl, rfl, L, P⟩
  · exact br_t rfl ex
  · refine br_f (by decide) (pk_le (b + l) b (fun _ => ex) (fun u => ⟨in256 (by omega), ?_⟩))
    have P0 : pn b = nI ((gr_fa (ap_C gv ne ba) (ap_T ad dr) (ap_w pr) (ap_G wT wF)) o) := P 0 (by omega)
    have f0 : (gr_fa (ap_C gv ne ba) (ap_T ad dr) (ap_w pr) (ap_G wT wF)) o < 10 := (l_j V ho L (j := 0) (by omega)).2.2.1
    rw [cl256 (by omega), P0]
    refine br_c (fun e => ?_) (fun _ => ex)
    have e' : (gr_fa (ap_C gv ne ba) (ap_T ad dr) (ap_w pr) (ap_G wT wF)) o = a := nj _ f0 e.symm
    refine x_follow V ho L (by omega) hbl P fun pcc => ?_
    have ei : (gr_it (ap_C gv ne ba) (ap_T ad dr) (ap_w pr) (ap_G wT wF)) 1 o = (ap_T ad dr) a o := by
      show (ap_T ad dr) ((gr_fa (ap_C gv ne ba) (ap_T ad dr) (ap_w pr) (ap_G wT wF)) o) o = _
      rw [e']
    have KK := K pd (nI (b + 1)) (nI ((gr_d (ap_C gv ne ba) (ap_T ad dr) (ap_w pr) (ap_G wT wF)) ((gr_it (ap_C gv ne ba) (ap_T ad dr) (ap_w pr) (ap_G wT wF)) 1 o)))
    rw [← ei] at KK
    exact KK fun _ => pcc
end MTX
section MTY
variable {nw wT wF : Int32} {gv ne ba ad dr pr le re : Nat → Int32} {o a l : Nat} {v1 v2 v3 v4 : Int32}
theorem y_req {post : Int32 → SY → Prop} (h0 : (∀ a, a < 10 → ¬ v1 = nI a) → post (-1) (nw, wT, wF, gv, ne, ba, ad, dr, pr, le, re))
    (h1 : ∀ a, a < 10 → v1 = nI a → gv a = 0 → post 0 (nw, wT, wF, upd gv a 1, upd ne a (v2 &&& 255), upd ba a (v3 &&& 255), upd ad a 0, upd dr a 0, upd pr a 1, le, re))
    (h2 : ∀ a, a < 10 → v1 = nI a → ¬ gv a = 0 → post 0 (nw, wT, wF, gv, upd ne a (v2 &&& 255), upd ba a (v3 &&& 255), ad, dr, pr, le, re)) : wpY_require post (nw, wT, wF, gv, ne, ba, ad, dr, pr, le, re) v1 v2 v3 := by
  unfold wpY_require
  dsimp only
  refine yc_bad (fun a ha e => br_t rfl ?_) (fun z => br_f (by decide) (h0 z))
  have k1 := h1 a ha e
  have k2 := h2 a ha e
  subst e
  rw [cl10 ha, b_n1]
  refine ⟨in10 ha, br_c (fun g => ⟨in10 ha, nm_e ⟨in10 ha, nm_e ⟨in10 ha, nm_e ⟨in10 ha, nm_e ?_⟩⟩⟩⟩) (fun g => ?_)⟩
  · unfold wY_require_46
    rw [cl10 ha]
    exact ⟨in10 ha, nm_e ⟨in10 ha, nm_e (k1 g)⟩⟩
  · unfold wY_require_46
    rw [cl10 ha]
    exact ⟨in10 ha, nm_e ⟨in10 ha, nm_e (k2 g)⟩⟩
theorem y_eff {post : Int32 → SY → Prop} (h0 : (∀ a, a < 10 → v1 = nI a → gv a = 0) → post (-1) (nw, wT, wF, gv, ne, ba, ad, dr, pr, le, re))
    (h1 : ∀ a, a < 10 → v1 = nI a → ¬ gv a = 0 → post 0 (nw, wT, wF, gv, ne, ba, upd ad a (v2 &&& 255), upd dr a (v3 &&& 255), upd pr a (ap_cl v4), le, re)) : wpY_effect post (nw, wT, wF, gv, ne, ba, ad, dr, pr, le, re) v1 v2 v3 v4 := by
  unfold wpY_effect
  dsimp only
  refine yc_bad (fun a ha e => br_t rfl ?_) (fun z => br_f (by decide) (h0 fun a ha e => absurd e (z a ha)))
  have K := h1 a ha e
  subst e
  rw [cl10 ha]
  refine ⟨in10 ha, br_c (fun g => h0 fun b hb e => ?_) (fun g => ?_)⟩
  · rw [← (nI_eq (by omega) (by omega)).mp e]; exact g
  have K := K g
  refine ⟨in10 ha, nm_e ⟨in10 ha, nm_e (br_c (fun p1 => br_c (fun p2 => ⟨in10 ha, nm_e ?_⟩) (fun p2 => ⟨in10 ha, nm_e ?_⟩)) (fun p1 => ⟨in10 ha, nm_e ?_⟩))⟩⟩
  · rw [show ap_cl v4 = v4 by unfold ap_cl; rw [if_pos p1, if_pos p2]] at K
    exact K
  · rw [show ap_cl v4 = 50 by unfold ap_cl; rw [if_pos p1, if_neg p2]] at K
    exact K
  · rw [show ap_cl v4 = 1 by unfold ap_cl; rw [if_neg p1]] at K
    exact K
theorem y_for {post : Int32 → SY → Prop} (h0 : (∀ a, a < 10 → v1 = nI a → gv a = 0) → post (-1) (nw, wT, wF, gv, ne, ba, ad, dr, pr, le, re))
    (h1 : ∀ a, a < 10 → v1 = nI a → ¬ gv a = 0 → post 0 (nw, wT, wF, upd gv a 0, ne, ba, ad, dr, pr, le, re)) : wpY_forget post (nw, wT, wF, gv, ne, ba, ad, dr, pr, le, re) v1 := by
  unfold wpY_forget
  dsimp only
  refine yc_bad (fun a ha e => br_t rfl ?_) (fun z => br_f (by decide) (h0 fun a ha e => absurd e (z a ha)))
  have K := h1 a ha e
  subst e
  rw [cl10 ha, b_n0]
  refine ⟨in10 ha, br_c (fun g => h0 fun b hb e => ?_) (fun g => ⟨in10 ha, nm_e (K g)⟩)⟩
  rw [← (nI_eq (by omega) (by omega)).mp e]; exact g
theorem y_act {post : Int32 → SY → Prop} (K0 : (∀ a, a < 10 → v1 = nI a → ¬ (ap_C gv ne ba) a o) → post (-1) (nI o, wT, wF, gv, ne, ba, ad, dr, pr, le, re))
    (K1 : ∀ a, a < 10 → v1 = nI a → (ap_C gv ne ba) a o → post 0 (nI ((ap_T ad dr) a o), wT, wF, gv, ne, ba, ad, dr, pr, le, re)) : wpY_act post (nI o, wT, wF, gv, ne, ba, ad, dr, pr, le, re) v1 := by
  unfold wpY_act
  dsimp only
  refine yc_bad (fun a ha e => br_t rfl ?_) (fun z => br_f (by decide) (K0 fun a ha e => absurd e (z a ha)))
  have K := K1 a ha e
  subst e
  refine yc_can ha (fun hc => br_f (by decide) (yc_aft ha (K hc))) (fun hc => br_t rfl (K0 fun b hb e => ?_))
  rw [← (nI_eq (by omega) (by omega)).mp e]; exact hc
end MTY
end
section
/-- what the relation says of the two states' data -/
def ap_Re (wT wF : Int32) (gv ne ba ad dr pr : Nat → Int32) (pd hP pL pA rs : Int32) (pn : Nat → Int32) (o : Nat) : Prop :=
  ap_V gv ad pr ∧ o < 256 ∧ (¬ pd = 0 → ap_pc wT wF gv ne ba ad dr pr hP pL pA rs pn o)
/-- the relation: the same data, the same state; what is kept of a plan is the chosen plan -/
def i_Rel (k : Nat) (u : SX) (v : SY) : Prop := match u, v with
  | (wT, wF, nw, pd, hP, pL, pA, rs, hz, lc, gv, ne, ba, ad, dr, pr, pn, co, pc, he, lf, ob, ra, lo), (nw', wT', wF', gv', ne', ba', ad', dr', pr', _, _) => (wT = wT' ∧ wF = wF' ∧ gv = gv' ∧ ne = ne' ∧ ba = ba' ∧ ad = ad' ∧ dr = dr' ∧ pr = pr') ∧ ∃ o, nw = nI o ∧ nw' = nI o ∧ ap_Re wT wF gv ne ba ad dr pr pd hP pL pA rs pn o
section OWX
variable {wT wF nw pd hP pL pA rs hz lc : Int32} {gv ne ba ad dr pr pn co pc he lf ob ra lo : Nat → Int32} {le re : Nat → Int32} {o : Nat}
theorem re_mk {k : Nat} (H : ap_Re wT wF gv ne ba ad dr pr pd hP pL pA rs pn o) : i_Rel k (wT, wF, nI o, pd, hP, pL, pA, rs, hz, lc, gv, ne, ba, ad, dr, pr, pn, co, pc, he, lf, ob, ra, lo) (nI o, wT, wF, gv, ne, ba, ad, dr, pr, le, re) :=
  And.intro ⟨rfl, rfl, rfl, rfl, rfl, rfl, rfl, rfl⟩ ⟨o, rfl, rfl, H⟩
theorem re_el {k : Nat} {u : SX} {v : SY} {P : SX → SY → Prop}
    (h : ∀ (wT wF : Int32) (o : Nat) (pd hP pL pA rs hz lc : Int32) (gv ne ba ad dr pr pn co pc he lf ob ra lo le re : Nat → Int32), ap_Re wT wF gv ne ba ad dr pr pd hP pL pA rs pn o → P (wT, wF, nI o, pd, hP, pL, pA, rs, hz, lc, gv, ne, ba, ad, dr, pr, pn, co, pc, he, lf, ob, ra, lo) (nI o, wT, wF, gv, ne, ba, ad, dr, pr, le, re)) (I : i_Rel k u v) : P u v := by
  obtain ⟨wT, wF, nw, pd, hP, pL, pA, rs, hz, lc, gv, ne, ba, ad, dr, pr, pn, co, pc, he, lf, ob, ra, lo⟩ := u
  obtain ⟨nw', wT', wF', gv', ne', ba', ad', dr', pr', le, re⟩ := v
  obtain ⟨⟨h1, h2, h3, h4, h5, h6, h7, h8⟩, o, h9, h10, H⟩ := I
  subst h1 h2 h3 h4 h5 h6 h7 h8 h9 h10
  exact h wT wF o pd hP pL pA rs hz lc gv ne ba ad dr pr pn co pc he lf ob ra lo le re H
theorem V_p {a : Nat} (V : ap_V gv ad pr) {g x p : Int32} (hx : ∃ n, n < 256 ∧ x = nI n) (hp : ∃ n, n ≤ 50 ∧ p = nI n ∧ (¬ g = 0 → 1 ≤ n)) : ap_V (upd gv a g) (upd ad a x) (upd pr a p) := by
  intro b hb
  by_cases z : b = a
  · rw [z, pk_us, pk_us, pk_us]; exact ⟨hx, hp⟩
  · rw [pk_un z, pk_un z, pk_un z]; exact V b hb
theorem u_id {f : Nat → Int32} {k : Nat} {x : Int32} (h : f k = x) : upd f k x = f := by
  funext j
  by_cases z : j = k
  · rw [z, pk_us, h]
  · rw [pk_un z]
end OWX
theorem i_up {k : Nat} {u : SX} {v : SY} (h : i_Rel k u v) : i_Rel (k + 5) u v := h
theorem i_vc0 : wpX_init (fun u => wpY_init (fun v => i_Rel 0 u v)) :=
  And.intro ⟨rfl, rfl, rfl, rfl, rfl, rfl, rfl, rfl⟩ ⟨0, rfl, rfl, fun a _ => ⟨⟨0, by decide, rfl⟩, 0, by decide, rfl, fun z => absurd rfl z⟩, by decide, fun z => absurd rfl z⟩
theorem i_vc_require {k : Nat} {u : SX} {v : SY} (I : i_Rel k u v) (hk : k + 5 ≤ 2560) (v1 : Int32) (v2 : Int32) (v3 : Int32) : wpX_require (fun r u' => wpY_require (fun r' v' => r' = r ∧ i_Rel (k + 5) u' v') v v1 v2 v3) u v1 v2 v3 := by
  refine re_el (P := fun u v => wpX_require (fun r u' => wpY_require (fun r' v' => r' = r ∧ i_Rel (k + 5) u' v') v v1 v2 v3) u v1 v2 v3) ?_ I
  intro wT wF o pd hP pL pA rs hz lc gv ne ba ad dr pr pn co pc he lf ob ra lo le re H
  have nj : ∀ {a b : Nat}, a < 10 → b < 10 → v1 = nI a → v1 = nI b → b = a := fun ha hb e f => ((nI_eq (by omega) (by omega)).mp (e.symm.trans f)).symm
  refine x_req (fun z => y_req (fun _ => ⟨rfl, re_mk H⟩) (fun a ha e => absurd e (z a ha)) (fun a ha e => absurd e (z a ha))) (fun a ha e g => y_req (fun z => absurd e (z a ha)) (fun b hb f _ => ⟨rfl, ?_⟩) (fun b hb f g' => ?_)) (fun a ha e g => y_req (fun z => absurd e (z a ha)) (fun b hb f g' => ?_) (fun b hb f g' => ⟨rfl, ?_⟩))
  · rw [nj ha hb e f]
    exact re_mk ⟨V_p H.1 ⟨0, by decide, rfl⟩ ⟨1, by decide, rfl, fun _ => by decide⟩, H.2.1, fun z => absurd rfl z⟩
  · rw [nj ha hb e f] at g'
    exact absurd g g'
  · rw [nj ha hb e f] at g'
    exact absurd g' g
  · rw [nj ha hb e f]
    exact re_mk ⟨H.1, H.2.1, fun z => absurd rfl z⟩
theorem i_vc_effect {k : Nat} {u : SX} {v : SY} (I : i_Rel k u v) (hk : k + 5 ≤ 2560) (v1 : Int32) (v2 : Int32) (v3 : Int32) (v4 : Int32) : wpX_effect (fun r u' => wpY_effect (fun r' v' => r' = r ∧ i_Rel (k + 5) u' v') v v1 v2 v3 v4) u v1 v2 v3 v4 := by
  refine re_el (P := fun u v => wpX_effect (fun r u' => wpY_effect (fun r' v' => r' = r ∧ i_Rel (k + 5) u' v') v v1 v2 v3 v4) u v1 v2 v3 v4) ?_ I
  intro wT wF o pd hP pL pA rs hz lc gv ne ba ad dr pr pn co pc he lf ob ra lo le re H
  have nj : ∀ {a b : Nat}, a < 10 → b < 10 → v1 = nI a → v1 = nI b → b = a := fun ha hb e f => ((nI_eq (by omega) (by omega)).mp (e.symm.trans f)).symm
  refine x_eff (fun z => y_eff (fun _ => ⟨rfl, re_mk H⟩) (fun a ha e g => absurd (z a ha e) g)) (fun a ha e g => y_eff (fun z => absurd (z a ha e) g) (fun b hb f _ => ⟨rfl, ?_⟩))
  rw [nj ha hb e f]
  obtain ⟨n, hn, ep, h1⟩ := cl_ok v4
  have V := V_p (a := a) (g := gv a) H.1 (ap_255 v2) ⟨n, hn, ep, fun _ => h1⟩
  rw [u_id rfl] at V
  exact re_mk ⟨V, H.2.1, fun z => absurd rfl z⟩
theorem i_vc_forget {k : Nat} {u : SX} {v : SY} (I : i_Rel k u v) (hk : k + 5 ≤ 2560) (v1 : Int32) : wpX_forget (fun r u' => wpY_forget (fun r' v' => r' = r ∧ i_Rel (k + 5) u' v') v v1) u v1 := by
  refine re_el (P := fun u v => wpX_forget (fun r u' => wpY_forget (fun r' v' => r' = r ∧ i_Rel (k + 5) u' v') v v1) u v1) ?_ I
  intro wT wF o pd hP pL pA rs hz lc gv ne ba ad dr pr pn co pc he lf ob ra lo le re H
  have nj : ∀ {a b : Nat}, a < 10 → b < 10 → v1 = nI a → v1 = nI b → b = a := fun ha hb e f => ((nI_eq (by omega) (by omega)).mp (e.symm.trans f)).symm
  refine x_for (fun z => y_for (fun _ => ⟨rfl, re_mk H⟩) (fun a ha e g => absurd (z a ha e) g)) (fun a ha e g => y_for (fun z => absurd (z a ha e) g) (fun b hb f _ => ⟨rfl, ?_⟩))
  rw [nj ha hb e f]
  obtain ⟨h1, n, hn, ep, _⟩ := H.1 a ha
  have V := V_p (a := a) (g := 0) (x := ad a) (p := pr a) H.1 h1 ⟨n, hn, ep, fun z => absurd rfl z⟩
  rw [u_id (f := ad) rfl, u_id (f := pr) rfl] at V
  exact re_mk ⟨V, H.2.1, fun z => absurd rfl z⟩
theorem i_vc_want {k : Nat} {u : SX} {v : SY} (I : i_Rel k u v) (hk : k + 5 ≤ 2560) (v1 : Int32) (v2 : Int32) : wpX_want (fun u' => wpY_want (fun v' => i_Rel (k + 5) u' v') v v1 v2) u v1 v2 := by
  refine re_el (P := fun u v => wpX_want (fun u' => wpY_want (fun v' => i_Rel (k + 5) u' v') v v1 v2) u v1 v2) ?_ I
  intro wT wF o pd hP pL pA rs hz lc gv ne ba ad dr pr pn co pc he lf ob ra lo le re H
  exact nm_e (nm_e (nm_e (nm_e (re_mk ⟨H.1, H.2.1, fun z => absurd rfl z⟩))))
theorem i_vc_observe {k : Nat} {u : SX} {v : SY} (I : i_Rel k u v) (hk : k + 5 ≤ 2560) (v1 : Int32) : wpX_observe (fun u' => wpY_observe (fun v' => i_Rel (k + 5) u' v') v v1) u v1 := by
  refine re_el (P := fun u v => wpX_observe (fun u' => wpY_observe (fun v' => i_Rel (k + 5) u' v') v v1) u v1) ?_ I
  intro wT wF o pd hP pL pA rs hz lc gv ne ba ad dr pr pn co pc he lf ob ra lo le re H
  have ho := H.2.1
  obtain ⟨n, hn, e⟩ := ap_255 v1
  unfold wpX_observe wpY_observe
  dsimp only
  rw [e]
  refine nm_e (pk_eq n o (fun q => nm_e ?_) (fun _ => nm_e (re_mk ⟨H.1, hn, fun z => absurd rfl z⟩)))
  rw [q]
  exact re_mk H
theorem i_vc_now {k : Nat} {u : SX} {v : SY} (I : i_Rel k u v) (hk : k + 5 ≤ 2560) : wpX_now (fun r => wpY_now (fun r' => r' = r ∧ i_Rel (k + 5) u v) v) u := by
  refine re_el (P := fun u v => wpX_now (fun r => wpY_now (fun r' => r' = r ∧ i_Rel (k + 5) u v) v) u) ?_ I
  intro wT wF o pd hP pL pA rs hz lc gv ne ba ad dr pr pn co pc he lf ob ra lo le re H
  exact And.intro rfl (re_mk H)
theorem i_vc_price {k : Nat} {u : SX} {v : SY} (I : i_Rel k u v) (hk : k + 5 ≤ 2560) : wpX_price (fun r u' => wpY_price (fun r' v' => r' = r ∧ i_Rel (k + 5) u' v') v) u := by
  refine re_el (P := fun u v => wpX_price (fun r u' => wpY_price (fun r' v' => r' = r ∧ i_Rel (k + 5) u' v') v) u) ?_ I
  intro wT wF o pd hP pL pA rs hz lc gv ne ba ad dr pr pn co pc he lf ob ra lo le re H
  unfold wpX_price
  dsimp only
  refine x_make H.1 H.2.1 H.2.2 fun pd' hP' pL' pA' rs' hz' lc' pn' co' pc' he' lf' ob' ra' lo' Q => ?_
  dsimp only
  have Re : ap_Re wT wF gv ne ba ad dr pr pd' hP' pL' pA' rs' pn' o := ⟨H.1, H.2.1, fun _ => Q⟩
  rcases Q with ⟨h0, d0⟩ | ⟨h1, a, l, ea, el, hal, er, L, P⟩
  · exact br_t h0 (y_price H.1 H.2.1 rfl (fun le' z => by omega) (fun le' _ => ⟨rfl, re_mk Re⟩))
  · refine br_f (by rw [h1]; decide) (y_price H.1 H.2.1 rfl (fun le' _ => ⟨er.symm, re_mk Re⟩) (fun le' z => ?_))
    have := L.2.1
    omega
theorem i_vc_steps {k : Nat} {u : SX} {v : SY} (I : i_Rel k u v) (hk : k + 5 ≤ 2560) : wpX_steps (fun r u' => wpY_steps (fun r' v' => r' = r ∧ i_Rel (k + 5) u' v') v) u := by
  refine re_el (P := fun u v => wpX_steps (fun r u' => wpY_steps (fun r' v' => r' = r ∧ i_Rel (k + 5) u' v') v) u) ?_ I
  intro wT wF o pd hP pL pA rs hz lc gv ne ba ad dr pr pn co pc he lf ob ra lo le re H
  unfold wpX_steps
  dsimp only
  refine x_make H.1 H.2.1 H.2.2 fun pd' hP' pL' pA' rs' hz' lc' pn' co' pc' he' lf' ob' ra' lo' Q => ?_
  dsimp only
  have Re : ap_Re wT wF gv ne ba ad dr pr pd' hP' pL' pA' rs' pn' o := ⟨H.1, H.2.1, fun _ => Q⟩
  rcases Q with ⟨h0, d0⟩ | ⟨h1, a, l, ea, el, hal, er, L, P⟩
  · refine br_t h0 (y_steps H.1 H.2.1 rfl (fun l le' L => ?_) (fun le' _ => ⟨rfl, re_mk Re⟩))
    have := L.2.1
    omega
  · refine br_f (by rw [h1]; decide) (y_steps H.1 H.2.1 rfl (fun l' le' L' => ⟨?_, re_mk Re⟩) (fun le' z => ?_))
    · rw [ea, el, pk_sub (by omega), l_uq L' L]
      exact congrArg nI (by omega)
    · have := L.2.1
      omega
theorem i_vc_planned {k : Nat} {u : SX} {v : SY} (I : i_Rel k u v) (hk : k + 5 ≤ 2560) (v1 : Int32) : wpX_planned (fun r u' => wpY_planned (fun r' v' => r' = r ∧ i_Rel (k + 5) u' v') v v1) u v1 := by
  refine re_el (P := fun u v => wpX_planned (fun r u' => wpY_planned (fun r' v' => r' = r ∧ i_Rel (k + 5) u' v') v v1) u v1) ?_ I
  intro wT wF o pd hP pL pA rs hz lc gv ne ba ad dr pr pn co pc he lf ob ra lo le re H
  unfold wpX_planned
  dsimp only
  refine x_make H.1 H.2.1 H.2.2 fun pd' hP' pL' pA' rs' hz' lc' pn' co' pc' he' lf' ob' ra' lo' Q => ?_
  dsimp only
  have Re : ap_Re wT wF gv ne ba ad dr pr pd' hP' pL' pA' rs' pn' o := ⟨H.1, H.2.1, fun _ => Q⟩
  rcases Q with ⟨h0, d0⟩ | ⟨h1, a, l, ea, el, hal, er, L, P⟩
  · refine br_t h0 (y_planned H.1 H.2.1 rfl (fun l le' j L => ?_) (fun l le' L => ?_) (fun le' _ => ⟨rfl, re_mk Re⟩))
    · have := L.2.1
      omega
    · have := L.2.1
      omega
  · have dl := L.2.1
    have no : ∀ le', (gr_d (ap_C gv ne ba) (ap_T ad dr) (ap_w pr) (ap_G wT wF)) o = 1000000 → (-1 : Int32) = -1 ∧ i_Rel (k + 5) (wT, wF, nI o, pd', hP', pL', pA', rs', hz', lc', gv, ne, ba, ad, dr, pr, pn', co', pc', he', lf', ob', ra', lo') (nI o, wT, wF, gv, ne, ba, ad, dr, pr, le', re) := fun le' z => by omega
    refine br_f (by rw [h1]; decide) (br_c (fun n => ?_) (fun n => ?_))
    · refine y_planned H.1 H.2.1 rfl (fun l' le' j L' hj e => ?_) (fun l' le' L' _ => ⟨rfl, re_mk Re⟩) no
      have l5 := L'.1
      rw [e] at n
      exact absurd n (nI_pos (by omega))
    · obtain ⟨j, hj, rfl⟩ := nI_of n
      have es : pL' - pA' = nI l := by
        rw [ea, el, pk_sub (by omega)]
        exact congrArg nI (by omega)
      rw [es]
      refine pk_lt j l (fun q => ⟨?_, ?_⟩) (fun q => ?_) rfl rfl hj (by omega)
      · rw [ea, nI_add]
        exact in256 (by omega)
      · rw [ea, nI_add, cl256 (by omega), P j q]
        refine y_planned H.1 H.2.1 rfl (fun l' le' i L' hi e => ⟨?_, ?_⟩) (fun l' le' L' z => ?_) (fun le' z => by omega)
        · rw [(nI_eq hj (by have := L'.1; omega)).mp e]
        · rw [← ea]
          exact re_mk Re
        · rw [l_uq L' L] at z
          exact absurd rfl (z j q)
      · refine y_planned H.1 H.2.1 rfl (fun l' le' i L' hi e => ?_) (fun l' le' L' z => ⟨rfl, re_mk Re⟩) no
        have l5 := L'.1
        have e' := (nI_eq hj (by omega)).mp e
        rw [l_uq L' L] at hi
        omega
theorem i_vc_advance {k : Nat} {u : SX} {v : SY} (I : i_Rel k u v) (hk : k + 5 ≤ 2560) : wpX_advance (fun r u' => wpY_advance (fun r' v' => r' = r ∧ i_Rel (k + 5) u' v') v) u := by
  refine re_el (P := fun u v => wpX_advance (fun r u' => wpY_advance (fun r' v' => r' = r ∧ i_Rel (k + 5) u' v') v) u) ?_ I
  intro wT wF o pd hP pL pA rs hz lc gv ne ba ad dr pr pn co pc he lf ob ra lo le re H
  unfold wpX_advance
  dsimp only
  refine x_make H.1 H.2.1 H.2.2 fun pd' hP' pL' pA' rs' hz' lc' pn' co' pc' he' lf' ob' ra' lo' Q => ?_
  dsimp only
  have Re : ap_Re wT wF gv ne ba ad dr pr pd' hP' pL' pA' rs' pn' o := ⟨H.1, H.2.1, fun _ => Q⟩
  rcases Q with ⟨h0, d0⟩ | ⟨rfl, a, l, rfl, rfl, hal, rfl, L, P⟩
  · exact br_t h0 (y_advance H.1 H.2.1 rfl (fun le' _ z => by omega) (fun le' _ => ⟨rfl, re_mk Re⟩))
  · refine br_f (by decide) (pk_lt a (a + l) (fun q => ⟨in256 (by omega), nm_e (x_follow H.1 H.2.1 L (by omega) hal P fun pcc => ?_)⟩) (fun q => ?_))
    · have f := l_j H.1 H.2.1 L (j := 0) (by omega)
      refine y_advance H.1 H.2.1 rfl (fun le' _ _ => ⟨?_, ?_⟩) (fun le' z => ?_)
      · rw [cl256 (by omega)]
        exact (P 0 (by omega)).symm
      · exact re_mk ⟨H.1, it_lt (T_lt ad dr) H.2.1 1, fun _ => pcc⟩
      · rcases z with z | z
        · exact absurd z f.1
        · exact absurd f.2.1 z
    · have l0 : l = 0 := by omega
      subst l0
      have g := (d_z H.1 o).mp L.2.2.1
      exact y_advance H.1 H.2.1 rfl (fun le' z _ => absurd g z) (fun le' _ => ⟨rfl, re_mk Re⟩)
theorem i_vc_act {k : Nat} {u : SX} {v : SY} (I : i_Rel k u v) (hk : k + 5 ≤ 2560) (v1 : Int32) : wpX_act (fun r u' => wpY_act (fun r' v' => r' = r ∧ i_Rel (k + 5) u' v') v v1) u v1 := by
  refine re_el (P := fun u v => wpX_act (fun r u' => wpY_act (fun r' v' => r' = r ∧ i_Rel (k + 5) u' v') v v1) u v1) ?_ I
  intro wT wF o pd hP pL pA rs hz lc gv ne ba ad dr pr pn co pc he lf ob ra lo le re H
  refine x_act H.1 H.2.1 H.2.2 (fun z => y_act (fun _ => ⟨rfl, re_mk H⟩) (fun a ha e hc => absurd hc (z a ha e))) (fun a ha e hc pd' pA' rs' pcc => y_act (fun z => absurd hc (z a ha e)) (fun b hb f _ => ⟨rfl, ?_⟩))
  rw [((nI_eq (by omega) (by omega)).mp (e.symm.trans f)).symm]
  exact re_mk ⟨H.1, T_lt ad dr a o, pcc⟩
theorem i_vc_reachable {k : Nat} {u : SX} {v : SY} (I : i_Rel k u v) (hk : k + 5 ≤ 2560) : wpX_reachable (fun r u' => wpY_reachable (fun r' v' => r' = r ∧ i_Rel (k + 5) u' v') v) u := by
  refine re_el (P := fun u v => wpX_reachable (fun r u' => wpY_reachable (fun r' v' => r' = r ∧ i_Rel (k + 5) u' v') v) u) ?_ I
  intro wT wF o pd hP pL pA rs hz lc gv ne ba ad dr pr pn co pc he lf ob ra lo le re H
  refine x_reachable H.1 H.2.1 fun ob' lf' h1 => y_reachable H.2.1 fun re' h2 => ⟨?_, re_mk H⟩
  refine congrArg nI (cn_eq fun x hx => ?_)
  show decide (¬ re' x = 0) = true ↔ decide (¬ ob' x = 0) = true
  rw [decide_eq_true_iff, decide_eq_true_iff]
  exact (h2 x hx).trans (h1 x hx).symm
end
