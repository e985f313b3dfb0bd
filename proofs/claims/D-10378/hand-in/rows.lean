section
theorem wb_tb (n : Nat) : (lN n).toBitVec = BitVec.ofNat 64 n := rfl
theorem wb_c : ∀ k, k < 64 → ((nI k).toInt64 &&& 63) = lN k := by decide +kernel
theorem wb_cu : ∀ k, k < 64 → ((nI k).toInt64.toUInt64 &&& Int64.toUInt64 63) = UInt64.ofNat k := by decide +kernel
theorem wb_sm : ∀ k, k < 64 → (BitVec.ofNat 64 k).smod 64 = BitVec.ofNat 64 k := by decide +kernel
theorem u_tn {n : Nat} (h : n < 2 ^ 64) : (UInt64.ofNat n).toNat = n := Nat.mod_eq_of_lt h
/-- one state of a set -/
def od_b (x : Int64) (s : Nat) : Bool := x.toBitVec.getLsbD s
theorem od_ext {x y : Int64} (h : ∀ s, s < 64 → (od_b x s = true ↔ od_b y s = true)) : x = y := by
  apply Int64.toBitVec_inj.mp
  apply BitVec.eq_of_getLsbD_eq
  intro i hi
  exact Bool.eq_iff_iff.mpr (h i hi)
theorem od_lt {x : Int64} {s : Nat} (h : od_b x s = true) : s < 64 := by
  rcases Nat.lt_or_ge s 64 with z | z
  · exact z
  · unfold od_b at h
    rw [BitVec.getLsbD_of_ge _ _ z] at h
    exact absurd h (by decide)
theorem od_and (x y : Int64) (s : Nat) : od_b (x &&& y) s = true ↔ od_b x s = true ∧ od_b y s = true := by
  unfold od_b
  rw [Int64.toBitVec_and, BitVec.getLsbD_and, Bool.and_eq_true]
theorem od_or (x y : Int64) (s : Nat) : od_b (x ||| y) s = true ↔ od_b x s = true ∨ od_b y s = true := by
  unfold od_b
  rw [Int64.toBitVec_or, BitVec.getLsbD_or, Bool.or_eq_true]
theorem od_not (x : Int64) {s : Nat} (hs : s < 64) : od_b (x ^^^ (-1)) s = true ↔ ¬ od_b x s = true := by
  have ha : (-1 : Int64).toBitVec = BitVec.allOnes 64 := by decide
  unfold od_b
  rw [Int64.toBitVec_xor, ha, BitVec.getLsbD_xor, BitVec.getLsbD_allOnes]
  simp [hs]
theorem od_0 (s : Nat) : ¬ od_b 0 s = true := by
  unfold od_b
  show ¬ (0#64).getLsbD s = true
  simp
theorem od_m1 {s : Nat} (hs : s < 64) : od_b (-1) s = true := by
  have ha : (-1 : Int64).toBitVec = BitVec.allOnes 64 := by decide
  unfold od_b
  rw [ha, BitVec.getLsbD_allOnes]
  simp [hs]
theorem od_1 (i : Nat) : od_b 1 i = true ↔ i = 0 := by
  unfold od_b
  show (1#64).getLsbD i = true ↔ i = 0
  cases i with
  | zero => simp
  | succ i => simp
theorem od_shl (x : Int64) {t : Nat} (ht : t < 64) (s : Nat) : od_b (x <<< ((nI t).toInt64 &&& 63)) s = true ↔ s < 64 ∧ t ≤ s ∧ od_b x (s - t) = true := by
  unfold od_b
  rw [wb_c t ht, Int64.toBitVec_shiftLeft, wb_tb, wb_sm t ht, BitVec.shiftLeft_eq', BitVec.getLsbD_shiftLeft, BitVec.toNat_ofNat, Nat.mod_eq_of_lt (by omega)]
  simp [and_assoc]
theorem od_shr (x : Int64) {t : Nat} (ht : t < 64) (s : Nat) : od_b ((x.toUInt64 >>> ((nI t).toInt64.toUInt64 &&& Int64.toUInt64 63)).toInt64) s = od_b x (t + s) := by
  have e : (x.toUInt64 >>> ((nI t).toInt64.toUInt64 &&& Int64.toUInt64 63)).toInt64.toBitVec = x.toBitVec >>> t := by
    rw [wb_cu t ht]
    apply BitVec.eq_of_toNat_eq
    show (x.toUInt64 >>> UInt64.ofNat t).toNat = _
    rw [UInt64.toNat_shiftRight, u_tn (by omega), Nat.mod_eq_of_lt ht, BitVec.toNat_ushiftRight]
    rfl
  unfold od_b
  rw [e, BitVec.getLsbD_ushiftRight]
theorem od_one {t : Nat} (ht : t < 64) (s : Nat) : od_b ((1 : Int64) <<< ((nI t).toInt64 &&& 63)) s = true ↔ s = t := by
  rw [od_shl _ ht, od_1]
  omega
theorem od_bit1 (x : Int64) {t : Nat} (ht : t < 64) (i : Nat) : od_b ((x.toUInt64 >>> ((nI t).toInt64.toUInt64 &&& Int64.toUInt64 63)).toInt64 &&& 1) i = true ↔ i = 0 ∧ od_b x t = true := by
  rw [od_and, od_1, od_shr _ ht]
  constructor
  · rintro ⟨h, rfl⟩
    exact ⟨rfl, h⟩
  · rintro ⟨rfl, h⟩
    exact ⟨h, rfl⟩
theorem od_test (x : Int64) {t : Nat} (ht : t < 64) : ((x.toUInt64 >>> ((nI t).toInt64.toUInt64 &&& Int64.toUInt64 63)).toInt64 &&& 1) = 0 ↔ ¬ od_b x t = true := by
  constructor
  · intro h z
    have := (od_bit1 x ht 0).mpr ⟨rfl, z⟩
    rw [h] at this
    exact od_0 0 this
  · intro h
    refine od_ext (fun s _ => ⟨fun z => ?_, fun z => absurd z (od_0 s)⟩)
    exact absurd ((od_bit1 x ht s).mp z).2 h
theorem od_pick (x : Int64) {t s : Nat} (ht : t < 64) (hs : s < 64) (j : Nat) : od_b (((x.toUInt64 >>> ((nI t).toInt64.toUInt64 &&& Int64.toUInt64 63)).toInt64 &&& 1) <<< ((nI s).toInt64 &&& 63)) j = true ↔ j = s ∧ od_b x t = true := by
  rw [od_shl _ hs, od_bit1 _ ht]
  constructor
  · rintro ⟨_, h1, h2, h3⟩
    exact ⟨by omega, h3⟩
  · rintro ⟨rfl, h⟩
    exact ⟨hs, Nat.le_refl _, Nat.sub_self _, h⟩
theorem od_ne0 {x : Int64} (h : ¬ x = 0) : ∃ s, s < 64 ∧ od_b x s = true := by
  apply Classical.byContradiction
  intro z
  apply h
  refine od_ext (fun s hs => ⟨fun t => absurd ⟨s, hs, t⟩ z, fun t => absurd t (od_0 s)⟩)
/-- the set of the states below n with a property -/
def od_mk (P : Nat → Bool) : Nat → Int64
  | 0 => 0
  | n + 1 => if P n = true then od_mk P n ||| ((1 : Int64) <<< ((nI n).toInt64 &&& 63)) else od_mk P n
theorem od_mk_b (P : Nat → Bool) (s : Nat) : ∀ n, n ≤ 64 → (od_b (od_mk P n) s = true ↔ s < n ∧ P s = true) := by
  intro n
  induction n with
  | zero =>
    intro _
    exact ⟨fun h => absurd h (od_0 s), fun h => absurd h.1 (Nat.not_lt_zero s)⟩
  | succ n ih =>
    intro hn
    have ih := ih (by omega)
    unfold od_mk
    by_cases hp : P n = true
    · rw [if_pos hp, od_or, ih, od_one (by omega)]
      constructor
      · rintro (⟨h1, h2⟩ | rfl)
        · exact ⟨by omega, h2⟩
        · exact ⟨by omega, hp⟩
      · rintro ⟨h1, h2⟩
        by_cases e : s = n
        · exact Or.inr e
        · exact Or.inl ⟨by omega, h2⟩
    · rw [if_neg hp, ih]
      constructor
      · rintro ⟨h1, h2⟩
        exact ⟨by omega, h2⟩
      · rintro ⟨h1, h2⟩
        have : s ≠ n := fun e => hp (e ▸ h2)
        exact ⟨by omega, h2⟩
/-- the order of sets -/
def od_sub (x y : Int64) : Prop := ∀ s, od_b x s = true → od_b y s = true
theorem od_sub_r (x : Int64) : od_sub x x := fun _ h => h
theorem od_sub_t {x y z : Int64} (h : od_sub x y) (g : od_sub y z) : od_sub x z := fun s t => g s (h s t)
theorem od_sub_a {x y : Int64} (h : od_sub x y) (g : od_sub y x) : x = y := od_ext (fun s _ => ⟨h s, g s⟩)
theorem od_sub_ne {x y : Int64} (h : od_sub x y) (hne : x ≠ y) : ∃ k, k < 64 ∧ od_b y k = true ∧ ¬ od_b x k = true := by
  apply Classical.byContradiction
  intro z
  apply hne
  refine od_sub_a h (fun s hs => ?_)
  apply Classical.byContradiction
  intro t
  exact z ⟨s, od_lt hs, hs, t⟩
/-- how many of the first n states -/
def od_c (x : Int64) : Nat → Nat
  | 0 => 0
  | n + 1 => od_c x n + (if od_b x n = true then 1 else 0)
theorem od_c_le (x : Int64) : ∀ n, od_c x n ≤ n := by
  intro n
  induction n with
  | zero => exact Nat.le_refl 0
  | succ n ih =>
    unfold od_c
    split <;> omega
theorem od_c_mono {x y : Int64} (h : od_sub x y) : ∀ n, od_c x n ≤ od_c y n := by
  intro n
  induction n with
  | zero => exact Nat.le_refl 0
  | succ n ih =>
    unfold od_c
    by_cases hx : od_b x n = true
    · rw [if_pos hx, if_pos (h n hx)]
      omega
    · rw [if_neg hx]
      omega
theorem od_c_lt {x y : Int64} (h : od_sub x y) {k : Nat} (hy : od_b y k = true) (hx : ¬ od_b x k = true) : ∀ n, k < n → od_c x n < od_c y n := by
  intro n
  induction n with
  | zero => intro z; omega
  | succ n ih =>
    intro hk
    unfold od_c
    by_cases e : k = n
    · subst e
      rw [if_neg hx, if_pos hy]
      have := od_c_mono h k
      omega
    · have t := ih (by omega)
      by_cases hx : od_b x n = true
      · rw [if_pos hx, if_pos (h n hx)]
        omega
      · rw [if_neg hx]
        omega
/-- the order that a map takes: up, or down where going on for ever is meant -/
def od_LE (e : Bool) (x y : Int64) : Prop := (e = false → od_sub x y) ∧ (e = true → od_sub y x)
def od_bot (e : Bool) : Int64 := if e = true then -1 else 0
def od_mu (e : Bool) (x : Int64) : Nat := if e = true then od_c x 64 else 64 - od_c x 64
theorem od_LE_r (e : Bool) (x : Int64) : od_LE e x x := ⟨fun _ => od_sub_r x, fun _ => od_sub_r x⟩
theorem od_LE_t {e : Bool} {x y z : Int64} (h : od_LE e x y) (g : od_LE e y z) : od_LE e x z := ⟨fun t => od_sub_t (h.1 t) (g.1 t), fun t => od_sub_t (g.2 t) (h.2 t)⟩
theorem od_LE_a {e : Bool} {x y : Int64} (h : od_LE e x y) (g : od_LE e y x) : x = y := by
  cases e with
  | false => exact od_sub_a (h.1 rfl) (g.1 rfl)
  | true => exact od_sub_a (g.2 rfl) (h.2 rfl)
theorem od_LE_b (e : Bool) (x : Int64) : od_LE e (od_bot e) x := by
  constructor
  · rintro rfl s h
    exact absurd h (od_0 s)
  · rintro rfl s h
    exact od_m1 (od_lt h)
theorem od_mu_le (e : Bool) (x : Int64) : od_mu e x ≤ 64 := by
  unfold od_mu
  have := od_c_le x 64
  split <;> omega
theorem od_mu_lt {e : Bool} {x y : Int64} (h : od_LE e x y) (hne : x ≠ y) : od_mu e y < od_mu e x := by
  unfold od_mu
  cases e with
  | false =>
    obtain ⟨k, hk, h1, h2⟩ := od_sub_ne (h.1 rfl) hne
    have := od_c_lt (h.1 rfl) h1 h2 64 hk
    have := od_c_le y 64
    simp only [Bool.false_eq_true, if_false]
    omega
  | true =>
    obtain ⟨k, hk, h1, h2⟩ := od_sub_ne (h.2 rfl) (fun z => hne z.symm)
    have := od_c_lt (h.2 rfl) h1 h2 64 hk
    simp only [if_true]
    omega
def od_mono (f : Int64 → Int64) : Prop := ∀ x y, od_sub x y → od_sub (f x) (f y)
theorem od_mono_LE {f : Int64 → Int64} (hf : od_mono f) {e : Bool} {x y : Int64} (h : od_LE e x y) : od_LE e (f x) (f y) := ⟨fun t => hf _ _ (h.1 t), fun t => hf _ _ (h.2 t)⟩
/-- rounds from the bottom of the order -/
def od_it (e : Bool) (f : Int64 → Int64) : Nat → Int64
  | 0 => od_bot e
  | n + 1 => f (od_it e f n)
def od_fx (e : Bool) (f : Int64 → Int64) : Int64 := od_it e f 64
theorem od_it_up {f : Int64 → Int64} (hf : od_mono f) (e : Bool) : ∀ n, od_LE e (od_it e f n) (od_it e f (n + 1)) := by
  intro n
  induction n with
  | zero => exact od_LE_b e _
  | succ n ih => exact od_mono_LE hf ih
theorem od_it_st {f : Int64 → Int64} (hf : od_mono f) (e : Bool) : ∀ n, od_it e f n = od_it e f (n + 1) ∨ od_mu e (od_it e f n) + n ≤ 64 := by
  intro n
  induction n with
  | zero => exact Or.inr (od_mu_le e _)
  | succ n ih =>
    by_cases z : od_it e f n = od_it e f (n + 1)
    · refine Or.inl ?_
      show f (od_it e f n) = f (od_it e f (n + 1))
      rw [← z]
    · rcases ih with t | t
      · exact absurd t z
      · have := od_mu_lt (od_it_up hf e n) z
        exact Or.inr (by omega)
theorem od_fx_fix {f : Int64 → Int64} (hf : od_mono f) (e : Bool) : f (od_fx e f) = od_fx e f := by
  show od_it e f 65 = od_it e f 64
  apply Classical.byContradiction
  intro z
  rcases od_it_st hf e 64 with t | t
  · exact z t.symm
  · have := od_mu_lt (od_it_up hf e 64) (fun q => z q.symm)
    omega
theorem od_fx_least {f : Int64 → Int64} (hf : od_mono f) {e : Bool} {x : Int64} (h : od_LE e (f x) x) : od_LE e (od_fx e f) x := by
  have : ∀ n, od_LE e (od_it e f n) x := by
    intro n
    induction n with
    | zero => exact od_LE_b e x
    | succ n ih => exact od_LE_t (od_mono_LE hf ih) h
  exact this 64
end
section
/-- where w holds A, elsewhere B -/
def od_mix (w A B : Int64) : Int64 := (w &&& A) ||| ((w ^^^ (-1)) &&& B)
theorem od_mix_b (w A B : Int64) (s : Nat) : od_b (od_mix w A B) s = true ↔ (od_b w s = true ∧ od_b A s = true) ∨ (¬ od_b w s = true ∧ od_b B s = true) := by
  unfold od_mix
  rw [od_or, od_and, od_and]
  constructor
  · rintro (h | h)
    · exact Or.inl h
    · exact Or.inr ⟨(od_not w (od_lt h.2)).mp h.1, h.2⟩
  · rintro (h | h)
    · exact Or.inl h
    · exact Or.inr ⟨(od_not w (od_lt h.2)).mpr h.1, h.2⟩
theorem od_mix_m {w A B A' B' : Int64} (h : od_sub A A') (g : od_sub B B') : od_sub (od_mix w A B) (od_mix w A' B') := by
  intro s t
  rcases (od_mix_b w A B s).mp t with z | z
  · exact (od_mix_b w A' B' s).mpr (Or.inl ⟨z.1, h s z.2⟩)
  · exact (od_mix_b w A' B' s).mpr (Or.inr ⟨z.1, g s z.2⟩)
theorem od_or_m {A B A' B' : Int64} (h : od_sub A A') (g : od_sub B B') : od_sub (A ||| B) (A' ||| B') := by
  intro s t
  rcases (od_or A B s).mp t with z | z
  · exact (od_or A' B' s).mpr (Or.inl (h s z))
  · exact (od_or A' B' s).mpr (Or.inr (g s z))
theorem od_fx_m {F F' : Int64 → Int64} (e : Bool) (hF : od_mono F) (hF' : od_mono F') (h : ∀ S, od_sub (F S) (F' S)) : od_sub (od_fx e F) (od_fx e F') := by
  cases e with
  | false =>
    refine (od_fx_least hF (e := false) (x := od_fx false F') ⟨fun _ => ?_, fun z => absurd z (by decide)⟩).1 rfl
    have t := h (od_fx false F')
    rw [od_fx_fix hF' false] at t
    exact t
  | true =>
    refine (od_fx_least hF' (e := true) (x := od_fx true F) ⟨fun z => absurd z (by decide), fun _ => ?_⟩).2 rfl
    have t := h (od_fx true F)
    rw [od_fx_fix hF true] at t
    exact t
/-- a meaning: monotone, additive, and split into ends, failing, going on for ever -/
def od_D (a : Bool → Bool → Int64 → Int64) : Prop :=
  (∀ fl en, od_mono (a fl en)) ∧ (∀ G H s, od_b (a false false (G ||| H)) s = true → od_b (a false false G) s = true ∨ od_b (a false false H) s = true) ∧ (∀ s, ¬ od_b (a false false 0) s = true) ∧ (∀ fl en G s, od_b (a fl en G) s = true ↔ od_b (a false false G) s = true ∨ (fl = true ∧ od_b (a true false 0) s = true) ∨ (en = true ∧ od_b (a false true 0) s = true))
theorem od_D_c {a c : Bool → Bool → Int64 → Int64} (h : ∀ fl en G, a fl en G = c fl en G) (hc : od_D c) : od_D a := by
  have e : a = c := funext (fun fl => funext (fun en => funext (fun G => h fl en G)))
  rw [e]
  exact hc
theorem od_D_in {a : Bool → Bool → Int64 → Int64} (h : od_D a) (fl en : Bool) (G : Int64) : od_sub (a false false G) (a fl en G) := fun s t => (h.2.2.2 fl en G s).mpr (Or.inl t)
theorem od_D_F {a : Bool → Bool → Int64 → Int64} (h : od_D a) (en : Bool) (G H : Int64) : od_sub (a true false H) (a true en (G ||| H)) := by
  intro s t
  rcases (h.2.2.2 true false H s).mp t with z | z | z
  · exact (h.2.2.2 true en _ s).mpr (Or.inl (h.1 false false H (G ||| H) (fun s q => (od_or G H s).mpr (Or.inr q)) s z))
  · exact (h.2.2.2 true en _ s).mpr (Or.inr (Or.inl z))
  · exact absurd z.1 (by decide)
theorem od_D_mE {a : Bool → Bool → Int64 → Int64} (h : od_D a) (fl en : Bool) (G : Int64) : od_sub (a fl false G) (a fl en G) := by
  intro s t
  rcases (h.2.2.2 fl false G s).mp t with z | z | z
  · exact (h.2.2.2 fl en G s).mpr (Or.inl z)
  · exact (h.2.2.2 fl en G s).mpr (Or.inr (Or.inl z))
  · exact absurd z.1 (by decide)
theorem od_D_mF {a : Bool → Bool → Int64 → Int64} (h : od_D a) (fl en : Bool) (G : Int64) : od_sub (a false en G) (a fl en G) := by
  intro s t
  rcases (h.2.2.2 false en G s).mp t with z | z | z
  · exact (h.2.2.2 fl en G s).mpr (Or.inl z)
  · exact absurd z.1 (by decide)
  · exact (h.2.2.2 fl en G s).mpr (Or.inr (Or.inr z))
theorem od_sub_0 (x : Int64) : od_sub 0 x := fun s h => absurd h (od_0 s)
theorem od_sub_1 (x : Int64) : od_sub x (-1) := fun _ h => od_m1 (od_lt h)
/-- a set that may be taken, or not -/
def od_op (c : Bool) (x : Int64) : Int64 := if c = true then x else 0
theorem od_op_b (c : Bool) (x : Int64) (s : Nat) : od_b (od_op c x) s = true ↔ c = true ∧ od_b x s = true := by
  unfold od_op
  cases c with
  | false => exact ⟨fun h => absurd h (od_0 s), fun h => absurd h.1 (by decide)⟩
  | true => exact ⟨fun h => ⟨rfl, h⟩, fun h => h.2⟩
theorem od_D_pure {b : Int64 → Int64} (hm : od_mono b) (ha : ∀ G H s, od_b (b (G ||| H)) s = true → od_b (b G) s = true ∨ od_b (b H) s = true) (h0 : ∀ s, ¬ od_b (b 0) s = true) : od_D (fun _ _ => b) := by
  refine ⟨fun _ _ => hm, ha, h0, fun fl en G s => ⟨fun h => Or.inl h, ?_⟩⟩
  rintro (h | h | h)
  · exact h
  · exact absurd h.2 (h0 s)
  · exact absurd h.2 (h0 s)
theorem od_D_fail : od_D (fun fl _ _ => if fl = true then -1 else 0) := by
  refine ⟨fun _ _ _ _ _ => od_sub_r _, fun _ _ s h => absurd h (od_0 s), fun s => od_0 s, fun fl en G s => ?_⟩
  cases fl with
  | false => exact ⟨fun h => absurd h (od_0 s), fun h => h.elim id (fun h => h.elim (fun h => absurd h.1 (by decide)) (fun h => h.2))⟩
  | true => exact ⟨fun h => Or.inr (Or.inl ⟨rfl, h⟩), fun h => h.elim (fun h => absurd h (od_0 s)) (fun h => h.elim (fun h => h.2) (fun h => absurd h.2 (od_0 s)))⟩
theorem od_D_check (w : Int64) : od_D (fun fl _ G => (G &&& w) ||| (if fl = true then w ^^^ (-1) else 0)) := by
  refine ⟨fun _ _ x y h => od_or_m (fun s t => (od_and y w s).mpr ⟨h s ((od_and x w s).mp t).1, ((od_and x w s).mp t).2⟩) (od_sub_r _), fun G H s h => ?_, fun s h => ?_, fun fl en G s => ?_⟩
  · rcases (od_or _ _ s).mp h with z | z
    · have z := (od_and _ _ s).mp z
      rcases (od_or _ _ s).mp z.1 with q | q
      · exact Or.inl ((od_or _ _ s).mpr (Or.inl ((od_and _ _ s).mpr ⟨q, z.2⟩)))
      · exact Or.inr ((od_or _ _ s).mpr (Or.inl ((od_and _ _ s).mpr ⟨q, z.2⟩)))
    · exact absurd z (od_0 s)
  · rcases (od_or _ _ s).mp h with z | z
    · exact absurd ((od_and _ _ s).mp z).1 (od_0 s)
    · exact absurd z (od_0 s)
  · constructor
    · intro h
      rcases (od_or _ _ s).mp h with z | z
      · exact Or.inl ((od_or _ _ s).mpr (Or.inl z))
      · cases fl with
        | false => exact absurd z (od_0 s)
        | true => exact Or.inr (Or.inl ⟨rfl, (od_or _ _ s).mpr (Or.inr z)⟩)
    · rintro (h | h | h)
      · rcases (od_or _ _ s).mp h with z | z
        · exact (od_or _ _ s).mpr (Or.inl z)
        · exact absurd z (od_0 s)
      · obtain ⟨rfl, h⟩ := h
        rcases (od_or _ _ s).mp h with z | z
        · exact absurd ((od_and _ _ s).mp z).1 (od_0 s)
        · exact (od_or _ _ s).mpr (Or.inr z)
      · rcases (od_or _ _ s).mp h.2 with z | z
        · exact absurd ((od_and _ _ s).mp z).1 (od_0 s)
        · exact absurd z (od_0 s)
theorem od_D_comp {a c : Bool → Bool → Int64 → Int64} (ha : od_D a) (hc : od_D c) : od_D (fun fl en G => a fl en (c fl en G)) := by
  refine ⟨fun fl en x y h => ha.1 fl en _ _ (hc.1 fl en _ _ h), fun G H s h => ?_, fun s h => ?_, fun fl en G s => ⟨fun h => ?_, ?_⟩⟩
  · refine ha.2.1 _ _ s (ha.1 false false _ _ (fun s t => ?_) s h)
    exact (od_or _ _ s).mpr (hc.2.1 G H s t)
  · exact ha.2.2.1 s (ha.1 false false _ _ (fun s t => absurd t (hc.2.2.1 s)) s h)
  · rcases (ha.2.2.2 fl en _ s).mp h with z | z | z
    · have z2 : od_b (a false false ((c false false G) ||| ((od_op fl (c true false 0)) ||| (od_op en (c false true 0))))) s = true := by
        refine ha.1 false false _ _ (fun s t => ?_) s z
        rw [od_or, od_or, od_op_b, od_op_b]
        exact (hc.2.2.2 fl en G s).mp t
      rcases ha.2.1 _ _ s z2 with q | q
      · exact Or.inl q
      · rcases ha.2.1 _ _ s q with r | r
        · cases fl with
          | false => exact absurd r (ha.2.2.1 s)
          | true => exact Or.inr (Or.inl ⟨rfl, od_D_in ha true false _ s r⟩)
        · cases en with
          | false => exact absurd r (ha.2.2.1 s)
          | true => exact Or.inr (Or.inr ⟨rfl, od_D_in ha false true _ s r⟩)
    · exact Or.inr (Or.inl ⟨z.1, ha.1 true false _ _ (od_sub_0 _) s z.2⟩)
    · exact Or.inr (Or.inr ⟨z.1, ha.1 false true _ _ (od_sub_0 _) s z.2⟩)
  · rintro (z | ⟨rfl, z⟩ | ⟨rfl, z⟩)
    · exact ha.1 fl en _ _ (od_D_in hc fl en G) s (od_D_in ha fl en _ s z)
    · rcases (ha.2.2.2 true false _ s).mp z with q | q | q
      · refine ha.1 true en _ _ (fun s t => ?_) s (od_D_in ha true en _ s q)
        exact od_D_mE hc true en G s (hc.1 true false _ _ (od_sub_0 G) s t)
      · exact (ha.2.2.2 true en _ s).mpr (Or.inr (Or.inl q))
      · exact absurd q.1 (by decide)
    · rcases (ha.2.2.2 false true _ s).mp z with q | q | q
      · refine ha.1 fl true _ _ (fun s t => ?_) s (od_D_in ha fl true _ s q)
        exact od_D_mF hc fl true G s (hc.1 false true _ _ (od_sub_0 G) s t)
      · exact absurd q.1 (by decide)
      · exact (ha.2.2.2 fl true _ s).mpr (Or.inr (Or.inr q))
theorem od_D_mix {a c : Bool → Bool → Int64 → Int64} (w : Int64) (ha : od_D a) (hc : od_D c) : od_D (fun fl en G => od_mix w (a fl en G) (c fl en G)) := by
  refine ⟨fun fl en x y h => od_mix_m (ha.1 fl en _ _ h) (hc.1 fl en _ _ h), fun G H s h => ?_, fun s h => ?_, fun fl en G s => ?_⟩
  · dsimp only at h ⊢
    rw [od_mix_b] at h
    rw [od_mix_b, od_mix_b]
    rcases h with h | h
    · rcases ha.2.1 G H s h.2 with z | z
      · exact Or.inl (Or.inl ⟨h.1, z⟩)
      · exact Or.inr (Or.inl ⟨h.1, z⟩)
    · rcases hc.2.1 G H s h.2 with z | z
      · exact Or.inl (Or.inr ⟨h.1, z⟩)
      · exact Or.inr (Or.inr ⟨h.1, z⟩)
  · dsimp only at h
    rw [od_mix_b] at h
    rcases h with h | h
    · exact ha.2.2.1 s h.2
    · exact hc.2.2.1 s h.2
  · dsimp only
    rw [od_mix_b, od_mix_b, od_mix_b, od_mix_b, ha.2.2.2 fl en G s, hc.2.2.2 fl en G s]
    constructor
    · rintro (⟨h, z | z | z⟩ | ⟨h, z | z | z⟩)
      · exact Or.inl (Or.inl ⟨h, z⟩)
      · exact Or.inr (Or.inl ⟨z.1, Or.inl ⟨h, z.2⟩⟩)
      · exact Or.inr (Or.inr ⟨z.1, Or.inl ⟨h, z.2⟩⟩)
      · exact Or.inl (Or.inr ⟨h, z⟩)
      · exact Or.inr (Or.inl ⟨z.1, Or.inr ⟨h, z.2⟩⟩)
      · exact Or.inr (Or.inr ⟨z.1, Or.inr ⟨h, z.2⟩⟩)
    · rintro ((⟨h, z⟩ | ⟨h, z⟩) | ⟨e, ⟨h, z⟩ | ⟨h, z⟩⟩ | ⟨e, ⟨h, z⟩ | ⟨h, z⟩⟩)
      · exact Or.inl ⟨h, Or.inl z⟩
      · exact Or.inr ⟨h, Or.inl z⟩
      · exact Or.inl ⟨h, Or.inr (Or.inl ⟨e, z⟩)⟩
      · exact Or.inr ⟨h, Or.inr (Or.inl ⟨e, z⟩)⟩
      · exact Or.inl ⟨h, Or.inr (Or.inr ⟨e, z⟩)⟩
      · exact Or.inr ⟨h, Or.inr (Or.inr ⟨e, z⟩)⟩
theorem od_D_or {a c : Bool → Bool → Int64 → Int64} (ha : od_D a) (hc : od_D c) : od_D (fun fl en G => a fl en G ||| c fl en G) := by
  refine ⟨fun fl en x y h => od_or_m (ha.1 fl en _ _ h) (hc.1 fl en _ _ h), fun G H s h => ?_, fun s h => ?_, fun fl en G s => ?_⟩
  · dsimp only at h ⊢
    rw [od_or] at h
    rw [od_or, od_or]
    rcases h with h | h
    · rcases ha.2.1 G H s h with z | z
      · exact Or.inl (Or.inl z)
      · exact Or.inr (Or.inl z)
    · rcases hc.2.1 G H s h with z | z
      · exact Or.inl (Or.inr z)
      · exact Or.inr (Or.inr z)
  · dsimp only at h
    rw [od_or] at h
    rcases h with h | h
    · exact ha.2.2.1 s h
    · exact hc.2.2.1 s h
  · dsimp only
    rw [od_or, od_or, od_or, od_or, ha.2.2.2 fl en G s, hc.2.2.2 fl en G s]
    constructor
    · rintro ((z | z | z) | (z | z | z))
      · exact Or.inl (Or.inl z)
      · exact Or.inr (Or.inl ⟨z.1, Or.inl z.2⟩)
      · exact Or.inr (Or.inr ⟨z.1, Or.inl z.2⟩)
      · exact Or.inl (Or.inr z)
      · exact Or.inr (Or.inl ⟨z.1, Or.inr z.2⟩)
      · exact Or.inr (Or.inr ⟨z.1, Or.inr z.2⟩)
    · rintro ((z | z) | ⟨e, z | z⟩ | ⟨e, z | z⟩)
      · exact Or.inl (Or.inl z)
      · exact Or.inr (Or.inl z)
      · exact Or.inl (Or.inr (Or.inl ⟨e, z⟩))
      · exact Or.inr (Or.inr (Or.inl ⟨e, z⟩))
      · exact Or.inl (Or.inr (Or.inr ⟨e, z⟩))
      · exact Or.inr (Or.inr (Or.inr ⟨e, z⟩))
/-- one round of a loop -/
def od_rd (w : Int64) (a : Int64 → Int64) (G S : Int64) : Int64 := od_mix w (a S) G
theorem od_rd_m {w : Int64} {a : Int64 → Int64} (ha : od_mono a) (G : Int64) : od_mono (od_rd w a G) := fun x y h => od_mix_m (ha x y h) (od_sub_r G)
theorem od_D_wl {a : Bool → Bool → Int64 → Int64} (w : Int64) (ha : od_D a) {fl en : Bool} {G X : Int64} (hX : od_rd w (a fl en) G X = X) {fl' : Bool} (hf : fl' = false ∨ fl = true) {G' : Int64} (hG : od_sub G' G) : od_sub (od_fx false (od_rd w (a fl' false) G')) X := by
  refine (od_fx_least (od_rd_m (ha.1 fl' false) G') (e := false) (x := X) ⟨fun _ => ?_, fun z => absurd z (by decide)⟩).1 rfl
  intro s t
  rw [← hX]
  refine od_mix_m (fun s q => ?_) hG s t
  rcases hf with rfl | rfl
  · exact od_D_in ha fl en X s q
  · refine od_D_mE ha true en X s ?_
    cases fl' with
    | true => exact q
    | false => exact od_D_in ha true false X s q
theorem od_D_w1 {a : Bool → Bool → Int64 → Int64} (w : Int64) (ha : od_D a) (fl : Bool) (G : Int64) : od_sub (od_fx false (od_rd w (a fl false) G)) ((od_fx false (od_rd w (a false false) G)) ||| (od_op fl (od_fx false (od_rd w (a true false) 0)))) := by
  refine (od_fx_least (od_rd_m (ha.1 fl false) G) (e := false) ⟨fun _ => ?_, fun z => absurd z (by decide)⟩).1 rfl
  have h1 := od_fx_fix (od_rd_m (w := w) (ha.1 false false) G) false
  have h2 := od_fx_fix (od_rd_m (w := w) (ha.1 true false) 0) false
  generalize od_fx false (od_rd w (a false false) G) = L at h1 ⊢
  generalize od_fx false (od_rd w (a true false) 0) = N at h2 ⊢
  intro s t
  rw [od_or, od_op_b]
  rcases (od_mix_b _ _ _ s).mp t with ⟨z1, z2⟩ | z
  · rcases (ha.2.2.2 fl false _ s).mp z2 with q | q | q
    · rcases ha.2.1 _ _ s q with r | r
      · refine Or.inl ?_
        rw [← h1]
        exact (od_mix_b _ _ _ s).mpr (Or.inl ⟨z1, r⟩)
      · cases fl with
        | false => exact absurd r (ha.2.2.1 s)
        | true =>
          refine Or.inr ⟨rfl, ?_⟩
          rw [← h2]
          exact (od_mix_b _ _ _ s).mpr (Or.inl ⟨z1, od_D_in ha true false _ s r⟩)
    · refine Or.inr ⟨q.1, ?_⟩
      rw [← h2]
      exact (od_mix_b _ _ _ s).mpr (Or.inl ⟨z1, ha.1 true false _ _ (od_sub_0 N) s q.2⟩)
    · exact absurd q.1 (by decide)
  · refine Or.inl ?_
    rw [← h1]
    exact (od_mix_b _ _ _ s).mpr (Or.inr z)
theorem od_D_w2 {a : Bool → Bool → Int64 → Int64} (w : Int64) (ha : od_D a) (fl : Bool) (G : Int64) {s : Nat} (hs : od_b (od_fx true (od_rd w (a fl true) G)) s = true) : od_b (od_fx false (od_rd w (a fl false) G)) s = true ∨ od_b (od_fx true (od_rd w (a false true) 0)) s = true := by
  have h1 := od_fx_fix (od_rd_m (w := w) (ha.1 fl true) G) true
  have h2 := od_fx_fix (od_rd_m (w := w) (ha.1 fl false) G) false
  generalize od_fx true (od_rd w (a fl true) G) = X at h1 hs
  generalize od_fx false (od_rd w (a fl false) G) = L at h2 ⊢
  by_cases hL : od_b L s = true
  · exact Or.inl hL
  · refine Or.inr ?_
    have key : od_LE true (od_fx true (od_rd w (a false true) 0)) (X &&& (L ^^^ (-1))) := by
      refine od_fx_least (od_rd_m (ha.1 false true) 0) ⟨fun z => absurd z (by decide), fun _ => ?_⟩
      intro t ht
      have ht2 := (od_and _ _ t).mp ht
      have hl : ¬ od_b L t = true := (od_not L (od_lt ht)).mp ht2.2
      have hx := ht2.1
      rw [← h1] at hx
      rcases (od_mix_b _ _ _ t).mp hx with ⟨z1, z2⟩ | z
      · refine (od_mix_b _ _ _ t).mpr (Or.inl ⟨z1, ?_⟩)
        rcases (ha.2.2.2 fl true _ t).mp z2 with q | q | q
        · have q2 : od_b (a false false ((X &&& (L ^^^ (-1))) ||| L)) t = true := by
            refine ha.1 false false _ _ (fun r hr => ?_) t q
            by_cases e : od_b L r = true
            · exact (od_or _ _ r).mpr (Or.inr e)
            · exact (od_or _ _ r).mpr (Or.inl ((od_and _ _ r).mpr ⟨hr, (od_not L (od_lt hr)).mpr e⟩))
          rcases ha.2.1 _ _ t q2 with r | r
          · exact od_D_in ha false true _ t r
          · refine absurd ?_ hl
            rw [← h2]
            exact (od_mix_b _ _ _ t).mpr (Or.inl ⟨z1, od_D_in ha fl false _ t r⟩)
        · refine absurd ?_ hl
          rw [← h2]
          exact (od_mix_b _ _ _ t).mpr (Or.inl ⟨z1, (ha.2.2.2 fl false _ t).mpr (Or.inr (Or.inl q))⟩)
        · exact (ha.2.2.2 false true _ t).mpr (Or.inr (Or.inr q))
      · refine absurd ?_ hl
        rw [← h2]
        exact (od_mix_b _ _ _ t).mpr (Or.inr z)
    exact key.2 rfl s ((od_and _ _ s).mpr ⟨hs, (od_not L (od_lt hs)).mpr hL⟩)
theorem od_D_while {a : Bool → Bool → Int64 → Int64} (w : Int64) (ha : od_D a) : od_D (fun fl en G => od_fx en (od_rd w (a fl en) G)) := by
  refine ⟨fun fl en x y h => od_fx_m en (od_rd_m (ha.1 fl en) x) (od_rd_m (ha.1 fl en) y) (fun S => od_mix_m (od_sub_r _) h), fun G H s h => ?_, fun s h => ?_, fun fl en G s => ⟨fun h => ?_, ?_⟩⟩
  · have key : od_sub (od_fx false (od_rd w (a false false) (G ||| H))) ((od_fx false (od_rd w (a false false) G)) ||| (od_fx false (od_rd w (a false false) H))) := by
      refine (od_fx_least (od_rd_m (ha.1 false false) (G ||| H)) (e := false) ⟨fun _ => ?_, fun z => absurd z (by decide)⟩).1 rfl
      have h1 := od_fx_fix (od_rd_m (w := w) (ha.1 false false) G) false
      have h2 := od_fx_fix (od_rd_m (w := w) (ha.1 false false) H) false
      generalize od_fx false (od_rd w (a false false) G) = L at h1 ⊢
      generalize od_fx false (od_rd w (a false false) H) = N at h2 ⊢
      intro s t
      rw [od_or]
      rcases (od_mix_b _ _ _ s).mp t with ⟨z1, z2⟩ | ⟨z1, z2⟩
      · rcases ha.2.1 _ _ s z2 with q | q
        · exact Or.inl (by rw [← h1]; exact (od_mix_b _ _ _ s).mpr (Or.inl ⟨z1, q⟩))
        · exact Or.inr (by rw [← h2]; exact (od_mix_b _ _ _ s).mpr (Or.inl ⟨z1, q⟩))
      · rcases (od_or _ _ s).mp z2 with q | q
        · exact Or.inl (by rw [← h1]; exact (od_mix_b _ _ _ s).mpr (Or.inr ⟨z1, q⟩))
        · exact Or.inr (by rw [← h2]; exact (od_mix_b _ _ _ s).mpr (Or.inr ⟨z1, q⟩))
    exact (od_or _ _ s).mp (key s h)
  · have key : od_sub (od_fx false (od_rd w (a false false) 0)) 0 := by
      refine (od_fx_least (od_rd_m (ha.1 false false) 0) (e := false) ⟨fun _ => ?_, fun z => absurd z (by decide)⟩).1 rfl
      intro t ht
      rcases (od_mix_b _ _ _ t).mp ht with z | z
      · exact absurd z.2 (ha.2.2.1 t)
      · exact z.2
    exact od_0 s (key s h)
  · cases en with
    | false =>
      have t := od_D_w1 w ha fl G s h
      rw [od_or, od_op_b] at t
      rcases t with t | t
      · exact Or.inl t
      · exact Or.inr (Or.inl t)
    | true =>
      rcases od_D_w2 w ha fl G h with z | z
      · have t := od_D_w1 w ha fl G s z
        rw [od_or, od_op_b] at t
        rcases t with t | t
        · exact Or.inl t
        · exact Or.inr (Or.inl t)
      · exact Or.inr (Or.inr ⟨rfl, z⟩)
  · have hX := od_fx_fix (od_rd_m (w := w) (ha.1 fl en) G) en
    rintro (z | ⟨rfl, z⟩ | ⟨rfl, z⟩)
    · exact od_D_wl w ha hX (Or.inl rfl) (od_sub_r G) s z
    · exact od_D_wl w ha hX (Or.inr rfl) (od_sub_0 G) s z
    · refine od_fx_m true (od_rd_m (ha.1 false true) 0) (od_rd_m (ha.1 fl true) G) (fun S => od_mix_m ?_ (od_sub_0 G)) s z
      exact od_D_mF ha fl true S
theorem od_D_one {a : Bool → Bool → Int64 → Int64} (ha : od_D a) (s : Nat) : od_b (a false false (-1)) s = true ↔ ∃ t, t < 64 ∧ od_b (a false false ((1 : Int64) <<< ((nI t).toInt64 &&& 63))) s = true := by
  constructor
  · have key : ∀ n, n ≤ 64 → od_b (a false false (od_mk (fun _ => true) n)) s = true → ∃ t, t < 64 ∧ od_b (a false false ((1 : Int64) <<< ((nI t).toInt64 &&& 63))) s = true := by
      intro n
      induction n with
      | zero => intro _ h; exact absurd h (ha.2.2.1 s)
      | succ n ih =>
        intro hn h
        have e : od_mk (fun _ => true) (n + 1) = od_mk (fun _ => true) n ||| ((1 : Int64) <<< ((nI n).toInt64 &&& 63)) := rfl
        rw [e] at h
        rcases ha.2.1 _ _ s h with z | z
        · exact ih (by omega) z
        · exact ⟨n, by omega, z⟩
    intro h
    refine key 64 (Nat.le_refl 64) ?_
    have e : od_mk (fun _ => true) 64 = -1 := od_ext (fun s hs => ⟨fun _ => od_m1 hs, fun _ => (od_mk_b _ s 64 (Nat.le_refl 64)).mpr ⟨hs, rfl⟩⟩)
    rw [e]
    exact h
  · rintro ⟨t, _, h⟩
    exact ha.1 false false _ _ (od_sub_1 _) s h
end
section
/-- the tables: where conditions hold, kinds, parts x y z, weights -/
abbrev od_T : Type := (Nat → Int64) × (Nat → Nat) × (Nat → Nat) × (Nat → Nat) × (Nat → Nat) × (Nat → Nat)
def od_W (T : od_T) : Nat → Int64 := T.1
def od_K (T : od_T) : Nat → Nat := T.2.1
def od_X (T : od_T) : Nat → Nat := T.2.2.1
def od_Y (T : od_T) : Nat → Nat := T.2.2.2.1
def od_Z (T : od_T) : Nat → Nat := T.2.2.2.2.1
def od_V (T : od_T) : Nat → Nat := T.2.2.2.2.2
/-- a state with variable x set to v; a variable's value -/
def od_to (x v s : Nat) : Nat := s - s / 4 ^ x % 4 * 4 ^ x + v * 4 ^ x
def od_val (s y : Nat) : Nat := if y = 3 then 0 else s / 4 ^ y % 4
def od_set (x y z : Nat) (G : Int64) : Int64 := od_mk (fun s => od_b G (od_to x ((od_val s y + z) % 4) s)) 64
def od_any (x : Nat) (G : Int64) : Int64 := od_mk (fun s => od_b G (od_to x 0 s) || od_b G (od_to x 1 s) || od_b G (od_to x 2 s) || od_b G (od_to x 3 s)) 64
theorem od_set_b (x y z : Nat) (G : Int64) (s : Nat) : od_b (od_set x y z G) s = true ↔ s < 64 ∧ od_b G (od_to x ((od_val s y + z) % 4) s) = true := od_mk_b _ s 64 (Nat.le_refl 64)
theorem od_any_b (x : Nat) (G : Int64) (s : Nat) : od_b (od_any x G) s = true ↔ s < 64 ∧ (od_b G (od_to x 0 s) = true ∨ od_b G (od_to x 1 s) = true ∨ od_b G (od_to x 2 s) = true ∨ od_b G (od_to x 3 s) = true) := by
  unfold od_any
  rw [od_mk_b _ s 64 (Nat.le_refl 64)]
  simp only [Bool.or_eq_true, or_assoc]
theorem od_D_set (x y z : Nat) : od_D (fun _ _ => od_set x y z) := by
  refine od_D_pure (fun A B h s t => ?_) (fun G H s h => ?_) (fun s h => ?_)
  · rw [od_set_b] at t ⊢
    exact ⟨t.1, h _ t.2⟩
  · rw [od_set_b, od_or] at h
    rw [od_set_b, od_set_b]
    rcases h with ⟨h1, h | h⟩
    · exact Or.inl ⟨h1, h⟩
    · exact Or.inr ⟨h1, h⟩
  · rw [od_set_b] at h
    exact od_0 _ h.2
theorem od_D_any (x : Nat) : od_D (fun _ _ => od_any x) := by
  refine od_D_pure (fun A B h s t => ?_) (fun G H s h => ?_) (fun s h => ?_)
  · rw [od_any_b] at t ⊢
    refine ⟨t.1, ?_⟩
    rcases t.2 with t | t | t | t
    · exact Or.inl (h _ t)
    · exact Or.inr (Or.inl (h _ t))
    · exact Or.inr (Or.inr (Or.inl (h _ t)))
    · exact Or.inr (Or.inr (Or.inr (h _ t)))
  · rw [od_any_b, od_or, od_or, od_or, od_or] at h
    rw [od_any_b, od_any_b]
    rcases h with ⟨h1, (h | h) | (h | h) | (h | h) | (h | h)⟩
    · exact Or.inl ⟨h1, Or.inl h⟩
    · exact Or.inr ⟨h1, Or.inl h⟩
    · exact Or.inl ⟨h1, Or.inr (Or.inl h)⟩
    · exact Or.inr ⟨h1, Or.inr (Or.inl h)⟩
    · exact Or.inl ⟨h1, Or.inr (Or.inr (Or.inl h))⟩
    · exact Or.inr ⟨h1, Or.inr (Or.inr (Or.inl h))⟩
    · exact Or.inl ⟨h1, Or.inr (Or.inr (Or.inr h))⟩
    · exact Or.inr ⟨h1, Or.inr (Or.inr (Or.inr h))⟩
  · rw [od_any_b] at h
    rcases h.2 with h | h | h | h
    · exact od_0 _ h
    · exact od_0 _ h
    · exact od_0 _ h
    · exact od_0 _ h
theorem od_D_and (w : Int64) : od_D (fun _ _ G => G &&& w) := by
  refine od_D_pure (fun A B h s t => ?_) (fun G H s h => ?_) (fun s h => ?_)
  · rw [od_and] at t ⊢
    exact ⟨h _ t.1, t.2⟩
  · rw [od_and, od_or] at h
    rw [od_and, od_and]
    rcases h with ⟨h | h, h1⟩
    · exact Or.inl ⟨h, h1⟩
    · exact Or.inr ⟨h, h1⟩
  · rw [od_and] at h
    exact od_0 _ h.1
theorem od_D_id : od_D (fun _ _ G => G) := od_D_pure (fun _ _ h => h) (fun G H s h => (od_or G H s).mp h) (fun s => od_0 s)
/-- what a program's map is; the first number bounds the depth -/
def od_map (T : od_T) (fl en : Bool) : Nat → Nat → Int64 → Int64
  | 0, _, G => G
  | f + 1, p, G =>
    if od_K T p = 1 then (if fl = true then -1 else 0)
    else if od_K T p = 2 then od_set (od_X T p) (od_Y T p) (od_Z T p) G
    else if od_K T p = 3 then od_any (od_X T p) G
    else if od_K T p = 4 then G &&& od_W T (od_X T p)
    else if od_K T p = 5 then (G &&& od_W T (od_X T p)) ||| (if fl = true then od_W T (od_X T p) ^^^ (-1) else 0)
    else if od_K T p = 6 then od_map T fl en f (od_X T p) (od_map T fl en f (od_Y T p) G)
    else if od_K T p = 7 then od_mix (od_W T (od_X T p)) (od_map T fl en f (od_Y T p) G) (od_map T fl en f (od_Z T p) G)
    else if od_K T p = 8 then od_map T fl en f (od_Y T p) G ||| od_map T fl en f (od_X T p) G
    else if od_K T p = 9 then od_fx en (od_rd (od_W T (od_X T p)) (od_map T fl en f (od_Y T p)) G)
    else G
theorem od_cases (k : Nat) : k = 1 ∨ k = 2 ∨ k = 3 ∨ k = 4 ∨ k = 5 ∨ k = 6 ∨ k = 7 ∨ k = 8 ∨ k = 9 ∨ (k = 0 ∨ 9 < k) := by omega
theorem od_map_1 {T : od_T} {p : Nat} (h : od_K T p = 1) (fl en : Bool) (f : Nat) (G : Int64) : od_map T fl en (f + 1) p G = (if fl = true then -1 else 0) := by
  simp only [od_map, h, if_true]
theorem od_map_2 {T : od_T} {p : Nat} (h : od_K T p = 2) (fl en : Bool) (f : Nat) (G : Int64) : od_map T fl en (f + 1) p G = od_set (od_X T p) (od_Y T p) (od_Z T p) G := by
  simp [od_map, h]
theorem od_map_3 {T : od_T} {p : Nat} (h : od_K T p = 3) (fl en : Bool) (f : Nat) (G : Int64) : od_map T fl en (f + 1) p G = od_any (od_X T p) G := by
  simp [od_map, h]
theorem od_map_4 {T : od_T} {p : Nat} (h : od_K T p = 4) (fl en : Bool) (f : Nat) (G : Int64) : od_map T fl en (f + 1) p G = G &&& od_W T (od_X T p) := by
  simp [od_map, h]
theorem od_map_5 {T : od_T} {p : Nat} (h : od_K T p = 5) (fl en : Bool) (f : Nat) (G : Int64) : od_map T fl en (f + 1) p G = (G &&& od_W T (od_X T p)) ||| (if fl = true then od_W T (od_X T p) ^^^ (-1) else 0) := by
  rw [od_map, h]; rfl
theorem od_map_6 {T : od_T} {p : Nat} (h : od_K T p = 6) (fl en : Bool) (f : Nat) (G : Int64) : od_map T fl en (f + 1) p G = od_map T fl en f (od_X T p) (od_map T fl en f (od_Y T p) G) := by
  rw [od_map, h]; rfl
theorem od_map_7 {T : od_T} {p : Nat} (h : od_K T p = 7) (fl en : Bool) (f : Nat) (G : Int64) : od_map T fl en (f + 1) p G = od_mix (od_W T (od_X T p)) (od_map T fl en f (od_Y T p) G) (od_map T fl en f (od_Z T p) G) := by
  rw [od_map, h]; rfl
theorem od_map_8 {T : od_T} {p : Nat} (h : od_K T p = 8) (fl en : Bool) (f : Nat) (G : Int64) : od_map T fl en (f + 1) p G = od_map T fl en f (od_Y T p) G ||| od_map T fl en f (od_X T p) G := by
  rw [od_map, h]; rfl
theorem od_map_9 {T : od_T} {p : Nat} (h : od_K T p = 9) (fl en : Bool) (f : Nat) (G : Int64) : od_map T fl en (f + 1) p G = od_fx en (od_rd (od_W T (od_X T p)) (od_map T fl en f (od_Y T p)) G) := by
  rw [od_map, h]; rfl
theorem od_map_0 {T : od_T} {p : Nat} (h : od_K T p = 0 ∨ 9 < od_K T p) (fl en : Bool) (f : Nat) (G : Int64) : od_map T fl en (f + 1) p G = G := by
  rw [od_map, if_neg (by omega), if_neg (by omega), if_neg (by omega), if_neg (by omega), if_neg (by omega), if_neg (by omega), if_neg (by omega), if_neg (by omega), if_neg (by omega)]
theorem od_map_D (T : od_T) : ∀ f p, od_D (fun fl en G => od_map T fl en f p G) := by
  intro f
  induction f with
  | zero => intro p; exact od_D_id
  | succ f ih =>
    intro p
    rcases od_cases (od_K T p) with k | k | k | k | k | k | k | k | k | k
    · exact od_D_c (od_map_1 k · · f ·) od_D_fail
    · exact od_D_c (od_map_2 k · · f ·) (od_D_set _ _ _)
    · exact od_D_c (od_map_3 k · · f ·) (od_D_any _)
    · exact od_D_c (od_map_4 k · · f ·) (od_D_and _)
    · exact od_D_c (od_map_5 k · · f ·) (od_D_check _)
    · exact od_D_c (od_map_6 k · · f ·) (od_D_comp (ih (od_X T p)) (ih (od_Y T p)))
    · exact od_D_c (od_map_7 k · · f ·) (od_D_mix _ (ih (od_Y T p)) (ih (od_Z T p)))
    · exact od_D_c (od_map_8 k · · f ·) (od_D_or (ih (od_Y T p)) (ih (od_X T p)))
    · exact od_D_c (od_map_9 k · · f ·) (od_D_while _ (ih (od_Y T p)))
    · exact od_D_c (od_map_0 k · · f ·) od_D_id
theorem od_map_mono (T : od_T) (fl en : Bool) (f p : Nat) : od_mono (od_map T fl en f p) := (od_map_D T f p).1 fl en
/-- a table's entry is in order -/
def od_wf1 (T : od_T) (cc p : Nat) : Prop :=
  od_K T p ≤ 9 ∧ 1 ≤ od_V T p ∧ od_V T p ≤ 20 ∧
  (od_K T p = 2 → od_X T p ≤ 2 ∧ od_Y T p ≤ 3 ∧ od_Z T p ≤ 3) ∧
  (od_K T p = 3 → od_X T p ≤ 2) ∧
  (od_K T p = 4 ∨ od_K T p = 5 ∨ od_K T p = 7 ∨ od_K T p = 9 → od_X T p < cc) ∧
  (od_K T p = 6 ∨ od_K T p = 8 → od_X T p < p ∧ od_Y T p < p ∧ od_V T p = 1 + od_V T (od_X T p) + od_V T (od_Y T p)) ∧
  (od_K T p = 7 → od_Y T p < p ∧ od_Z T p < p ∧ od_V T p = 1 + od_V T (od_Y T p) + od_V T (od_Z T p)) ∧
  (od_K T p = 9 → od_Y T p < p ∧ od_V T p = 1 + od_V T (od_Y T p))
def od_wf (T : od_T) (cc pc : Nat) : Prop := ∀ p, p < pc → od_wf1 T cc p
/-- two tables that agree on what is made -/
def od_ag (T T' : od_T) (cc pc : Nat) : Prop :=
  (∀ c, c < cc → od_W T' c = od_W T c) ∧ (∀ p, p < pc → od_K T' p = od_K T p ∧ od_X T' p = od_X T p ∧ od_Y T' p = od_Y T p ∧ od_Z T' p = od_Z T p ∧ od_V T' p = od_V T p)
theorem od_ag_map {T T' : od_T} {cc pc : Nat} (hw : od_wf T cc pc) (ha : od_ag T T' cc pc) (fl en : Bool) : ∀ f p, p < pc → ∀ G, od_map T' fl en f p G = od_map T fl en f p G := by
  intro f
  induction f with
  | zero => intro p _ G; rfl
  | succ f ih =>
    intro p hp G
    obtain ⟨eK, eX, eY, eZ, eV⟩ := ha.2 p hp
    obtain ⟨w1, w2, w3, w4, w5, w6, w7, w8, w9⟩ := hw p hp
    rcases od_cases (od_K T p) with k | k | k | k | k | k | k | k | k | k
    · rw [od_map_1 k, od_map_1 (eK.trans k)]
    · rw [od_map_2 k, od_map_2 (eK.trans k), eX, eY, eZ]
    · rw [od_map_3 k, od_map_3 (eK.trans k), eX]
    · rw [od_map_4 k, od_map_4 (eK.trans k), eX, ha.1 _ (w6 (by omega))]
    · rw [od_map_5 k, od_map_5 (eK.trans k), eX, ha.1 _ (w6 (by omega))]
    · have t := w7 (by omega)
      rw [od_map_6 k, od_map_6 (eK.trans k), eX, eY, ih _ (by omega), ih _ (by omega)]
    · have t := w8 (by omega)
      rw [od_map_7 k, od_map_7 (eK.trans k), eX, eY, eZ, ih _ (by omega), ih _ (by omega), ha.1 _ (w6 (by omega))]
    · have t := w7 (by omega)
      rw [od_map_8 k, od_map_8 (eK.trans k), eX, eY, ih _ (by omega), ih _ (by omega)]
    · have t := w9 (by omega)
      have e : od_map T' fl en f (od_Y T p) = od_map T fl en f (od_Y T p) := funext (ih _ (by omega))
      rw [od_map_9 k, od_map_9 (eK.trans k), eX, eY, e, ha.1 _ (w6 (by omega))]
    · rw [od_map_0 k, od_map_0 (by rw [eK]; exact k)]
theorem od_ag_wf {T T' : od_T} {cc cc' pc : Nat} (hw : od_wf T cc pc) (ha : od_ag T T' cc pc) (hc : cc ≤ cc') : od_wf T' cc' pc := by
  intro p hp
  obtain ⟨eK, eX, eY, eZ, eV⟩ := ha.2 p hp
  obtain ⟨w1, w2, w3, w4, w5, w6, w7, w8, w9⟩ := hw p hp
  unfold od_wf1
  rw [eK, eX, eY, eZ, eV]
  refine ⟨w1, w2, w3, w4, w5, fun h => Nat.lt_of_lt_of_le (w6 h) hc, fun h => ?_, fun h => ?_, fun h => ?_⟩
  · have t := w7 h
    rw [(ha.2 _ (show od_X T p < pc by omega)).2.2.2.2, (ha.2 _ (show od_Y T p < pc by omega)).2.2.2.2]
    exact t
  · have t := w8 h
    rw [(ha.2 _ (show od_Y T p < pc by omega)).2.2.2.2, (ha.2 _ (show od_Z T p < pc by omega)).2.2.2.2]
    exact t
  · have t := w9 h
    rw [(ha.2 _ (show od_Y T p < pc by omega)).2.2.2.2]
    exact t
/-- a map of program p -/
def od_M (T : od_T) (fl en : Bool) (p : Nat) (G : Int64) : Int64 := od_map T fl en 32 p G
theorem od_M_none (T : od_T) (p s : Nat) : od_b (od_M T true true p (-1)) s = true ↔ od_b (od_M T true false p 0) s = true ∨ od_b (od_M T false true p 0) s = true ∨ ∃ t, t < 64 ∧ od_b (od_M T false false p ((1 : Int64) <<< ((nI t).toInt64 &&& 63))) s = true := by
  have h := od_map_D T 32 p
  have t := h.2.2.2 true true (-1) s
  rw [od_D_one h s] at t
  unfold od_M
  refine t.trans ⟨?_, ?_⟩
  · rintro (z | z | z)
    · exact Or.inr (Or.inr z)
    · exact Or.inl z.2
    · exact Or.inr (Or.inl z.2)
  · rintro (z | z | z)
    · exact Or.inr (Or.inl ⟨rfl, z⟩)
    · exact Or.inr (Or.inr ⟨rfl, z⟩)
    · exact Or.inl z
theorem od_M_01 (T : od_T) (p : Nat) (G : Int64) : od_sub (od_M T true false p G) (od_M T true true p G) := od_D_mE (od_map_D T 32 p) true true G
theorem od_M_2 (T : od_T) (p : Nat) (G : Int64) : od_sub (od_M T false false p G) (od_M T true true p (-1)) := fun s h => (od_map_D T 32 p).1 true true _ _ (od_sub_1 G) s (od_D_in (od_map_D T 32 p) true true G s h)
theorem od_M_0 (T : od_T) (p : Nat) : od_M T true true p 0 = od_M T true false p 0 ||| od_M T false true p 0 := by
  have h := od_map_D T 32 p
  refine od_ext (fun s _ => ?_)
  rw [od_or]
  refine (h.2.2.2 true true 0 s).trans ⟨?_, ?_⟩
  · rintro (z | z | z)
    · exact absurd z (h.2.2.1 s)
    · exact Or.inl z.2
    · exact Or.inr z.2
  · rintro (z | z)
    · exact Or.inr (Or.inl ⟨rfl, z⟩)
    · exact Or.inr (Or.inr ⟨rfl, z⟩)
end
section
theorem od_val_d : ∀ y, y < 3 → ∀ s, s < 64 → (nI s >>> ((2 * nI y) &&& 31)) &&& 3 = nI (s / 4 ^ y % 4) := by decide +kernel
theorem od_to_d : ∀ x, x < 3 → ∀ v, v < 4 → ∀ s, s < 64 → ((nI s &&& (((3 : Int32) <<< ((2 * nI x) &&& 31)) ^^^ (-1))) ||| (nI v <<< ((2 * nI x) &&& 31))) = nI (od_to x v s) := by decide +kernel
theorem od_to_lt : ∀ x, x < 3 → ∀ v, v < 4 → ∀ s, s < 64 → od_to x v s < 64 := by decide +kernel
section
variable {cc pc lv dp : Int32} {st : Int64} {a1 : Nat → Int64} {a2 a3 a4 a5 a6 a7 a8 a9 : Nat → Int32} {a10 a11 : Nat → Int64} {a12 : Nat → Int32} {a13 : Nat → Int64} {a14 : Nat → Int32} {a15 a16 : Nat → Int64}
theorem od_valueIn {post : Int32 → Prop} {u : St1} {s y : Nat} (hs : s < 64) (hy : y ≤ 3) (H : post (nI (od_val s y))) : wpX_valueIn post u (nI s) (nI y) := by
  obtain ⟨ccu, pcu, lvu, dpu, stu, a1u, a2u, a3u, a4u, a5u, a6u, a7u, a8u, a9u, a10u, a11u, a12u, a13u, a14u, a15u, a16u⟩ := u
  unfold wpX_valueIn
  refine pk_eq y 3 (fun e => ?_) (fun e => ?_)
  · subst e
    exact H
  · rw [od_val_d y (by omega) s hs]
    unfold od_val at H
    rw [if_neg e] at H
    exact H
theorem od_setVariable {post : St1 → Prop} {x y z : Nat} (hx : x ≤ 2) (hy : y ≤ 3) (hz : z ≤ 3) (H : post (cc, pc, lv, dp, od_set x y z st, a1, a2, a3, a4, a5, a6, a7, a8, a9, a10, a11, a12, a13, a14, a15, a16)) : wpX_setVariable post (cc, pc, lv, dp, st, a1, a2, a3, a4, a5, a6, a7, a8, a9, a10, a11, a12, a13, a14, a15, a16) (nI x) (nI y) (nI z) := by
  unfold wpX_setVariable
  refine pk_loop (σ := Int64) (fun n i s => wX_setVariable_6 post (nI x) (nI y) (nI z) cc pc lv dp st a1 a2 a3 a4 a5 a6 a7 a8 a9 a10 a11 a12 a13 a14 a15 a16 n s (nI i)) (fun i s => ∀ j, od_b s j = true ↔ j < i ∧ od_b st (od_to x ((od_val j y + z) % 4) j) = true) 64 0 0 (by omega) (fun j => ⟨fun h => absurd h (od_0 j), fun h => absurd h.1 (by omega)⟩) ?_ ?_
  · intro n s h
    refine pk_le 64 64 (fun _ => ?_) (fun z => absurd z (by omega))
    have e : s = od_set x y z st := od_ext (fun j hj => (h j).trans (od_set_b x y z st j).symm)
    rw [e]
    exact H
  · intro n i s hi h hw
    refine pk_le 64 i (fun z => absurd z (by omega)) (fun _ => ?_)
    refine od_valueIn hi hy ?_
    have e1 : (nI (od_val i y) + nI z) &&& 3 = nI ((od_val i y + z) % 4) := by
      have hv : od_val i y < 64 := by
        unfold od_val
        split
        · omega
        · exact Nat.lt_of_lt_of_le (Nat.mod_lt _ (by omega)) (by omega)
      rw [nI_add, pk_andN (by omega) 2 (by decide)]
    have hm : (od_val i y + z) % 4 < 4 := Nat.mod_lt _ (by omega)
    refine nm_r e1 (nm_r (od_to_d x (by omega) _ hm i hi) (nm_e (nm_r (nI_1 i) (hw _ (fun j => ?_)))))
    rw [od_or, h j, od_pick st (od_to_lt x (by omega) _ hm i hi) hi]
    constructor
    · rintro (t | t)
      · exact ⟨by omega, t.2⟩
      · obtain ⟨rfl, t⟩ := t
        exact ⟨by omega, t⟩
    · rintro ⟨t1, t2⟩
      by_cases e : j = i
      · subst e
        exact Or.inr ⟨rfl, t2⟩
      · exact Or.inl ⟨by omega, t2⟩
theorem od_setAny_in {post : St1 → Prop} {J5 : Int64 → Int32 → Prop} {x v : Nat} (hx : x ≤ 2) (hv : v < 4) (r : Int64) (H : ∀ r', (∀ j, od_b r' j = true ↔ od_b r j = true ∨ (j < 64 ∧ od_b st (od_to x v j) = true)) → J5 r' (nI (v + 1))) : ∃ n, wX_setAny_14 post J5 (nI x) (nI v) cc pc lv dp st a1 a2 a3 a4 a5 a6 a7 a8 a9 a10 a11 a12 a13 a14 a15 a16 n r 0 := by
  refine pk_loop (σ := Int64) (fun n i s => wX_setAny_14 post J5 (nI x) (nI v) cc pc lv dp st a1 a2 a3 a4 a5 a6 a7 a8 a9 a10 a11 a12 a13 a14 a15 a16 n s (nI i)) (fun i s => ∀ j, od_b s j = true ↔ od_b r j = true ∨ (j < i ∧ od_b st (od_to x v j) = true)) 64 0 r (by omega) (fun j => ⟨fun h => Or.inl h, fun h => h.elim id (fun z => absurd z.1 (by omega))⟩) ?_ ?_
  · intro n s h
    exact pk_le 64 64 (fun _ => nm_r (nI_1 v) (H s h)) (fun z => absurd z (by omega))
  · intro n i s hi h hw
    refine pk_le 64 i (fun z => absurd z (by omega)) (fun _ => ?_)
    refine nm_r (od_to_d x (by omega) _ hv i hi) (nm_e (nm_r (nI_1 i) (hw _ (fun j => ?_))))
    rw [od_or, h j, od_pick st (od_to_lt x (by omega) _ hv i hi) hi]
    constructor
    · rintro ((t | t) | t)
      · exact Or.inl t
      · exact Or.inr ⟨by omega, t.2⟩
      · obtain ⟨rfl, t⟩ := t
        exact Or.inr ⟨by omega, t⟩
    · rintro (t | ⟨t1, t2⟩)
      · exact Or.inl (Or.inl t)
      · by_cases e : j = i
        · subst e
          exact Or.inr ⟨rfl, t2⟩
        · exact Or.inl (Or.inr ⟨by omega, t2⟩)
theorem od_setAny {post : St1 → Prop} {x : Nat} (hx : x ≤ 2) (H : post (cc, pc, lv, dp, od_any x st, a1, a2, a3, a4, a5, a6, a7, a8, a9, a10, a11, a12, a13, a14, a15, a16)) : wpX_setAny post (cc, pc, lv, dp, st, a1, a2, a3, a4, a5, a6, a7, a8, a9, a10, a11, a12, a13, a14, a15, a16) (nI x) := by
  unfold wpX_setAny
  refine pk_loop (σ := Int64) (fun n i s => wX_setAny_5 post (nI x) cc pc lv dp st a1 a2 a3 a4 a5 a6 a7 a8 a9 a10 a11 a12 a13 a14 a15 a16 n s (nI i)) (fun i s => ∀ j, od_b s j = true ↔ j < 64 ∧ ∃ v, v < i ∧ od_b st (od_to x v j) = true) 4 0 0 (by omega) (fun j => ⟨fun h => absurd h (od_0 j), fun ⟨_, v, h, _⟩ => absurd h (by omega)⟩) ?_ ?_
  · intro n s h
    refine pk_le 4 4 (fun _ => ?_) (fun z => absurd z (by omega))
    have e : s = od_any x st := by
      refine od_ext (fun j hj => ?_)
      rw [h j, od_any_b]
      constructor
      · rintro ⟨t, v, hv, q⟩
        refine ⟨t, ?_⟩
        rcases (show v = 0 ∨ v = 1 ∨ v = 2 ∨ v = 3 by omega) with rfl | rfl | rfl | rfl
        · exact Or.inl q
        · exact Or.inr (Or.inl q)
        · exact Or.inr (Or.inr (Or.inl q))
        · exact Or.inr (Or.inr (Or.inr q))
      · rintro ⟨t, q | q | q | q⟩
        · exact ⟨t, 0, by omega, q⟩
        · exact ⟨t, 1, by omega, q⟩
        · exact ⟨t, 2, by omega, q⟩
        · exact ⟨t, 3, by omega, q⟩
    rw [e]
    exact H
  · intro n i s hi h hw
    refine pk_le 4 i (fun z => absurd z (by omega)) (fun _ => ?_)
    refine od_setAny_in hx hi s (fun r' hr => hw r' (fun j => ?_))
    rw [hr j, h j]
    constructor
    · rintro (⟨t, v, hv, q⟩ | ⟨t, q⟩)
      · exact ⟨t, v, by omega, q⟩
      · exact ⟨t, i, by omega, q⟩
    · rintro ⟨t, v, hv, q⟩
      by_cases e : v = i
      · subst e
        exact Or.inr ⟨t, q⟩
      · exact Or.inl ⟨t, v, by omega, q⟩
end
/-- a table of small numbers as an array holds it -/
def od_i (K : Nat → Nat) : Nat → Int32 := fun j => nI (K j)
theorem od_i_at (K : Nat → Nat) {p : Nat} (h : p < 2 ^ 31) : od_i K (nI p).toNatClampNeg = nI (K p) := by
  rw [nI_clamp h]
  rfl
/-- how a map is meant -/
def od_m (fl en : Bool) : Int32 := nI ((if fl = true then 1 else 0) + (if en = true then 2 else 0))
theorem od_m_1 (fl en : Bool) : (od_m fl en &&& 1) = 0 ↔ fl = false := by
  cases fl <;> cases en <;> decide
theorem od_m_2 (fl en : Bool) : (od_m fl en &&& 2) = 0 ↔ en = false := by
  cases fl <;> cases en <;> decide
section
variable {T : od_T} {cc pc : Nat} {lv dp : Int32} {st : Int64} {a7 a8 a9 : Nat → Int32} {a10 a11 : Nat → Int64} {a12 : Nat → Int32} {a13 : Nat → Int64} {a14 : Nat → Int32} {a15 a16 : Nat → Int64}
theorem od_workOut_11 {post : St1 → Prop} {fl en : Bool} {p f : Nat} {z0 : Int32} (hw : od_wf1 T cc p) (hp : p < 32) (hc : cc ≤ 24) (hk : od_K T p ≤ 5) (hz : z0 = 0 ↔ fl = false) (H : post (nI cc, nI pc, lv, dp, od_map T fl en (f + 1) p st, od_W T, od_i (od_K T), od_i (od_X T), od_i (od_Y T), od_i (od_Z T), od_i (od_V T), a7, a8, a9, a10, a11, a12, a13, a14, a15, a16)) : wX_workOut_11 post (nI p) (nI (od_K T p)) z0 (nI cc) (nI pc) lv dp st (od_W T) (od_i (od_K T)) (od_i (od_X T)) (od_i (od_Y T)) (od_i (od_Z T)) (od_i (od_V T)) a7 a8 a9 a10 a11 a12 a13 a14 a15 a16 := by
  obtain ⟨w1, w2, w3, w4, w5, w6, w7, w8, w9⟩ := hw
  unfold wX_workOut_11
  refine ⟨pk_in p 32 hp, nm_r (od_i_at _ (by omega)) ?_⟩
  refine pk_eq (od_K T p) 1 (fun k => ?_) (fun k1 => pk_eq (od_K T p) 4 (fun k => ?_) (fun k4 => pk_eq (od_K T p) 5 (fun k => ?_) (fun k5 => pk_eq (od_K T p) 2 (fun k => ?_) (fun k2 => pk_eq (od_K T p) 3 (fun k => ?_) (fun k3 => ?_)))))
  · rw [od_map_1 k] at H
    refine br_c (fun h => ?_) (fun h => ?_)
    · rw [hz.mp h] at H
      exact H
    · have h : fl = true := by
        cases fl with
        | false => exact absurd (hz.mpr rfl) h
        | true => rfl
      rw [h] at H
      exact H
  · rw [od_map_4 k] at H
    have hx := w6 (by omega)
    refine ⟨pk_in _ 24 (show od_X T p < 24 by omega), nm_r (by rw [nI_clamp (show od_X T p < 2 ^ 31 by omega)]) H⟩
  · rw [od_map_5 k] at H
    have hx := w6 (by omega)
    have e : od_W T (nI (od_X T p)).toNatClampNeg = od_W T (od_X T p) := by rw [nI_clamp (show od_X T p < 2 ^ 31 by omega)]
    refine ⟨pk_in _ 24 (show od_X T p < 24 by omega), ?_⟩
    rw [e]
    refine br_c (fun h => ?_) (fun h => ?_)
    · rw [hz.mp h] at H
      exact nm_e H
    · have h : fl = true := by
        cases fl with
        | false => exact absurd (hz.mpr rfl) h
        | true => rfl
      rw [h] at H
      exact ⟨pk_in _ 24 (show od_X T p < 24 by omega), nm_e H⟩
  · rw [od_map_2 k] at H
    obtain ⟨hx, hy, hz⟩ := w4 k
    refine ⟨pk_in p 32 hp, pk_in p 32 hp, ?_⟩
    rw [od_i_at _ (show p < 2 ^ 31 by omega), od_i_at _ (show p < 2 ^ 31 by omega)]
    exact od_setVariable hx hy hz H
  · rw [od_map_3 k] at H
    exact od_setAny (w5 k) H
  · rw [od_map_0 (by omega)] at H
    exact H
theorem od_workOut {post : St1 → Prop} {fl en : Bool} {p f : Nat} (hw : od_wf1 T cc p) (hp : p < 32) (hc : cc ≤ 24) (hk : od_K T p ≤ 5) (H : post (nI cc, nI pc, lv, dp, od_map T fl en (f + 1) p st, od_W T, od_i (od_K T), od_i (od_X T), od_i (od_Y T), od_i (od_Z T), od_i (od_V T), a7, a8, a9, a10, a11, a12, a13, a14, a15, a16)) : wpX_workOut post (nI cc, nI pc, lv, dp, st, od_W T, od_i (od_K T), od_i (od_X T), od_i (od_Y T), od_i (od_Z T), od_i (od_V T), a7, a8, a9, a10, a11, a12, a13, a14, a15, a16) (nI p) (nI (od_K T p)) (od_m fl en) := by
  unfold wpX_workOut
  refine br_c (fun h => ?_) (fun h => ?_)
  · exact od_workOut_11 hw hp hc hk ⟨fun _ => (od_m_1 fl en).mp h, fun _ => rfl⟩ H
  · exact od_workOut_11 hw hp hc hk ⟨fun z => absurd z (by decide), fun z => absurd ((od_m_1 fl en).mpr z) h⟩ H
end
end
section
theorem od_b8 : ∀ n, n < 128 → (nI n).toInt8.toInt32 = nI n := by decide +kernel
theorem od_b8s : ∀ n, n < 127 → ((nI n) + 1).toInt8.toInt32 = nI (n + 1) := by decide +kernel
/-- the first and the second part of a branching program, and how they are joined -/
def od_f1 (T : od_T) (p : Nat) : Nat := if od_K T p = 7 then od_Y T p else od_X T p
def od_f2 (T : od_T) (p : Nat) : Nat := if od_K T p = 7 then od_Z T p else od_Y T p
def od_cmb (T : od_T) (p : Nat) (A B : Int64) : Int64 := if od_K T p = 7 then od_mix (od_W T (od_X T p)) A B else B ||| A
theorem od_map_78 {T : od_T} {p : Nat} (h : od_K T p = 7 ∨ od_K T p = 8) (fl en : Bool) (f : Nat) (G : Int64) : od_map T fl en (f + 1) p G = od_cmb T p (od_map T fl en f (od_f1 T p) G) (od_map T fl en f (od_f2 T p) G) := by
  unfold od_cmb od_f1 od_f2
  rcases h with h | h
  · rw [od_map_7 h, if_pos h, if_pos h, if_pos h]
  · rw [od_map_8 h, if_neg (by omega), if_neg (by omega), if_neg (by omega)]
theorem od_wf_78 {T : od_T} {cc p : Nat} (hw : od_wf1 T cc p) (h : od_K T p = 7 ∨ od_K T p = 8) : od_f1 T p < p ∧ od_f2 T p < p ∧ od_V T p = 1 + od_V T (od_f1 T p) + od_V T (od_f2 T p) := by
  obtain ⟨w1, w2, w3, w4, w5, w6, w7, w8, w9⟩ := hw
  unfold od_f1 od_f2
  rcases h with h | h
  · rw [if_pos h, if_pos h]
    exact w8 h
  · rw [if_neg (by omega), if_neg (by omega)]
    exact w7 (by omega)
theorem od_at {α : Type} {g : Nat → α} {d : Nat} {y : α} (h : g d = y) (hd : d < 24) : g (nI d).toNatClampNeg = y := by
  rw [nI_clamp (by omega)]
  exact h
theorem od_u8 {a8 : Nat → Int32} {d ph : Nat} (h : a8 d = nI ph) (hd : d < 24) (hp : ph < 127) : upd a8 (nI d).toNatClampNeg ((a8 (nI d).toNatClampNeg + 1).toInt8.toInt32) = upd a8 d (nI (ph + 1)) := by
  rw [nI_clamp (by omega), h, od_b8s ph hp]
section
variable {cc pc lv dp : Int32} {st : Int64} {a1 : Nat → Int64} {a2 a3 a4 a5 a6 a7 a8 a9 : Nat → Int32} {a10 a11 : Nat → Int64} {a12 : Nat → Int32} {a13 : Nat → Int64} {a14 : Nat → Int32} {a15 a16 : Nat → Int64}
theorem od_enter {post : St1 → Prop} {x y D : Int32} (d q m : Nat) (hd : d < 24) (hq : q < 128) (hm : m < 128) (hD : D = nI d) (hx : x = nI q) (hy : y = nI m) (H : post (cc, pc, lv, nI (d + 1), st, a1, a2, a3, a4, a5, a6, upd a7 d (nI q), upd a8 d 0, upd a9 d (nI m), vp_updL a10 d st, a11, a12, a13, a14, a15, a16)) : wpX_enter post (cc, pc, lv, D, st, a1, a2, a3, a4, a5, a6, a7, a8, a9, a10, a11, a12, a13, a14, a15, a16) x y := by
  subst hD hx hy
  unfold wpX_enter
  have c : (nI d).toNatClampNeg = d := nI_clamp (by omega)
  exact ⟨pk_in d 24 hd, nm_r (by rw [c, od_b8 q hq]) ⟨pk_in d 24 hd, nm_r (by rw [c, od_b8 m hm]) ⟨pk_in d 24 hd, nm_r (by rw [c]) ⟨pk_in d 24 hd, nm_r (by rw [c]) (nm_r (nI_1 d) H)⟩⟩⟩⟩
end
section
variable {T : od_T} {cc pc : Nat} {lv dp : Int32} {st : Int64} {a7 a8 a9 : Nat → Int32} {a10 a11 : Nat → Int64} {a12 : Nat → Int32} {a13 : Nat → Int64} {a14 : Nat → Int32} {a15 a16 : Nat → Int64}
theorem od_s_leaf {post : St1 → Prop} {fl en : Bool} {p f d ph : Nat} (hw : od_wf1 T cc p) (hp : p < 32) (hc : cc ≤ 24) (hk : od_K T p ≤ 5) (hd : d < 24) (hph : ph < 127) (h7 : a7 d = nI p) (h8 : a8 d = nI ph) (H : post (nI cc, nI pc, lv, nI d, od_map T fl en (f + 1) p st, od_W T, od_i (od_K T), od_i (od_X T), od_i (od_Y T), od_i (od_Z T), od_i (od_V T), a7, upd a8 d (nI (ph + 1)), a9, a10, a11, a12, a13, a14, a15, a16)) : wpX_step post (nI cc, nI pc, lv, nI (d + 1), st, od_W T, od_i (od_K T), od_i (od_X T), od_i (od_Y T), od_i (od_Z T), od_i (od_V T), a7, a8, a9, a10, a11, a12, a13, a14, a15, a16) (od_m fl en) := by
  unfold wpX_step
  refine nm_r (nI_pred d) ⟨pk_in d 24 hd, nm_r (od_at h7 hd) ⟨pk_in p 32 hp, nm_r (od_i_at _ (by omega)) ⟨pk_in d 24 hd, nm_r (od_at h8 hd) ⟨pk_in d 24 hd, pk_in d 24 hd, nm_r (od_u8 h8 hd hph) ?_⟩⟩⟩⟩
  refine pk_le 6 (od_K T p) (fun z => absurd z (by omega)) (fun _ => nm_r (nI_pred d) ?_)
  exact od_workOut hw hp hc hk H
theorem od_s_then0 {post : St1 → Prop} {m : Int32} {p d n : Nat} (hw : od_wf1 T cc p) (hp : p < 32) (hk : od_K T p = 6) (hd : d + 1 < 24) (hn : n + od_V T p ≤ 20) (h7 : a7 d = nI p) (h8 : a8 d = nI 0) (h9 : a9 d = nI n) (H : post (nI cc, nI pc, lv, nI (d + 2), st, od_W T, od_i (od_K T), od_i (od_X T), od_i (od_Y T), od_i (od_Z T), od_i (od_V T), upd a7 (d + 1) (nI (od_Y T p)), upd (upd a8 d (nI 1)) (d + 1) 0, upd a9 (d + 1) (nI (n + 1 + od_V T (od_X T p))), vp_updL a10 (d + 1) st, a11, a12, a13, a14, a15, a16)) : wpX_step post (nI cc, nI pc, lv, nI (d + 1), st, od_W T, od_i (od_K T), od_i (od_X T), od_i (od_Y T), od_i (od_Z T), od_i (od_V T), a7, a8, a9, a10, a11, a12, a13, a14, a15, a16) m := by
  obtain ⟨w1, w2, w3, w4, w5, w6, w7, w8, w9⟩ := hw
  have t := w7 (Or.inl hk)
  unfold wpX_step
  refine nm_r (nI_pred d) ⟨pk_in d 24 (by omega), nm_r (od_at h7 (by omega)) ⟨pk_in p 32 hp, nm_r (od_i_at _ (by omega)) ⟨pk_in d 24 (by omega), nm_r (od_at h8 (by omega)) ⟨pk_in d 24 (by omega), pk_in d 24 (by omega), nm_r (od_u8 h8 (by omega) (by omega)) ?_⟩⟩⟩⟩
  refine pk_le 6 (od_K T p) (fun _ => pk_eq (od_K T p) 6 (fun _ => pk_eq 0 0 (fun _ => ?_) (fun z => absurd rfl z)) (fun z => absurd hk z)) (fun z => absurd z (by omega))
  have eX : od_i (od_X T) (nI p).toNatClampNeg = nI (od_X T p) := od_i_at _ (by omega)
  refine ⟨pk_in p 32 hp, pk_in d 24 (by omega), pk_in p 32 hp, pk_in (od_X T p) 32 (by omega) eX, ?_⟩
  refine od_enter (d + 1) (od_Y T p) (n + 1 + od_V T (od_X T p)) hd (by omega) (by omega) rfl (od_i_at _ (by omega)) ?_ H
  rw [eX, od_i_at _ (by omega), od_at h9 (by omega), nI_1, nI_add]
theorem od_s_then1 {post : St1 → Prop} {m : Int32} {p d n : Nat} (hw : od_wf1 T cc p) (hp : p < 32) (hk : od_K T p = 6) (hd : d + 1 < 24) (hn : n + od_V T p ≤ 20) (h7 : a7 d = nI p) (h8 : a8 d = nI 1) (h9 : a9 d = nI n) (H : post (nI cc, nI pc, lv, nI (d + 2), st, od_W T, od_i (od_K T), od_i (od_X T), od_i (od_Y T), od_i (od_Z T), od_i (od_V T), upd a7 (d + 1) (nI (od_X T p)), upd (upd a8 d (nI 2)) (d + 1) 0, upd a9 (d + 1) (nI (n + 1)), vp_updL a10 (d + 1) st, a11, a12, a13, a14, a15, a16)) : wpX_step post (nI cc, nI pc, lv, nI (d + 1), st, od_W T, od_i (od_K T), od_i (od_X T), od_i (od_Y T), od_i (od_Z T), od_i (od_V T), a7, a8, a9, a10, a11, a12, a13, a14, a15, a16) m := by
  obtain ⟨w1, w2, w3, w4, w5, w6, w7, w8, w9⟩ := hw
  have t := w7 (Or.inl hk)
  unfold wpX_step
  refine nm_r (nI_pred d) ⟨pk_in d 24 (by omega), nm_r (od_at h7 (by omega)) ⟨pk_in p 32 hp, nm_r (od_i_at _ (by omega)) ⟨pk_in d 24 (by omega), nm_r (od_at h8 (by omega)) ⟨pk_in d 24 (by omega), pk_in d 24 (by omega), nm_r (od_u8 h8 (by omega) (by omega)) ?_⟩⟩⟩⟩
  refine pk_le 6 (od_K T p) (fun _ => pk_eq (od_K T p) 6 (fun _ => pk_eq 1 0 (fun z => absurd z (by omega)) (fun _ => pk_eq 1 1 (fun _ => ?_) (fun z => absurd rfl z))) (fun z => absurd hk z)) (fun z => absurd z (by omega))
  refine ⟨pk_in p 32 hp, pk_in d 24 (by omega), ?_⟩
  refine od_enter (d + 1) (od_X T p) (n + 1) hd (by omega) (by omega) rfl (od_i_at _ (by omega)) ?_ H
  rw [od_at h9 (by omega), nI_1]
theorem od_s_then2 {post : St1 → Prop} {m : Int32} {p d : Nat} (hp : p < 32) (hk : od_K T p = 6) (hd : d < 24) (h7 : a7 d = nI p) (h8 : a8 d = nI 2) (H : post (nI cc, nI pc, lv, nI d, st, od_W T, od_i (od_K T), od_i (od_X T), od_i (od_Y T), od_i (od_Z T), od_i (od_V T), a7, upd a8 d (nI 3), a9, a10, a11, a12, a13, a14, a15, a16)) : wpX_step post (nI cc, nI pc, lv, nI (d + 1), st, od_W T, od_i (od_K T), od_i (od_X T), od_i (od_Y T), od_i (od_Z T), od_i (od_V T), a7, a8, a9, a10, a11, a12, a13, a14, a15, a16) m := by
  unfold wpX_step
  refine nm_r (nI_pred d) ⟨pk_in d 24 (by omega), nm_r (od_at h7 (by omega)) ⟨pk_in p 32 hp, nm_r (od_i_at _ (by omega)) ⟨pk_in d 24 (by omega), nm_r (od_at h8 (by omega)) ⟨pk_in d 24 (by omega), pk_in d 24 (by omega), nm_r (od_u8 h8 (by omega) (by omega)) ?_⟩⟩⟩⟩
  exact pk_le 6 (od_K T p) (fun _ => pk_eq (od_K T p) 6 (fun _ => pk_eq 2 0 (fun z => absurd z (by omega)) (fun _ => pk_eq 2 1 (fun z => absurd z (by omega)) (fun _ => nm_r (nI_pred d) H))) (fun z => absurd hk z)) (fun z => absurd z (by omega))
theorem od_s_br {post : St1 → Prop} {m : Int32} {p d ph : Nat} (hp : p < 32) (hk : od_K T p = 7 ∨ od_K T p = 8) (hd : d < 24) (hph : ph < 127) (h7 : a7 d = nI p) (h8 : a8 d = nI ph) (H : wX_stepBranches_21 post (nI d) (nI p) (nI (od_K T p)) (nI ph) (nI (od_f1 T p)) (nI cc) (nI pc) lv (nI (d + 1)) st (od_W T) (od_i (od_K T)) (od_i (od_X T)) (od_i (od_Y T)) (od_i (od_Z T)) (od_i (od_V T)) a7 (upd a8 d (nI (ph + 1))) a9 a10 a11 a12 a13 a14 a15 a16) : wpX_step post (nI cc, nI pc, lv, nI (d + 1), st, od_W T, od_i (od_K T), od_i (od_X T), od_i (od_Y T), od_i (od_Z T), od_i (od_V T), a7, a8, a9, a10, a11, a12, a13, a14, a15, a16) m := by
  unfold wpX_step
  refine nm_r (nI_pred d) ⟨pk_in d 24 (by omega), nm_r (od_at h7 (by omega)) ⟨pk_in p 32 hp, nm_r (od_i_at _ (by omega)) ⟨pk_in d 24 (by omega), nm_r (od_at h8 (by omega)) ⟨pk_in d 24 (by omega), pk_in d 24 (by omega), nm_r (od_u8 h8 (by omega) (by omega)) ?_⟩⟩⟩⟩
  refine pk_le 6 (od_K T p) (fun _ => pk_eq (od_K T p) 6 (fun z => absurd z (by omega)) (fun _ => pk_eq (od_K T p) 9 (fun z => absurd z (by omega)) (fun _ => ?_))) (fun z => absurd z (by omega))
  unfold wpX_stepBranches
  refine pk_eq (od_K T p) 7 (fun k => ⟨pk_in p 32 hp, ?_⟩) (fun k => ⟨pk_in p 32 hp, ?_⟩)
  · rw [od_i_at _ (show p < 2 ^ 31 by omega)]
    unfold od_f1 at H
    rw [if_pos k] at H
    exact H
  · rw [od_i_at _ (show p < 2 ^ 31 by omega)]
    unfold od_f1 at H
    rw [if_neg k] at H
    exact H
theorem od_s_br0 {post : St1 → Prop} {m : Int32} {p d n : Nat} (hw : od_wf1 T cc p) (hp : p < 32) (hk : od_K T p = 7 ∨ od_K T p = 8) (hd : d + 1 < 24) (hn : n + od_V T p ≤ 20) (h7 : a7 d = nI p) (h8 : a8 d = nI 0) (h9 : a9 d = nI n) (H : post (nI cc, nI pc, lv, nI (d + 2), st, od_W T, od_i (od_K T), od_i (od_X T), od_i (od_Y T), od_i (od_Z T), od_i (od_V T), upd a7 (d + 1) (nI (od_f1 T p)), upd (upd a8 d (nI 1)) (d + 1) 0, upd a9 (d + 1) (nI (n + 1)), vp_updL a10 (d + 1) st, a11, a12, a13, a14, a15, a16)) : wpX_step post (nI cc, nI pc, lv, nI (d + 1), st, od_W T, od_i (od_K T), od_i (od_X T), od_i (od_Y T), od_i (od_Z T), od_i (od_V T), a7, a8, a9, a10, a11, a12, a13, a14, a15, a16) m := by
  have t := od_wf_78 hw hk
  refine od_s_br hp hk (by omega) (by omega) h7 h8 ?_
  unfold wX_stepBranches_21
  refine pk_eq 0 0 (fun _ => ⟨pk_in d 24 (by omega), ?_⟩) (fun z => absurd rfl z)
  refine od_enter (d + 1) (od_f1 T p) (n + 1) hd (by omega) (by omega) rfl rfl ?_ H
  rw [od_at h9 (by omega), nI_1]
theorem od_s_br1 {post : St1 → Prop} {m : Int32} {p d n : Nat} {G : Int64} (hw : od_wf1 T cc p) (hp : p < 32) (hk : od_K T p = 7 ∨ od_K T p = 8) (hd : d + 1 < 24) (hn : n + od_V T p ≤ 20) (h7 : a7 d = nI p) (h8 : a8 d = nI 1) (h9 : a9 d = nI n) (h10 : a10 d = G) (H : post (nI cc, nI pc, lv, nI (d + 2), G, od_W T, od_i (od_K T), od_i (od_X T), od_i (od_Y T), od_i (od_Z T), od_i (od_V T), upd a7 (d + 1) (nI (od_f2 T p)), upd (upd a8 d (nI 2)) (d + 1) 0, upd a9 (d + 1) (nI (n + 1 + od_V T (od_f1 T p))), vp_updL a10 (d + 1) G, vp_updL a11 d st, a12, a13, a14, a15, a16)) : wpX_step post (nI cc, nI pc, lv, nI (d + 1), st, od_W T, od_i (od_K T), od_i (od_X T), od_i (od_Y T), od_i (od_Z T), od_i (od_V T), a7, a8, a9, a10, a11, a12, a13, a14, a15, a16) m := by
  have t := od_wf_78 hw hk
  have hv : 1 ≤ od_V T p := hw.2.1
  refine od_s_br hp hk (by omega) (by omega) h7 h8 ?_
  unfold wX_stepBranches_21
  refine pk_eq 1 0 (fun z => absurd z (by omega)) (fun _ => pk_eq 1 1 (fun _ => ⟨pk_in d 24 (by omega), nm_r (by rw [nI_clamp (show d < 2 ^ 31 by omega)]) ⟨pk_in d 24 (by omega), nm_r (od_at h10 (by omega)) ?_⟩⟩) (fun z => absurd rfl z))
  refine pk_eq (od_K T p) 7 (fun k => ⟨pk_in p 32 hp, ?_⟩) (fun k => ⟨pk_in p 32 hp, ?_⟩)
  · unfold wX_stepBranches_91
    refine ⟨pk_in d 24 (by omega), pk_in _ 32 (show od_f1 T p < 32 by omega), ?_⟩
    refine od_enter (d + 1) (od_f2 T p) (n + 1 + od_V T (od_f1 T p)) hd (by omega) (by omega) rfl ?_ ?_ H
    · rw [od_i_at _ (by omega)]
      unfold od_f2
      rw [if_pos k]
    · rw [od_at h9 (by omega), od_i_at _ (by omega), nI_1, nI_add]
  · unfold wX_stepBranches_91
    refine ⟨pk_in d 24 (by omega), pk_in _ 32 (show od_f1 T p < 32 by omega), ?_⟩
    refine od_enter (d + 1) (od_f2 T p) (n + 1 + od_V T (od_f1 T p)) hd (by omega) (by omega) rfl ?_ ?_ H
    · rw [od_i_at _ (by omega)]
      unfold od_f2
      rw [if_neg k]
    · rw [od_at h9 (by omega), od_i_at _ (by omega), nI_1, nI_add]
theorem od_s_br2 {post : St1 → Prop} {m : Int32} {p d : Nat} {A : Int64} (hw : od_wf1 T cc p) (hp : p < 32) (hc : cc ≤ 24) (hk : od_K T p = 7 ∨ od_K T p = 8) (hd : d < 24) (h7 : a7 d = nI p) (h8 : a8 d = nI 2) (h11 : a11 d = A) (H : post (nI cc, nI pc, lv, nI d, od_cmb T p A st, od_W T, od_i (od_K T), od_i (od_X T), od_i (od_Y T), od_i (od_Z T), od_i (od_V T), a7, upd a8 d (nI 3), a9, a10, a11, a12, a13, a14, a15, a16)) : wpX_step post (nI cc, nI pc, lv, nI (d + 1), st, od_W T, od_i (od_K T), od_i (od_X T), od_i (od_Y T), od_i (od_Z T), od_i (od_V T), a7, a8, a9, a10, a11, a12, a13, a14, a15, a16) m := by
  obtain ⟨w1, w2, w3, w4, w5, w6, w7, w8, w9⟩ := hw
  refine od_s_br hp hk (by omega) (by omega) h7 h8 ?_
  unfold wX_stepBranches_21
  refine pk_eq 2 0 (fun z => absurd z (by omega)) (fun _ => pk_eq 2 1 (fun z => absurd z (by omega)) (fun _ => nm_r (nI_pred d) ?_))
  refine pk_eq (od_K T p) 8 (fun k => ⟨pk_in d 24 hd, nm_r ?_ H⟩) (fun k => ?_)
  · rw [od_at h11 hd]
    unfold od_cmb
    rw [if_neg (by omega)]
  · have hx := w6 (by omega)
    have eX : od_i (od_X T) (nI p).toNatClampNeg = nI (od_X T p) := od_i_at _ (by omega)
    refine ⟨pk_in p 32 hp, pk_in (od_X T p) 24 (by omega) eX, pk_in d 24 hd, pk_in p 32 hp, pk_in (od_X T p) 24 (by omega) eX, nm_r ?_ H⟩
    rw [eX, nI_clamp (show od_X T p < 2 ^ 31 by omega), od_at h11 hd]
    unfold od_cmb
    rw [if_pos (by omega)]
    rfl
theorem od_s_wh {post : St1 → Prop} {m : Int32} {p d ph : Nat} (hp : p < 32) (hk : od_K T p = 9) (hd : d < 24) (hph : ph < 127) (h7 : a7 d = nI p) (h8 : a8 d = nI ph) (H : ∀ P : St1 → Prop, (∀ u, P u ↔ post u) → wpX_goRound P (nI cc, nI pc, lv, nI (d + 1), st, od_W T, od_i (od_K T), od_i (od_X T), od_i (od_Y T), od_i (od_Z T), od_i (od_V T), a7, upd a8 d (nI (ph + 1)), a9, a10, a11, a12, a13, a14, a15, a16) (nI d) (nI p) (nI ph) m) : wpX_step post (nI cc, nI pc, lv, nI (d + 1), st, od_W T, od_i (od_K T), od_i (od_X T), od_i (od_Y T), od_i (od_Z T), od_i (od_V T), a7, a8, a9, a10, a11, a12, a13, a14, a15, a16) m := by
  unfold wpX_step
  refine nm_r (nI_pred d) ⟨pk_in d 24 (by omega), nm_r (od_at h7 (by omega)) ⟨pk_in p 32 hp, nm_r (od_i_at _ (by omega)) ⟨pk_in d 24 (by omega), nm_r (od_at h8 (by omega)) ⟨pk_in d 24 (by omega), pk_in d 24 (by omega), nm_r (od_u8 h8 (by omega) (by omega)) ?_⟩⟩⟩⟩
  refine pk_le 6 (od_K T p) (fun _ => pk_eq (od_K T p) 6 (fun z => absurd z (by omega)) (fun _ => pk_eq (od_K T p) 9 (fun _ => ?_) (fun z => absurd hk z))) (fun z => absurd z (by omega))
  exact H _ (fun u => Iff.rfl)
theorem od_g_156 {post : St1 → Prop} {p d n : Nat} {c : Int64} (hy : od_Y T p < 32) (hp : p < 32) (hd : d + 1 < 24) (hn : n + 1 < 24) (h11 : a11 d = c) (H : post (nI cc, nI pc, lv, nI (d + 2), c, od_W T, od_i (od_K T), od_i (od_X T), od_i (od_Y T), od_i (od_Z T), od_i (od_V T), upd a7 (d + 1) (nI (od_Y T p)), upd a8 (d + 1) 0, upd a9 (d + 1) (nI (n + 1)), vp_updL a10 (d + 1) c, a11, a12, a13, a14, a15, a16)) : wX_goRound_156 post (nI d) (nI p) (nI n) (nI cc) (nI pc) lv (nI (d + 1)) st (od_W T) (od_i (od_K T)) (od_i (od_X T)) (od_i (od_Y T)) (od_i (od_Z T)) (od_i (od_V T)) a7 a8 a9 a10 a11 a12 a13 a14 a15 a16 := by
  unfold wX_goRound_156
  refine ⟨pk_in d 24 (by omega), nm_r (od_at h11 (by omega)) ⟨pk_in p 32 hp, ?_⟩⟩
  exact od_enter (d + 1) (od_Y T p) (n + 1) hd (by omega) (by omega) rfl (od_i_at _ (by omega)) (nI_1 n) H
theorem od_g_56 {post : St1 → Prop} {p d n : Nat} {c : Int64} (hy : od_Y T p < 32) (hp : p < 32) (hd : d + 1 < 24) (hn : n + 1 < 24) (h13 : a13 n = c) (H : post (nI cc, nI pc, lv, nI (d + 2), c, od_W T, od_i (od_K T), od_i (od_X T), od_i (od_Y T), od_i (od_Z T), od_i (od_V T), upd a7 (d + 1) (nI (od_Y T p)), upd a8 (d + 1) 0, upd a9 (d + 1) (nI (n + 1)), vp_updL a10 (d + 1) c, vp_updL a11 d c, upd a12 n 1, a13, a14, a15, a16)) : wX_goRound_56 post (nI d) (nI p) (nI n) (nI cc) (nI pc) lv (nI (d + 1)) st (od_W T) (od_i (od_K T)) (od_i (od_X T)) (od_i (od_Y T)) (od_i (od_Z T)) (od_i (od_V T)) a7 a8 a9 a10 a11 a12 a13 a14 a15 a16 := by
  unfold wX_goRound_56
  refine ⟨pk_in n 24 (by omega), nm_r (by rw [nI_clamp (show n < 2 ^ 31 by omega)]) ⟨pk_in n 24 (by omega), pk_in d 24 (by omega), nm_r (by rw [nI_clamp (show d < 2 ^ 31 by omega), od_at h13 (by omega)]) ?_⟩⟩
  exact od_g_156 hy hp hd hn pk_uLs H
/-- where a loop goes on from -/
def od_cur (en : Bool) (b : Int32) (r : Int64) : Int64 := if b = 0 then od_bot en else r
def od_r0 (en : Bool) (b : Int32) (r : Nat → Int64) (n : Nat) : Nat → Int64 := if b = 0 then vp_updL r n (od_bot en) else r
theorem od_r0_s (en : Bool) (b : Int32) (r : Nat → Int64) (n : Nat) : od_r0 en b r n n = od_cur en b (r n) := by
  unfold od_r0 od_cur
  by_cases h : b = 0
  · rw [if_pos h, if_pos h, pk_uLs]
  · rw [if_neg h, if_neg h]
theorem od_r0_n (en : Bool) (b : Int32) (r : Nat → Int64) {n j : Nat} (hj : j ≠ n) : od_r0 en b r n j = r j := by
  unfold od_r0
  by_cases h : b = 0
  · rw [if_pos h, pk_uLn hj]
  · rw [if_neg h]
theorem od_s_wh0 {post : St1 → Prop} {fl en : Bool} {p d n : Nat} (hw : od_wf1 T cc p) (hp : p < 32) (hc : cc ≤ 24) (hk : od_K T p = 9) (hd : d + 1 < 24) (hn : n + od_V T p ≤ 20) (h7 : a7 d = nI p) (h8 : a8 d = nI 0) (h9 : a9 d = nI n) (H : post (nI cc, nI pc, lv, nI (d + 2), od_cur en (a12 n) (a13 n), od_W T, od_i (od_K T), od_i (od_X T), od_i (od_Y T), od_i (od_Z T), od_i (od_V T), upd a7 (d + 1) (nI (od_Y T p)), upd (upd a8 d (nI 1)) (d + 1) 0, upd a9 (d + 1) (nI (n + 1)), vp_updL a10 (d + 1) (od_cur en (a12 n) (a13 n)), vp_updL a11 d (od_cur en (a12 n) (a13 n)), upd a12 n 1, od_r0 en (a12 n) a13 n, a14, a15, a16)) : wpX_step post (nI cc, nI pc, lv, nI (d + 1), st, od_W T, od_i (od_K T), od_i (od_X T), od_i (od_Y T), od_i (od_Z T), od_i (od_V T), a7, a8, a9, a10, a11, a12, a13, a14, a15, a16) (od_m fl en) := by
  obtain ⟨w1, w2, w3, w4, w5, w6, w7, w8, w9⟩ := hw
  have hx := w6 (by omega)
  have t := w9 hk
  have eX : od_i (od_X T) (nI p).toNatClampNeg = nI (od_X T p) := od_i_at _ (by omega)
  refine od_s_wh hp hk (by omega) (by omega) h7 h8 (fun P hP => ?_)
  unfold wpX_goRound
  refine ⟨pk_in p 32 hp, pk_in (od_X T p) 24 (by omega) eX, nm_e ⟨pk_in d 24 (by omega), nm_r (od_at h9 (by omega)) ?_⟩⟩
  refine pk_eq 0 0 (fun _ => ⟨pk_in n 24 (by omega), ?_⟩) (fun z => absurd rfl z)
  rw [nI_clamp (show n < 2 ^ 31 by omega)]
  unfold od_cur od_r0 at H
  refine br_c (fun h => ?_) (fun h => ?_)
  · rw [if_pos h, if_pos h] at H
    refine br_c (fun g => ?_) (fun g => ?_)
    · have e : en = false := (od_m_2 fl en).mp g
      subst e
      unfold wX_goRound_55
      refine ⟨pk_in n 24 (by omega), nm_r (by rw [nI_clamp (show n < 2 ^ 31 by omega)]) ?_⟩
      exact od_g_56 (by omega) hp hd (by omega) pk_uLs ((hP _).mpr H)
    · have e : en = true := by
        cases en with
        | false => exact absurd ((od_m_2 fl false).mpr rfl) g
        | true => rfl
      subst e
      unfold wX_goRound_55
      refine ⟨pk_in n 24 (by omega), nm_r (by rw [nI_clamp (show n < 2 ^ 31 by omega)]) ?_⟩
      exact od_g_56 (by omega) hp hd (by omega) pk_uLs ((hP _).mpr H)
  · rw [if_neg h, if_neg h] at H
    exact od_g_56 (by omega) hp hd (by omega) rfl ((hP _).mpr H)
theorem od_s_wh1 {post : St1 → Prop} {m : Int32} {p d n : Nat} {c G : Int64} (hw : od_wf1 T cc p) (hp : p < 32) (hc : cc ≤ 24) (hk : od_K T p = 9) (hd : d + 1 < 24) (hn : n + od_V T p ≤ 20) (h7 : a7 d = nI p) (h8 : a8 d = nI 1) (h9 : a9 d = nI n) (h10 : a10 d = G) (h11 : a11 d = c)
    (H1 : od_mix (od_W T (od_X T p)) st G = c → post (nI cc, nI pc, lv, nI d, c, od_W T, od_i (od_K T), od_i (od_X T), od_i (od_Y T), od_i (od_Z T), od_i (od_V T), a7, upd a8 d (nI 2), a9, a10, a11, a12, a13, a14, a15, a16))
    (H2 : ∀ c', c' = od_mix (od_W T (od_X T p)) st G → c' ≠ c → post (nI cc, nI pc, lv, nI (d + 2), c', od_W T, od_i (od_K T), od_i (od_X T), od_i (od_Y T), od_i (od_Z T), od_i (od_V T), upd a7 (d + 1) (nI (od_Y T p)), upd (upd (upd a8 d (nI 2)) d 1) (d + 1) 0, upd a9 (d + 1) (nI (n + 1)), vp_updL a10 (d + 1) c', vp_updL a11 d c', a12, vp_updL a13 n c', a14, a15, a16)) : wpX_step post (nI cc, nI pc, lv, nI (d + 1), st, od_W T, od_i (od_K T), od_i (od_X T), od_i (od_Y T), od_i (od_Z T), od_i (od_V T), a7, a8, a9, a10, a11, a12, a13, a14, a15, a16) m := by
  obtain ⟨w1, w2, w3, w4, w5, w6, w7, w8, w9⟩ := hw
  have hx := w6 (by omega)
  have t := w9 hk
  have eX : od_i (od_X T) (nI p).toNatClampNeg = nI (od_X T p) := od_i_at _ (by omega)
  refine od_s_wh hp hk (by omega) (by omega) h7 h8 (fun P hP => ?_)
  unfold wpX_goRound
  refine ⟨pk_in p 32 hp, pk_in (od_X T p) 24 (by omega) eX, nm_r (e' := od_W T (od_X T p)) (by rw [eX, nI_clamp (show od_X T p < 2 ^ 31 by omega)]) ⟨pk_in d 24 (by omega), nm_r (od_at h9 (by omega)) ?_⟩⟩
  refine pk_eq 1 0 (fun z => absurd z (by omega)) (fun _ => ⟨pk_in d 24 (by omega), nm_r (e' := od_mix (od_W T (od_X T p)) st G) (by rw [od_at h10 (by omega)]; rfl) ⟨pk_in d 24 (by omega), ?_⟩⟩)
  rw [od_at h11 (by omega)]
  refine br_c (fun h => nm_r (nI_pred d) ?_) (fun h => ⟨pk_in d 24 (by omega), nm_r (by rw [nI_clamp (show d < 2 ^ 31 by omega)]) ⟨pk_in n 24 (by omega), nm_r (by rw [nI_clamp (show n < 2 ^ 31 by omega)]) ⟨pk_in d 24 (by omega), nm_r (by rw [nI_clamp (show d < 2 ^ 31 by omega)]) ?_⟩⟩⟩)
  · rw [h]
    exact (hP _).mpr (H1 h)
  · exact od_g_156 (by omega) hp hd (by omega) pk_uLs ((hP _).mpr (H2 _ rfl h))
end
end
section
/-- the loops inside program p, numbered from n, stand where they may stand for the goal G -/
def od_good (T : od_T) (fl en : Bool) : Nat → Nat → Nat → Int64 → (Nat → Int32) → (Nat → Int64) → Prop
  | 0, _, _, _, _, _ => True
  | f + 1, p, n, G, B, R =>
    (od_K T p = 6 → od_good T fl en f (od_Y T p) (n + 1 + od_V T (od_X T p)) G B R ∧ od_good T fl en f (od_X T p) (n + 1) (od_map T fl en f (od_Y T p) G) B R) ∧
    (od_K T p = 7 ∨ od_K T p = 8 → od_good T fl en f (od_f1 T p) (n + 1) G B R ∧ od_good T fl en f (od_f2 T p) (n + 1 + od_V T (od_f1 T p)) G B R) ∧
    (od_K T p = 9 → od_LE en (od_cur en (B n) (R n)) (od_rd (od_W T (od_X T p)) (od_map T fl en f (od_Y T p)) G (od_cur en (B n) (R n))) ∧ od_LE en (od_cur en (B n) (R n)) (od_fx en (od_rd (od_W T (od_X T p)) (od_map T fl en f (od_Y T p)) G)) ∧ od_good T fl en f (od_Y T p) (n + 1) (od_cur en (B n) (R n)) B R)
theorem od_rd_G {w : Int64} {a : Int64 → Int64} {e : Bool} {G G' : Int64} (h : od_LE e G G') (S : Int64) : od_LE e (od_rd w a G S) (od_rd w a G' S) := ⟨fun t => od_mix_m (od_sub_r _) (h.1 t), fun t => od_mix_m (od_sub_r _) (h.2 t)⟩
theorem od_fx_G {w : Int64} {a : Int64 → Int64} (ha : od_mono a) {e : Bool} {G G' : Int64} (h : od_LE e G G') : od_LE e (od_fx e (od_rd w a G)) (od_fx e (od_rd w a G')) := ⟨fun t => od_fx_m e (od_rd_m ha G) (od_rd_m ha G') (fun _ => od_mix_m (od_sub_r _) (h.1 t)), fun t => od_fx_m e (od_rd_m ha G') (od_rd_m ha G) (fun _ => od_mix_m (od_sub_r _) (h.2 t))⟩
theorem od_good_m {T : od_T} {fl en : Bool} {B : Nat → Int32} {R : Nat → Int64} : ∀ f p n G G', od_LE en G G' → od_good T fl en f p n G B R → od_good T fl en f p n G' B R := by
  intro f
  induction f with
  | zero => intro p n G G' _ _; exact trivial
  | succ f ih =>
    intro p n G G' h g
    obtain ⟨g6, g7, g9⟩ := g
    refine ⟨fun k => ⟨ih _ _ _ _ h (g6 k).1, ih _ _ _ _ (od_mono_LE (od_map_mono T fl en f _) h) (g6 k).2⟩, fun k => ⟨ih _ _ _ _ h (g7 k).1, ih _ _ _ _ h (g7 k).2⟩, fun k => ⟨od_LE_t (g9 k).1 (od_rd_G h _), od_LE_t (g9 k).2.1 (od_fx_G (od_map_mono T fl en f _) h), (g9 k).2.2⟩⟩
theorem od_good_f {T : od_T} {cc pc : Nat} (hw : od_wf T cc pc) {fl en : Bool} {B B' : Nat → Int32} {R R' : Nat → Int64} : ∀ f p n G, p < pc → (∀ j, n ≤ j → j < n + od_V T p → B' j = B j ∧ R' j = R j) → od_good T fl en f p n G B R → od_good T fl en f p n G B' R' := by
  intro f
  induction f with
  | zero => intro p n G _ _ _; exact trivial
  | succ f ih =>
    intro p n G hp h g
    obtain ⟨g6, g7, g9⟩ := g
    have hw1 := hw p hp
    obtain ⟨w1, w2, w3, w4, w5, w6, w7, w8, w9⟩ := hw p hp
    refine ⟨fun k => ?_, fun k => ?_, fun k => ?_⟩
    · have t := w7 (Or.inl k)
      exact ⟨ih _ _ _ (by omega) (fun j h1 h2 => h j (by omega) (by omega)) (g6 k).1, ih _ _ _ (by omega) (fun j h1 h2 => h j (by omega) (by omega)) (g6 k).2⟩
    · have t := od_wf_78 hw1 k
      exact ⟨ih _ _ _ (by omega) (fun j h1 h2 => h j (by omega) (by omega)) (g7 k).1, ih _ _ _ (by omega) (fun j h1 h2 => h j (by omega) (by omega)) (g7 k).2⟩
    · have t := w9 k
      have e := h n (Nat.le_refl n) (by omega)
      rw [e.1, e.2]
      exact ⟨(g9 k).1, (g9 k).2.1, ih _ _ _ (by omega) (fun j h1 h2 => h j (by omega) (by omega)) (g9 k).2.2⟩
theorem od_good_0 {T : od_T} {cc pc : Nat} (hw : od_wf T cc pc) {fl en : Bool} {B : Nat → Int32} {R : Nat → Int64} (hB : ∀ j, j < 24 → B j = 0) : ∀ f p n G, p < pc → n + od_V T p ≤ 24 → od_good T fl en f p n G B R := by
  intro f
  induction f with
  | zero => intro p n G _ _; exact trivial
  | succ f ih =>
    intro p n G hp h
    have hw1 := hw p hp
    obtain ⟨w1, w2, w3, w4, w5, w6, w7, w8, w9⟩ := hw p hp
    refine ⟨fun k => ?_, fun k => ?_, fun k => ?_⟩
    · have t := w7 (Or.inl k)
      exact ⟨ih _ _ _ (by omega) (by omega), ih _ _ _ (by omega) (by omega)⟩
    · have t := od_wf_78 hw1 k
      exact ⟨ih _ _ _ (by omega) (by omega), ih _ _ _ (by omega) (by omega)⟩
    · have t := w9 k
      have e : od_cur en (B n) (R n) = od_bot en := by
        unfold od_cur
        rw [if_pos (hB n (by omega))]
      rw [e]
      exact ⟨od_LE_b en _, od_LE_b en _, ih _ _ _ (by omega) (by omega)⟩
/-- what lies below place d is kept -/
def od_kp (d : Nat) (a7 a8 a9 : Nat → Int32) (a10 a11 : Nat → Int64) (b7 b8 b9 : Nat → Int32) (b10 b11 : Nat → Int64) : Prop :=
  ∀ j, j < d → b7 j = a7 j ∧ b8 j = a8 j ∧ b9 j = a9 j ∧ b10 j = a10 j ∧ b11 j = a11 j
section
variable {d : Nat} {a7 a8 a9 : Nat → Int32} {a10 a11 : Nat → Int64} {b7 b8 b9 : Nat → Int32} {b10 b11 : Nat → Int64} {c7 c8 c9 : Nat → Int32} {c10 c11 : Nat → Int64}
theorem od_kp_t (h : od_kp d a7 a8 a9 a10 a11 b7 b8 b9 b10 b11) (g : od_kp d b7 b8 b9 b10 b11 c7 c8 c9 c10 c11) : od_kp d a7 a8 a9 a10 a11 c7 c8 c9 c10 c11 := by
  intro j hj
  obtain ⟨h1, h2, h3, h4, h5⟩ := h j hj
  obtain ⟨g1, g2, g3, g4, g5⟩ := g j hj
  exact ⟨g1.trans h1, g2.trans h2, g3.trans h3, g4.trans h4, g5.trans h5⟩
theorem od_kp_8 {x : Int32} (h : od_kp d a7 a8 a9 a10 a11 b7 b8 b9 b10 b11) : od_kp d a7 a8 a9 a10 a11 b7 (upd b8 d x) b9 b10 b11 := by
  intro j hj
  obtain ⟨h1, h2, h3, h4, h5⟩ := h j hj
  exact ⟨h1, (pk_un (by omega)).trans h2, h3, h4, h5⟩
theorem od_kp_11 {x : Int64} (h : od_kp d a7 a8 a9 a10 a11 b7 b8 b9 b10 b11) : od_kp d a7 a8 a9 a10 a11 b7 b8 b9 b10 (vp_updL b11 d x) := by
  intro j hj
  obtain ⟨h1, h2, h3, h4, h5⟩ := h j hj
  exact ⟨h1, h2, h3, h4, (pk_uLn (by omega)).trans h5⟩
theorem od_kp_r : od_kp d a7 a8 a9 a10 a11 a7 a8 a9 a10 a11 := fun _ _ => ⟨rfl, rfl, rfl, rfl, rfl⟩
/-- behind an entered part: its caller's place, and what lies below -/
theorem od_kp_e {x y z w : Int32} {v : Int64} (h : od_kp (d + 1) (upd a7 (d + 1) y) (upd (upd a8 d x) (d + 1) w) (upd a9 (d + 1) z) (vp_updL a10 (d + 1) v) a11 b7 b8 b9 b10 b11) :
    (b7 d = a7 d ∧ b8 d = x ∧ b9 d = a9 d ∧ b10 d = a10 d ∧ b11 d = a11 d) ∧ od_kp d a7 a8 a9 a10 a11 b7 b8 b9 b10 b11 := by
  constructor
  · obtain ⟨h1, h2, h3, h4, h5⟩ := h d (by omega)
    rw [pk_un (by omega)] at h1 h2 h3
    rw [pk_us] at h2
    rw [pk_uLn (by omega)] at h4
    exact ⟨h1, h2, h3, h4, h5⟩
  · intro j hj
    obtain ⟨h1, h2, h3, h4, h5⟩ := h j (by omega)
    rw [pk_un (by omega)] at h1 h2 h3
    rw [pk_un (by omega)] at h2
    rw [pk_uLn (by omega)] at h4
    exact ⟨h1, h2, h3, h4, h5⟩
end
/-- a part that has been entered is worked out -/
def od_runs (T : od_T) (cc pc : Nat) (lv : Int32) (a14 : Nat → Int32) (a15 a16 : Nat → Int64) (fl en : Bool) (Q : St1 → Prop) (f p : Nat) : Prop :=
  ∀ (n d : Nat) (G : Int64) (a7 a8 a9 : Nat → Int32) (a10 a11 : Nat → Int64) (a12 : Nat → Int32) (a13 : Nat → Int64),
    d ≤ n → n + od_V T p ≤ 20 → a7 d = nI p → a8 d = 0 → a9 d = nI n → a10 d = G → od_good T fl en f p n G a12 a13 →
    (∀ (b7 b8 b9 : Nat → Int32) (b10 b11 : Nat → Int64) (b12 : Nat → Int32) (b13 : Nat → Int64), od_kp d a7 a8 a9 a10 a11 b7 b8 b9 b10 b11 → (∀ j, j < n ∨ n + od_V T p ≤ j → b12 j = a12 j ∧ b13 j = a13 j) → od_good T fl en f p n G b12 b13 → Q (nI cc, nI pc, lv, nI d, od_map T fl en f p G, od_W T, od_i (od_K T), od_i (od_X T), od_i (od_Y T), od_i (od_Z T), od_i (od_V T), b7, b8, b9, b10, b11, b12, b13, a14, a15, a16)) →
    Q (nI cc, nI pc, lv, nI (d + 1), G, od_W T, od_i (od_K T), od_i (od_X T), od_i (od_Y T), od_i (od_Z T), od_i (od_V T), a7, a8, a9, a10, a11, a12, a13, a14, a15, a16)
section
variable {T : od_T} {cc pc : Nat} {lv : Int32} {a14 : Nat → Int32} {a15 a16 : Nat → Int64} {fl en : Bool} {Q : St1 → Prop}
theorem od_pos (d : Nat) (hd : d < 24) : ¬ nI (d + 1) ≤ 0 := nI_nle (by omega) (by omega)
theorem od_run_leaf (hw : od_wf T cc pc) (hc : cc ≤ 24) (hpc : pc ≤ 32) (hQ : ∀ u u' : St1, ¬ u.2.2.2.1 ≤ 0 → (∀ P : St1 → Prop, P u' → wpX_step P u (od_m fl en)) → Q u' → Q u) {f p : Nat} (hp : p < pc) (hk : od_K T p ≤ 5) : od_runs T cc pc lv a14 a15 a16 fl en Q (f + 1) p := by
  intro n d G a7 a8 a9 a10 a11 a12 a13 hd hn h7 h8 h9 h10 hg H
  have hv := (hw p hp).2.1
  refine hQ _ _ (od_pos d (by omega)) (fun P h => od_s_leaf (f := f) (ph := 0) (hw p hp) (by omega) hc hk (by omega) (by omega) h7 h8 h) ?_
  exact H _ _ _ _ _ _ _ (od_kp_8 od_kp_r) (fun _ _ => ⟨rfl, rfl⟩) hg
theorem od_run_then (hw : od_wf T cc pc) (hpc : pc ≤ 32) (hQ : ∀ u u' : St1, ¬ u.2.2.2.1 ≤ 0 → (∀ P : St1 → Prop, P u' → wpX_step P u (od_m fl en)) → Q u' → Q u) {f p : Nat} (hp : p < pc) (hk : od_K T p = 6) (ih : ∀ q, q < p → od_runs T cc pc lv a14 a15 a16 fl en Q f q) : od_runs T cc pc lv a14 a15 a16 fl en Q (f + 1) p := by
  intro n d G a7 a8 a9 a10 a11 a12 a13 hd hn h7 h8 h9 h10 hg H
  have hw1 := hw p hp
  have hv := hw1.2.1
  have t := hw1.2.2.2.2.2.2.1 (Or.inl hk)
  have g6 := hg.1 hk
  have vx := (hw (od_X T p) (by omega)).2.1
  have vy := (hw (od_Y T p) (by omega)).2.1
  refine hQ _ _ (od_pos d (by omega)) (fun P h => od_s_then0 hw1 (by omega) hk (by omega) hn h7 h8 h9 h) ?_
  refine ih (od_Y T p) (by omega) (n + 1 + od_V T (od_X T p)) (d + 1) G _ _ _ _ _ _ _ (by omega) (by omega) pk_us pk_us pk_us pk_uLs g6.1 ?_
  intro b7 b8 b9 b10 b11 b12 b13 hb hf hbg
  obtain ⟨⟨e7, e8, e9, e10, e11⟩, kb⟩ := od_kp_e hb
  refine hQ _ _ (od_pos d (by omega)) (fun P h => od_s_then1 hw1 (by omega) hk (by omega) hn (e7.trans h7) e8 (e9.trans h9) h) ?_
  refine ih (od_X T p) (by omega) (n + 1) (d + 1) _ _ _ _ _ _ _ _ (by omega) (by omega) pk_us pk_us pk_us pk_uLs (od_good_f hw _ _ _ _ (by omega) (fun j h1 h2 => hf j (by omega)) g6.2) ?_
  intro c7 c8 c9 c10 c11 c12 c13 hcb hcf hcg
  obtain ⟨⟨i7, i8, i9, i10, i11⟩, kc⟩ := od_kp_e hcb
  refine hQ _ _ (od_pos d (by omega)) (fun P h => od_s_then2 (p := p) (by omega) hk (by omega) (i7.trans (e7.trans h7)) i8 h) ?_
  have H2 := H c7 (upd c8 d (nI 3)) c9 c10 c11 c12 c13 (od_kp_8 (od_kp_t kb kc)) (fun j hj => ⟨(hcf j (by omega)).1.trans (hf j (by omega)).1, (hcf j (by omega)).2.trans (hf j (by omega)).2⟩) ⟨fun _ => ⟨od_good_f hw _ _ _ _ (by omega) (fun j h1 h2 => hcf j (by omega)) hbg, hcg⟩, fun z => absurd z (by omega), fun z => absurd z (by omega)⟩
  rw [od_map_6 hk] at H2
  exact H2
theorem od_run_br (hw : od_wf T cc pc) (hc : cc ≤ 24) (hpc : pc ≤ 32) (hQ : ∀ u u' : St1, ¬ u.2.2.2.1 ≤ 0 → (∀ P : St1 → Prop, P u' → wpX_step P u (od_m fl en)) → Q u' → Q u) {f p : Nat} (hp : p < pc) (hk : od_K T p = 7 ∨ od_K T p = 8) (ih : ∀ q, q < p → od_runs T cc pc lv a14 a15 a16 fl en Q f q) : od_runs T cc pc lv a14 a15 a16 fl en Q (f + 1) p := by
  intro n d G a7 a8 a9 a10 a11 a12 a13 hd hn h7 h8 h9 h10 hg H
  have hw1 := hw p hp
  have hv := hw1.2.1
  have t := od_wf_78 hw1 hk
  have g7 := hg.2.1 hk
  have vx := (hw (od_f1 T p) (by omega)).2.1
  have vy := (hw (od_f2 T p) (by omega)).2.1
  refine hQ _ _ (od_pos d (by omega)) (fun P h => od_s_br0 hw1 (by omega) hk (by omega) hn h7 h8 h9 h) ?_
  refine ih (od_f1 T p) (by omega) (n + 1) (d + 1) G _ _ _ _ _ _ _ (by omega) (by omega) pk_us pk_us pk_us pk_uLs g7.1 ?_
  intro b7 b8 b9 b10 b11 b12 b13 hb hf hbg
  obtain ⟨⟨e7, e8, e9, e10, e11⟩, kb⟩ := od_kp_e hb
  refine hQ _ _ (od_pos d (by omega)) (fun P h => od_s_br1 (G := G) hw1 (by omega) hk (by omega) hn (e7.trans h7) e8 (e9.trans h9) (e10.trans h10) h) ?_
  refine ih (od_f2 T p) (by omega) (n + 1 + od_V T (od_f1 T p)) (d + 1) G _ _ _ _ _ _ _ (by omega) (by omega) pk_us pk_us pk_us pk_uLs (od_good_f hw _ _ _ _ (by omega) (fun j h1 h2 => hf j (by omega)) g7.2) ?_
  intro c7 c8 c9 c10 c11 c12 c13 hcb hcf hcg
  obtain ⟨⟨i7, i8, i9, i10, i11⟩, kc⟩ := od_kp_e hcb
  refine hQ _ _ (od_pos d (by omega)) (fun P h => od_s_br2 hw1 (by omega) hc hk (by omega) (i7.trans (e7.trans h7)) i8 (i11.trans pk_uLs) h) ?_
  have H2 := H c7 (upd c8 d (nI 3)) c9 c10 c11 c12 c13 (od_kp_8 (od_kp_t (od_kp_11 kb) kc)) (fun j hj => ⟨(hcf j (by omega)).1.trans (hf j (by omega)).1, (hcf j (by omega)).2.trans (hf j (by omega)).2⟩) ⟨fun z => absurd z (by omega), fun _ => ⟨od_good_f hw _ _ _ _ (by omega) (fun j h1 h2 => hcf j (by omega)) hbg, hcg⟩, fun z => absurd z (by omega)⟩
  rw [od_map_78 hk] at H2
  exact H2
theorem od_run_lp (hw : od_wf T cc pc) (hc : cc ≤ 24) (hpc : pc ≤ 32) (hQ : ∀ u u' : St1, ¬ u.2.2.2.1 ≤ 0 → (∀ P : St1 → Prop, P u' → wpX_step P u (od_m fl en)) → Q u' → Q u) {f p : Nat} (hp : p < pc) (hk : od_K T p = 9) (ih : od_runs T cc pc lv a14 a15 a16 fl en Q f (od_Y T p)) {n d : Nat} {G : Int64} (hd : d ≤ n) (hn : n + od_V T p ≤ 20) :
    ∀ (μ : Nat) (c : Int64) (a7 a8 a9 : Nat → Int32) (a10 a11 : Nat → Int64) (a12 : Nat → Int32) (a13 : Nat → Int64), od_mu en c < μ →
    a7 d = nI p → a8 d = nI 1 → a9 d = nI n → a10 d = G → a11 d = c → ¬ a12 n = 0 → a13 n = c → a7 (d + 1) = nI (od_Y T p) → a8 (d + 1) = 0 → a9 (d + 1) = nI (n + 1) → a10 (d + 1) = c →
    od_LE en c (od_rd (od_W T (od_X T p)) (od_map T fl en f (od_Y T p)) G c) → od_LE en c (od_fx en (od_rd (od_W T (od_X T p)) (od_map T fl en f (od_Y T p)) G)) → od_good T fl en f (od_Y T p) (n + 1) c a12 a13 →
    (∀ (b7 b8 b9 : Nat → Int32) (b10 b11 : Nat → Int64) (b12 : Nat → Int32) (b13 : Nat → Int64), od_kp d a7 a8 a9 a10 a11 b7 b8 b9 b10 b11 → (∀ j, j < n ∨ n + od_V T p ≤ j → b12 j = a12 j ∧ b13 j = a13 j) → od_good T fl en (f + 1) p n G b12 b13 → Q (nI cc, nI pc, lv, nI d, od_map T fl en (f + 1) p G, od_W T, od_i (od_K T), od_i (od_X T), od_i (od_Y T), od_i (od_Z T), od_i (od_V T), b7, b8, b9, b10, b11, b12, b13, a14, a15, a16)) →
    Q (nI cc, nI pc, lv, nI (d + 2), c, od_W T, od_i (od_K T), od_i (od_X T), od_i (od_Y T), od_i (od_Z T), od_i (od_V T), a7, a8, a9, a10, a11, a12, a13, a14, a15, a16) := by
  have hw1 := hw p hp
  have hv := hw1.2.1
  have t := hw1.2.2.2.2.2.2.2.2 hk
  have vy := (hw (od_Y T p) (by omega)).2.1
  have hm : od_mono (od_rd (od_W T (od_X T p)) (od_map T fl en f (od_Y T p)) G) := od_rd_m (od_map_mono T fl en f _) G
  intro μ
  induction μ with
  | zero => intro c a7 a8 a9 a10 a11 a12 a13 z; exact absurd z (by omega)
  | succ μ ihμ =>
    intro c a7 a8 a9 a10 a11 a12 a13 hμ h7 h8 h9 h10 h11 h12 h13 s7 s8 s9 s10 l1 l2 hg H
    refine ih (n + 1) (d + 1) c _ _ _ _ _ _ _ (by omega) (by omega) s7 s8 s9 s10 hg ?_
    intro b7 b8 b9 b10 b11 b12 b13 hb hf hbg
    obtain ⟨e7, e8, e9, e10, e11⟩ := hb d (by omega)
    have kb : od_kp d a7 a8 a9 a10 a11 b7 b8 b9 b10 b11 := fun j hj => hb j (by omega)
    have f12 : ¬ b12 n = 0 := by
      rw [(hf n (by omega)).1]
      exact h12
    have f13 : b13 n = c := (hf n (by omega)).2.trans h13
    by_cases hx : od_mix (od_W T (od_X T p)) (od_map T fl en f (od_Y T p) c) G = c
    · refine hQ _ _ (od_pos d (by omega)) (fun P h => od_s_wh1 (G := G) (c := c) hw1 (by omega) hc hk (by omega) hn (e7.trans h7) (e8.trans h8) (e9.trans h9) (e10.trans h10) (e11.trans h11) (fun _ => h) (fun c' z1 z2 => absurd (z1.trans hx) z2)) ?_
      have hx' : od_rd (od_W T (od_X T p)) (od_map T fl en f (od_Y T p)) G c = c := hx
      have ec : od_fx en (od_rd (od_W T (od_X T p)) (od_map T fl en f (od_Y T p)) G) = c := by
        refine od_LE_a (od_fx_least hm ?_) l2
        rw [hx']
        exact od_LE_r en c
      have hcur : od_cur en (b12 n) (b13 n) = c := by
        unfold od_cur
        rw [if_neg f12, f13]
      have H2 := H b7 (upd b8 d (nI 2)) b9 b10 b11 b12 b13 (od_kp_8 kb) (fun j hj => hf j (by omega)) ⟨fun z => absurd z (by omega), fun z => absurd z (by omega), fun _ => by rw [hcur]; exact ⟨l1, l2, hbg⟩⟩
      rw [od_map_9 hk, ec] at H2
      exact H2
    · refine hQ _ _ (od_pos d (by omega)) (fun P h => od_s_wh1 (G := G) (c := c) hw1 (by omega) hc hk (by omega) hn (e7.trans h7) (e8.trans h8) (e9.trans h9) (e10.trans h10) (e11.trans h11) (fun z => absurd z hx) (fun c' z1 _ => by subst z1; exact h)) ?_
      have hr : od_mix (od_W T (od_X T p)) (od_map T fl en f (od_Y T p) c) G = od_rd (od_W T (od_X T p)) (od_map T fl en f (od_Y T p)) G c := rfl
      rw [hr] at hx ⊢
      have l1' := od_mono_LE hm l1
      have l2' := od_mono_LE hm l2
      rw [od_fx_fix hm] at l2'
      have hmu := od_mu_lt l1 (fun z => hx z.symm)
      refine ihμ _ _ _ _ _ _ _ _ (by omega) ?_ ?_ ?_ ?_ pk_uLs f12 pk_uLs pk_us pk_us pk_us pk_uLs l1' l2' ?_ ?_
      · rw [pk_un (by omega)]
        exact e7.trans h7
      · rw [pk_un (by omega), pk_us]
        rfl
      · rw [pk_un (by omega)]
        exact e9.trans h9
      · rw [pk_uLn (by omega)]
        exact e10.trans h10
      · refine od_good_f hw _ _ _ _ (by omega) (fun j h1 h2 => ⟨rfl, pk_uLn (by omega)⟩) (od_good_m _ _ _ _ _ l1 hbg)
      · intro c7 c8 c9 c10 c11 c12 c13 kc hcf hcg
        refine H c7 c8 c9 c10 c11 c12 c13 (od_kp_t kb (od_kp_t ?_ kc)) (fun j hj => ⟨(hcf j hj).1.trans (hf j (by omega)).1, ?_⟩) hcg
        · intro j hj
          refine ⟨pk_un (by omega), ?_, pk_un (by omega), pk_uLn (by omega), pk_uLn (by omega)⟩
          rw [pk_un (by omega), pk_un (by omega), pk_un (by omega)]
        · rw [(hcf j hj).2, pk_uLn (by omega)]
          exact (hf j (by omega)).2
theorem od_run_wh (hw : od_wf T cc pc) (hc : cc ≤ 24) (hpc : pc ≤ 32) (hQ : ∀ u u' : St1, ¬ u.2.2.2.1 ≤ 0 → (∀ P : St1 → Prop, P u' → wpX_step P u (od_m fl en)) → Q u' → Q u) {f p : Nat} (hp : p < pc) (hk : od_K T p = 9) (ih : ∀ q, q < p → od_runs T cc pc lv a14 a15 a16 fl en Q f q) : od_runs T cc pc lv a14 a15 a16 fl en Q (f + 1) p := by
  intro n d G a7 a8 a9 a10 a11 a12 a13 hd hn h7 h8 h9 h10 hg H
  have hw1 := hw p hp
  have hv := hw1.2.1
  have t := hw1.2.2.2.2.2.2.2.2 hk
  have g9 := hg.2.2 hk
  have vy := (hw (od_Y T p) (by omega)).2.1
  refine hQ _ _ (od_pos d (by omega)) (fun P h => od_s_wh0 (fl := fl) hw1 (by omega) hc hk (by omega) hn h7 h8 h9 h) ?_
  refine od_run_lp hw hc hpc hQ hp hk (ih _ (by omega)) (G := G) hd hn 65 _ _ _ _ _ _ _ _ (by have := od_mu_le en (od_cur en (a12 n) (a13 n)); omega) ?_ ?_ ?_ ?_ pk_uLs ?_ (od_r0_s _ _ _ _) pk_us pk_us pk_us pk_uLs g9.1 g9.2.1 ?_ ?_
  · rw [pk_un (by omega)]
    exact h7
  · rw [pk_un (by omega), pk_us]
  · rw [pk_un (by omega)]
    exact h9
  · rw [pk_uLn (by omega)]
    exact h10
  · rw [pk_us]
    decide
  · exact od_good_f hw _ _ _ _ (by omega) (fun j h1 h2 => ⟨pk_un (by omega), od_r0_n _ _ _ (by omega)⟩) g9.2.2
  · intro c7 c8 c9 c10 c11 c12 c13 kc hcf hcg
    refine H c7 c8 c9 c10 c11 c12 c13 (od_kp_t ?_ kc) (fun j hj => ⟨?_, ?_⟩) hcg
    · intro j hj
      refine ⟨pk_un (by omega), ?_, pk_un (by omega), pk_uLn (by omega), pk_uLn (by omega)⟩
      rw [pk_un (by omega), pk_un (by omega)]
    · rw [(hcf j hj).1, pk_un (by omega)]
    · rw [(hcf j hj).2]
      exact od_r0_n _ _ _ (by omega)
theorem od_run (hw : od_wf T cc pc) (hc : cc ≤ 24) (hpc : pc ≤ 32) (hQ : ∀ u u' : St1, ¬ u.2.2.2.1 ≤ 0 → (∀ P : St1 → Prop, P u' → wpX_step P u (od_m fl en)) → Q u' → Q u) : ∀ f p, p < f → p < pc → od_runs T cc pc lv a14 a15 a16 fl en Q f p := by
  intro f
  induction f with
  | zero => intro p z; exact absurd z (by omega)
  | succ f ih =>
    intro p hpf hp
    have ih' : ∀ q, q < p → od_runs T cc pc lv a14 a15 a16 fl en Q f q := fun q hq => ih q (by omega) (by omega)
    have h9 := (hw p hp).1
    rcases (show od_K T p ≤ 5 ∨ od_K T p = 6 ∨ (od_K T p = 7 ∨ od_K T p = 8) ∨ od_K T p = 9 by omega) with k | k | k | k
    · exact od_run_leaf hw hc hpc hQ hp k
    · exact od_run_then hw hpc hQ hp k ih'
    · exact od_run_br hw hc hpc hQ hp k ih'
    · exact od_run_wh hw hc hpc hQ hp k ih'
end
end
section
theorem wb_inj {a b : Int64} (h : a.toBitVec = b.toBitVec) : a = b := Int64.toBitVec_inj.mp h
theorem wb_tn {n : Nat} (h : n < 2 ^ 64) : (lN n).toBitVec.toNat = n := by rw [wb_tb, BitVec.toNat_ofNat, Nat.mod_eq_of_lt h]
theorem wb_of (x : Int64) : ∃ n, n < 2 ^ 64 ∧ x = lN n := ⟨x.toBitVec.toNat, x.toBitVec.isLt, wb_inj (by rw [wb_tb]; simp)⟩
theorem wb_lt2 {a b : Nat} (h : a < b) : 2 ^ a < 2 ^ b := Nat.pow_lt_pow_right (by decide) h
theorem wb_and {a b : Nat} (ha : a < 2 ^ 64) (hb : b < 2 ^ 64) : lN a &&& lN b = lN (a &&& b) := by
  apply wb_inj
  rw [Int64.toBitVec_and, wb_tb, wb_tb, wb_tb]
  apply BitVec.eq_of_toNat_eq
  rw [BitVec.toNat_and, BitVec.toNat_ofNat, BitVec.toNat_ofNat, BitVec.toNat_ofNat, Nat.mod_eq_of_lt ha, Nat.mod_eq_of_lt hb, Nat.mod_eq_of_lt (Nat.and_lt_two_pow _ hb)]
theorem wb_mask {n k : Nat} (hn : n < 2 ^ 64) (hk : k < 64) : lN n &&& lN (2 ^ k - 1) = lN (n % 2 ^ k) := by
  rw [wb_and hn (by have := wb_lt2 hk; omega), Nat.and_two_pow_sub_one_eq_mod]

theorem od_slot (z : Int64) : ∃ k, k < 64 ∧ (z &&& 63).toInt32 = nI k := by
  obtain ⟨n, hn, rfl⟩ := wb_of z
  refine ⟨n % 2 ^ 6, Nat.mod_lt _ (by decide), ?_⟩
  rw [show (63 : Int64) = lN (2 ^ 6 - 1) from rfl, wb_mask hn (by decide), lN_i]
/-- the number of a map in the cache -/
def od_key (p : Nat) (fl en : Bool) : Nat := 1 + 4 * p + ((if fl = true then 1 else 0) + (if en = true then 2 else 0))
theorem od_key_lt {p : Nat} (h : p < 32) (fl en : Bool) : 1 ≤ od_key p fl en ∧ od_key p fl en < 129 := by
  unfold od_key
  cases fl <;> cases en <;> simp <;> omega
theorem od_key_inj {p q : Nat} {fl en fl' en' : Bool} (h : od_key p fl en = od_key q fl' en') : p = q ∧ fl = fl' ∧ en = en' := by
  unfold od_key at h
  cases fl <;> cases en <;> cases fl' <;> cases en' <;> simp at h ⊢ <;> omega
theorem od_key_i (p : Nat) (fl en : Bool) : (1 + 4 * nI p) + od_m fl en = nI (od_key p fl en) := by
  unfold od_key od_m
  rw [show (4 : Int32) = nI 4 from rfl, show (1 : Int32) = nI 1 from rfl, pk_mul, nI_add, nI_add]
theorem od_b16 : ∀ n, n < 129 → (nI n).toInt16.toInt32 = nI n := by decide +kernel
/-- what is kept for later is right -/
def od_cache (T : od_T) (pc : Nat) (a14 : Nat → Int32) (a15 a16 : Nat → Int64) : Prop :=
  ∀ k, k < 64 → a14 k = 0 ∨ ∃ p fl en, p < pc ∧ a14 k = nI (od_key p fl en) ∧ a16 k = od_M T fl en p (a15 k)
theorem od_cache_put {T : od_T} {pc : Nat} {a14 : Nat → Int32} {a15 a16 : Nat → Int64} (h : od_cache T pc a14 a15 a16) {p : Nat} (hp : p < pc) (fl en : Bool) (k : Nat) (G : Int64) : od_cache T pc (upd a14 k (nI (od_key p fl en))) (vp_updL a15 k G) (vp_updL a16 k (od_M T fl en p G)) := by
  intro j hj
  by_cases e : j = k
  · subst e
    rw [pk_us, pk_uLs, pk_uLs]
    exact Or.inr ⟨p, fl, en, hp, rfl, rfl⟩
  · rw [pk_un e, pk_uLn e, pk_uLn e]
    exact h j hj
theorem od_cache_hit {T : od_T} {pc : Nat} {a14 : Nat → Int32} {a15 a16 : Nat → Int64} (h : od_cache T pc a14 a15 a16) (hpc : pc ≤ 32) {p : Nat} (hp : p < pc) {fl en : Bool} {k : Nat} (hk : k < 64) (e : a14 k = nI (od_key p fl en)) : a16 k = od_M T fl en p (a15 k) := by
  have l := od_key_lt (show p < 32 by omega) fl en
  rcases h k hk with z | ⟨q, fl', en', hq, z1, z2⟩
  · rw [z] at e
    exact absurd e.symm (nI_ne0 (by omega) (by omega))
  · have l' := od_key_lt (show q < 32 by omega) fl' en'
    rw [z1, nI_eq (by omega) (by omega)] at e
    obtain ⟨rfl, rfl, rfl⟩ := od_key_inj e
    exact z2
theorem od_cache_ag {T T' : od_T} {cc pc pc' : Nat} {a14 : Nat → Int32} {a15 a16 : Nat → Int64} (hw : od_wf T cc pc) (ha : od_ag T T' cc pc) (hp : pc ≤ pc') (h : od_cache T pc a14 a15 a16) : od_cache T' pc' a14 a15 a16 := by
  intro k hk
  rcases h k hk with z | ⟨q, fl, en, hq, z1, z2⟩
  · exact Or.inl z
  · refine Or.inr ⟨q, fl, en, by omega, z1, ?_⟩
    rw [z2]
    exact (od_ag_map hw ha fl en 32 q hq _).symm
/-- a desk that holds the tables T -/
def od_ok (T : od_T) (cc pc : Nat) (lv : Int32) (u : St1) : Prop :=
  ∃ (dp : Int32) (st : Int64) (a7 a8 a9 : Nat → Int32) (a10 a11 : Nat → Int64) (a12 : Nat → Int32) (a13 : Nat → Int64) (a14 : Nat → Int32) (a15 a16 : Nat → Int64), u = (nI cc, nI pc, lv, dp, st, od_W T, od_i (od_K T), od_i (od_X T), od_i (od_Y T), od_i (od_Z T), od_i (od_V T), a7, a8, a9, a10, a11, a12, a13, a14, a15, a16) ∧ od_cache T pc a14 a15 a16
def od_In (T : od_T) (cc pc : Nat) : Prop := od_wf T cc pc ∧ cc ≤ 24 ∧ pc ≤ 32
/-- what is left of a map -/
def od_Q (post : Int64 → St1 → Prop) (x2 : Int64) (x4 x5 x6 : Int32) (u : St1) : Prop :=
  ∃ fu, wX_map_115 post x2 x4 x5 x6 fu u.1 u.2.1 u.2.2.1 u.2.2.2.1 u.2.2.2.2.1 u.2.2.2.2.2.1 u.2.2.2.2.2.2.1 u.2.2.2.2.2.2.2.1 u.2.2.2.2.2.2.2.2.1 u.2.2.2.2.2.2.2.2.2.1 u.2.2.2.2.2.2.2.2.2.2.1 u.2.2.2.2.2.2.2.2.2.2.2.1 u.2.2.2.2.2.2.2.2.2.2.2.2.1 u.2.2.2.2.2.2.2.2.2.2.2.2.2.1 u.2.2.2.2.2.2.2.2.2.2.2.2.2.2.1 u.2.2.2.2.2.2.2.2.2.2.2.2.2.2.2.1 u.2.2.2.2.2.2.2.2.2.2.2.2.2.2.2.2.1 u.2.2.2.2.2.2.2.2.2.2.2.2.2.2.2.2.2.1 u.2.2.2.2.2.2.2.2.2.2.2.2.2.2.2.2.2.2.1 u.2.2.2.2.2.2.2.2.2.2.2.2.2.2.2.2.2.2.2.1 u.2.2.2.2.2.2.2.2.2.2.2.2.2.2.2.2.2.2.2.2
theorem od_Q_step {post : Int64 → St1 → Prop} {x2 : Int64} {x4 x5 x6 : Int32} (u u' : St1) (h : ¬ u.2.2.2.1 ≤ 0) (hs : ∀ P : St1 → Prop, P u' → wpX_step P u x4) (hq : od_Q post x2 x4 x5 x6 u') : od_Q post x2 x4 x5 x6 u := by
  obtain ⟨n, hn⟩ := hq
  obtain ⟨ccu, pcu, lvu, dpu, stu, a1u, a2u, a3u, a4u, a5u, a6u, a7u, a8u, a9u, a10u, a11u, a12u, a13u, a14u, a15u, a16u⟩ := u
  obtain ⟨ccv, pcv, lvv, dpv, stv, a1v, a2v, a3v, a4v, a5v, a6v, a7v, a8v, a9v, a10v, a11v, a12v, a13v, a14v, a15v, a16v⟩ := u'
  exact ⟨n + 1, fun z => absurd z h, fun _ => hs _ hn⟩
section
variable {T : od_T} {cc pc : Nat} {lv dp : Int32} {st : Int64} {a7 a8 a9 : Nat → Int32} {a10 a11 : Nat → Int64} {a12 : Nat → Int32} {a13 : Nat → Int64} {a14 : Nat → Int32} {a15 a16 : Nat → Int64}
theorem od_map_75 {post : Int64 → St1 → Prop} {p k : Nat} {G : Int64} (fl en : Bool) (hI : od_In T cc pc) (hp : p < pc) (hk : k < 64) (hca : od_cache T pc a14 a15 a16) (H : ∀ u', od_ok T cc pc lv u' → post (od_M T fl en p G) u') : wX_map_75 post (nI p) G (od_m fl en) (nI (od_key p fl en)) (nI k) (nI cc) (nI pc) lv dp st (od_W T) (od_i (od_K T)) (od_i (od_X T)) (od_i (od_Y T)) (od_i (od_Z T)) (od_i (od_V T)) a7 a8 a9 a10 a11 a12 a13 a14 a15 a16 := by
  obtain ⟨hw, hc, hpc⟩ := hI
  have hv := (hw p hp).2.2.1
  unfold wX_map_75
  refine pk_loop (σ := Nat → Int32) (fun n i s => wX_map_88 post (nI p) G (od_m fl en) (nI (od_key p fl en)) (nI k) (nI cc) (nI pc) lv 0 G n (nI i) (od_W T) (od_i (od_K T)) (od_i (od_X T)) (od_i (od_Y T)) (od_i (od_Z T)) (od_i (od_V T)) a7 a8 a9 a10 a11 s a13 a14 a15 a16) (fun i s => ∀ j, j < i → s j = 0) 24 0 a12 (by omega) (fun j hj => absurd hj (by omega)) ?_ ?_
  · intro n s hs
    refine pk_le 24 24 (fun _ => ?_) (fun z => absurd z (by omega))
    refine od_enter 0 p 0 (by omega) (by omega) (by omega) rfl rfl rfl ?_
    refine od_run (Q := od_Q post G (od_m fl en) (nI (od_key p fl en)) (nI k)) hw hc hpc od_Q_step 32 p (by omega) hp 0 0 G (upd a7 0 (nI p)) (upd a8 0 0) (upd a9 0 (nI 0)) (vp_updL a10 0 G) a11 s a13 (by omega) (by omega) pk_us pk_us pk_us pk_uLs (od_good_0 hw hs 32 p 0 G hp (by omega)) ?_
    intro b7 b8 b9 b10 b11 b12 b13 _ _ _
    have c : (nI k).toNatClampNeg = k := nI_clamp (by omega)
    have l := od_key_lt (show p < 32 by omega) fl en
    refine ⟨1, fun _ => ⟨pk_in k 64 hk, nm_r (by rw [c, od_b16 _ l.2]) ⟨pk_in k 64 hk, nm_r (by rw [c]) ⟨pk_in k 64 hk, nm_r (by rw [c]) ?_⟩⟩⟩, fun z => absurd (show (0 : Int32) ≤ 0 by decide) z⟩
    exact H _ ⟨_, _, _, _, _, _, _, _, _, _, _, _, rfl, od_cache_put hca hp fl en k G⟩
  · intro n i s hi h hn
    refine pk_le 24 i (fun z => absurd z (by omega)) (fun _ => ⟨pk_in i 24 hi, nm_r (by rw [nI_clamp (show i < 2 ^ 31 by omega)]) (nm_r (nI_1 i) (hn _ (fun j hj => ?_)))⟩)
    by_cases e : j = i
    · rw [e, pk_us]
    · rw [pk_un e]
      exact h j (by omega)
theorem od_map_wp {post : Int64 → St1 → Prop} {u : St1} {p : Nat} {G : Int64} {m : Int32} (fl en : Bool) (hI : od_In T cc pc) (hu : od_ok T cc pc lv u) (hp : p < pc) (hm : m = od_m fl en) (H : ∀ u', od_ok T cc pc lv u' → post (od_M T fl en p G) u') : wpX_map post u (nI p) G m := by
  subst hm
  obtain ⟨dp, st, a7, a8, a9, a10, a11, a12, a13, a14, a15, a16, rfl, hca⟩ := hu
  have hpc := hI.2.2
  unfold wpX_map
  refine nm_r (od_key_i p fl en) ?_
  intro x6 e6
  obtain ⟨k, hk, ek⟩ := od_slot (((G * 31) + ((G.toUInt64 >>> ((29 : Int32).toInt64.toUInt64 &&& Int64.toUInt64 63)).toInt64)) + ((nI (od_key p fl en)).toInt64 * 7))
  rw [ek] at e6
  subst e6
  have c : (nI k).toNatClampNeg = k := nI_clamp (by omega)
  have go : wX_map_75 post (nI p) G (od_m fl en) (nI (od_key p fl en)) (nI k) (nI cc) (nI pc) lv dp st (od_W T) (od_i (od_K T)) (od_i (od_X T)) (od_i (od_Y T)) (od_i (od_Z T)) (od_i (od_V T)) a7 a8 a9 a10 a11 a12 a13 a14 a15 a16 := od_map_75 fl en hI hp hk hca H
  refine br_c (fun _ => ⟨pk_in k 64 hk, br_c (fun h14 => ⟨pk_in k 64 hk, br_c (fun h15 => ⟨pk_in k 64 hk, ?_⟩) (fun _ => go)⟩) (fun _ => go)⟩) (fun _ => go)
  rw [c] at h14 h15 ⊢
  rw [od_cache_hit hca hpc hp hk h14, h15]
  exact H _ ⟨_, _, _, _, _, _, _, _, _, _, _, _, rfl, hca⟩
end
end
section
/-! what counts the states of a set, and the lowest one -/
theorem od_sub1 {x : Int64} (h : ¬ x = 0) : x &&& (x - 1) ≠ x := by
  intro e
  have e2 := congrArg (fun z => z.toBitVec.toNat) e
  rw [Int64.toBitVec_and, BitVec.toNat_and, Int64.toBitVec_sub] at e2
  have h1 : (1 : Int64).toBitVec = 1#64 := rfl
  rw [h1] at e2
  have hx : x.toBitVec.toNat ≠ 0 := by
    intro z
    apply h
    apply Int64.toBitVec_inj.mp
    apply BitVec.eq_of_toNat_eq
    rw [z]
    rfl
  have hs : (x.toBitVec - 1#64).toNat = x.toBitVec.toNat - 1 := by
    rw [BitVec.toNat_sub]
    have := x.toBitVec.isLt
    show (2 ^ 64 - 1 + x.toBitVec.toNat) % 2 ^ 64 = _
    omega
  rw [hs] at e2
  have := @Nat.and_le_right x.toBitVec.toNat (x.toBitVec.toNat - 1)
  omega
theorem od_c_rm {x : Int64} (h : ¬ x = 0) : od_c (x &&& (x - 1)) 64 < od_c x 64 := by
  have hs : od_sub (x &&& (x - 1)) x := fun s t => ((od_and _ _ s).mp t).1
  obtain ⟨k, hk, h1, h2⟩ := od_sub_ne hs (od_sub1 h)
  exact od_c_lt hs h1 h2 64 hk
theorem od_c_pos {x : Int64} (h : ¬ x = 0) : 0 < od_c x 64 := by
  obtain ⟨s, hs, hb⟩ := od_ne0 h
  have := od_c_lt (od_sub_0 x) hb (od_0 s) 64 hs
  omega
def od_on : Nat → Int64 → Nat
  | 0, _ => 0
  | n + 1, x => if x = 0 then 0 else od_on n (x &&& (x - 1)) + 1
def od_pop (x : Int64) : Nat := od_on 64 x
theorem od_on_le : ∀ n x, od_on n x ≤ n := by
  intro n
  induction n with
  | zero => intro x; exact Nat.le_refl 0
  | succ n ih =>
    intro x
    have := ih (x &&& (x - 1))
    unfold od_on
    split <;> omega
theorem od_pop_0 (x : Int64) : od_pop x = 0 ↔ x = 0 := by
  show od_on (63 + 1) x = 0 ↔ _
  unfold od_on
  by_cases h : x = 0
  · rw [if_pos h]
    exact ⟨fun _ => h, fun _ => rfl⟩
  · rw [if_neg h]
    exact ⟨fun z => absurd z (by omega), fun z => absurd z h⟩
/-- k states taken away -/
def od_rm (x : Int64) : Nat → Int64
  | 0 => x
  | k + 1 => od_rm x k &&& (od_rm x k - 1)
theorem od_rm_s (x : Int64) : ∀ k, od_rm x (k + 1) = od_rm (x &&& (x - 1)) k := by
  intro k
  induction k with
  | zero => rfl
  | succ k ih =>
    show od_rm x (k + 1) &&& (od_rm x (k + 1) - 1) = _
    rw [ih]
    rfl
theorem od_rm_0 : ∀ k n x, k < od_on n x → ¬ od_rm x k = 0 := by
  intro k
  induction k with
  | zero =>
    intro n x h z
    cases n with
    | zero => exact absurd h (by unfold od_on; omega)
    | succ n =>
      unfold od_on at h
      rw [if_pos (show x = 0 from z)] at h
      omega
  | succ k ih =>
    intro n x h
    cases n with
    | zero => exact absurd h (by unfold od_on; omega)
    | succ n =>
      rw [od_rm_s]
      unfold od_on at h
      by_cases z : x = 0
      · rw [if_pos z] at h
        omega
      · rw [if_neg z] at h
        exact ih n _ (by omega)
def od_lo (x : Int64) : Nat → Nat → Nat
  | 0, s => s
  | n + 1, s => if od_b x s = true then s else od_lo x n (s + 1)
def od_low (x : Int64) : Nat := od_lo x 64 0
section
variable {cc pc lv dp : Int32} {st : Int64} {a1 : Nat → Int64} {a2 a3 a4 a5 a6 a7 a8 a9 : Nat → Int32} {a10 a11 : Nat → Int64} {a12 : Nat → Int32} {a13 : Nat → Int64} {a14 : Nat → Int32} {a15 a16 : Nat → Int64}
theorem od_ones_l {post : Int32 → Prop} : ∀ n x k, od_c x 64 ≤ n → post (nI (k + od_on n x)) → ∃ fu, wX_onesIn_5 post cc pc lv dp st a1 a2 a3 a4 a5 a6 a7 a8 a9 a10 a11 a12 a13 a14 a15 a16 fu (nI k) x := by
  intro n
  induction n with
  | zero =>
    intro x k h H
    have e : x = 0 := Classical.byContradiction (fun z => absurd (od_c_pos z) (by omega))
    exact ⟨1, br_t e H⟩
  | succ n ih =>
    intro x k h H
    by_cases e : x = 0
    · unfold od_on at H
      rw [if_pos e] at H
      exact ⟨1, br_t e H⟩
    · unfold od_on at H
      rw [if_neg e] at H
      have := od_c_rm e
      obtain ⟨fu, hf⟩ := ih (x &&& (x - 1)) (k + 1) (by omega) (by rw [show k + 1 + od_on n (x &&& (x - 1)) = k + (od_on n (x &&& (x - 1)) + 1) by omega]; exact H)
      exact ⟨fu + 1, br_f e (nm_e (nm_r (nI_1 k) hf))⟩
theorem od_onesIn {post : Int32 → Prop} {u : St1} {x : Int64} (H : post (nI (od_pop x))) : wpX_onesIn post u x := by
  obtain ⟨ccu, pcu, lvu, dpu, stu, a1u, a2u, a3u, a4u, a5u, a6u, a7u, a8u, a9u, a10u, a11u, a12u, a13u, a14u, a15u, a16u⟩ := u
  unfold wpX_onesIn
  exact od_ones_l 64 x 0 (od_c_le x 64) (by rw [Nat.zero_add]; exact H)
theorem od_low_l {post : Int32 → Prop} {x : Int64} : ∀ n s, s + n = 64 → (∃ t, s ≤ t ∧ t < 64 ∧ od_b x t = true) → post (nI (od_lo x n s)) → ∃ fu, wX_lowestIn_2 post x cc pc lv dp st a1 a2 a3 a4 a5 a6 a7 a8 a9 a10 a11 a12 a13 a14 a15 a16 fu (nI s) := by
  intro n
  induction n with
  | zero =>
    rintro s hs ⟨t, h1, h2, _⟩ _
    exact absurd h2 (by omega)
  | succ n ih =>
    rintro s hs ⟨t, h1, h2, h3⟩ H
    unfold od_lo at H
    by_cases e : od_b x s = true
    · rw [if_pos e] at H
      exact ⟨1, br_f (fun z => (od_test x (by omega)).mp z e) H⟩
    · rw [if_neg e] at H
      have ht : t ≠ s := fun z => e (z ▸ h3)
      obtain ⟨fu, hf⟩ := ih (s + 1) (by omega) ⟨t, by omega, h2, h3⟩ H
      exact ⟨fu + 1, br_t ((od_test x (by omega)).mpr e) (nm_r (nI_1 s) hf)⟩
theorem od_lowestIn {post : Int32 → Prop} {u : St1} {x : Int64} (hx : ¬ x = 0) (H : post (nI (od_low x))) : wpX_lowestIn post u x := by
  obtain ⟨ccu, pcu, lvu, dpu, stu, a1u, a2u, a3u, a4u, a5u, a6u, a7u, a8u, a9u, a10u, a11u, a12u, a13u, a14u, a15u, a16u⟩ := u
  unfold wpX_lowestIn
  obtain ⟨t, ht, hb⟩ := od_ne0 hx
  exact od_low_l 64 0 (by omega) ⟨t, by omega, ht, hb⟩ H
end
section
variable {T : od_T} {cc pc : Nat} {lv : Int32} {u : St1}
theorem od_isProgram {post : Int32 → Prop} {p : Nat} (hI : od_In T cc pc) (hu : od_ok T cc pc lv u) (hp : p < pc) (H : post 1) : wpX_isProgram post u (nI p) := by
  obtain ⟨dp, st, a7, a8, a9, a10, a11, a12, a13, a14, a15, a16, rfl, hca⟩ := hu
  have := hI.2.2
  unfold wpX_isProgram
  exact br_f (nI_pos (by omega)) (pk_le pc p (fun z => absurd z (by omega)) (fun _ => H))
theorem od_isCondition {post : Int32 → Prop} {c : Nat} (hI : od_In T cc pc) (hu : od_ok T cc pc lv u) (hc : c < cc) (H : post 1) : wpX_isCondition post u (nI c) := by
  obtain ⟨dp, st, a7, a8, a9, a10, a11, a12, a13, a14, a15, a16, rfl, hca⟩ := hu
  have := hI.2.1
  unfold wpX_isCondition
  exact br_f (nI_pos (by omega)) (pk_le cc c (fun z => absurd z (by omega)) (fun _ => H))
theorem od_canAsk {post : Int32 → Prop} {k p c : Nat} (hI : od_In T cc pc) (hu : od_ok T cc pc lv u) (hp : p < pc) (hk : k ≤ 5) (hc : k ≤ 2 → c < cc) (H : post 1) : wpX_canAsk post u (nI k) (nI p) (nI c) := by
  have hu' := hu
  obtain ⟨dp, st, a7, a8, a9, a10, a11, a12, a13, a14, a15, a16, rfl, hca⟩ := hu
  unfold wpX_canAsk
  refine br_f (nI_pos (by omega)) (pk_lt 5 k (fun z => absurd z (by omega)) (fun _ => ?_))
  refine od_isProgram hI hu' hp (br_f (by decide) ?_)
  exact pk_lt 2 k (fun _ => H) (fun z => od_isCondition hI hu' (hc z) (br_f (by decide) H))
/-- the set that is asked for -/
def od_kd (T : od_T) (k p c : Nat) : Int64 :=
  if k = 0 then od_M T true true p (od_W T c ^^^ (-1)) ^^^ (-1)
  else if k = 1 then od_M T true false p (od_W T c ^^^ (-1)) ^^^ (-1)
  else if k = 2 then od_M T false false p (od_W T c)
  else if k = 5 then od_M T true true p (-1) ^^^ (-1)
  else if k = 3 then od_M T true false p 0
  else od_M T false true p 0
theorem od_ofKind {post : Int64 → St1 → Prop} {k p c : Nat} (hI : od_In T cc pc) (hu : od_ok T cc pc lv u) (hp : p < pc) (hk : k ≤ 5) (hc : k ≤ 2 → c < cc) (H : ∀ u', od_ok T cc pc lv u' → post (od_kd T k p c) u') : wpX_ofKind post u (nI k) (nI p) (nI c) := by
  have hu' := hu
  obtain ⟨dp, st, a7, a8, a9, a10, a11, a12, a13, a14, a15, a16, rfl, hca⟩ := hu
  have h24 := hI.2.1
  unfold wpX_ofKind
  unfold od_kd at H
  refine pk_le 2 k (fun z => pk_eq k 2 (fun e => ?_) (fun e2 => pk_eq k 5 (fun e => ?_) (fun e5 => pk_eq k 3 (fun e => ?_) (fun e3 => ?_)))) (fun z => ⟨pk_in c 24 (by have := hc (by omega); omega), pk_eq k 0 (fun e => ?_) (fun e0 => ?_)⟩)
  · have := hc (by omega)
    rw [if_neg (by omega), if_neg (by omega), if_pos e] at H
    refine ⟨pk_in c 24 (by omega), ?_⟩
    rw [nI_clamp (show c < 2 ^ 31 by omega)]
    exact od_map_wp false false hI hu' hp rfl (fun v hv => H v hv)
  · rw [if_neg (by omega), if_neg (by omega), if_neg (by omega), if_pos e] at H
    exact od_map_wp true true hI hu' hp rfl (fun v hv => H v hv)
  · rw [if_neg (by omega), if_neg (by omega), if_neg (by omega), if_neg (by omega), if_pos e] at H
    unfold wX_ofKind_84
    exact od_map_wp true false hI hu' hp rfl (fun v hv => H v hv)
  · rw [if_neg (by omega), if_neg (by omega), if_neg (by omega), if_neg (by omega), if_neg (by omega)] at H
    unfold wX_ofKind_84
    exact od_map_wp false true hI hu' hp rfl (fun v hv => H v hv)
  · have := hc (by omega)
    rw [if_pos e] at H
    rw [nI_clamp (show c < 2 ^ 31 by omega)]
    unfold wX_ofKind_26
    exact od_map_wp true true hI hu' hp rfl (fun v hv => H v hv)
  · have := hc (by omega)
    rw [if_neg (by omega), if_pos (by omega)] at H
    rw [nI_clamp (show c < 2 ^ 31 by omega)]
    unfold wX_ofKind_26
    exact od_map_wp true false hI hu' hp rfl (fun v hv => H v hv)
theorem od_is {post : Int32 → St1 → Prop} {k p c s : Nat} (hI : od_In T cc pc) (hu : od_ok T cc pc lv u) (hp : p < pc) (hk : k ≤ 5) (hc : k ≤ 2 → c < cc) (hs : s < 64) (H0 : ¬ od_b (od_kd T k p c) s = true → ∀ u', od_ok T cc pc lv u' → post 0 u') (H1 : od_b (od_kd T k p c) s = true → ∀ u', od_ok T cc pc lv u' → post 1 u') : wpX_is post u (nI k) (nI p) (nI c) (nI s) := by
  have hu' := hu
  obtain ⟨dp, st, a7, a8, a9, a10, a11, a12, a13, a14, a15, a16, rfl, hca⟩ := hu
  unfold wpX_is
  refine od_canAsk hI hu' hp hk hc (br_f (by decide) (br_f (nI_pos (by omega)) (pk_lt s 64 (fun _ => ?_) (fun z => absurd z (by omega)))))
  refine od_ofKind hI hu' hp hk hc (fun v hv => ?_)
  obtain ⟨ccv, pcv, lvv, dpv, stv, a1v, a2v, a3v, a4v, a5v, a6v, a7v, a8v, a9v, a10v, a11v, a12v, a13v, a14v, a15v, a16v⟩ := v
  exact br_c (fun z => H0 ((od_test _ hs).mp z) _ hv) (fun z => H1 (Classical.byContradiction (fun t => z ((od_test _ hs).mpr t))) _ hv)
theorem od_count {post : Int32 → St1 → Prop} {k p c : Nat} (hI : od_In T cc pc) (hu : od_ok T cc pc lv u) (hp : p < pc) (hk : k ≤ 5) (hc : k ≤ 2 → c < cc) (H : ∀ u', od_ok T cc pc lv u' → post (nI (od_pop (od_kd T k p c))) u') : wpX_count post u (nI k) (nI p) (nI c) := by
  have hu' := hu
  obtain ⟨dp, st, a7, a8, a9, a10, a11, a12, a13, a14, a15, a16, rfl, hca⟩ := hu
  unfold wpX_count
  refine od_canAsk hI hu' hp hk hc (br_f (by decide) ?_)
  refine od_ofKind hI hu' hp hk hc (fun v hv => ?_)
  obtain ⟨ccv, pcv, lvv, dpv, stv, a1v, a2v, a3v, a4v, a5v, a6v, a7v, a8v, a9v, a10v, a11v, a12v, a13v, a14v, a15v, a16v⟩ := v
  exact od_onesIn (H _ hv)
def od_fi (x : Int64) : Int32 := if x = 0 then -3 else nI (od_low x)
theorem od_first {post : Int32 → St1 → Prop} {k p c : Nat} (hI : od_In T cc pc) (hu : od_ok T cc pc lv u) (hp : p < pc) (hk : k ≤ 5) (hc : k ≤ 2 → c < cc) (H : ∀ u', od_ok T cc pc lv u' → post (od_fi (od_kd T k p c)) u') : wpX_first post u (nI k) (nI p) (nI c) := by
  have hu' := hu
  obtain ⟨dp, st, a7, a8, a9, a10, a11, a12, a13, a14, a15, a16, rfl, hca⟩ := hu
  unfold wpX_first
  refine od_canAsk hI hu' hp hk hc (br_f (by decide) ?_)
  refine od_ofKind hI hu' hp hk hc (fun v hv => ?_)
  have Hv := H v hv
  unfold od_fi at Hv
  obtain ⟨ccv, pcv, lvv, dpv, stv, a1v, a2v, a3v, a4v, a5v, a6v, a7v, a8v, a9v, a10v, a11v, a12v, a13v, a14v, a15v, a16v⟩ := v
  refine br_c (fun z => ?_) (fun z => ?_)
  · rw [if_pos z] at Hv
    exact Hv
  · rw [if_neg z] at Hv
    exact od_lowestIn z Hv
/-- the possible ends -/
def od_en (T : od_T) (p s : Nat) : Int64 := od_mk (fun t => od_b (od_M T false false p ((1 : Int64) <<< ((nI t).toInt64 &&& 63))) s) 64
theorem od_endsOf {post : Int64 → St1 → Prop} {p s : Nat} (hI : od_In T cc pc) (hu : od_ok T cc pc lv u) (hp : p < pc) (hs : s < 64) (H : ∀ u', od_ok T cc pc lv u' → post (od_en T p s) u') : wpX_endsOf post u (nI p) (nI s) := by
  obtain ⟨ccu, pcu, lvu, dpu, stu, a1u, a2u, a3u, a4u, a5u, a6u, a7u, a8u, a9u, a10u, a11u, a12u, a13u, a14u, a15u, a16u⟩ := u
  unfold wpX_endsOf
  refine pk_loop (σ := Int64 × St1) (fun n i w => wX_endsOf_5 post (nI p) (nI s) n w.1 (nI i) w.2.1 w.2.2.1 w.2.2.2.1 w.2.2.2.2.1 w.2.2.2.2.2.1 w.2.2.2.2.2.2.1 w.2.2.2.2.2.2.2.1 w.2.2.2.2.2.2.2.2.1 w.2.2.2.2.2.2.2.2.2.1 w.2.2.2.2.2.2.2.2.2.2.1 w.2.2.2.2.2.2.2.2.2.2.2.1 w.2.2.2.2.2.2.2.2.2.2.2.2.1 w.2.2.2.2.2.2.2.2.2.2.2.2.2.1 w.2.2.2.2.2.2.2.2.2.2.2.2.2.2.1 w.2.2.2.2.2.2.2.2.2.2.2.2.2.2.2.1 w.2.2.2.2.2.2.2.2.2.2.2.2.2.2.2.2.1 w.2.2.2.2.2.2.2.2.2.2.2.2.2.2.2.2.2.1 w.2.2.2.2.2.2.2.2.2.2.2.2.2.2.2.2.2.2.1 w.2.2.2.2.2.2.2.2.2.2.2.2.2.2.2.2.2.2.2.1 w.2.2.2.2.2.2.2.2.2.2.2.2.2.2.2.2.2.2.2.2.1 w.2.2.2.2.2.2.2.2.2.2.2.2.2.2.2.2.2.2.2.2.2) (fun i w => w.1 = od_mk (fun t => od_b (od_M T false false p ((1 : Int64) <<< ((nI t).toInt64 &&& 63))) s) i ∧ od_ok T cc pc lv w.2) 64 0 (0, (ccu, pcu, lvu, dpu, stu, a1u, a2u, a3u, a4u, a5u, a6u, a7u, a8u, a9u, a10u, a11u, a12u, a13u, a14u, a15u, a16u)) (by omega) ⟨rfl, hu⟩ ?_ ?_
  · rintro n ⟨x, v⟩ ⟨h1, h2⟩
    obtain ⟨ccv, pcv, lvv, dpv, stv, a1v, a2v, a3v, a4v, a5v, a6v, a7v, a8v, a9v, a10v, a11v, a12v, a13v, a14v, a15v, a16v⟩ := v
    refine pk_le 64 64 (fun _ => ?_) (fun z => absurd z (by omega))
    dsimp only at h1 ⊢
    rw [h1]
    exact H _ h2
  · rintro n i ⟨x, v⟩ hi ⟨h1, h2⟩ hn
    obtain ⟨ccv, pcv, lvv, dpv, stv, a1v, a2v, a3v, a4v, a5v, a6v, a7v, a8v, a9v, a10v, a11v, a12v, a13v, a14v, a15v, a16v⟩ := v
    refine pk_le 64 i (fun z => absurd z (by omega)) (fun _ => ?_)
    refine od_map_wp false false hI h2 hp rfl (fun y hy => ?_)
    obtain ⟨ccy, pcy, lvy, dpy, sty, a1y, a2y, a3y, a4y, a5y, a6y, a7y, a8y, a9y, a10y, a11y, a12y, a13y, a14y, a15y, a16y⟩ := y
    dsimp only at h1 ⊢
    refine br_c (fun z => nm_r (nI_1 i) (hn (_, _) ⟨?_, hy⟩)) (fun z => nm_e (nm_r (nI_1 i) (hn (_, _) ⟨?_, hy⟩)))
    · have z := (od_test _ hs).mp z
      dsimp only
      unfold od_mk
      rw [if_neg z]
      exact h1
    · have z : od_b (od_M T false false p ((1 : Int64) <<< ((nI i).toInt64 &&& 63))) s = true := Classical.byContradiction (fun t => z ((od_test _ hs).mpr t))
      dsimp only
      unfold od_mk
      rw [if_pos z, h1]
theorem od_ends {post : Int32 → St1 → Prop} {p s : Nat} (hI : od_In T cc pc) (hu : od_ok T cc pc lv u) (hp : p < pc) (hs : s < 64) (H : ∀ u', od_ok T cc pc lv u' → post (nI (od_pop (od_en T p s))) u') : wpX_ends post u (nI p) (nI s) := by
  have hu' := hu
  obtain ⟨dp, st, a7, a8, a9, a10, a11, a12, a13, a14, a15, a16, rfl, hca⟩ := hu
  unfold wpX_ends
  refine od_isProgram hI hu' hp (br_f (by decide) (br_f (nI_pos (by omega)) (pk_lt s 64 (fun _ => ?_) (fun z => absurd z (by omega)))))
  refine od_endsOf hI hu' hp hs (fun v hv => ?_)
  obtain ⟨ccv, pcv, lvv, dpv, stv, a1v, a2v, a3v, a4v, a5v, a6v, a7v, a8v, a9v, a10v, a11v, a12v, a13v, a14v, a15v, a16v⟩ := v
  exact od_onesIn (H _ hv)
def od_ed (x : Int64) (k : Nat) : Int32 := if k < od_pop x then nI (od_low (od_rm x k)) else -3
theorem od_end {post : Int32 → St1 → Prop} {p s k : Nat} (hI : od_In T cc pc) (hu : od_ok T cc pc lv u) (hp : p < pc) (hs : s < 64) (hk : k < 64) (H : ∀ u', od_ok T cc pc lv u' → post (od_ed (od_en T p s) k) u') : wpX_end post u (nI p) (nI s) (nI k) := by
  have hu' := hu
  obtain ⟨dp, st, a7, a8, a9, a10, a11, a12, a13, a14, a15, a16, rfl, hca⟩ := hu
  unfold wpX_end
  refine od_isProgram hI hu' hp (br_f (by decide) (br_f (nI_pos (by omega)) (pk_lt s 64 (fun _ => ?_) (fun z => absurd z (by omega)))))
  refine od_endsOf hI hu' hp hs (fun v hv => ?_)
  have Hv := H v hv
  unfold od_ed at Hv
  obtain ⟨ccv, pcv, lvv, dpv, stv, a1v, a2v, a3v, a4v, a5v, a6v, a7v, a8v, a9v, a10v, a11v, a12v, a13v, a14v, a15v, a16v⟩ := v
  have hpop : od_pop (od_en T p s) ≤ 64 := od_on_le 64 _
  refine br_f (nI_pos (by omega)) (od_onesIn ?_)
  refine pk_lt k (od_pop (od_en T p s)) (fun z => ?_) (fun z => ?_)
  · rw [if_pos z] at Hv
    refine pk_loop (σ := Int64) (fun n i w => wX_end_48 post (nI k) ccv pcv lvv dpv stv a1v a2v a3v a4v a5v a6v a7v a8v a9v a10v a11v a12v a13v a14v a15v a16v n w (nI i)) (fun i w => w = od_rm (od_en T p s) i) k 0 _ (by omega) rfl ?_ ?_
    · intro n w hw
      refine pk_le k k (fun _ => ?_) (fun z => absurd z (by omega))
      subst hw
      exact od_lowestIn (od_rm_0 k 64 _ z) Hv
    · intro n i w hi hw hn
      refine pk_le k i (fun z => absurd z (by omega)) (fun _ => nm_e (nm_r (nI_1 i) (hn _ ?_)))
      subst hw
      rfl
  · rw [if_neg (by omega)] at Hv
    exact Hv
theorem od_refines {post : Int32 → St1 → Prop} {p q : Nat} (hI : od_In T cc pc) (hu : od_ok T cc pc lv u) (hp : p < pc) (hq : q < pc) (h0 : (od_M T true true p 0 ^^^ (-1)) &&& od_M T true true q 0 = 0) (h1 : ∀ t, t < 64 → ((od_M T true true p 0 ^^^ (-1)) &&& od_M T false false q ((1 : Int64) <<< ((nI t).toInt64 &&& 63))) &&& (od_M T false false p ((1 : Int64) <<< ((nI t).toInt64 &&& 63)) ^^^ (-1)) = 0) (H : ∀ u', od_ok T cc pc lv u' → post 1 u') : wpX_refines post u (nI p) (nI q) := by
  have hu' := hu
  obtain ⟨dp, st, a7, a8, a9, a10, a11, a12, a13, a14, a15, a16, rfl, hca⟩ := hu
  unfold wpX_refines
  refine od_isProgram hI hu' hp (br_f (by decide) (od_isProgram hI hu' hq (br_f (by decide) ?_)))
  refine od_map_wp true true hI hu' hp rfl (fun v hv => ?_)
  obtain ⟨ccv, pcv, lvv, dpv, stv, a1v, a2v, a3v, a4v, a5v, a6v, a7v, a8v, a9v, a10v, a11v, a12v, a13v, a14v, a15v, a16v⟩ := v
  refine nm_e ?_
  refine od_map_wp true true hI hv hq rfl (fun y hy => ?_)
  obtain ⟨ccy, pcy, lvy, dpy, sty, a1y, a2y, a3y, a4y, a5y, a6y, a7y, a8y, a9y, a10y, a11y, a12y, a13y, a14y, a15y, a16y⟩ := y
  refine br_t h0 ?_
  refine pk_loop (σ := St1) (fun n i w => wX_refines_49 post (nI p) (nI q) (od_M T true true p 0 ^^^ (-1)) n (nI i) w.1 w.2.1 w.2.2.1 w.2.2.2.1 w.2.2.2.2.1 w.2.2.2.2.2.1 w.2.2.2.2.2.2.1 w.2.2.2.2.2.2.2.1 w.2.2.2.2.2.2.2.2.1 w.2.2.2.2.2.2.2.2.2.1 w.2.2.2.2.2.2.2.2.2.2.1 w.2.2.2.2.2.2.2.2.2.2.2.1 w.2.2.2.2.2.2.2.2.2.2.2.2.1 w.2.2.2.2.2.2.2.2.2.2.2.2.2.1 w.2.2.2.2.2.2.2.2.2.2.2.2.2.2.1 w.2.2.2.2.2.2.2.2.2.2.2.2.2.2.2.1 w.2.2.2.2.2.2.2.2.2.2.2.2.2.2.2.2.1 w.2.2.2.2.2.2.2.2.2.2.2.2.2.2.2.2.2.1 w.2.2.2.2.2.2.2.2.2.2.2.2.2.2.2.2.2.2.1 w.2.2.2.2.2.2.2.2.2.2.2.2.2.2.2.2.2.2.2.1 w.2.2.2.2.2.2.2.2.2.2.2.2.2.2.2.2.2.2.2.2) (fun i w => od_ok T cc pc lv w) 64 0 (ccy, pcy, lvy, dpy, sty, a1y, a2y, a3y, a4y, a5y, a6y, a7y, a8y, a9y, a10y, a11y, a12y, a13y, a14y, a15y, a16y) (by omega) hy ?_ ?_
  · intro n w hw
    exact pk_le 64 64 (fun _ => H _ hw) (fun z => absurd z (by omega))
  · intro n i w hi hw hn
    refine pk_le 64 i (fun z => absurd z (by omega)) (fun _ => ?_)
    refine od_map_wp false false hI hw hp rfl (fun v hv => ?_)
    obtain ⟨ccv, pcv, lvv, dpv, stv, a1v, a2v, a3v, a4v, a5v, a6v, a7v, a8v, a9v, a10v, a11v, a12v, a13v, a14v, a15v, a16v⟩ := v
    refine od_map_wp false false hI hv hq rfl (fun y hy => ?_)
    obtain ⟨ccy, pcy, lvy, dpy, sty, a1y, a2y, a3y, a4y, a5y, a6y, a7y, a8y, a9y, a10y, a11y, a12y, a13y, a14y, a15y, a16y⟩ := y
    exact br_t (h1 i hi) (nm_r (nI_1 i) (hn _ hy))
/-- two programs of the same outcome, as it is asked for -/
def od_same (T : od_T) (p q : Nat) : Prop := od_M T true false p 0 = od_M T true false q 0 ∧ od_M T false true p 0 = od_M T false true q 0 ∧ ∀ t, t < 64 → od_M T false false p ((1 : Int64) <<< ((nI t).toInt64 &&& 63)) = od_M T false false q ((1 : Int64) <<< ((nI t).toInt64 &&& 63))
theorem od_same_wp {post : Int32 → St1 → Prop} {p q : Nat} (hI : od_In T cc pc) (hu : od_ok T cc pc lv u) (hp : p < pc) (hq : q < pc) (H0 : ¬ od_same T p q → ∀ u', od_ok T cc pc lv u' → post 0 u') (H1 : od_same T p q → ∀ u', od_ok T cc pc lv u' → post 1 u') : wpX_same post u (nI p) (nI q) := by
  have hu' := hu
  obtain ⟨dp, st, a7, a8, a9, a10, a11, a12, a13, a14, a15, a16, rfl, hca⟩ := hu
  unfold wpX_same
  refine od_isProgram hI hu' hp (br_f (by decide) (od_isProgram hI hu' hq (br_f (by decide) ?_)))
  refine od_map_wp true false hI hu' hp rfl (fun v hv => ?_)
  obtain ⟨ccv, pcv, lvv, dpv, stv, a1v, a2v, a3v, a4v, a5v, a6v, a7v, a8v, a9v, a10v, a11v, a12v, a13v, a14v, a15v, a16v⟩ := v
  refine od_map_wp true false hI hv hq rfl (fun y hy => ?_)
  obtain ⟨ccy, pcy, lvy, dpy, sty, a1y, a2y, a3y, a4y, a5y, a6y, a7y, a8y, a9y, a10y, a11y, a12y, a13y, a14y, a15y, a16y⟩ := y
  refine br_c (fun e1 => ?_) (fun e1 => H0 (fun z => e1 z.1) _ hy)
  refine od_map_wp false true hI hy hp rfl (fun z hz => ?_)
  obtain ⟨ccz, pcz, lvz, dpz, stz, a1z, a2z, a3z, a4z, a5z, a6z, a7z, a8z, a9z, a10z, a11z, a12z, a13z, a14z, a15z, a16z⟩ := z
  refine od_map_wp false true hI hz hq rfl (fun x hx => ?_)
  obtain ⟨ccx, pcx, lvx, dpx, stx, a1x, a2x, a3x, a4x, a5x, a6x, a7x, a8x, a9x, a10x, a11x, a12x, a13x, a14x, a15x, a16x⟩ := x
  refine br_c (fun e2 => ?_) (fun e2 => H0 (fun z => e2 z.2.1) _ hx)
  refine pk_loop (σ := St1) (fun n i w => wX_same_58 post (nI p) (nI q) n (nI i) w.1 w.2.1 w.2.2.1 w.2.2.2.1 w.2.2.2.2.1 w.2.2.2.2.2.1 w.2.2.2.2.2.2.1 w.2.2.2.2.2.2.2.1 w.2.2.2.2.2.2.2.2.1 w.2.2.2.2.2.2.2.2.2.1 w.2.2.2.2.2.2.2.2.2.2.1 w.2.2.2.2.2.2.2.2.2.2.2.1 w.2.2.2.2.2.2.2.2.2.2.2.2.1 w.2.2.2.2.2.2.2.2.2.2.2.2.2.1 w.2.2.2.2.2.2.2.2.2.2.2.2.2.2.1 w.2.2.2.2.2.2.2.2.2.2.2.2.2.2.2.1 w.2.2.2.2.2.2.2.2.2.2.2.2.2.2.2.2.1 w.2.2.2.2.2.2.2.2.2.2.2.2.2.2.2.2.2.1 w.2.2.2.2.2.2.2.2.2.2.2.2.2.2.2.2.2.2.1 w.2.2.2.2.2.2.2.2.2.2.2.2.2.2.2.2.2.2.2.1 w.2.2.2.2.2.2.2.2.2.2.2.2.2.2.2.2.2.2.2.2) (fun i w => od_ok T cc pc lv w ∧ ∀ t, t < i → od_M T false false p ((1 : Int64) <<< ((nI t).toInt64 &&& 63)) = od_M T false false q ((1 : Int64) <<< ((nI t).toInt64 &&& 63))) 64 0 (ccx, pcx, lvx, dpx, stx, a1x, a2x, a3x, a4x, a5x, a6x, a7x, a8x, a9x, a10x, a11x, a12x, a13x, a14x, a15x, a16x) (by omega) ⟨hx, fun t ht => absurd ht (by omega)⟩ ?_ ?_
  · intro n w hw
    exact pk_le 64 64 (fun _ => H1 ⟨e1, e2, hw.2⟩ _ hw.1) (fun z => absurd z (by omega))
  · intro n i w hi hw hn
    refine pk_le 64 i (fun z => absurd z (by omega)) (fun _ => ?_)
    refine od_map_wp false false hI hw.1 hp rfl (fun v hv => ?_)
    obtain ⟨ccv, pcv, lvv, dpv, stv, a1v, a2v, a3v, a4v, a5v, a6v, a7v, a8v, a9v, a10v, a11v, a12v, a13v, a14v, a15v, a16v⟩ := v
    refine od_map_wp false false hI hv hq rfl (fun y hy => ?_)
    obtain ⟨ccy, pcy, lvy, dpy, sty, a1y, a2y, a3y, a4y, a5y, a6y, a7y, a8y, a9y, a10y, a11y, a12y, a13y, a14y, a15y, a16y⟩ := y
    refine br_c (fun e3 => nm_r (nI_1 i) (hn _ ⟨hy, lt_s hw.2 e3⟩)) (fun e3 => H0 (fun z => e3 (z.2.2 i hi)) _ hy)
end
end
section
/-- what a new condition may be made of -/
def od_vc (cc k x y : Nat) : Prop := k ≤ 4 ∧ (k = 0 → x ≤ 2 ∧ y ≤ 3) ∧ (k = 1 → x ≤ 2 ∧ y ≤ 2) ∧ (2 ≤ k → x < cc ∧ y < cc)
def od_cs (k x y s : Nat) : Bool := if k = 0 then decide (od_val s x = y) else decide (od_val s x ≤ od_val s y)
def od_cond (T : od_T) (k x y : Nat) : Int64 :=
  if k = 2 then od_W T x ^^^ (-1)
  else if k = 3 then od_W T x &&& od_W T y
  else if k = 4 then od_W T x ||| od_W T y
  else od_mk (od_cs k x y) 64
def od_addC (T : od_T) (cc : Nat) (b : Int64) : od_T := (vp_updL (od_W T) cc b, T.2)
theorem od_addC_ag (T : od_T) (cc pc : Nat) (b : Int64) : od_ag T (od_addC T cc b) cc pc := ⟨fun c hc => pk_uLn (by omega), fun _ _ => ⟨rfl, rfl, rfl, rfl, rfl⟩⟩
theorem od_addC_In {T : od_T} {cc pc : Nat} (h : od_In T cc pc) (b : Int64) (hc : cc < 24) : od_In (od_addC T cc b) (cc + 1) pc := ⟨od_ag_wf h.1 (od_addC_ag T cc pc b) (by omega), by omega, h.2.2⟩
theorem od_val_lt (s y : Nat) : od_val s y < 4 := by
  unfold od_val
  split
  · omega
  · exact Nat.mod_lt _ (by omega)
section
variable {T : od_T} {cc pc : Nat} {lv dp : Int32} {st : Int64} {a7 a8 a9 : Nat → Int32} {a10 a11 : Nat → Int64} {a12 : Nat → Int32} {a13 : Nat → Int64} {a14 : Nat → Int32} {a15 a16 : Nat → Int64}
theorem od_c273 {post : Int32 → St1 → Prop} {b : Int64} (hI : od_In T cc pc) (hc : cc < 24) (hca : od_cache T pc a14 a15 a16) (H : ∀ u', od_ok (od_addC T cc b) (cc + 1) pc lv u' → post (nI cc) u') : wX_condition_273 post b (nI cc) (nI pc) lv dp st (od_W T) (od_i (od_K T)) (od_i (od_X T)) (od_i (od_Y T)) (od_i (od_Z T)) (od_i (od_V T)) a7 a8 a9 a10 a11 a12 a13 a14 a15 a16 := by
  unfold wX_condition_273
  refine ⟨pk_in cc 24 hc, nm_r (by rw [nI_clamp (show cc < 2 ^ 31 by omega)]) (nm_r (nI_1 cc) ?_)⟩
  rw [nI_pred]
  exact H _ ⟨_, _, _, _, _, _, _, _, _, _, _, _, rfl, od_cache_ag hI.1 (od_addC_ag T cc pc b) (Nat.le_refl pc) hca⟩
theorem od_c226 {post : Int32 → St1 → Prop} {J : Int64 → Int32 → Prop} {k x s v : Nat} {b : Int64} {y3 : Int32} {r : Bool} (hx : x ≤ 2) (hs : s < 64) (hv : v < 4) (hk : k ≤ 1) (hr : r = if k = 0 then decide (od_val s x = v) else decide (od_val s x ≤ v)) (H : J (if r = true then b ||| ((1 : Int64) <<< ((nI s).toInt64 &&& 63)) else b) (nI (s + 1))) : wX_condition_226 post J (nI k) (nI x) y3 b (nI s) (nI v) (nI cc) (nI pc) lv dp st (od_W T) (od_i (od_K T)) (od_i (od_X T)) (od_i (od_Y T)) (od_i (od_Z T)) (od_i (od_V T)) a7 a8 a9 a10 a11 a12 a13 a14 a15 a16 := by
  unfold wX_condition_226
  refine od_valueIn hs (by omega) ?_
  have hl := od_val_lt s x
  refine pk_eq k 0 (fun e => pk_eq (od_val s x) v (fun z => ?_) (fun z => nm_r (nI_1 s) ?_)) (fun e => pk_lt v (od_val s x) (fun z => nm_r (nI_1 s) ?_) (fun z => ?_))
  · rw [if_pos e, decide_eq_true z] at hr
    subst hr
    unfold wX_condition_258
    exact nm_e (nm_r (nI_1 s) H)
  · rw [if_pos e, decide_eq_false z] at hr
    subst hr
    exact H
  · rw [if_neg e, decide_eq_false (by omega)] at hr
    subst hr
    exact H
  · rw [if_neg e, decide_eq_true z] at hr
    subst hr
    unfold wX_condition_258
    exact nm_e (nm_r (nI_1 s) H)
theorem od_c199 {post : Int32 → St1 → Prop} {k x y : Nat} (hv : od_vc cc k x y) (hk : k ≤ 1) (H : wX_condition_273 post (od_mk (od_cs k x y) 64) (nI cc) (nI pc) lv dp st (od_W T) (od_i (od_K T)) (od_i (od_X T)) (od_i (od_Y T)) (od_i (od_Z T)) (od_i (od_V T)) a7 a8 a9 a10 a11 a12 a13 a14 a15 a16) : ∃ n, wX_condition_199 post (nI k) (nI x) (nI y) (nI cc) (nI pc) lv dp st (od_W T) (od_i (od_K T)) (od_i (od_X T)) (od_i (od_Y T)) (od_i (od_Z T)) (od_i (od_V T)) a7 a8 a9 a10 a11 a12 a13 a14 a15 a16 n 0 0 := by
  obtain ⟨v1, v2, v3, v4⟩ := hv
  refine pk_loop (σ := Int64) (fun n i w => wX_condition_199 post (nI k) (nI x) (nI y) (nI cc) (nI pc) lv dp st (od_W T) (od_i (od_K T)) (od_i (od_X T)) (od_i (od_Y T)) (od_i (od_Z T)) (od_i (od_V T)) a7 a8 a9 a10 a11 a12 a13 a14 a15 a16 n w (nI i)) (fun i w => w = od_mk (od_cs k x y) i) 64 0 0 (by omega) rfl ?_ ?_
  · intro n w hw
    subst hw
    exact pk_le 64 64 (fun _ => H) (fun z => absurd z (by omega))
  · intro n i w hi hw hn
    subst hw
    refine pk_le 64 i (fun z => absurd z (by omega)) (fun _ => pk_le 2 k (fun z => absurd z (by omega)) (fun _ => pk_eq k 0 (fun e => ?_) (fun e => ?_)))
    · have t := v2 e
      refine od_c226 (r := od_cs k x y i) t.1 hi (by omega) hk ?_ (hn _ rfl)
      unfold od_cs
      rw [if_pos e, if_pos e]
    · have t := v3 (by omega)
      refine od_valueIn hi (by omega) ?_
      refine od_c226 (r := od_cs k x y i) t.1 hi (od_val_lt i y) hk ?_ (hn _ rfl)
      unfold od_cs
      rw [if_neg e, if_neg e]
theorem od_c199b {post : Int32 → St1 → Prop} {k : Nat} {b : Int64} {x2 x3 : Int32} (hk : 2 ≤ k) (hk2 : k ≤ 4) (H : wX_condition_273 post b (nI cc) (nI pc) lv dp st (od_W T) (od_i (od_K T)) (od_i (od_X T)) (od_i (od_Y T)) (od_i (od_Z T)) (od_i (od_V T)) a7 a8 a9 a10 a11 a12 a13 a14 a15 a16) : ∃ n, wX_condition_199 post (nI k) x2 x3 (nI cc) (nI pc) lv dp st (od_W T) (od_i (od_K T)) (od_i (od_X T)) (od_i (od_Y T)) (od_i (od_Z T)) (od_i (od_V T)) a7 a8 a9 a10 a11 a12 a13 a14 a15 a16 n b 0 :=
  ⟨1, pk_le 64 0 (fun z => absurd z (by omega)) (fun _ => pk_le 2 k (fun _ => H) (fun z => absurd z (by omega)))⟩
theorem od_c125 {post : Int32 → St1 → Prop} {k x y : Nat} (hI : od_In T cc pc) (hv : od_vc cc k x y) (hc : cc < 24) (hca : od_cache T pc a14 a15 a16) (H : ∀ u', od_ok (od_addC T cc (od_cond T k x y)) (cc + 1) pc lv u' → post (nI cc) u') : wX_condition_125 post (nI k) (nI x) (nI y) 1 (nI cc) (nI pc) lv dp st (od_W T) (od_i (od_K T)) (od_i (od_X T)) (od_i (od_Y T)) (od_i (od_Z T)) (od_i (od_V T)) a7 a8 a9 a10 a11 a12 a13 a14 a15 a16 := by
  have hv' := hv
  obtain ⟨v1, v2, v3, v4⟩ := hv
  have G : wX_condition_273 post (od_cond T k x y) (nI cc) (nI pc) lv dp st (od_W T) (od_i (od_K T)) (od_i (od_X T)) (od_i (od_Y T)) (od_i (od_Z T)) (od_i (od_V T)) a7 a8 a9 a10 a11 a12 a13 a14 a15 a16 := od_c273 hI hc hca H
  unfold od_cond at G
  unfold wX_condition_125
  refine br_f (by decide) (pk_eq k 2 (fun e => ?_) (fun e2 => pk_le k 2 (fun z => ?_) (fun z => pk_eq k 3 (fun e => ?_) (fun e3 => ?_))))
  · have t := v4 (by omega)
    rw [if_pos e] at G
    refine ⟨pk_in x 24 (by omega), nm_r (by rw [nI_clamp (show x < 2 ^ 31 by omega)]) ?_⟩
    exact od_c199b (by omega) (by omega) G
  · rw [if_neg (by omega), if_neg (by omega), if_neg (by omega)] at G
    exact od_c199 hv' (by omega) G
  · have t := v4 (by omega)
    rw [if_neg (by omega), if_pos e] at G
    refine ⟨pk_in x 24 (by omega), pk_in y 24 (by omega), nm_r (by rw [nI_clamp (show x < 2 ^ 31 by omega), nI_clamp (show y < 2 ^ 31 by omega)]) ?_⟩
    exact od_c199b (by omega) (by omega) G
  · have t := v4 (by omega)
    rw [if_neg (by omega), if_neg (by omega), if_pos (by omega)] at G
    refine ⟨pk_in x 24 (by omega), pk_in y 24 (by omega), nm_r (by rw [nI_clamp (show x < 2 ^ 31 by omega), nI_clamp (show y < 2 ^ 31 by omega)]) ?_⟩
    exact od_c199b (by omega) (by omega) G
theorem od_isVariable {post : Int32 → Prop} {u : St1} {x : Nat} (hx : x ≤ 2) (H : post 1) : wpX_isVariable post u (nI x) := by
  obtain ⟨ccu, pcu, lvu, dpu, stu, a1u, a2u, a3u, a4u, a5u, a6u, a7u, a8u, a9u, a10u, a11u, a12u, a13u, a14u, a15u, a16u⟩ := u
  unfold wpX_isVariable
  exact br_f (nI_pos (by omega)) (pk_lt 2 x (fun z => absurd z (by omega)) (fun _ => H))
theorem od_condition {post : Int32 → St1 → Prop} {u : St1} {k x y : Nat} (hI : od_In T cc pc) (hv : od_vc cc k x y) (hu : od_ok T cc pc lv u) (H1 : cc < 24 → ∀ u', od_ok (od_addC T cc (od_cond T k x y)) (cc + 1) pc lv u' → post (nI cc) u') (H0 : ¬ cc < 24 → ∀ u', od_ok T cc pc lv u' → post (-2) u') : wpX_condition post u (nI k) (nI x) (nI y) := by
  have hu' := hu
  obtain ⟨dp, st, a7, a8, a9, a10, a11, a12, a13, a14, a15, a16, rfl, hca⟩ := hu
  have h24 := hI.2.1
  unfold wpX_condition
  refine pk_lt cc 24 (fun hc => ?_) (fun z => H0 (by omega) _ hu')
  have G : wX_condition_125 post (nI k) (nI x) (nI y) 1 (nI cc) (nI pc) lv dp st (od_W T) (od_i (od_K T)) (od_i (od_X T)) (od_i (od_Y T)) (od_i (od_Z T)) (od_i (od_V T)) a7 a8 a9 a10 a11 a12 a13 a14 a15 a16 := od_c125 hI hv hc hca (H1 hc)
  obtain ⟨v1, v2, v3, v4⟩ := hv
  refine pk_eq k 0 (fun e => ?_) (fun e0 => pk_eq k 1 (fun e => ?_) (fun e1 => pk_eq k 2 (fun e => ?_) (fun e2 => pk_eq k 3 (fun e => ?_) (fun e3 => pk_eq k 4 (fun e => ?_) (fun e4 => absurd v1 (by omega))))))
  · have t := v2 e
    exact od_isVariable t.1 (br_f (by decide) (br_f (nI_pos (by omega)) (pk_lt 3 y (fun z => absurd z (by omega)) (fun _ => G))))
  · have t := v3 e
    exact od_isVariable t.1 (br_f (by decide) (od_isVariable t.2 (br_f (by decide) G)))
  · have t := v4 (by omega)
    exact od_isCondition hI hu' t.1 G
  · have t := v4 (by omega)
    unfold wX_condition_102
    exact od_isCondition hI hu' t.1 (br_f (by decide) (od_isCondition hI hu' t.2 (br_f (by decide) G)))
  · have t := v4 (by omega)
    unfold wX_condition_102
    exact od_isCondition hI hu' t.1 (br_f (by decide) (od_isCondition hI hu' t.2 (br_f (by decide) G)))
end
theorem od_rem (x : Int32) (k : Nat) {m : Int32} (hk : k ≤ 8) (hm : m.toBitVec.toNat = 2 ^ k - 1) (d : Nat) (hd : 0 < d) (hd2 : d < 100) : ∃ j, j < d ∧ (x &&& m) - (x &&& m) / nI d * nI d = nI j := by
  obtain ⟨j, hj, e⟩ := pk_andE x k hm
  have h2 : (2 : Nat) ^ k ≤ 2 ^ 8 := Nat.pow_le_pow_right (by decide) hk
  refine ⟨j % d, Nat.mod_lt _ hd, ?_⟩
  rw [e]
  exact pk_rem (by omega) hd (by omega)
section
variable {cc pc lv dp : Int32} {st : Int64} {a1 : Nat → Int64} {a2 a3 a4 a5 a6 a7 a8 a9 : Nat → Int32} {a10 a11 : Nat → Int64} {a12 : Nat → Int32} {a13 : Nat → Int64} {a14 : Nat → Int32} {a15 a16 : Nat → Int64}
theorem od_Lc15 (w : Int32) {nc k : Nat} (hc : nc ≤ 24) (hk : k ≤ 4) (h0 : nc = 0 → k = 0) : ∃ x y, od_vc nc k x y ∧ ∀ (post : Int32 → St1 → Prop) (u : St1), wpX_condition post u (nI k) (nI x) (nI y) → wL_condition_15 post w (nI nc) (nI k) u.1 u.2.1 u.2.2.1 u.2.2.2.1 u.2.2.2.2.1 u.2.2.2.2.2.1 u.2.2.2.2.2.2.1 u.2.2.2.2.2.2.2.1 u.2.2.2.2.2.2.2.2.1 u.2.2.2.2.2.2.2.2.2.1 u.2.2.2.2.2.2.2.2.2.2.1 u.2.2.2.2.2.2.2.2.2.2.2.1 u.2.2.2.2.2.2.2.2.2.2.2.2.1 u.2.2.2.2.2.2.2.2.2.2.2.2.2.1 u.2.2.2.2.2.2.2.2.2.2.2.2.2.2.1 u.2.2.2.2.2.2.2.2.2.2.2.2.2.2.2.1 u.2.2.2.2.2.2.2.2.2.2.2.2.2.2.2.2.1 u.2.2.2.2.2.2.2.2.2.2.2.2.2.2.2.2.2.1 u.2.2.2.2.2.2.2.2.2.2.2.2.2.2.2.2.2.2.1 u.2.2.2.2.2.2.2.2.2.2.2.2.2.2.2.2.2.2.2.1 u.2.2.2.2.2.2.2.2.2.2.2.2.2.2.2.2.2.2.2.2 := by
  obtain ⟨i, hi, ei⟩ := pk_andE (w >>> ((16 : Int32) &&& 31)) (m := 3) 2 (by decide)
  obtain ⟨x3, hx3, ex3⟩ := od_rem (w >>> ((8 : Int32) &&& 31)) (m := 255) 8 (by omega) (by decide) 3 (by omega) (by omega)
  obtain ⟨y3, hy3, ey3⟩ := od_rem (w >>> ((16 : Int32) &&& 31)) (m := 255) 8 (by omega) (by decide) 3 (by omega) (by omega)
  rcases (show k = 0 ∨ k = 1 ∨ 2 ≤ k by omega) with e | e | e
  · subst e
    refine ⟨x3, i, ⟨by omega, fun _ => ⟨by omega, by omega⟩, fun z => absurd z (by omega), fun z => absurd z (by omega)⟩, fun post u h => ?_⟩
    obtain ⟨ccu, pcu, lvu, dpu, stu, a1u, a2u, a3u, a4u, a5u, a6u, a7u, a8u, a9u, a10u, a11u, a12u, a13u, a14u, a15u, a16u⟩ := u
    unfold wL_condition_15
    refine pk_le 2 0 (fun z => absurd z (by omega)) (fun _ => ⟨by decide, ?_⟩)
    unfold wL_condition_44
    refine pk_eq 0 0 (fun _ => ?_) (fun z => absurd rfl z)
    unfold wL_condition_95
    rw [← ei, ← ex3] at h
    exact h
  · subst e
    refine ⟨x3, y3, ⟨by omega, fun z => absurd z (by omega), fun _ => ⟨by omega, by omega⟩, fun z => absurd z (by omega)⟩, fun post u h => ?_⟩
    obtain ⟨ccu, pcu, lvu, dpu, stu, a1u, a2u, a3u, a4u, a5u, a6u, a7u, a8u, a9u, a10u, a11u, a12u, a13u, a14u, a15u, a16u⟩ := u
    unfold wL_condition_15
    refine pk_le 2 1 (fun z => absurd z (by omega)) (fun _ => ⟨by decide, ?_⟩)
    unfold wL_condition_44
    refine pk_eq 1 0 (fun z => absurd z (by omega)) (fun _ => pk_eq 1 1 (fun _ => ⟨by decide, ?_⟩) (fun z => absurd rfl z))
    unfold wL_condition_95
    rw [← ey3, ← ex3] at h
    exact h
  · obtain ⟨x, hx, ex⟩ := od_rem (w >>> ((8 : Int32) &&& 31)) (m := 255) 8 (by omega) (by decide) nc (by omega) (by omega)
    obtain ⟨y, hy, ey⟩ := od_rem (w >>> ((16 : Int32) &&& 31)) (m := 255) 8 (by omega) (by decide) nc (by omega) (by omega)
    refine ⟨x, y, ⟨by omega, fun z => absurd z (by omega), fun z => absurd z (by omega), fun _ => ⟨hx, hy⟩⟩, fun post u h => ?_⟩
    have hn0 : ¬ nI nc = 0 := nI_ne0 (by omega) (by omega)
    obtain ⟨ccu, pcu, lvu, dpu, stu, a1u, a2u, a3u, a4u, a5u, a6u, a7u, a8u, a9u, a10u, a11u, a12u, a13u, a14u, a15u, a16u⟩ := u
    unfold wL_condition_15
    refine pk_le 2 k (fun _ => ⟨hn0, ?_⟩) (fun z => absurd z (by omega))
    unfold wL_condition_44
    refine pk_eq k 0 (fun z => absurd z (by omega)) (fun _ => pk_eq k 1 (fun z => absurd z (by omega)) (fun _ => br_f hn0 ⟨hn0, ?_⟩))
    unfold wL_condition_95
    rw [← ey, ← ex] at h
    exact h
theorem od_Lc (w : Int32) {nc : Nat} (hc : nc ≤ 24) : ∃ k x y, od_vc nc k x y ∧ ∀ (post : Int32 → St1 → Prop) (u : St1), wpX_condition post u (nI k) (nI x) (nI y) → wpL_condition post u w (nI nc) := by
  by_cases e : nc = 0
  · subst e
    obtain ⟨x, y, h1, h2⟩ := od_Lc15 w (nc := 0) (k := 0) (by omega) (by omega) (fun _ => rfl)
    refine ⟨0, x, y, h1, fun post u h => ?_⟩
    have := h2 post u h
    obtain ⟨ccu, pcu, lvu, dpu, stu, a1u, a2u, a3u, a4u, a5u, a6u, a7u, a8u, a9u, a10u, a11u, a12u, a13u, a14u, a15u, a16u⟩ := u
    unfold wpL_condition
    exact br_t rfl this
  · obtain ⟨k, hk, ek⟩ := od_rem w (m := 255) 8 (by omega) (by decide) 5 (by omega) (by omega)
    obtain ⟨x, y, h1, h2⟩ := od_Lc15 w (nc := nc) (k := k) hc (by omega) (fun z => absurd z e)
    refine ⟨k, x, y, h1, fun post u h => ?_⟩
    have := h2 post u h
    obtain ⟨ccu, pcu, lvu, dpu, stu, a1u, a2u, a3u, a4u, a5u, a6u, a7u, a8u, a9u, a10u, a11u, a12u, a13u, a14u, a15u, a16u⟩ := u
    unfold wpL_condition
    refine br_f (nI_ne0 (by omega) (by omega)) ⟨by decide, ?_⟩
    rw [← ek] at this
    exact this
end
end
section
/-- what a new program may be made of, and its weight -/
def od_vp (cc pc k x y z : Nat) : Prop := k ≤ 9 ∧ (x < 128 ∧ y < 128 ∧ z < 128) ∧ (k = 2 → x ≤ 2 ∧ y ≤ 3 ∧ z ≤ 3) ∧ (k = 3 → x ≤ 2) ∧ (k = 4 ∨ k = 5 ∨ k = 7 ∨ k = 9 → x < cc) ∧ (k = 6 ∨ k = 8 → x < pc ∧ y < pc) ∧ (k = 7 → y < pc ∧ z < pc) ∧ (k = 9 → y < pc)
def od_wt (T : od_T) (k x y z : Nat) : Nat :=
  if k = 6 ∨ k = 8 then 1 + (od_V T x + od_V T y) else if k = 7 then 1 + (od_V T y + od_V T z) else if k = 9 then 1 + od_V T y else 1
def od_up (f : Nat → Nat) (n v : Nat) : Nat → Nat := fun j => if j = n then v else f j
theorem od_up_s (f : Nat → Nat) (n v : Nat) : od_up f n v n = v := if_pos rfl
theorem od_up_n (f : Nat → Nat) {n j : Nat} (v : Nat) (h : j ≠ n) : od_up f n v j = f j := if_neg h
theorem od_i_up (f : Nat → Nat) (n v : Nat) : upd (od_i f) n (nI v) = od_i (od_up f n v) := by
  funext j
  unfold od_i
  by_cases h : j = n
  · subst h
    rw [pk_us, od_up_s]
  · rw [pk_un h, od_up_n f v h]
def od_addP (T : od_T) (n k x y z v : Nat) : od_T := (od_W T, od_up (od_K T) n k, od_up (od_X T) n x, od_up (od_Y T) n y, od_up (od_Z T) n z, od_up (od_V T) n v)
theorem od_addP_ag (T : od_T) (cc pc k x y z v : Nat) : od_ag T (od_addP T pc k x y z v) cc pc := ⟨fun _ _ => rfl, fun p hp => ⟨od_up_n _ _ (by omega), od_up_n _ _ (by omega), od_up_n _ _ (by omega), od_up_n _ _ (by omega), od_up_n _ _ (by omega)⟩⟩
theorem od_addP_In {T : od_T} {cc pc k x y z : Nat} (h : od_In T cc pc) (hv : od_vp cc pc k x y z) (hp : pc < 32) (hw : od_wt T k x y z ≤ 20) : od_In (od_addP T pc k x y z (od_wt T k x y z)) cc (pc + 1) := by
  refine ⟨fun p hpp => ?_, h.2.1, by omega⟩
  by_cases e : p = pc
  · obtain ⟨v1, v0, v2, v3, v4, v5, v6, v7⟩ := hv
    subst e
    have eK : od_K (od_addP T p k x y z (od_wt T k x y z)) p = k := od_up_s _ _ _
    have eX : od_X (od_addP T p k x y z (od_wt T k x y z)) p = x := od_up_s _ _ _
    have eY : od_Y (od_addP T p k x y z (od_wt T k x y z)) p = y := od_up_s _ _ _
    have eZ : od_Z (od_addP T p k x y z (od_wt T k x y z)) p = z := od_up_s _ _ _
    have eV : od_V (od_addP T p k x y z (od_wt T k x y z)) p = od_wt T k x y z := od_up_s _ _ _
    have eN : ∀ j, j < p → od_V (od_addP T p k x y z (od_wt T k x y z)) j = od_V T j := fun j hj => od_up_n _ _ (by omega)
    unfold od_wf1
    rw [eK, eX, eY, eZ, eV]
    have h1 : 1 ≤ od_wt T k x y z := by
      unfold od_wt
      repeat' split
      all_goals omega
    refine ⟨v1, h1, hw, v2, v3, v4, fun q => ?_, fun q => ?_, fun q => ?_⟩
    · have t := v5 q
      rw [eN x (by omega), eN y (by omega)]
      refine ⟨t.1, t.2, ?_⟩
      unfold od_wt
      rw [if_pos q]
      omega
    · have t := v6 q
      rw [eN y (by omega), eN z (by omega)]
      refine ⟨t.1, t.2, ?_⟩
      unfold od_wt
      rw [if_neg (by omega), if_pos q]
      omega
    · have t := v7 q
      rw [eN y (by omega)]
      refine ⟨t, ?_⟩
      unfold od_wt
      rw [if_neg (by omega), if_neg (by omega), if_pos q]
  · exact od_ag_wf h.1 (od_addP_ag T cc pc k x y z _) (Nat.le_refl cc) p (by omega)
section
variable {T : od_T} {cc pc : Nat} {lv dp : Int32} {st : Int64} {a7 a8 a9 : Nat → Int32} {a10 a11 : Nat → Int64} {a12 : Nat → Int32} {a13 : Nat → Int64} {a14 : Nat → Int32} {a15 a16 : Nat → Int64}
theorem od_p111 {post : Int32 → St1 → Prop} {k x y z v : Nat} (hI : od_In T cc pc) (hv : od_vp cc pc k x y z) (hp : pc < 32) (hv2 : v < 100) (hca : od_cache T pc a14 a15 a16) (H1 : v ≤ 20 → ∀ u', od_ok (od_addP T pc k x y z v) cc (pc + 1) lv u' → post (nI pc) u') (H0 : ¬ v ≤ 20 → ∀ u', od_ok T cc pc lv u' → post (-2) u') : wX_program_111 post (nI k) (nI x) (nI y) (nI z) (nI v) (nI cc) (nI pc) lv dp st (od_W T) (od_i (od_K T)) (od_i (od_X T)) (od_i (od_Y T)) (od_i (od_Z T)) (od_i (od_V T)) a7 a8 a9 a10 a11 a12 a13 a14 a15 a16 := by
  obtain ⟨v1, v0, v2, v3, v4, v5, v6, v7⟩ := hv
  have c : (nI pc).toNatClampNeg = pc := nI_clamp (by omega)
  unfold wX_program_111
  refine pk_le v 20 (fun h => nm_r (nI_1 pc) ?_) (fun h => H0 (by omega) _ ⟨_, _, _, _, _, _, _, _, _, _, _, _, rfl, hca⟩)
  refine ⟨pk_in pc 32 hp, nm_r (by rw [c, od_b8 k (by omega), od_i_up]) ⟨pk_in pc 32 hp, nm_r (by rw [c, od_b8 x (by omega), od_i_up]) ⟨pk_in pc 32 hp, nm_r (by rw [c, od_b8 y (by omega), od_i_up]) ⟨pk_in pc 32 hp, nm_r (by rw [c, od_b8 z (by omega), od_i_up]) ⟨pk_in pc 32 hp, nm_r (by rw [c, od_b8 v (by omega), od_i_up]) ?_⟩⟩⟩⟩⟩
  exact H1 h _ ⟨_, _, _, _, _, _, _, _, _, _, _, _, rfl, od_cache_ag hI.1 (od_addP_ag T cc pc k x y z v) (by omega) hca⟩
theorem od_operandsFit {post : Int32 → Prop} {u : St1} {k x y z : Nat} (hI : od_In T cc pc) (hv : od_vp cc pc k x y z) (hu : od_ok T cc pc lv u) (H : post 1) : wpX_operandsFit post u (nI k) (nI x) (nI y) (nI z) := by
  have hu' := hu
  obtain ⟨dp, st, a7, a8, a9, a10, a11, a12, a13, a14, a15, a16, rfl, hca⟩ := hu
  obtain ⟨v1, v0, v2, v3, v4, v5, v6, v7⟩ := hv
  unfold wpX_operandsFit
  refine pk_eq k 0 (fun _ => H) (fun e0 => pk_eq k 1 (fun _ => H) (fun e1 => pk_eq k 2 (fun e => ?_) (fun e2 => pk_eq k 3 (fun e => ?_) (fun e3 => pk_eq k 6 (fun e => ?_) (fun e6 => pk_eq k 8 (fun e => ?_) (fun e8 => ?_))))))
  · have t := v2 e
    exact od_isVariable t.1 (br_f (by decide) (br_f (nI_pos (by omega)) (pk_lt 3 y (fun q => absurd q (by omega)) (fun _ => br_f (nI_pos (by omega)) (pk_lt 3 z (fun q => absurd q (by omega)) (fun _ => H))))))
  · exact od_isVariable (v3 e) ⟨rfl, H⟩
  · have t := v5 (by omega)
    unfold wX_operandsFit_73
    exact od_isProgram hI hu' t.1 (br_f (by decide) (od_isProgram hI hu' t.2 (br_f (by decide) H)))
  · have t := v5 (by omega)
    unfold wX_operandsFit_73
    exact od_isProgram hI hu' t.1 (br_f (by decide) (od_isProgram hI hu' t.2 (br_f (by decide) H)))
  · refine od_isCondition hI hu' (v4 (by omega)) (br_f (by decide) (pk_eq k 7 (fun e => ?_) (fun e7 => pk_eq k 9 (fun e => ?_) (fun _ => H))))
    · have t := v6 e
      exact od_isProgram hI hu' t.1 (br_f (by decide) (od_isProgram hI hu' t.2 (br_f (by decide) H)))
    · exact od_isProgram hI hu' (v7 e) (br_f (by decide) H)
theorem od_program {post : Int32 → St1 → Prop} {u : St1} {k x y z : Nat} (hI : od_In T cc pc) (hv : od_vp cc pc k x y z) (hu : od_ok T cc pc lv u) (H1 : pc < 32 → od_wt T k x y z ≤ 20 → ∀ u', od_ok (od_addP T pc k x y z (od_wt T k x y z)) cc (pc + 1) lv u' → post (nI pc) u') (H0 : ¬ (pc < 32 ∧ od_wt T k x y z ≤ 20) → ∀ u', od_ok T cc pc lv u' → post (-2) u') : wpX_program post u (nI k) (nI x) (nI y) (nI z) := by
  have hu' := hu
  obtain ⟨dp, st, a7, a8, a9, a10, a11, a12, a13, a14, a15, a16, rfl, hca⟩ := hu
  have h32 := hI.2.2
  unfold wpX_program
  refine pk_lt pc 32 (fun hp => ?_) (fun q => H0 (fun t => absurd t.1 (by omega)) _ hu')
  have hv' := hv
  have hV : ∀ j, j < pc → od_V T j ≤ 20 := fun j hj => (hI.1 j hj).2.2.1
  obtain ⟨v1, v0, v2, v3, v4, v5, v6, v7⟩ := hv
  refine br_f (nI_pos (by omega)) (pk_lt 9 k (fun q => absurd q (by omega)) (fun _ => od_operandsFit hI hv' hu' (br_f (by decide) ?_)))
  have hwt : od_wt T k x y z < 100 := by
    unfold od_wt
    by_cases q1 : k = 6 ∨ k = 8
    · have t := v5 q1
      have := hV x t.1
      have := hV y t.2
      rw [if_pos q1]
      omega
    · rw [if_neg q1]
      by_cases q2 : k = 7
      · have t := v6 q2
        have := hV y t.1
        have := hV z t.2
        rw [if_pos q2]
        omega
      · rw [if_neg q2]
        by_cases q3 : k = 9
        · have := hV y (v7 q3)
          rw [if_pos q3]
          omega
        · rw [if_neg q3]
          omega
  have G : wX_program_111 post (nI k) (nI x) (nI y) (nI z) (nI (od_wt T k x y z)) (nI cc) (nI pc) lv dp st (od_W T) (od_i (od_K T)) (od_i (od_X T)) (od_i (od_Y T)) (od_i (od_Z T)) (od_i (od_V T)) a7 a8 a9 a10 a11 a12 a13 a14 a15 a16 := od_p111 hI hv' hp hwt hca (H1 hp) (fun q => H0 (fun t => q t.2))
  unfold od_wt at G
  refine pk_eq k 6 (fun e => ?_) (fun e6 => pk_eq k 8 (fun e => ?_) (fun e8 => ?_))
  · have t := v5 (by omega)
    rw [if_pos (by omega)] at G
    unfold wX_program_51
    refine ⟨pk_in x 32 (by omega), pk_in y 32 (by omega), nm_r (e' := nI (1 + (od_V T x + od_V T y))) (by rw [od_i_at _ (by omega), od_i_at _ (by omega), nI_add]; exact nI_add 1 _) ?_⟩
    unfold wX_program_69
    refine pk_eq k 7 (fun q => absurd q (by omega)) (fun _ => ?_)
    unfold wX_program_94
    exact pk_eq k 9 (fun q => absurd q (by omega)) (fun _ => G)
  · have t := v5 (by omega)
    rw [if_pos (by omega)] at G
    unfold wX_program_51
    refine ⟨pk_in x 32 (by omega), pk_in y 32 (by omega), nm_r (e' := nI (1 + (od_V T x + od_V T y))) (by rw [od_i_at _ (by omega), od_i_at _ (by omega), nI_add]; exact nI_add 1 _) ?_⟩
    unfold wX_program_69
    refine pk_eq k 7 (fun q => absurd q (by omega)) (fun _ => ?_)
    unfold wX_program_94
    exact pk_eq k 9 (fun q => absurd q (by omega)) (fun _ => G)
  · rw [if_neg (by omega)] at G
    unfold wX_program_69
    refine pk_eq k 7 (fun e => ?_) (fun e7 => ?_)
    · have t := v6 e
      rw [if_pos e] at G
      refine ⟨pk_in y 32 (by omega), pk_in z 32 (by omega), nm_r (e' := nI (1 + (od_V T y + od_V T z))) (by rw [od_i_at _ (by omega), od_i_at _ (by omega), nI_add]; exact nI_add 1 _) ?_⟩
      unfold wX_program_94
      exact pk_eq k 9 (fun q => absurd q (by omega)) (fun _ => G)
    · rw [if_neg e7] at G
      unfold wX_program_94
      refine pk_eq k 9 (fun e => ?_) (fun e9 => ?_)
      · have t := v7 e
        rw [if_pos e] at G
        exact ⟨pk_in y 32 (by omega), nm_r (e' := nI (1 + od_V T y)) (by rw [od_i_at _ (by omega)]; exact nI_add 1 _) G⟩
      · rw [if_neg e9] at G
        exact G
end
theorem od_Lp118 (w : Int32) {np k d j : Nat} (hp : np ≤ 32) (hk : k ≤ 9) (hd : 0 < d) (hd2 : d < 100) (hj : j < 256) : ∃ y z, (k = 2 → y ≤ 3 ∧ z ≤ 3) ∧ y < 128 ∧ z < 128 ∧ (k ≠ 2 → 0 < np → y < np ∧ z < np) ∧ ∀ (post : Int32 → St1 → Prop) (u : St1), wpX_program post u (nI k) (nI (j % d)) (nI y) (nI z) → wL_program_118 post w (nI np) (nI k) (nI d) (nI j) u.1 u.2.1 u.2.2.1 u.2.2.2.1 u.2.2.2.2.1 u.2.2.2.2.2.1 u.2.2.2.2.2.2.1 u.2.2.2.2.2.2.2.1 u.2.2.2.2.2.2.2.2.1 u.2.2.2.2.2.2.2.2.2.1 u.2.2.2.2.2.2.2.2.2.2.1 u.2.2.2.2.2.2.2.2.2.2.2.1 u.2.2.2.2.2.2.2.2.2.2.2.2.1 u.2.2.2.2.2.2.2.2.2.2.2.2.2.1 u.2.2.2.2.2.2.2.2.2.2.2.2.2.2.1 u.2.2.2.2.2.2.2.2.2.2.2.2.2.2.2.1 u.2.2.2.2.2.2.2.2.2.2.2.2.2.2.2.2.1 u.2.2.2.2.2.2.2.2.2.2.2.2.2.2.2.2.2.1 u.2.2.2.2.2.2.2.2.2.2.2.2.2.2.2.2.2.2.1 u.2.2.2.2.2.2.2.2.2.2.2.2.2.2.2.2.2.2.2.1 u.2.2.2.2.2.2.2.2.2.2.2.2.2.2.2.2.2.2.2.2 := by
  have ed : nI j - nI j / nI d * nI d = nI (j % d) := pk_rem (by omega) hd (by omega)
  have hd0 : ¬ nI d = 0 := nI_ne0 hd (by omega)
  by_cases e : k = 2
  · obtain ⟨y, hy, ey⟩ := pk_andE (w >>> ((8 : Int32) &&& 31)) (m := 3) 2 (by decide)
    obtain ⟨z, hz, ez⟩ := pk_andE (w >>> ((16 : Int32) &&& 31)) (m := 3) 2 (by decide)
    refine ⟨y, z, fun _ => ⟨by omega, by omega⟩, by omega, by omega, fun q => absurd e q, fun post u h => ?_⟩
    obtain ⟨ccu, pcu, lvu, dpu, stu, a1u, a2u, a3u, a4u, a5u, a6u, a7u, a8u, a9u, a10u, a11u, a12u, a13u, a14u, a15u, a16u⟩ := u
    unfold wL_program_118
    refine ⟨hd0, nm_r ed (pk_eq k 2 (fun _ => ?_) (fun q => absurd e q))⟩
    unfold wL_program_156
    refine pk_eq k 2 (fun _ => ?_) (fun q => absurd e q)
    unfold wL_program_193
    rw [← ey, ← ez] at h
    exact h
  · by_cases e0 : np = 0
    · refine ⟨0, 0, fun q => absurd q e, by omega, by omega, fun _ q => absurd q (by omega), fun post u h => ?_⟩
      obtain ⟨ccu, pcu, lvu, dpu, stu, a1u, a2u, a3u, a4u, a5u, a6u, a7u, a8u, a9u, a10u, a11u, a12u, a13u, a14u, a15u, a16u⟩ := u
      unfold wL_program_118
      refine ⟨hd0, nm_r ed (pk_eq k 2 (fun q => absurd q e) (fun _ => pk_eq np 0 (fun _ => ?_) (fun q => absurd e0 q)))⟩
      unfold wL_program_156
      refine pk_eq k 2 (fun q => absurd q e) (fun _ => pk_eq np 0 (fun _ => ?_) (fun q => absurd e0 q))
      unfold wL_program_193
      exact h
    · obtain ⟨y, hy, ey⟩ := od_rem (w >>> ((8 : Int32) &&& 31)) (m := 255) 8 (by omega) (by decide) np (by omega) (by omega)
      obtain ⟨z, hz, ez⟩ := od_rem (w >>> ((16 : Int32) &&& 31)) (m := 255) 8 (by omega) (by decide) np (by omega) (by omega)
      have hn0 : ¬ nI np = 0 := nI_ne0 (by omega) (by omega)
      refine ⟨y, z, fun q => absurd q e, by omega, by omega, fun _ _ => ⟨hy, hz⟩, fun post u h => ?_⟩
      obtain ⟨ccu, pcu, lvu, dpu, stu, a1u, a2u, a3u, a4u, a5u, a6u, a7u, a8u, a9u, a10u, a11u, a12u, a13u, a14u, a15u, a16u⟩ := u
      unfold wL_program_118
      refine ⟨hd0, nm_r ed (pk_eq k 2 (fun q => absurd q e) (fun _ => br_f hn0 ⟨hn0, ?_⟩))⟩
      unfold wL_program_156
      refine pk_eq k 2 (fun q => absurd q e) (fun _ => br_f hn0 ⟨hn0, ?_⟩)
      unfold wL_program_193
      rw [← ey, ← ez] at h
      exact h
theorem od_Lp55 (w : Int32) {nc np k : Nat} (hc : nc ≤ 24) (hp : np ≤ 32) (hk : k ≤ 9) (h6 : 6 ≤ k → 0 < np) (h4 : k = 4 ∨ k = 5 ∨ k = 7 ∨ k = 9 → 0 < nc) : ∃ x y z, od_vp nc np k x y z ∧ ∀ (post : Int32 → St1 → Prop) (u : St1), wpX_program post u (nI k) (nI x) (nI y) (nI z) → wL_program_55 post w (nI nc) (nI np) (nI k) u.1 u.2.1 u.2.2.1 u.2.2.2.1 u.2.2.2.2.1 u.2.2.2.2.2.1 u.2.2.2.2.2.2.1 u.2.2.2.2.2.2.2.1 u.2.2.2.2.2.2.2.2.1 u.2.2.2.2.2.2.2.2.2.1 u.2.2.2.2.2.2.2.2.2.2.1 u.2.2.2.2.2.2.2.2.2.2.2.1 u.2.2.2.2.2.2.2.2.2.2.2.2.1 u.2.2.2.2.2.2.2.2.2.2.2.2.2.1 u.2.2.2.2.2.2.2.2.2.2.2.2.2.2.1 u.2.2.2.2.2.2.2.2.2.2.2.2.2.2.2.1 u.2.2.2.2.2.2.2.2.2.2.2.2.2.2.2.2.1 u.2.2.2.2.2.2.2.2.2.2.2.2.2.2.2.2.2.1 u.2.2.2.2.2.2.2.2.2.2.2.2.2.2.2.2.2.2.1 u.2.2.2.2.2.2.2.2.2.2.2.2.2.2.2.2.2.2.2.1 u.2.2.2.2.2.2.2.2.2.2.2.2.2.2.2.2.2.2.2.2 := by
  obtain ⟨j, hj, ej⟩ := pk_andE w (m := 255) 8 (by decide)
  have hj : j < 256 := hj
  rcases (show (k = 2 ∨ k = 3) ∨ (k = 4 ∨ k = 5 ∨ k = 7 ∨ k = 9) ∨ (k = 0 ∨ k = 1 ∨ k = 6 ∨ k = 8) by omega) with e | e | e
  · obtain ⟨y, z, q1, q2, q3, q4, h⟩ := od_Lp118 w (np := np) (k := k) (d := 3) (j := j) hp hk (by omega) (by omega) hj
    have hx : j % 3 < 3 := Nat.mod_lt _ (by omega)
    refine ⟨j % 3, y, z, ⟨hk, ⟨by omega, q2, q3⟩, fun q => ⟨by omega, q1 q⟩, fun _ => by omega, fun q => absurd q (by omega), fun q => absurd q (by omega), fun q => absurd q (by omega), fun q => absurd q (by omega)⟩, fun post u g => ?_⟩
    have g := h post u g
    unfold wL_program_55
    rw [ej]
    unfold wL_program_72
    exact pk_eq k 2 (fun _ => g) (fun e2 => pk_eq k 3 (fun _ => g) (fun e3 => absurd e (by omega)))
  · have hn := h4 e
    obtain ⟨y, z, q1, q2, q3, q4, h⟩ := od_Lp118 w (np := np) (k := k) (d := nc) (j := j) hp hk hn (by omega) hj
    have hx : j % nc < nc := Nat.mod_lt _ hn
    refine ⟨j % nc, y, z, ⟨hk, ⟨by omega, q2, q3⟩, fun q => absurd q (by omega), fun q => absurd q (by omega), fun _ => hx, fun q => absurd q (by omega), fun q => q4 (by omega) (h6 (by omega)), fun q => (q4 (by omega) (h6 (by omega))).1⟩, fun post u g => ?_⟩
    have g := h post u g
    unfold wL_program_55
    rw [ej]
    unfold wL_program_102
    exact pk_eq k 2 (fun q => absurd q (by omega)) (fun _ => pk_eq k 3 (fun q => absurd q (by omega)) (fun _ => pk_eq k 4 (fun _ => g) (fun e4 => pk_eq k 5 (fun _ => g) (fun e5 => pk_eq k 7 (fun _ => g) (fun e7 => pk_eq k 9 (fun _ => g) (fun e9 => absurd e (by omega)))))))
  · by_cases e0 : np = 0
    · obtain ⟨y, z, q1, q2, q3, q4, h⟩ := od_Lp118 w (np := np) (k := k) (d := 1) (j := j) hp hk (by omega) (by omega) hj
      refine ⟨j % 1, y, z, ⟨hk, ⟨by omega, q2, q3⟩, fun q => absurd q (by omega), fun q => absurd q (by omega), fun q => absurd q (by omega), fun q => absurd (h6 (by omega)) (by omega), fun q => absurd q (by omega), fun q => absurd q (by omega)⟩, fun post u g => ?_⟩
      have g := h post u g
      unfold wL_program_55
      rw [ej]
      exact pk_eq k 2 (fun q => absurd q (by omega)) (fun _ => pk_eq k 3 (fun q => absurd q (by omega)) (fun _ => pk_eq k 4 (fun q => absurd q (by omega)) (fun e4 => pk_eq k 5 (fun q => absurd q (by omega)) (fun e5 => pk_eq k 7 (fun q => absurd q (by omega)) (fun e7 => pk_eq k 9 (fun q => absurd q (by omega)) (fun e9 => pk_le 1 np (fun q => absurd q (by omega)) (fun _ => g)))))))
    · obtain ⟨y, z, q1, q2, q3, q4, h⟩ := od_Lp118 w (np := np) (k := k) (d := np) (j := j) hp hk (by omega) (by omega) hj
      have hx : j % np < np := Nat.mod_lt _ (by omega)
      refine ⟨j % np, y, z, ⟨hk, ⟨by omega, q2, q3⟩, fun q => absurd q (by omega), fun q => absurd q (by omega), fun q => absurd q (by omega), fun q => ⟨hx, (q4 (by omega) (by omega)).1⟩, fun q => absurd q (by omega), fun q => absurd q (by omega)⟩, fun post u g => ?_⟩
      have g := h post u g
      unfold wL_program_55
      rw [ej]
      exact pk_eq k 2 (fun q => absurd q (by omega)) (fun _ => pk_eq k 3 (fun q => absurd q (by omega)) (fun _ => pk_eq k 4 (fun q => absurd q (by omega)) (fun e4 => pk_eq k 5 (fun q => absurd q (by omega)) (fun e5 => pk_eq k 7 (fun q => absurd q (by omega)) (fun e7 => pk_eq k 9 (fun q => absurd q (by omega)) (fun e9 => pk_le 1 np (fun _ => g) (fun q => absurd q (by omega))))))))
theorem od_Lp22 (w : Int32) {nc np k : Nat} (hc : nc ≤ 24) (hp : np ≤ 32) (hk : k ≤ 9) (h6 : 6 ≤ k → 0 < np) : ∃ k' x y z, od_vp nc np k' x y z ∧ ∀ (post : Int32 → St1 → Prop) (u : St1), wpX_program post u (nI k') (nI x) (nI y) (nI z) → wL_program_22 post w (nI nc) (nI np) (nI k) u.1 u.2.1 u.2.2.1 u.2.2.2.1 u.2.2.2.2.1 u.2.2.2.2.2.1 u.2.2.2.2.2.2.1 u.2.2.2.2.2.2.2.1 u.2.2.2.2.2.2.2.2.1 u.2.2.2.2.2.2.2.2.2.1 u.2.2.2.2.2.2.2.2.2.2.1 u.2.2.2.2.2.2.2.2.2.2.2.1 u.2.2.2.2.2.2.2.2.2.2.2.2.1 u.2.2.2.2.2.2.2.2.2.2.2.2.2.1 u.2.2.2.2.2.2.2.2.2.2.2.2.2.2.1 u.2.2.2.2.2.2.2.2.2.2.2.2.2.2.2.1 u.2.2.2.2.2.2.2.2.2.2.2.2.2.2.2.2.1 u.2.2.2.2.2.2.2.2.2.2.2.2.2.2.2.2.2.1 u.2.2.2.2.2.2.2.2.2.2.2.2.2.2.2.2.2.2.1 u.2.2.2.2.2.2.2.2.2.2.2.2.2.2.2.2.2.2.2.1 u.2.2.2.2.2.2.2.2.2.2.2.2.2.2.2.2.2.2.2.2 := by
  by_cases e : (k = 4 ∨ k = 5 ∨ k = 7 ∨ k = 9) ∧ nc = 0
  · obtain ⟨x, y, z, hv, h⟩ := od_Lp55 w (nc := nc) (np := np) (k := 2) hc hp (by omega) (fun q => absurd q (by omega)) (fun q => absurd q (by omega))
    refine ⟨2, x, y, z, hv, fun post u g => ?_⟩
    have g : wL_program_55 post w (nI nc) (nI np) (nI 2) u.1 u.2.1 u.2.2.1 u.2.2.2.1 u.2.2.2.2.1 u.2.2.2.2.2.1 u.2.2.2.2.2.2.1 u.2.2.2.2.2.2.2.1 u.2.2.2.2.2.2.2.2.1 u.2.2.2.2.2.2.2.2.2.1 u.2.2.2.2.2.2.2.2.2.2.1 u.2.2.2.2.2.2.2.2.2.2.2.1 u.2.2.2.2.2.2.2.2.2.2.2.2.1 u.2.2.2.2.2.2.2.2.2.2.2.2.2.1 u.2.2.2.2.2.2.2.2.2.2.2.2.2.2.1 u.2.2.2.2.2.2.2.2.2.2.2.2.2.2.2.1 u.2.2.2.2.2.2.2.2.2.2.2.2.2.2.2.2.1 u.2.2.2.2.2.2.2.2.2.2.2.2.2.2.2.2.2.1 u.2.2.2.2.2.2.2.2.2.2.2.2.2.2.2.2.2.2.1 u.2.2.2.2.2.2.2.2.2.2.2.2.2.2.2.2.2.2.2.1 u.2.2.2.2.2.2.2.2.2.2.2.2.2.2.2.2.2.2.2.2 := h post u g
    have g2 : wL_program_48 post w (nI nc) (nI np) (nI k) u.1 u.2.1 u.2.2.1 u.2.2.2.1 u.2.2.2.2.1 u.2.2.2.2.2.1 u.2.2.2.2.2.2.1 u.2.2.2.2.2.2.2.1 u.2.2.2.2.2.2.2.2.1 u.2.2.2.2.2.2.2.2.2.1 u.2.2.2.2.2.2.2.2.2.2.1 u.2.2.2.2.2.2.2.2.2.2.2.1 u.2.2.2.2.2.2.2.2.2.2.2.2.1 u.2.2.2.2.2.2.2.2.2.2.2.2.2.1 u.2.2.2.2.2.2.2.2.2.2.2.2.2.2.1 u.2.2.2.2.2.2.2.2.2.2.2.2.2.2.2.1 u.2.2.2.2.2.2.2.2.2.2.2.2.2.2.2.2.1 u.2.2.2.2.2.2.2.2.2.2.2.2.2.2.2.2.2.1 u.2.2.2.2.2.2.2.2.2.2.2.2.2.2.2.2.2.2.1 u.2.2.2.2.2.2.2.2.2.2.2.2.2.2.2.2.2.2.2.1 u.2.2.2.2.2.2.2.2.2.2.2.2.2.2.2.2.2.2.2.2 := by
      unfold wL_program_48
      exact pk_eq nc 0 (fun _ => g) (fun q => absurd e.2 q)
    unfold wL_program_22
    exact pk_eq k 4 (fun _ => g2) (fun e4 => pk_eq k 5 (fun _ => g2) (fun e5 => pk_eq k 7 (fun _ => g2) (fun e7 => pk_eq k 9 (fun _ => g2) (fun e9 => absurd e.1 (by omega)))))
  · obtain ⟨x, y, z, hv, h⟩ := od_Lp55 w (nc := nc) (np := np) (k := k) hc hp hk h6 (fun q => by omega)
    refine ⟨k, x, y, z, hv, fun post u g => ?_⟩
    have g : wL_program_55 post w (nI nc) (nI np) (nI k) u.1 u.2.1 u.2.2.1 u.2.2.2.1 u.2.2.2.2.1 u.2.2.2.2.2.1 u.2.2.2.2.2.2.1 u.2.2.2.2.2.2.2.1 u.2.2.2.2.2.2.2.2.1 u.2.2.2.2.2.2.2.2.2.1 u.2.2.2.2.2.2.2.2.2.2.1 u.2.2.2.2.2.2.2.2.2.2.2.1 u.2.2.2.2.2.2.2.2.2.2.2.2.1 u.2.2.2.2.2.2.2.2.2.2.2.2.2.1 u.2.2.2.2.2.2.2.2.2.2.2.2.2.2.1 u.2.2.2.2.2.2.2.2.2.2.2.2.2.2.2.1 u.2.2.2.2.2.2.2.2.2.2.2.2.2.2.2.2.1 u.2.2.2.2.2.2.2.2.2.2.2.2.2.2.2.2.2.1 u.2.2.2.2.2.2.2.2.2.2.2.2.2.2.2.2.2.2.1 u.2.2.2.2.2.2.2.2.2.2.2.2.2.2.2.2.2.2.2.1 u.2.2.2.2.2.2.2.2.2.2.2.2.2.2.2.2.2.2.2.2 := h post u g
    have g2 : (k = 4 ∨ k = 5 ∨ k = 7 ∨ k = 9) → wL_program_48 post w (nI nc) (nI np) (nI k) u.1 u.2.1 u.2.2.1 u.2.2.2.1 u.2.2.2.2.1 u.2.2.2.2.2.1 u.2.2.2.2.2.2.1 u.2.2.2.2.2.2.2.1 u.2.2.2.2.2.2.2.2.1 u.2.2.2.2.2.2.2.2.2.1 u.2.2.2.2.2.2.2.2.2.2.1 u.2.2.2.2.2.2.2.2.2.2.2.1 u.2.2.2.2.2.2.2.2.2.2.2.2.1 u.2.2.2.2.2.2.2.2.2.2.2.2.2.1 u.2.2.2.2.2.2.2.2.2.2.2.2.2.2.1 u.2.2.2.2.2.2.2.2.2.2.2.2.2.2.2.1 u.2.2.2.2.2.2.2.2.2.2.2.2.2.2.2.2.1 u.2.2.2.2.2.2.2.2.2.2.2.2.2.2.2.2.2.1 u.2.2.2.2.2.2.2.2.2.2.2.2.2.2.2.2.2.2.1 u.2.2.2.2.2.2.2.2.2.2.2.2.2.2.2.2.2.2.2.1 u.2.2.2.2.2.2.2.2.2.2.2.2.2.2.2.2.2.2.2.2 := fun q => by
      unfold wL_program_48
      exact pk_eq nc 0 (fun q2 => absurd ⟨q, q2⟩ e) (fun _ => g)
    unfold wL_program_22
    exact pk_eq k 4 (fun q => g2 (by omega)) (fun e4 => pk_eq k 5 (fun q => g2 (by omega)) (fun e5 => pk_eq k 7 (fun q => g2 (by omega)) (fun e7 => pk_eq k 9 (fun q => g2 (by omega)) (fun e9 => g))))
theorem od_Lp (v w : Int32) {nc np : Nat} (hc : nc ≤ 24) (hp : np ≤ 32) : ∃ k x y z, od_vp nc np k x y z ∧ ∀ (post : Int32 → St1 → Prop) (u : St1), wpX_program post u (nI k) (nI x) (nI y) (nI z) → wpL_program post u v w (nI nc) (nI np) := by
  obtain ⟨k, hk, ek⟩ := od_rem v (m := 255) 8 (by omega) (by decide) 10 (by omega) (by omega)
  by_cases e : 6 ≤ k ∧ np = 0
  · obtain ⟨x, y, z, hv, h⟩ := od_Lp55 w (nc := nc) (np := np) (k := 2) hc hp (by omega) (fun q => absurd q (by omega)) (fun q => absurd q (by omega))
    refine ⟨2, x, y, z, hv, fun post u g => ?_⟩
    have g : wL_program_55 post w (nI nc) (nI np) (nI 2) u.1 u.2.1 u.2.2.1 u.2.2.2.1 u.2.2.2.2.1 u.2.2.2.2.2.1 u.2.2.2.2.2.2.1 u.2.2.2.2.2.2.2.1 u.2.2.2.2.2.2.2.2.1 u.2.2.2.2.2.2.2.2.2.1 u.2.2.2.2.2.2.2.2.2.2.1 u.2.2.2.2.2.2.2.2.2.2.2.1 u.2.2.2.2.2.2.2.2.2.2.2.2.1 u.2.2.2.2.2.2.2.2.2.2.2.2.2.1 u.2.2.2.2.2.2.2.2.2.2.2.2.2.2.1 u.2.2.2.2.2.2.2.2.2.2.2.2.2.2.2.1 u.2.2.2.2.2.2.2.2.2.2.2.2.2.2.2.2.1 u.2.2.2.2.2.2.2.2.2.2.2.2.2.2.2.2.2.1 u.2.2.2.2.2.2.2.2.2.2.2.2.2.2.2.2.2.2.1 u.2.2.2.2.2.2.2.2.2.2.2.2.2.2.2.2.2.2.2.1 u.2.2.2.2.2.2.2.2.2.2.2.2.2.2.2.2.2.2.2.2 := h post u g
    obtain ⟨ccu, pcu, lvu, dpu, stu, a1u, a2u, a3u, a4u, a5u, a6u, a7u, a8u, a9u, a10u, a11u, a12u, a13u, a14u, a15u, a16u⟩ := u
    unfold wpL_program
    refine ⟨by decide, nm_r ek (pk_lt k 6 (fun q => absurd e.1 (by omega)) (fun _ => pk_eq np 0 (fun _ => g) (fun q => absurd e.2 q)))⟩
  · obtain ⟨k', x, y, z, hv, h⟩ := od_Lp22 w (nc := nc) (np := np) (k := k) hc hp (by omega) (fun q => by omega)
    refine ⟨k', x, y, z, hv, fun post u g => ?_⟩
    have g : wL_program_22 post w (nI nc) (nI np) (nI k) u.1 u.2.1 u.2.2.1 u.2.2.2.1 u.2.2.2.2.1 u.2.2.2.2.2.1 u.2.2.2.2.2.2.1 u.2.2.2.2.2.2.2.1 u.2.2.2.2.2.2.2.2.1 u.2.2.2.2.2.2.2.2.2.1 u.2.2.2.2.2.2.2.2.2.2.1 u.2.2.2.2.2.2.2.2.2.2.2.1 u.2.2.2.2.2.2.2.2.2.2.2.2.1 u.2.2.2.2.2.2.2.2.2.2.2.2.2.1 u.2.2.2.2.2.2.2.2.2.2.2.2.2.2.1 u.2.2.2.2.2.2.2.2.2.2.2.2.2.2.2.1 u.2.2.2.2.2.2.2.2.2.2.2.2.2.2.2.2.1 u.2.2.2.2.2.2.2.2.2.2.2.2.2.2.2.2.2.1 u.2.2.2.2.2.2.2.2.2.2.2.2.2.2.2.2.2.2.1 u.2.2.2.2.2.2.2.2.2.2.2.2.2.2.2.2.2.2.2.1 u.2.2.2.2.2.2.2.2.2.2.2.2.2.2.2.2.2.2.2.2 := h post u g
    obtain ⟨ccu, pcu, lvu, dpu, stu, a1u, a2u, a3u, a4u, a5u, a6u, a7u, a8u, a9u, a10u, a11u, a12u, a13u, a14u, a15u, a16u⟩ := u
    unfold wpL_program
    refine ⟨by decide, nm_r ek (pk_lt k 6 (fun _ => g) (fun q => pk_eq np 0 (fun q2 => absurd ⟨q, q2⟩ e) (fun _ => g)))⟩
end
section
/-! the law's sum -/
def od_su (T : od_T) (p r : Nat) (h : Int32) : Nat → Int32
  | 0 => h
  | i + 1 => (((31 * od_su T p r h i) + nI (od_pop (od_en T p (r + 8 * i)))) + (5 * od_ed (od_en T p (r + 8 * i)) 0)) + (7 * od_ed (od_en T p (r + 8 * i)) 2)
def od_sum (T : od_T) (p : Nat) : Int32 := od_su T p (p % 8) ((nI (od_pop (od_kd T 3 p 0)) + (7 * nI (od_pop (od_kd T 4 p 0)))) + (11 * od_fi (od_kd T 5 p 0))) 8
theorem od_and7 {p : Nat} (hp : p < 32) : nI p &&& 7 = nI (p % 8) := pk_andN (by omega) 3 (by decide)
section
variable {T : od_T} {cc pc : Nat} {lv : Int32} {u : St1}
theorem od_sum_wp {post : Int32 → St1 → Prop} {p : Nat} (hI : od_In T cc pc) (hu : od_ok T cc pc lv u) (hp : p < pc) (H : ∀ u', od_ok T cc pc lv u' → post (od_sum T p) u') : wpL_sum post u (nI p) := by
  obtain ⟨ccu, pcu, lvu, dpu, stu, a1u, a2u, a3u, a4u, a5u, a6u, a7u, a8u, a9u, a10u, a11u, a12u, a13u, a14u, a15u, a16u⟩ := u
  have h32 := hI.2.2
  have hr : p % 8 < 8 := Nat.mod_lt _ (by omega)
  unfold wpL_sum
  refine od_count (k := 3) (c := 0) hI hu hp (by omega) (fun z => absurd z (by omega)) (fun v hv => ?_)
  obtain ⟨ccv, pcv, lvv, dpv, stv, a1v, a2v, a3v, a4v, a5v, a6v, a7v, a8v, a9v, a10v, a11v, a12v, a13v, a14v, a15v, a16v⟩ := v
  refine od_count (k := 4) (c := 0) hI hv hp (by omega) (fun z => absurd z (by omega)) (fun w hw => ?_)
  obtain ⟨ccw, pcw, lvw, dpw, stw, a1w, a2w, a3w, a4w, a5w, a6w, a7w, a8w, a9w, a10w, a11w, a12w, a13w, a14w, a15w, a16w⟩ := w
  refine od_first (k := 5) (c := 0) hI hw hp (by omega) (fun z => absurd z (by omega)) (fun y hy => ?_)
  obtain ⟨ccy, pcy, lvy, dpy, sty, a1y, a2y, a3y, a4y, a5y, a6y, a7y, a8y, a9y, a10y, a11y, a12y, a13y, a14y, a15y, a16y⟩ := y
  refine nm_e (nm_r (od_and7 (by omega)) ?_)
  refine pk_loop (σ := Int32 × St1) (fun n i w => wL_sum_35 post (nI p) n w.1 (nI (p % 8 + 8 * i)) w.2.1 w.2.2.1 w.2.2.2.1 w.2.2.2.2.1 w.2.2.2.2.2.1 w.2.2.2.2.2.2.1 w.2.2.2.2.2.2.2.1 w.2.2.2.2.2.2.2.2.1 w.2.2.2.2.2.2.2.2.2.1 w.2.2.2.2.2.2.2.2.2.2.1 w.2.2.2.2.2.2.2.2.2.2.2.1 w.2.2.2.2.2.2.2.2.2.2.2.2.1 w.2.2.2.2.2.2.2.2.2.2.2.2.2.1 w.2.2.2.2.2.2.2.2.2.2.2.2.2.2.1 w.2.2.2.2.2.2.2.2.2.2.2.2.2.2.2.1 w.2.2.2.2.2.2.2.2.2.2.2.2.2.2.2.2.1 w.2.2.2.2.2.2.2.2.2.2.2.2.2.2.2.2.2.1 w.2.2.2.2.2.2.2.2.2.2.2.2.2.2.2.2.2.2.1 w.2.2.2.2.2.2.2.2.2.2.2.2.2.2.2.2.2.2.2.1 w.2.2.2.2.2.2.2.2.2.2.2.2.2.2.2.2.2.2.2.2.1 w.2.2.2.2.2.2.2.2.2.2.2.2.2.2.2.2.2.2.2.2.2) (fun i w => w.1 = od_su T p (p % 8) ((nI (od_pop (od_kd T 3 p 0)) + (7 * nI (od_pop (od_kd T 4 p 0)))) + (11 * od_fi (od_kd T 5 p 0))) i ∧ od_ok T cc pc lv w.2) 8 0 (_, (ccy, pcy, lvy, dpy, sty, a1y, a2y, a3y, a4y, a5y, a6y, a7y, a8y, a9y, a10y, a11y, a12y, a13y, a14y, a15y, a16y)) (by omega) ⟨rfl, hy⟩ ?_ ?_
  · rintro n ⟨h, w⟩ ⟨h1, h2⟩
    obtain ⟨ccw, pcw, lvw, dpw, stw, a1w, a2w, a3w, a4w, a5w, a6w, a7w, a8w, a9w, a10w, a11w, a12w, a13w, a14w, a15w, a16w⟩ := w
    refine pk_le 64 (p % 8 + 8 * 8) (fun _ => ?_) (fun z => absurd z (by omega))
    dsimp only at h1 ⊢
    rw [h1]
    exact H _ h2
  · rintro n i ⟨h, w⟩ hi ⟨h1, h2⟩ hn
    obtain ⟨ccw, pcw, lvw, dpw, stw, a1w, a2w, a3w, a4w, a5w, a6w, a7w, a8w, a9w, a10w, a11w, a12w, a13w, a14w, a15w, a16w⟩ := w
    dsimp only at h1
    refine pk_le 64 (p % 8 + 8 * i) (fun z => absurd z (by omega)) (fun _ => ?_)
    refine od_ends hI h2 hp (by omega) (fun v hv => ?_)
    obtain ⟨ccv, pcv, lvv, dpv, stv, a1v, a2v, a3v, a4v, a5v, a6v, a7v, a8v, a9v, a10v, a11v, a12v, a13v, a14v, a15v, a16v⟩ := v
    refine od_end (k := 0) hI hv hp (by omega) (by omega) (fun x hx => ?_)
    obtain ⟨ccx, pcx, lvx, dpx, stx, a1x, a2x, a3x, a4x, a5x, a6x, a7x, a8x, a9x, a10x, a11x, a12x, a13x, a14x, a15x, a16x⟩ := x
    refine od_end (k := 2) hI hx hp (by omega) (by omega) (fun y hy => ?_)
    obtain ⟨ccy, pcy, lvy, dpy, sty, a1y, a2y, a3y, a4y, a5y, a6y, a7y, a8y, a9y, a10y, a11y, a12y, a13y, a14y, a15y, a16y⟩ := y
    refine nm_e (nm_r (nI_add (p % 8 + 8 * i) 8) ?_)
    refine hn (_, _) ⟨?_, hy⟩
    dsimp only
    rw [h1]
    rfl
end
/-! what holds -/
def od_bi (b : Bool) : Int32 := if b = true then 1 else 0
theorem od_bi_0 (b : Bool) : od_bi b = 0 ↔ b = false := by cases b <;> decide
theorem od_nf {b : Bool} (h : ¬ b = false) : b = true := by
  cases b with
  | false => exact absurd rfl h
  | true => rfl
theorem od_bi_1 (b : Bool) : od_bi b = 1 ↔ b = true := by cases b <;> decide
theorem od_nor (a b c : Bool) : (!(a || b || c)) = true ↔ ¬ (a = true ∨ b = true ∨ c = true) := by cases a <;> cases b <;> cases c <;> simp
theorem od_law_none (T : od_T) (p : Nat) {s : Nat} (hs : s < 64) : od_b (od_kd T 5 p 0) s = !(od_b (od_kd T 3 p 0) s || od_b (od_kd T 4 p 0) s || decide (¬ od_en T p s = 0)) := by
  have k5 : od_kd T 5 p 0 = od_M T true true p (-1) ^^^ (-1) := rfl
  have k3 : od_kd T 3 p 0 = od_M T true false p 0 := rfl
  have k4 : od_kd T 4 p 0 = od_M T false true p 0 := rfl
  have ho : decide (¬ od_en T p s = 0) = true ↔ ∃ t, t < 64 ∧ od_b (od_M T false false p ((1 : Int64) <<< ((nI t).toInt64 &&& 63))) s = true := by
    rw [decide_eq_true_iff]
    constructor
    · intro h
      obtain ⟨t, ht, hb⟩ := od_ne0 h
      exact ⟨t, ht, ((od_mk_b _ t 64 (Nat.le_refl 64)).mp hb).2⟩
    · rintro ⟨t, ht, hb⟩ z
      have q : od_b (od_en T p s) t = true := (od_mk_b _ t 64 (Nat.le_refl 64)).mpr ⟨ht, hb⟩
      rw [z] at q
      exact od_0 t q
  apply Bool.eq_iff_iff.mpr
  rw [od_nor, k5, k3, k4, od_not _ hs, od_M_none T p s, ho]
theorem od_law_01 (T : od_T) (p c : Nat) {s : Nat} (hs : s < 64) (h : od_b (od_kd T 0 p c) s = true) : od_b (od_kd T 1 p c) s = true := by
  have k0 : od_kd T 0 p c = od_M T true true p (od_W T c ^^^ (-1)) ^^^ (-1) := rfl
  have k1 : od_kd T 1 p c = od_M T true false p (od_W T c ^^^ (-1)) ^^^ (-1) := rfl
  rw [k0, od_not _ hs] at h
  rw [k1, od_not _ hs]
  exact fun z => h (od_M_01 T p _ s z)
theorem od_law_2 (T : od_T) (p c : Nat) {s : Nat} (hs : s < 64) (h : od_b (od_kd T 5 p 0) s = true) : ¬ od_b (od_kd T 2 p c) s = true := by
  have k5 : od_kd T 5 p 0 = od_M T true true p (-1) ^^^ (-1) := rfl
  have k2 : od_kd T 2 p c = od_M T false false p (od_W T c) := rfl
  rw [k5, od_not _ hs] at h
  rw [k2]
  exact fun z => h (od_M_2 T p _ s z)
theorem od_na (A : Int64) : (A ^^^ (-1)) &&& A = 0 := od_ext (fun s hs => ⟨fun h => absurd ((od_and _ _ s).mp h).2 ((od_not A hs).mp ((od_and _ _ s).mp h).1), fun h => absurd h (od_0 s)⟩)
theorem od_nb (A B : Int64) : (A &&& B) &&& (B ^^^ (-1)) = 0 := od_ext (fun s hs => ⟨fun h => absurd ((od_and _ _ s).mp ((od_and _ _ s).mp h).1).2 ((od_not B hs).mp ((od_and _ _ s).mp h).2), fun h => absurd h (od_0 s)⟩)
section
variable {T : od_T} {cc pc : Nat} {lv : Int32} {u : St1}
theorem od_ref_same {post : Int32 → St1 → Prop} {p q : Nat} (hI : od_In T cc pc) (hu : od_ok T cc pc lv u) (hp : p < pc) (hq : q < pc) (hs : od_same T p q) (H : ∀ u', od_ok T cc pc lv u' → post 1 u') : wpX_refines post u (nI p) (nI q) := by
  obtain ⟨s1, s2, s3⟩ := hs
  have e : od_M T true true q 0 = od_M T true true p 0 := by rw [od_M_0, od_M_0, s1, s2]
  refine od_refines hI hu hp hq ?_ (fun t ht => ?_) H
  · rw [e]
    exact od_na _
  · rw [← s3 t ht]
    exact od_nb _ _
theorem od_same_r (T : od_T) (p : Nat) : od_same T p p := ⟨rfl, rfl, fun _ _ => rfl⟩
theorem od_same_s {p q : Nat} (h : od_same T p q) : od_same T q p := ⟨h.1.symm, h.2.1.symm, fun t ht => (h.2.2 t ht).symm⟩
theorem od_isb {post : Int32 → St1 → Prop} {k p c s : Nat} (hI : od_In T cc pc) (hu : od_ok T cc pc lv u) (hp : p < pc) (hk : k ≤ 5) (hc : k ≤ 2 → c < cc) (hs : s < 64) (H : ∀ u', od_ok T cc pc lv u' → post (od_bi (od_b (od_kd T k p c) s)) u') : wpX_is post u (nI k) (nI p) (nI c) (nI s) := by
  refine od_is hI hu hp hk hc hs (fun z v hv => ?_) (fun z v hv => ?_)
  · have t := H v hv
    rw [Bool.eq_false_iff.mpr z] at t
    exact t
  · have t := H v hv
    rw [z] at t
    exact t
end
section
variable {cc pc lv dp : Int32} {st : Int64} {a1 : Nat → Int64} {a2 a3 a4 a5 a6 a7 a8 a9 : Nat → Int32} {a10 a11 : Nat → Int64} {a12 : Nat → Int32} {a13 : Nat → Int64} {a14 : Nat → Int32} {a15 a16 : Nat → Int64}
theorem od_h110 {post : Int32 → St1 → Prop} {J : Int32 → Int32 → Int32 → Int32 → Int32 → Int64 → (Nat → Int64) → (Nat → Int32) → (Nat → Int32) → (Nat → Int32) → (Nat → Int32) → (Nat → Int32) → (Nat → Int32) → (Nat → Int32) → (Nat → Int32) → (Nat → Int64) → (Nat → Int64) → (Nat → Int32) → (Nat → Int64) → (Nat → Int32) → (Nat → Int64) → (Nat → Int64) → Prop} {x1 x2 x3 : Int32} {s : Nat} {f e o n : Bool} (hn : n = !(f || e || o)) (H : J (nI (s + 8)) cc pc lv dp st a1 a2 a3 a4 a5 a6 a7 a8 a9 a10 a11 a12 a13 a14 a15 a16) : wL_holds_110 post J x1 x2 x3 (nI s) (od_bi f) (od_bi e) (od_bi n) (od_bi o) cc pc lv dp st a1 a2 a3 a4 a5 a6 a7 a8 a9 a10 a11 a12 a13 a14 a15 a16 := by
  unfold wL_holds_110
  have hz : n = true → wL_holds_132 post J x1 x2 x3 (nI s) 0 (od_bi n) cc pc lv dp st a1 a2 a3 a4 a5 a6 a7 a8 a9 a10 a11 a12 a13 a14 a15 a16 := by
    intro h
    unfold wL_holds_132
    refine br_f (fun z => ?_) (nm_r (nI_add s 8) H)
    rw [(od_bi_0 n).mp z] at h
    exact absurd h (by decide)
  have ho : n = false → wL_holds_127 post J x1 x2 x3 (nI s) (od_bi n) cc pc lv dp st a1 a2 a3 a4 a5 a6 a7 a8 a9 a10 a11 a12 a13 a14 a15 a16 := by
    intro h
    unfold wL_holds_127 wL_holds_132
    refine br_f (fun z => ?_) (nm_r (nI_add s 8) H)
    rw [(od_bi_1 n).mp z] at h
    exact absurd h (by decide)
  refine br_c (fun h5 => br_c (fun h6 => br_c (fun h8 => hz ?_) (fun h8 => ho ?_)) (fun h6 => ho ?_)) (fun h5 => ho ?_)
  · rw [hn, (od_bi_0 f).mp h5, (od_bi_0 e).mp h6, (od_bi_0 o).mp h8]
    rfl
  · rw [od_bi_0] at h8
    rw [hn, od_nf h8]
    cases f <;> cases e <;> rfl
  · rw [od_bi_0] at h6
    rw [hn, od_nf h6]
    cases f <;> rfl
  · rw [od_bi_0] at h5
    rw [hn, od_nf h5]
    rfl
end
section
variable {T : od_T} {cc pc : Nat} {lv : Int32} {u : St1}
theorem od_h91 {post : Int32 → St1 → Prop} {J : Int32 → Int32 → Int32 → Int32 → Int32 → Int64 → (Nat → Int64) → (Nat → Int32) → (Nat → Int32) → (Nat → Int32) → (Nat → Int32) → (Nat → Int32) → (Nat → Int32) → (Nat → Int32) → (Nat → Int32) → (Nat → Int64) → (Nat → Int64) → (Nat → Int32) → (Nat → Int64) → (Nat → Int32) → (Nat → Int64) → (Nat → Int64) → Prop} {x2 : Int32} {p c s : Nat} {f e o n : Bool} (hI : od_In T cc pc) (hu : od_ok T cc pc lv u) (hp : p < pc) (hc : c < cc) (hs : s < 64) (hn : n = !(f || e || o)) (h2 : n = true → ¬ od_b (od_kd T 2 p c) s = true) (H : ∀ v, od_ok T cc pc lv v → J (nI (s + 8)) v.1 v.2.1 v.2.2.1 v.2.2.2.1 v.2.2.2.2.1 v.2.2.2.2.2.1 v.2.2.2.2.2.2.1 v.2.2.2.2.2.2.2.1 v.2.2.2.2.2.2.2.2.1 v.2.2.2.2.2.2.2.2.2.1 v.2.2.2.2.2.2.2.2.2.2.1 v.2.2.2.2.2.2.2.2.2.2.2.1 v.2.2.2.2.2.2.2.2.2.2.2.2.1 v.2.2.2.2.2.2.2.2.2.2.2.2.2.1 v.2.2.2.2.2.2.2.2.2.2.2.2.2.2.1 v.2.2.2.2.2.2.2.2.2.2.2.2.2.2.2.1 v.2.2.2.2.2.2.2.2.2.2.2.2.2.2.2.2.1 v.2.2.2.2.2.2.2.2.2.2.2.2.2.2.2.2.2.1 v.2.2.2.2.2.2.2.2.2.2.2.2.2.2.2.2.2.2.1 v.2.2.2.2.2.2.2.2.2.2.2.2.2.2.2.2.2.2.2.1 v.2.2.2.2.2.2.2.2.2.2.2.2.2.2.2.2.2.2.2.2) : wL_holds_91 post J (nI p) x2 (nI c) (nI s) (od_bi f) (od_bi e) (od_bi n) (od_bi o) u.1 u.2.1 u.2.2.1 u.2.2.2.1 u.2.2.2.2.1 u.2.2.2.2.2.1 u.2.2.2.2.2.2.1 u.2.2.2.2.2.2.2.1 u.2.2.2.2.2.2.2.2.1 u.2.2.2.2.2.2.2.2.2.1 u.2.2.2.2.2.2.2.2.2.2.1 u.2.2.2.2.2.2.2.2.2.2.2.1 u.2.2.2.2.2.2.2.2.2.2.2.2.1 u.2.2.2.2.2.2.2.2.2.2.2.2.2.1 u.2.2.2.2.2.2.2.2.2.2.2.2.2.2.1 u.2.2.2.2.2.2.2.2.2.2.2.2.2.2.2.1 u.2.2.2.2.2.2.2.2.2.2.2.2.2.2.2.2.1 u.2.2.2.2.2.2.2.2.2.2.2.2.2.2.2.2.2.1 u.2.2.2.2.2.2.2.2.2.2.2.2.2.2.2.2.2.2.1 u.2.2.2.2.2.2.2.2.2.2.2.2.2.2.2.2.2.2.2.1 u.2.2.2.2.2.2.2.2.2.2.2.2.2.2.2.2.2.2.2.2 := by
  unfold wL_holds_91
  refine br_c (fun _ => od_h110 hn (H _ hu)) (fun z => ?_)
  have hn1 : n = true := by
    rw [od_bi_0] at z
    exact od_nf z
  refine od_is (k := 2) hI hu hp (by omega) (fun _ => hc) hs (fun _ v hv => ?_) (fun q => absurd q (h2 hn1))
  obtain ⟨ccv, pcv, lvv, dpv, stv, a1v, a2v, a3v, a4v, a5v, a6v, a7v, a8v, a9v, a10v, a11v, a12v, a13v, a14v, a15v, a16v⟩ := v
  exact br_t rfl (od_h110 hn (H _ hv))
theorem od_h61 {post : Int32 → St1 → Prop} {J : Int32 → Int32 → Int32 → Int32 → Int32 → Int64 → (Nat → Int64) → (Nat → Int32) → (Nat → Int32) → (Nat → Int32) → (Nat → Int32) → (Nat → Int32) → (Nat → Int32) → (Nat → Int32) → (Nat → Int32) → (Nat → Int64) → (Nat → Int64) → (Nat → Int32) → (Nat → Int64) → (Nat → Int32) → (Nat → Int64) → (Nat → Int64) → Prop} {x2 x3 : Int32} {p s : Nat} {f e o n : Bool} (hI : od_In T cc pc) (hu : od_ok T cc pc lv u) (hp : p < pc) (hx : x3 < 0 ∨ ∃ c, c < cc ∧ x3 = nI c) (hs : s < 64) (hn : n = !(f || e || o)) (h2 : n = true → ∀ c, ¬ od_b (od_kd T 2 p c) s = true) (H : ∀ v, od_ok T cc pc lv v → J (nI (s + 8)) v.1 v.2.1 v.2.2.1 v.2.2.2.1 v.2.2.2.2.1 v.2.2.2.2.2.1 v.2.2.2.2.2.2.1 v.2.2.2.2.2.2.2.1 v.2.2.2.2.2.2.2.2.1 v.2.2.2.2.2.2.2.2.2.1 v.2.2.2.2.2.2.2.2.2.2.1 v.2.2.2.2.2.2.2.2.2.2.2.1 v.2.2.2.2.2.2.2.2.2.2.2.2.1 v.2.2.2.2.2.2.2.2.2.2.2.2.2.1 v.2.2.2.2.2.2.2.2.2.2.2.2.2.2.1 v.2.2.2.2.2.2.2.2.2.2.2.2.2.2.2.1 v.2.2.2.2.2.2.2.2.2.2.2.2.2.2.2.2.1 v.2.2.2.2.2.2.2.2.2.2.2.2.2.2.2.2.2.1 v.2.2.2.2.2.2.2.2.2.2.2.2.2.2.2.2.2.2.1 v.2.2.2.2.2.2.2.2.2.2.2.2.2.2.2.2.2.2.2.1 v.2.2.2.2.2.2.2.2.2.2.2.2.2.2.2.2.2.2.2.2) : wL_holds_61 post J (nI p) x2 x3 (nI s) (od_bi f) (od_bi e) (od_bi n) (od_bi o) u.1 u.2.1 u.2.2.1 u.2.2.2.1 u.2.2.2.2.1 u.2.2.2.2.2.1 u.2.2.2.2.2.2.1 u.2.2.2.2.2.2.2.1 u.2.2.2.2.2.2.2.2.1 u.2.2.2.2.2.2.2.2.2.1 u.2.2.2.2.2.2.2.2.2.2.1 u.2.2.2.2.2.2.2.2.2.2.2.1 u.2.2.2.2.2.2.2.2.2.2.2.2.1 u.2.2.2.2.2.2.2.2.2.2.2.2.2.1 u.2.2.2.2.2.2.2.2.2.2.2.2.2.2.1 u.2.2.2.2.2.2.2.2.2.2.2.2.2.2.2.1 u.2.2.2.2.2.2.2.2.2.2.2.2.2.2.2.2.1 u.2.2.2.2.2.2.2.2.2.2.2.2.2.2.2.2.2.1 u.2.2.2.2.2.2.2.2.2.2.2.2.2.2.2.2.2.2.1 u.2.2.2.2.2.2.2.2.2.2.2.2.2.2.2.2.2.2.2.1 u.2.2.2.2.2.2.2.2.2.2.2.2.2.2.2.2.2.2.2.2 := by
  unfold wL_holds_61
  rcases hx with hx | ⟨c, hc, rfl⟩
  · exact br_t hx (od_h110 hn (H _ hu))
  · have h24 := hI.2.1
    refine br_f (nI_pos (by omega)) ?_
    refine od_is (k := 0) hI hu hp (by omega) (fun _ => hc) hs (fun _ v hv => ?_) (fun q v hv => ?_)
    · obtain ⟨ccv, pcv, lvv, dpv, stv, a1v, a2v, a3v, a4v, a5v, a6v, a7v, a8v, a9v, a10v, a11v, a12v, a13v, a14v, a15v, a16v⟩ := v
      exact br_t rfl (od_h91 (u := (ccv, pcv, lvv, dpv, stv, a1v, a2v, a3v, a4v, a5v, a6v, a7v, a8v, a9v, a10v, a11v, a12v, a13v, a14v, a15v, a16v)) hI hv hp hc hs hn (fun t => h2 t c) H)
    · obtain ⟨ccv, pcv, lvv, dpv, stv, a1v, a2v, a3v, a4v, a5v, a6v, a7v, a8v, a9v, a10v, a11v, a12v, a13v, a14v, a15v, a16v⟩ := v
      refine br_f (by decide) ?_
      refine od_is (k := 1) hI hv hp (by omega) (fun _ => hc) hs (fun z => absurd (od_law_01 T p c hs q) z) (fun _ w hw => ?_)
      obtain ⟨ccw, pcw, lvw, dpw, stw, a1w, a2w, a3w, a4w, a5w, a6w, a7w, a8w, a9w, a10w, a11w, a12w, a13w, a14w, a15w, a16w⟩ := w
      exact br_f (by decide) (od_h91 (u := (ccw, pcw, lvw, dpw, stw, a1w, a2w, a3w, a4w, a5w, a6w, a7w, a8w, a9w, a10w, a11w, a12w, a13w, a14w, a15w, a16w)) hI hw hp hc hs hn (fun t => h2 t c) H)
theorem od_holds {post : Int32 → St1 → Prop} {x3 : Int32} {p q : Nat} (hI : od_In T cc pc) (hu : od_ok T cc pc lv u) (hp : p < pc) (hq : q < pc) (hx : x3 < 0 ∨ ∃ c, c < cc ∧ x3 = nI c) (H : ∀ u', od_ok T cc pc lv u' → post 1 u') : wpL_holds post u (nI p) (nI q) x3 := by
  obtain ⟨ccu, pcu, lvu, dpu, stu, a1u, a2u, a3u, a4u, a5u, a6u, a7u, a8u, a9u, a10u, a11u, a12u, a13u, a14u, a15u, a16u⟩ := u
  have h32 := hI.2.2
  have hr : p % 8 < 8 := Nat.mod_lt _ (by omega)
  unfold wpL_holds
  refine nm_r (od_and7 (by omega)) ?_
  refine pk_loop (σ := St1) (fun n i w => wL_holds_6 post (nI p) (nI q) x3 n (nI (p % 8 + 8 * i)) w.1 w.2.1 w.2.2.1 w.2.2.2.1 w.2.2.2.2.1 w.2.2.2.2.2.1 w.2.2.2.2.2.2.1 w.2.2.2.2.2.2.2.1 w.2.2.2.2.2.2.2.2.1 w.2.2.2.2.2.2.2.2.2.1 w.2.2.2.2.2.2.2.2.2.2.1 w.2.2.2.2.2.2.2.2.2.2.2.1 w.2.2.2.2.2.2.2.2.2.2.2.2.1 w.2.2.2.2.2.2.2.2.2.2.2.2.2.1 w.2.2.2.2.2.2.2.2.2.2.2.2.2.2.1 w.2.2.2.2.2.2.2.2.2.2.2.2.2.2.2.1 w.2.2.2.2.2.2.2.2.2.2.2.2.2.2.2.2.1 w.2.2.2.2.2.2.2.2.2.2.2.2.2.2.2.2.2.1 w.2.2.2.2.2.2.2.2.2.2.2.2.2.2.2.2.2.2.1 w.2.2.2.2.2.2.2.2.2.2.2.2.2.2.2.2.2.2.2.1 w.2.2.2.2.2.2.2.2.2.2.2.2.2.2.2.2.2.2.2.2) (fun i w => od_ok T cc pc lv w) 8 0 (ccu, pcu, lvu, dpu, stu, a1u, a2u, a3u, a4u, a5u, a6u, a7u, a8u, a9u, a10u, a11u, a12u, a13u, a14u, a15u, a16u) (by omega) hu ?_ ?_
  · intro n w hw
    refine pk_le 64 (p % 8 + 8 * 8) (fun _ => ?_) (fun z => absurd z (by omega))
    refine od_ref_same hI hw hp hp (od_same_r T p) (fun v hv => ?_)
    obtain ⟨ccv, pcv, lvv, dpv, stv, a1v, a2v, a3v, a4v, a5v, a6v, a7v, a8v, a9v, a10v, a11v, a12v, a13v, a14v, a15v, a16v⟩ := v
    refine br_f (by decide) ?_
    refine od_same_wp hI hv hp hp (fun z => absurd (od_same_r T p) z) (fun _ y hy => ?_)
    obtain ⟨ccy, pcy, lvy, dpy, sty, a1y, a2y, a3y, a4y, a5y, a6y, a7y, a8y, a9y, a10y, a11y, a12y, a13y, a14y, a15y, a16y⟩ := y
    refine br_f (by decide) ?_
    refine od_same_wp hI hy hp hq (fun _ z hz => ?_) (fun hs z hz => ?_)
    · obtain ⟨ccz, pcz, lvz, dpz, stz, a1z, a2z, a3z, a4z, a5z, a6z, a7z, a8z, a9z, a10z, a11z, a12z, a13z, a14z, a15z, a16z⟩ := z
      exact br_t rfl (H _ hz)
    · obtain ⟨ccz, pcz, lvz, dpz, stz, a1z, a2z, a3z, a4z, a5z, a6z, a7z, a8z, a9z, a10z, a11z, a12z, a13z, a14z, a15z, a16z⟩ := z
      refine br_f (by decide) ?_
      refine od_ref_same hI hz hp hq hs (fun v hv => ?_)
      obtain ⟨ccv, pcv, lvv, dpv, stv, a1v, a2v, a3v, a4v, a5v, a6v, a7v, a8v, a9v, a10v, a11v, a12v, a13v, a14v, a15v, a16v⟩ := v
      refine br_f (by decide) ?_
      refine od_ref_same hI hv hq hp (od_same_s hs) (fun y hy => ?_)
      obtain ⟨ccy, pcy, lvy, dpy, sty, a1y, a2y, a3y, a4y, a5y, a6y, a7y, a8y, a9y, a10y, a11y, a12y, a13y, a14y, a15y, a16y⟩ := y
      exact br_f (by decide) (H _ hy)
  · intro n i w hi hw hn
    have hs : p % 8 + 8 * i < 64 := by omega
    refine pk_le 64 (p % 8 + 8 * i) (fun z => absurd z (by omega)) (fun _ => ?_)
    refine od_isb (k := 3) (c := 0) hI hw hp (by omega) (fun z => absurd z (by omega)) hs (fun v hv => ?_)
    obtain ⟨ccv, pcv, lvv, dpv, stv, a1v, a2v, a3v, a4v, a5v, a6v, a7v, a8v, a9v, a10v, a11v, a12v, a13v, a14v, a15v, a16v⟩ := v
    refine od_isb (k := 4) (c := 0) hI hv hp (by omega) (fun z => absurd z (by omega)) hs (fun y hy => ?_)
    obtain ⟨ccy, pcy, lvy, dpy, sty, a1y, a2y, a3y, a4y, a5y, a6y, a7y, a8y, a9y, a10y, a11y, a12y, a13y, a14y, a15y, a16y⟩ := y
    refine od_isb (k := 5) (c := 0) hI hy hp (by omega) (fun z => absurd z (by omega)) hs (fun z hz => ?_)
    obtain ⟨ccz, pcz, lvz, dpz, stz, a1z, a2z, a3z, a4z, a5z, a6z, a7z, a8z, a9z, a10z, a11z, a12z, a13z, a14z, a15z, a16z⟩ := z
    refine od_ends hI hz hp hs (fun x hx' => ?_)
    obtain ⟨ccx, pcx, lvx, dpx, stx, a1x, a2x, a3x, a4x, a5x, a6x, a7x, a8x, a9x, a10x, a11x, a12x, a13x, a14x, a15x, a16x⟩ := x
    have hpop : od_pop (od_en T p (p % 8 + 8 * i)) ≤ 64 := od_on_le 64 _
    have hl := od_law_none T p hs
    refine pk_le (od_pop (od_en T p (p % 8 + 8 * i))) 0 (fun g => ?_) (fun g => ?_)
    · have e0 : od_en T p (p % 8 + 8 * i) = 0 := (od_pop_0 _).mp (by omega)
      rw [decide_eq_false (fun t => t e0)] at hl
      exact od_h61 (u := (ccx, pcx, lvx, dpx, stx, a1x, a2x, a3x, a4x, a5x, a6x, a7x, a8x, a9x, a10x, a11x, a12x, a13x, a14x, a15x, a16x)) (o := false) hI hx' hp hx hs hl (fun t c => od_law_2 T p c hs t) (fun v hv => hn v hv)
    · have e0 : ¬ od_en T p (p % 8 + 8 * i) = 0 := fun t => absurd ((od_pop_0 _).mpr t) (by omega)
      rw [decide_eq_true e0] at hl
      exact od_h61 (u := (ccx, pcx, lvx, dpx, stx, a1x, a2x, a3x, a4x, a5x, a6x, a7x, a8x, a9x, a10x, a11x, a12x, a13x, a14x, a15x, a16x)) (o := true) hI hx' hp hx hs hl (fun t c => od_law_2 T p c hs t) (fun v hv => hn v hv)
end
end
section
theorem od_lcmp {L i : Nat} (hL : L < 2 ^ 30) (hi : i < 2 ^ 30) : (Int32.ofNat L) - 2 < nI i ↔ L < i + 2 := by
  have h1 : ((Int32.ofNat L) - 2).toInt = (L : Int) - 2 := pk_sub_toInt (a := L) (b := 2) hL (by decide)
  have h2 : (nI i).toInt = (i : Int) := nI_toInt (by omega)
  rw [Int32.lt_iff_toInt_lt, h1, h2]
  omega
section
variable {T : od_T} {cc pc L : Nat} {xs : Nat → Int32} {u v : St1}
theorem od_158 {post : Int32 → Prop} {J : St1 → St1 → Prop} {JJ : Int32 → Int32 → Int32 → Int32 → Int32 → Int32 → Int32 → Int64 → (Nat → Int64) → (Nat → Int32) → (Nat → Int32) → (Nat → Int32) → (Nat → Int32) → (Nat → Int32) → (Nat → Int32) → (Nat → Int32) → (Nat → Int32) → (Nat → Int64) → (Nat → Int64) → (Nat → Int32) → (Nat → Int64) → (Nat → Int32) → (Nat → Int64) → (Nat → Int64) → Int32 → Int32 → Int32 → Int32 → Int64 → (Nat → Int64) → (Nat → Int32) → (Nat → Int32) → (Nat → Int32) → (Nat → Int32) → (Nat → Int32) → (Nat → Int32) → (Nat → Int32) → (Nat → Int32) → (Nat → Int64) → (Nat → Int64) → (Nat → Int32) → (Nat → Int64) → (Nat → Int32) → (Nat → Int64) → (Nat → Int64) → Prop} {i kc ks : Nat} {x6 : Int32} (hI : od_In T cc pc) (hu : od_ok T cc pc 1 u) (hJ : ∀ w, J w v → JJ (nI cc) (nI pc) (nI (i + 2)) w.1 w.2.1 w.2.2.1 w.2.2.2.1 w.2.2.2.2.1 w.2.2.2.2.2.1 w.2.2.2.2.2.2.1 w.2.2.2.2.2.2.2.1 w.2.2.2.2.2.2.2.2.1 w.2.2.2.2.2.2.2.2.2.1 w.2.2.2.2.2.2.2.2.2.2.1 w.2.2.2.2.2.2.2.2.2.2.2.1 w.2.2.2.2.2.2.2.2.2.2.2.2.1 w.2.2.2.2.2.2.2.2.2.2.2.2.2.1 w.2.2.2.2.2.2.2.2.2.2.2.2.2.2.1 w.2.2.2.2.2.2.2.2.2.2.2.2.2.2.2.1 w.2.2.2.2.2.2.2.2.2.2.2.2.2.2.2.2.1 w.2.2.2.2.2.2.2.2.2.2.2.2.2.2.2.2.2.1 w.2.2.2.2.2.2.2.2.2.2.2.2.2.2.2.2.2.2.1 w.2.2.2.2.2.2.2.2.2.2.2.2.2.2.2.2.2.2.2.1 w.2.2.2.2.2.2.2.2.2.2.2.2.2.2.2.2.2.2.2.2 v.1 v.2.1 v.2.2.1 v.2.2.2.1 v.2.2.2.2.1 v.2.2.2.2.2.1 v.2.2.2.2.2.2.1 v.2.2.2.2.2.2.2.1 v.2.2.2.2.2.2.2.2.1 v.2.2.2.2.2.2.2.2.2.1 v.2.2.2.2.2.2.2.2.2.2.1 v.2.2.2.2.2.2.2.2.2.2.2.1 v.2.2.2.2.2.2.2.2.2.2.2.2.1 v.2.2.2.2.2.2.2.2.2.2.2.2.2.1 v.2.2.2.2.2.2.2.2.2.2.2.2.2.2.1 v.2.2.2.2.2.2.2.2.2.2.2.2.2.2.2.1 v.2.2.2.2.2.2.2.2.2.2.2.2.2.2.2.2.1 v.2.2.2.2.2.2.2.2.2.2.2.2.2.2.2.2.2.1 v.2.2.2.2.2.2.2.2.2.2.2.2.2.2.2.2.2.2.1 v.2.2.2.2.2.2.2.2.2.2.2.2.2.2.2.2.2.2.2.1 v.2.2.2.2.2.2.2.2.2.2.2.2.2.2.2.2.2.2.2.2) (H : ∀ w, od_ok T cc pc 1 w → J w v) : wL_law_158 post L xs JJ (nI cc) (nI pc) (nI i) x6 kc ks u.1 u.2.1 u.2.2.1 u.2.2.2.1 u.2.2.2.2.1 u.2.2.2.2.2.1 u.2.2.2.2.2.2.1 u.2.2.2.2.2.2.2.1 u.2.2.2.2.2.2.2.2.1 u.2.2.2.2.2.2.2.2.2.1 u.2.2.2.2.2.2.2.2.2.2.1 u.2.2.2.2.2.2.2.2.2.2.2.1 u.2.2.2.2.2.2.2.2.2.2.2.2.1 u.2.2.2.2.2.2.2.2.2.2.2.2.2.1 u.2.2.2.2.2.2.2.2.2.2.2.2.2.2.1 u.2.2.2.2.2.2.2.2.2.2.2.2.2.2.2.1 u.2.2.2.2.2.2.2.2.2.2.2.2.2.2.2.2.1 u.2.2.2.2.2.2.2.2.2.2.2.2.2.2.2.2.2.1 u.2.2.2.2.2.2.2.2.2.2.2.2.2.2.2.2.2.2.1 u.2.2.2.2.2.2.2.2.2.2.2.2.2.2.2.2.2.2.2.1 u.2.2.2.2.2.2.2.2.2.2.2.2.2.2.2.2.2.2.2.2 v.1 v.2.1 v.2.2.1 v.2.2.2.1 v.2.2.2.2.1 v.2.2.2.2.2.1 v.2.2.2.2.2.2.1 v.2.2.2.2.2.2.2.1 v.2.2.2.2.2.2.2.2.1 v.2.2.2.2.2.2.2.2.2.1 v.2.2.2.2.2.2.2.2.2.2.1 v.2.2.2.2.2.2.2.2.2.2.2.1 v.2.2.2.2.2.2.2.2.2.2.2.2.1 v.2.2.2.2.2.2.2.2.2.2.2.2.2.1 v.2.2.2.2.2.2.2.2.2.2.2.2.2.2.1 v.2.2.2.2.2.2.2.2.2.2.2.2.2.2.2.1 v.2.2.2.2.2.2.2.2.2.2.2.2.2.2.2.2.1 v.2.2.2.2.2.2.2.2.2.2.2.2.2.2.2.2.2.1 v.2.2.2.2.2.2.2.2.2.2.2.2.2.2.2.2.2.2.1 v.2.2.2.2.2.2.2.2.2.2.2.2.2.2.2.2.2.2.2.1 v.2.2.2.2.2.2.2.2.2.2.2.2.2.2.2.2.2.2.2.2 := by
  have h24 := hI.2.1
  have h32 := hI.2.2
  unfold wL_law_158
  refine pk_le pc 0 (fun _ => nm_r (nI_add i 2) (hJ u (H u hu))) (fun hp => ⟨by decide, br_c (fun _ => ⟨nI_ne0 hp (by omega), ?_⟩) (fun _ => nm_r (nI_add i 2) (hJ u (H u hu)))⟩)
  obtain ⟨p, rfl⟩ : ∃ p, pc = p + 1 := ⟨pc - 1, by omega⟩
  obtain ⟨q, hq, eq⟩ := od_rem (x6 >>> ((8 : Int32) &&& 31)) (m := 255) 8 (by omega) (by decide) (p + 1) (by omega) (by omega)
  rw [eq, nI_pred p]
  refine od_holds hI hu (by omega) hq ?_ (fun w hw => ?_)
  · cases cc with
    | zero => exact Or.inl (by decide)
    | succ c => exact Or.inr ⟨c, by omega, nI_pred c⟩
  · have t := hJ w (H w hw)
    obtain ⟨ccw, pcw, lvw, dpw, stw, a1w, a2w, a3w, a4w, a5w, a6w, a7w, a8w, a9w, a10w, a11w, a12w, a13w, a14w, a15w, a16w⟩ := w
    exact br_f (by decide) (nm_r (nI_add i 2) t)
end
theorem od_loop {L : Nat} {xs : Nat → Int32} (hL : L ≤ 260) (kc ks : Nat) : ∀ (n i : Nat) (T : od_T) (cc pc : Nat) (u v : St1), i ≤ L + 1 → L + 2 < i + n → od_In T cc pc → od_ok T cc pc 1 u → od_ok T cc pc 0 v → wL_law_34 (fun r => r = 1) L xs kc ks n (nI cc) (nI pc) (nI i) u.1 u.2.1 u.2.2.1 u.2.2.2.1 u.2.2.2.2.1 u.2.2.2.2.2.1 u.2.2.2.2.2.2.1 u.2.2.2.2.2.2.2.1 u.2.2.2.2.2.2.2.2.1 u.2.2.2.2.2.2.2.2.2.1 u.2.2.2.2.2.2.2.2.2.2.1 u.2.2.2.2.2.2.2.2.2.2.2.1 u.2.2.2.2.2.2.2.2.2.2.2.2.1 u.2.2.2.2.2.2.2.2.2.2.2.2.2.1 u.2.2.2.2.2.2.2.2.2.2.2.2.2.2.1 u.2.2.2.2.2.2.2.2.2.2.2.2.2.2.2.1 u.2.2.2.2.2.2.2.2.2.2.2.2.2.2.2.2.1 u.2.2.2.2.2.2.2.2.2.2.2.2.2.2.2.2.2.1 u.2.2.2.2.2.2.2.2.2.2.2.2.2.2.2.2.2.2.1 u.2.2.2.2.2.2.2.2.2.2.2.2.2.2.2.2.2.2.2.1 u.2.2.2.2.2.2.2.2.2.2.2.2.2.2.2.2.2.2.2.2 v.1 v.2.1 v.2.2.1 v.2.2.2.1 v.2.2.2.2.1 v.2.2.2.2.2.1 v.2.2.2.2.2.2.1 v.2.2.2.2.2.2.2.1 v.2.2.2.2.2.2.2.2.1 v.2.2.2.2.2.2.2.2.2.1 v.2.2.2.2.2.2.2.2.2.2.1 v.2.2.2.2.2.2.2.2.2.2.2.1 v.2.2.2.2.2.2.2.2.2.2.2.2.1 v.2.2.2.2.2.2.2.2.2.2.2.2.2.1 v.2.2.2.2.2.2.2.2.2.2.2.2.2.2.1 v.2.2.2.2.2.2.2.2.2.2.2.2.2.2.2.1 v.2.2.2.2.2.2.2.2.2.2.2.2.2.2.2.2.1 v.2.2.2.2.2.2.2.2.2.2.2.2.2.2.2.2.2.1 v.2.2.2.2.2.2.2.2.2.2.2.2.2.2.2.2.2.2.1 v.2.2.2.2.2.2.2.2.2.2.2.2.2.2.2.2.2.2.2.1 v.2.2.2.2.2.2.2.2.2.2.2.2.2.2.2.2.2.2.2.2 := by
  intro n
  induction n with
  | zero => intro i T cc pc u v h1 h2; exact absurd h2 (by omega)
  | succ n ih =>
    intro i T cc pc u v h1 h2 hI hu hv
    have h24 := hI.2.1
    have h32 := hI.2.2
    refine br_c (fun _ => rfl) (fun hc => ?_)
    rw [od_lcmp (by omega) (by omega)] at hc
    have e1 : nI i + 1 = nI (i + 1) := nI_1 i
    refine ⟨pk_in (i + 1) L (by omega) e1, nm_e ⟨pk_in i L (by omega), br_c (fun _ => ?_) (fun _ => ⟨pk_in i L (by omega), ?_⟩)⟩⟩
    · obtain ⟨k, x, y, hvc, hk⟩ := od_Lc (xs (nI i + 1).toNatClampNeg) (nc := cc) h24
      refine hk _ _ (od_condition hI hvc hu (fun hcc u1 hu1 => ?_) (fun hcc u1 hu1 => ?_))
      · obtain ⟨cca, pca, lva, dpa, sta, a1a, a2a, a3a, a4a, a5a, a6a, a7a, a8a, a9a, a10a, a11a, a12a, a13a, a14a, a15a, a16a⟩ := u1
        refine hk _ _ (od_condition hI hvc hv (fun _ v1 hv1 => ?_) (fun z => absurd hcc z))
        obtain ⟨ccb, pcb, lvb, dpb, stb, a1b, a2b, a3b, a4b, a5b, a6b, a7b, a8b, a9b, a10b, a11b, a12b, a13b, a14b, a15b, a16b⟩ := v1
        have hI2 := od_addC_In hI (od_cond T k x y) hcc
        refine br_t rfl (br_f (nI_pos (by omega)) (nm_r (nI_1 cc) ?_))
        unfold wL_law_91
        exact od_158 (J := fun w v => od_ok (od_addC T cc (od_cond T k x y)) (cc + 1) pc 1 w) (u := (cca, pca, lva, dpa, sta, a1a, a2a, a3a, a4a, a5a, a6a, a7a, a8a, a9a, a10a, a11a, a12a, a13a, a14a, a15a, a16a)) (v := (ccb, pcb, lvb, dpb, stb, a1b, a2b, a3b, a4b, a5b, a6b, a7b, a8b, a9b, a10b, a11b, a12b, a13b, a14b, a15b, a16b)) hI2 hu1 (fun w hw => ih (i + 2) _ _ _ w _ (by omega) (by omega) hI2 hw hv1) (fun w hw => hw)
      · obtain ⟨cca, pca, lva, dpa, sta, a1a, a2a, a3a, a4a, a5a, a6a, a7a, a8a, a9a, a10a, a11a, a12a, a13a, a14a, a15a, a16a⟩ := u1
        refine hk _ _ (od_condition hI hvc hv (fun z => absurd z hcc) (fun _ v1 hv1 => ?_))
        obtain ⟨ccb, pcb, lvb, dpb, stb, a1b, a2b, a3b, a4b, a5b, a6b, a7b, a8b, a9b, a10b, a11b, a12b, a13b, a14b, a15b, a16b⟩ := v1
        refine br_t rfl (br_t (by decide) ?_)
        unfold wL_law_91
        exact od_158 (J := fun w v => od_ok T cc pc 1 w) (u := (cca, pca, lva, dpa, sta, a1a, a2a, a3a, a4a, a5a, a6a, a7a, a8a, a9a, a10a, a11a, a12a, a13a, a14a, a15a, a16a)) (v := (ccb, pcb, lvb, dpb, stb, a1b, a2b, a3b, a4b, a5b, a6b, a7b, a8b, a9b, a10b, a11b, a12b, a13b, a14b, a15b, a16b)) hI hu1 (fun w hw => ih (i + 2) _ _ _ w _ (by omega) (by omega) hI hw hv1) (fun w hw => hw)
    · obtain ⟨k, x, y, z, hvp, hk⟩ := od_Lp ((xs (nI i).toNatClampNeg) >>> ((2 : Int32) &&& 31)) (xs (nI i + 1).toNatClampNeg) (nc := cc) (np := pc) h24 h32
      refine hk _ _ (od_program hI hvp hu (fun hp1 hp2 u1 hu1 => ?_) (fun hpn u1 hu1 => ?_))
      · obtain ⟨cca, pca, lva, dpa, sta, a1a, a2a, a3a, a4a, a5a, a6a, a7a, a8a, a9a, a10a, a11a, a12a, a13a, a14a, a15a, a16a⟩ := u1
        refine ⟨pk_in i L (by omega), ?_⟩
        refine hk _ _ (od_program hI hvp hv (fun _ _ v1 hv1 => ?_) (fun q => absurd ⟨hp1, hp2⟩ q))
        obtain ⟨ccb, pcb, lvb, dpb, stb, a1b, a2b, a3b, a4b, a5b, a6b, a7b, a8b, a9b, a10b, a11b, a12b, a13b, a14b, a15b, a16b⟩ := v1
        have hI2 := od_addP_In hI hvp hp1 hp2
        refine br_t rfl (br_f (nI_pos (by omega)) (nm_r (nI_1 pc) ?_))
        refine od_sum_wp hI2 hu1 (by omega) (fun u2 hu2 => ?_)
        obtain ⟨ccc, pcc, lvc, dpc, stc, a1c, a2c, a3c, a4c, a5c, a6c, a7c, a8c, a9c, a10c, a11c, a12c, a13c, a14c, a15c, a16c⟩ := u2
        refine od_sum_wp hI2 hv1 (by omega) (fun v2 hv2 => ?_)
        obtain ⟨ccd, pcd, lvd, dpd, std, a1d, a2d, a3d, a4d, a5d, a6d, a7d, a8d, a9d, a10d, a11d, a12d, a13d, a14d, a15d, a16d⟩ := v2
        refine br_t rfl ?_
        exact od_158 (J := fun w v => od_ok (od_addP T pc k x y z (od_wt T k x y z)) cc (pc + 1) 1 w) (u := (ccc, pcc, lvc, dpc, stc, a1c, a2c, a3c, a4c, a5c, a6c, a7c, a8c, a9c, a10c, a11c, a12c, a13c, a14c, a15c, a16c)) (v := (ccd, pcd, lvd, dpd, std, a1d, a2d, a3d, a4d, a5d, a6d, a7d, a8d, a9d, a10d, a11d, a12d, a13d, a14d, a15d, a16d)) hI2 hu2 (fun w hw => ih (i + 2) _ _ _ w _ (by omega) (by omega) hI2 hw hv2) (fun w hw => hw)
      · obtain ⟨cca, pca, lva, dpa, sta, a1a, a2a, a3a, a4a, a5a, a6a, a7a, a8a, a9a, a10a, a11a, a12a, a13a, a14a, a15a, a16a⟩ := u1
        refine ⟨pk_in i L (by omega), ?_⟩
        refine hk _ _ (od_program hI hvp hv (fun q1 q2 => absurd ⟨q1, q2⟩ hpn) (fun _ v1 hv1 => ?_))
        obtain ⟨ccb, pcb, lvb, dpb, stb, a1b, a2b, a3b, a4b, a5b, a6b, a7b, a8b, a9b, a10b, a11b, a12b, a13b, a14b, a15b, a16b⟩ := v1
        refine br_t rfl (br_t (by decide) ?_)
        exact od_158 (J := fun w v => od_ok T cc pc 1 w) (u := (cca, pca, lva, dpa, sta, a1a, a2a, a3a, a4a, a5a, a6a, a7a, a8a, a9a, a10a, a11a, a12a, a13a, a14a, a15a, a16a)) (v := (ccb, pcb, lvb, dpb, stb, a1b, a2b, a3b, a4b, a5b, a6b, a7b, a8b, a9b, a10b, a11b, a12b, a13b, a14b, a15b, a16b)) hI hu1 (fun w hw => ih (i + 2) _ _ _ w _ (by omega) (by omega) hI hw hv1) (fun w hw => hw)
def od_T0 : od_T := (fun _ => 0, fun _ => 0, fun _ => 0, fun _ => 0, fun _ => 0, fun _ => 0)
theorem od_In0 : od_In od_T0 0 0 := ⟨fun _ h => absurd h (by omega), by omega, by omega⟩
theorem od_ok0 (lv : Int32) : od_ok od_T0 0 0 lv (0, 0, lv, 0, 0, (fun _ => 0), (fun _ => 0), (fun _ => 0), (fun _ => 0), (fun _ => 0), (fun _ => 0), (fun _ => 0), (fun _ => 0), (fun _ => 0), (fun _ => 0), (fun _ => 0), (fun _ => 0), (fun _ => 0), (fun _ => 0), (fun _ => 0), (fun _ => 0)) :=
  ⟨0, 0, (fun _ => 0), (fun _ => 0), (fun _ => 0), (fun _ => 0), (fun _ => 0), (fun _ => 0), (fun _ => 0), (fun _ => 0), (fun _ => 0), (fun _ => 0), rfl, fun _ _ => Or.inl rfl⟩
theorem od_init {post : St1 → Prop} (H : post (0, 0, 1, 0, 0, (fun _ => 0), (fun _ => 0), (fun _ => 0), (fun _ => 0), (fun _ => 0), (fun _ => 0), (fun _ => 0), (fun _ => 0), (fun _ => 0), (fun _ => 0), (fun _ => 0), (fun _ => 0), (fun _ => 0), (fun _ => 0), (fun _ => 0), (fun _ => 0))) : wpX_init post 16 544 (0, 0, 0, 0, 0) := by
  unfold wpX_init
  exact ⟨by decide, by decide, by decide, by decide, by decide, by decide, by decide, by decide, by decide, by decide, by decide, by decide, by decide, by decide, by decide, by decide, by decide, by decide, by decide, by decide, by decide, by decide, by decide, by decide, by decide, by decide, by decide, by decide, by decide, by decide, by decide, by decide, H⟩
theorem i_vc (xs : Nat → Int32) (L : Nat) (hL : L ≤ 260) : wpL_law (fun r => r = 1) L xs := by
  unfold wpL_law
  refine ⟨16, 544, by decide, by decide, od_init ⟨by decide, by decide, 16, 544, by decide, by decide, od_init ?_⟩⟩
  refine ⟨fun z => absurd z (by decide), fun _ => br_t (by decide) (br_f (by decide) ⟨L + 3, ?_⟩)⟩
  exact od_loop hL _ _ (L + 3) 0 od_T0 0 0 (0, 0, 1, 0, 0, (fun _ => 0), (fun _ => 0), (fun _ => 0), (fun _ => 0), (fun _ => 0), (fun _ => 0), (fun _ => 0), (fun _ => 0), (fun _ => 0), (fun _ => 0), (fun _ => 0), (fun _ => 0), (fun _ => 0), (fun _ => 0), (fun _ => 0), (fun _ => 0)) (0, 0, 0, 0, 0, (fun _ => 0), (fun _ => 0), (fun _ => 0), (fun _ => 0), (fun _ => 0), (fun _ => 0), (fun _ => 0), (fun _ => 0), (fun _ => 0), (fun _ => 0), (fun _ => 0), (fun _ => 0), (fun _ => 0), (fun _ => 0), (fun _ => 0), (fun _ => 0)) (by omega) (by omega) od_In0 (od_ok0 1) (od_ok0 0)
end
