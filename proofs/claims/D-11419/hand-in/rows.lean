section
/-! ===== plain rows: flags, sums, bits ===== -/
def lo_b (b : Bool) : Int32 := if b then 1 else 0
theorem lo_br0 {b : Bool} {x : Int32} {A B : Prop} (hx : x = lo_b b) (f : b = false → A) (g : b = true → B) : (x = 0 → A) ∧ (¬ x = 0 → B) := by
  subst hx
  cases b
  · exact br_t rfl (f rfl)
  · exact br_f (by decide) (g rfl)
theorem lo_br1 {b : Bool} {x : Int32} {A B : Prop} (hx : x = lo_b b) (f : b = true → A) (g : b = false → B) : (x = 1 → A) ∧ (¬ x = 1 → B) := by
  subst hx
  cases b
  · exact br_f (by decide) (g rfl)
  · exact br_t rfl (f rfl)
def lo_sum (f : Nat → Nat) : Nat → Nat
  | 0 => 0
  | n + 1 => lo_sum f n + f n
theorem lo_sum_ext {f g : Nat → Nat} : ∀ n, (∀ i, i < n → f i = g i) → lo_sum f n = lo_sum g n
  | 0, _ => rfl
  | n + 1, h => by
    show lo_sum f n + f n = lo_sum g n + g n
    rw [lo_sum_ext n (fun i hi => h i (by omega)), h n (by omega)]
theorem lo_sum_0 {f : Nat → Nat} : ∀ n, (∀ i, i < n → f i = 0) → lo_sum f n = 0
  | 0, _ => rfl
  | n + 1, h => by
    show lo_sum f n + f n = 0
    rw [lo_sum_0 n (fun i hi => h i (by omega)), h n (by omega)]
theorem lo_sum_ne {f : Nat → Nat} : ∀ n, lo_sum f n ≠ 0 → ∃ i, i < n ∧ f i ≠ 0
  | 0, h => absurd rfl h
  | n + 1, h => by
    by_cases e : f n = 0
    · have h' : lo_sum f n ≠ 0 := by
        intro z
        apply h
        show lo_sum f n + f n = 0
        rw [z, e]
      obtain ⟨i, hi, hf⟩ := lo_sum_ne n h'
      exact ⟨i, by omega, hf⟩
    · exact ⟨n, by omega, e⟩
theorem lo_sum_ge {f : Nat → Nat} : ∀ n i, i < n → f i ≤ lo_sum f n
  | 0, i, h => absurd h (by omega)
  | n + 1, i, h => by
    show f i ≤ lo_sum f n + f n
    by_cases e : i = n
    · subst e; omega
    · have := lo_sum_ge (f := f) n i (by omega)
      omega
theorem lo_sum_le {p : Nat → Bool} : ∀ n, lo_sum (fun i => (p i).toNat) n ≤ n
  | 0 => Nat.le_refl 0
  | n + 1 => by
    show lo_sum (fun i => (p i).toNat) n + (p n).toNat ≤ n + 1
    have h1 := lo_sum_le (p := p) n
    have h2 := Bool.toNat_le (p n)
    omega
/-- the sum's first a places, then the rest -/
theorem lo_sum_add (f : Nat → Nat) (a : Nat) : ∀ b, lo_sum f (a + b) = lo_sum f a + lo_sum (fun i => f (a + i)) b
  | 0 => rfl
  | b + 1 => by
    show lo_sum f (a + b) + f (a + b) = lo_sum f a + (lo_sum (fun i => f (a + i)) b + f (a + b))
    rw [lo_sum_add f a b, Nat.add_assoc]
/-- n rows of m places -/
theorem lo_sum_mul (f : Nat → Nat) (m : Nat) : ∀ n, lo_sum f (m * n) = lo_sum (fun i => lo_sum (fun r => f (m * i + r)) m) n
  | 0 => rfl
  | n + 1 => by
    rw [Nat.mul_succ, lo_sum_add, lo_sum_mul f m n]
    rfl
/-- places behind a with nothing in them -/
theorem lo_sum_cut {f : Nat → Nat} {a n : Nat} (h : a ≤ n) (hz : ∀ i, a ≤ i → i < n → f i = 0) : lo_sum f n = lo_sum f a := by
  have e : n = a + (n - a) := by omega
  rw [e, lo_sum_add, lo_sum_0 (n - a) (fun i hi => hz (a + i) (by omega) (by omega)), Nat.add_zero]
/-- one place alone -/
theorem lo_sum_one {f : Nat → Nat} {a n : Nat} (h : a < n) (hz : ∀ i, i < n → i ≠ a → f i = 0) : lo_sum f n = f a := by
  rw [lo_sum_cut (a := a + 1) (by omega) (fun i h1 h2 => hz i h2 (by omega))]
  show lo_sum f a + f a = f a
  rw [lo_sum_0 a (fun i hi => hz i (by omega) (by omega)), Nat.zero_add]
theorem lo_or (a b : Nat) : nI a ||| nI b = nI (a ||| b) := by
  apply Int32.toBitVec_inj.1
  show BitVec.ofNat 32 a ||| BitVec.ofNat 32 b = BitVec.ofNat 32 (a ||| b)
  apply BitVec.eq_of_getLsbD_eq
  intro i hi
  simp [hi]
theorem lo_and (a b : Nat) : nI a &&& nI b = nI (a &&& b) := by
  apply Int32.toBitVec_inj.1
  show BitVec.ofNat 32 a &&& BitVec.ofNat 32 b = BitVec.ofNat 32 (a &&& b)
  apply BitVec.eq_of_getLsbD_eq
  intro i hi
  simp [hi]
theorem lo_cnt : ∀ n, n < 32 → ((nI n &&& 31).toBitVec.smod 32).toNat = n := by decide +kernel
theorem lo_shr {m l : Nat} (hm : m < 2 ^ 31) (hl : l < 32) : nI m >>> (nI l &&& 31) = nI (m / 2 ^ l) := pk_shrN hm _ l (lo_cnt l hl)
theorem lo_bit {m l : Nat} (hm : m < 2 ^ 31) (hl : l < 32) : (nI m >>> (nI l &&& 31)) &&& 1 = nI (m / 2 ^ l % 2) := by
  rw [lo_shr hm hl]
  exact pk_andN (Nat.lt_of_le_of_lt (Nat.div_le_self _ _) (by omega)) 1 (by decide)
theorem lo_ix {c t i : Nat} : nI c * nI t + nI i = nI (c * t + i) := by rw [pk_mul, nI_add]
theorem lo_i16 {n : Nat} (h : n < 32768) : (nI n).toInt16.toInt32 = nI n := by
  apply Int32.toInt_inj.mp
  rw [Int16.toInt_toInt32, Int32.toInt_toInt16, nI_toInt (by omega)]
  exact Int.bmod_eq_of_le (by omega) (by omega)
theorem lo_i8 {n : Nat} (h : n < 128) : (nI n).toInt8.toInt32 = nI n := by
  apply Int32.toInt_inj.mp
  rw [Int8.toInt_toInt32, Int32.toInt_toInt8, nI_toInt (by omega)]
  exact Int.bmod_eq_of_le (by omega) (by omega)
theorem lo_nb (b : Bool) : narrow .boolean (.int (lo_b b)) = .int (lo_b b) := by cases b <;> rfl
theorem lo_vnb (b : Bool) : vp_nar .boolean (lo_b b) = lo_b b := by cases b <;> rfl
/-! ===== weights and digits ===== -/
def lo_w (t : Nat) : Nat := if t = 0 then 343 else if t = 1 then 49 else if t = 2 then 7 else 1
def lo_d (S t : Nat) : Nat := S / lo_w t % 7
theorem lo_d_lt (S t : Nat) : lo_d S t < 7 := Nat.mod_lt _ (by omega)
theorem lo_w_c {P : Nat → Nat → Prop} (h0 : P 0 343) (h1 : P 1 49) (h2 : P 2 7) (h3 : P 3 1) {t : Nat} (ht : t < 4) : P t (lo_w t) := by
  rcases (show t = 0 ∨ t = 1 ∨ t = 2 ∨ t = 3 by omega) with e | e | e | e <;> subst e
  · exact h0
  · exact h1
  · exact h2
  · exact h3
theorem lo_w_pos {t : Nat} (ht : t < 4) : 0 < lo_w t ∧ lo_w t < 344 := lo_w_c (P := fun _ w => 0 < w ∧ w < 344) (by omega) (by omega) (by omega) (by omega) ht
theorem lo_next {s t : Nat} (hs : s < 2401) (ht : t < 4) (h : lo_d s t < 6) : s + lo_w t < 2401 := by
  unfold lo_d at h
  revert h
  exact lo_w_c (P := fun _ w => s / w % 7 < 6 → s + w < 2401) (by omega) (by omega) (by omega) (by omega) ht
/-- an action's code in the array: the lock, or -1 less it -/
def lo_ac (a : Nat) : Int32 := if a < 8 then nI a else (-1) - nI (a - 8)
theorem lo_ac_neg : ∀ a, a < 16 → 8 ≤ a → lo_ac a < 0 := by decide +kernel
theorem lo_ac_nn : ∀ a, a < 8 → ¬ lo_ac a < 0 := by decide +kernel
theorem lo_ac_t {a : Nat} (h : a < 8) : lo_ac a = nI a := if_pos h
/-- the threads: how many actions, which, what is held -/
def lo_Base (C : Nat → Nat) (A H : Nat → Nat → Nat) (a1 a2 a3 : Nat → Int32) : Prop :=
  (∀ t, t < 4 → C t ≤ 6 ∧ a1 t = nI (C t)) ∧ (∀ t i, t < 4 → i < C t → A t i < 16 ∧ a2 (6 * t + i) = lo_ac (A t i)) ∧ (∀ t i, t < 4 → i < 7 → H t i < 128 ∧ a3 (7 * t + i) = nI (H t i))
end
section
/-! ===== the small methods ===== -/
section
variable {k0 k1 k2 k3 k4 k5 : Int32} {a1 a2 a3 a4 a5 a6 a7 a8 a9 : Nat → Int32} {C : Nat → Nat} {A H : Nat → Nat → Nat}
theorem lo_weightOf {post : Int32 → Prop} {t : Nat} (ht : t < 4) (hp : post (nI (lo_w t))) : wpX_weightOf post (k0, k1, k2, k3, k4, k5, a1, a2, a3, a4, a5, a6, a7, a8, a9) (nI t) := by
  rcases (show t = 0 ∨ t = 1 ∨ t = 2 ∨ t = 3 by omega) with e | e | e | e <;> subst e
  · exact br_t rfl hp
  · exact br_f (by decide) (br_t rfl hp)
  · exact br_f (by decide) (br_f (by decide) (br_t rfl hp))
  · exact br_f (by decide) (br_f (by decide) (br_f (by decide) hp))
theorem lo_doneIn {post : Int32 → Prop} {S t : Nat} (hS : S < 2401) (ht : t < 4) (hp : post (nI (lo_d S t))) : wpX_doneIn post (k0, k1, k2, k3, k4, k5, a1, a2, a3, a4, a5, a6, a7, a8, a9) (nI S) (nI t) := by
  have hw := lo_w_pos ht
  have hq : S / lo_w t ≤ S := Nat.div_le_self _ _
  unfold wpX_doneIn
  dsimp only
  refine lo_weightOf ht ?_
  refine ⟨nI_ne0 hw.1 (by omega), by decide, ?_⟩
  rw [pk_div (by omega) hw.1 (by omega)]
  have e : nI (S / lo_w t) - nI (S / lo_w t) / nI 7 * nI 7 = nI (lo_d S t) := pk_rem (by omega) (by omega) (by omega)
  exact ek_v (P := post) e hp
theorem lo_heldAfter {post : Int32 → Prop} {t i : Nat} (hB : lo_Base C A H a1 a2 a3) (ht : t < 4) (hi : i < 7) (hp : post (nI (H t i))) : wpX_heldAfter post (k0, k1, k2, k3, k4, k5, a1, a2, a3, a4, a5, a6, a7, a8, a9) (nI t) (nI i) := by
  have e : (7 : Int32) * nI t + nI i = nI (7 * t + i) := lo_ix (c := 7)
  refine ⟨?_, ?_⟩
  · rw [e]
    exact vp_in_nI (by omega) (by omega)
  · rw [e, nI_clamp (by omega), (hB.2.2 t i ht hi).2]
    exact hp
def lo_lastN (C : Nat → Nat) : Nat → Nat
  | 0 => 0
  | t + 1 => lo_lastN C t + C t * lo_w t
theorem lo_lastState {post : Int32 → Prop} (hB : lo_Base C A H a1 a2 a3) (hp : post (nI (lo_lastN C 4))) : wpX_lastState post (k0, k1, k2, k3, k4, k5, a1, a2, a3, a4, a5, a6, a7, a8, a9) :=
  pk_loop (σ := Unit) (fun n i _ => wX_lastState_4 post k0 k1 k2 k3 k4 k5 a1 a2 a3 a4 a5 a6 a7 a8 a9 n (nI (lo_lastN C i)) (nI i)) (fun _ _ => True) 4 0 () (by omega) trivial
    (fun n _ _ => pk_le 4 4 (fun _ => hp) (fun z => absurd z (by omega)))
    (fun n i _ hi _ hw => pk_le 4 i (fun z => absurd z (by omega)) (fun _ => ⟨pk_in i 4 hi, lo_weightOf hi (nm_r (by rw [nI_clamp (by omega), (hB.1 i hi).2, pk_mul, nI_add]; rfl) (nm_r (nI_1 i) (hw () trivial)))⟩))
/-- what the other threads than t hold in S -/
def lo_oth (H : Nat → Nat → Nat) (S t : Nat) : Nat → Nat
  | 0 => 0
  | q + 1 => if q = t then lo_oth H S t q else lo_oth H S t q ||| H q (lo_d S q)
theorem lo_oth_lt {S t : Nat} (hB : lo_Base C A H a1 a2 a3) : ∀ q, q ≤ 4 → lo_oth H S t q < 2 ^ 7
  | 0, _ => by show 0 < 2 ^ 7; omega
  | q + 1, h => by
    have ih := lo_oth_lt (S := S) (t := t) hB q (by omega)
    unfold lo_oth
    split
    · exact ih
    · exact Nat.or_lt_two_pow ih (hB.2.2 q _ (by omega) (lo_d_lt S q)).1
theorem lo_heldByOthers {post : Int32 → Prop} {S t : Nat} (hB : lo_Base C A H a1 a2 a3) (hS : S < 2401) (ht : t < 4) (hp : post (nI (lo_oth H S t 4))) : wpX_heldByOthers post (k0, k1, k2, k3, k4, k5, a1, a2, a3, a4, a5, a6, a7, a8, a9) (nI S) (nI t) := by
  refine pk_loop (σ := Unit) (fun n i _ => wX_heldByOthers_5 post (nI S) (nI t) k0 k1 k2 k3 k4 k5 a1 a2 a3 a4 a5 a6 a7 a8 a9 n (nI (lo_oth H S t i)) (nI i)) (fun _ _ => True) 4 0 () (by omega) trivial
    (fun n _ _ => pk_le 4 4 (fun _ => hp) (fun z => absurd z (by omega))) ?_
  intro n i _ hi _ hw
  have hw' : wX_heldByOthers_5 post (nI S) (nI t) k0 k1 k2 k3 k4 k5 a1 a2 a3 a4 a5 a6 a7 a8 a9 n (nI (lo_oth H S t (i + 1))) (nI (i + 1)) := hw () trivial
  refine pk_le 4 i (fun z => absurd z (by omega)) (fun _ => pk_eq i t (fun e => nm_r (nI_1 i) ?_) (fun e => lo_doneIn hS hi (lo_heldAfter hB hi (lo_d_lt S i) (nm_r (lo_or _ _) (nm_r (nI_1 i) ?_)))))
  · rw [lo_oth, if_pos e] at hw'
    exact hw'
  · rw [lo_oth, if_neg e] at hw'
    exact hw'
def lo_may (C : Nat → Nat) (A H : Nat → Nat → Nat) (S t : Nat) : Bool := decide (lo_d S t < C t) && (decide (8 ≤ A t (lo_d S t)) || decide (lo_oth H S t 4 / 2 ^ A t (lo_d S t) % 2 = 0))
theorem lo_mayGoOn {post : Int32 → Prop} {S t : Nat} (hB : lo_Base C A H a1 a2 a3) (hS : S < 2401) (ht : t < 4) (hp : post (lo_b (lo_may C A H S t))) : wpX_mayGoOn post (k0, k1, k2, k3, k4, k5, a1, a2, a3, a4, a5, a6, a7, a8, a9) (nI S) (nI t) := by
  have hd := lo_d_lt S t
  have hC := (hB.1 t ht).1
  unfold wpX_mayGoOn
  dsimp only
  refine lo_doneIn hS ht ?_
  refine ⟨pk_in t 4 ht, ?_⟩
  rw [nI_clamp (by omega), (hB.1 t ht).2]
  refine pk_lt (lo_d S t) (C t) (fun h => ?_) (fun h => ?_)
  · have e : (6 : Int32) * nI t + nI (lo_d S t) = nI (6 * t + lo_d S t) := lo_ix (c := 6)
    have hA := hB.2.1 t _ ht h
    rw [e]
    refine ⟨vp_in_nI (by omega) (by omega), nm_r (show a2 (nI (6 * t + lo_d S t)).toNatClampNeg = lo_ac (A t (lo_d S t)) by rw [nI_clamp (by omega)]; exact hA.2) (lo_heldByOthers hB hS ht ?_)⟩
    by_cases h8 : 8 ≤ A t (lo_d S t)
    · refine br_t (lo_ac_neg _ hA.1 h8) ?_
      have em : lo_may C A H S t = true := by simp [lo_may, h, h8]
      rw [em] at hp
      exact hp
    · have h8' : A t (lo_d S t) < 8 := by omega
      refine br_f (lo_ac_nn _ h8') ?_
      have ho := lo_oth_lt (S := S) (t := t) hB 4 (Nat.le_refl 4)
      rw [lo_ac_t h8', lo_bit (by omega) (by omega)]
      refine pk_eq (lo_oth H S t 4 / 2 ^ A t (lo_d S t) % 2) 0 (fun z => ?_) (fun z => ?_)
      · have em : lo_may C A H S t = true := by simp [lo_may, h, z]
        rw [em] at hp
        exact hp
      · have em : lo_may C A H S t = false := by simp [lo_may, h8, z]
        rw [em] at hp
        exact hp
  · have em : lo_may C A H S t = false := by
      have h' : ¬ lo_d S t < C t := by omega
      simp [lo_may, h']
    rw [em] at hp
    exact hp
end
/-! ===== going on from a state: the ways to the others ===== -/
def lo_st (M : Nat → Nat → Bool) (s : Nat) (f : Nat → Nat) : Nat → Nat → Nat
  | 0 => f
  | t + 1 => if M s t = true then (fun S => if S = s + lo_w t then lo_st M s f t S + lo_st M s f t s else lo_st M s f t S) else lo_st M s f t
def lo_any (M : Nat → Nat → Bool) (s : Nat) : Nat → Bool
  | 0 => false
  | t + 1 => lo_any M s t || M s t
theorem lo_st_self {M : Nat → Nat → Bool} {s : Nat} {f : Nat → Nat} : ∀ t, t ≤ 4 → lo_st M s f t s = f s
  | 0, _ => rfl
  | t + 1, h => by
    have ih := lo_st_self (M := M) (s := s) (f := f) t (by omega)
    have hw := lo_w_pos (t := t) (by omega)
    unfold lo_st
    split
    · have h' : ¬ s = s + lo_w t := by omega
      show (if s = s + lo_w t then lo_st M s f t s + lo_st M s f t s else lo_st M s f t s) = f s
      rw [if_neg h', ih]
    · exact ih
theorem lo_st_0 {M : Nat → Nat → Bool} {s : Nat} {f : Nat → Nat} (h0 : f s = 0) : ∀ t, t ≤ 4 → lo_st M s f t = f
  | 0, _ => rfl
  | t + 1, h => by
    have ih := lo_st_0 (M := M) h0 t (by omega)
    unfold lo_st
    rw [ih]
    split
    · funext S
      rw [h0]
      split <;> rfl
    · rfl
/-- the arrays come and waysTo hold f -/
def lo_Wy (f : Nat → Nat) (a4 a5 : Nat → Int32) : Prop := ∀ S, S < 2401 → a5 S = nI (f S) ∧ a4 S = lo_b (decide (f S ≠ 0))
section
variable {k0 k1 k2 k3 k4 k5 : Int32} {a1 a2 a3 a4 a5 a6 a7 a8 a9 : Nat → Int32} {C : Nat → Nat} {A H : Nat → Nat → Nat}
theorem lo_goOnFrom {post : St2 → Prop} {s c z : Nat} {f : Nat → Nat} (hB : lo_Base C A H a1 a2 a3) (hs : s < 2401) (hf : lo_Wy f a4 a5) (h0 : f s ≠ 0)
    (hb : ∀ t S, t ≤ 4 → S < 2401 → lo_st (lo_may C A H) s f t S < 1000003) (hc : k1 = nI c) (hz : k2 = nI z) (hz2 : z < 2401)
    (hp : ∀ b4 b5, lo_Wy (lo_st (lo_may C A H) s f 4) b4 b5 → (¬ (lo_any (lo_may C A H) s 4 = false ∧ s ≠ lo_lastN C 4) → post (k0, nI (c + 1), nI z, k3, k4, k5, a1, a2, a3, b4, b5, a6, a7, a8, a9)) ∧ ((lo_any (lo_may C A H) s 4 = false ∧ s ≠ lo_lastN C 4) → post (k0, nI (c + 1), nI (z + 1), k3, k4, k5, a1, a2, a3, b4, b5, upd a6 z (nI s), a7, a8, a9))) :
    wpX_goOnFrom post (k0, k1, k2, k3, k4, k5, a1, a2, a3, a4, a5, a6, a7, a8, a9) (nI s) := by
  subst hc hz
  refine pk_loop (σ := (Nat → Int32) × (Nat → Int32)) (fun n i q => wX_goOnFrom_4 post (nI s) k0 (nI c) (nI z) k3 k4 k5 n (lo_b (lo_any (lo_may C A H) s i)) (nI i) a1 a2 a3 q.1 q.2 a6 a7 a8 a9) (fun i q => lo_Wy (lo_st (lo_may C A H) s f i) q.1 q.2) 4 0 (a4, a5) (by omega) hf ?_ ?_
  · intro n q hq
    have hp' := hp q.1 q.2 hq
    have hlast : lo_lastN C 4 < 2 ^ 31 := by
      have e : lo_lastN C 4 = 0 + C 0 * 343 + C 1 * 49 + C 2 * 7 + C 3 * 1 := rfl
      have h0 := (hB.1 0 (by omega)).1
      have h1 := (hB.1 1 (by omega)).1
      have h2 := (hB.1 2 (by omega)).1
      have h3 := (hB.1 3 (by omega)).1
      omega
    refine pk_le 4 4 (fun _ => nm_r (nI_1 c) (lo_lastState hB ?_)) (fun z => absurd z (by omega))
    refine lo_br0 rfl (fun ha => ?_) (fun ha => ?_)
    · refine pk_eq s (lo_lastN C 4) (fun e => ?_) (fun e => ?_)
      · exact hp'.1 (fun g => g.2 e)
      · refine ⟨pk_in z 2401 hz2, nm_r (by rw [nI_clamp (by omega), lo_i16 (by omega)]) (nm_r (nI_1 z) (hp'.2 ⟨ha, e⟩))⟩
    · exact hp'.1 (fun g => by rw [ha] at g; exact absurd g.1 (by decide))
  · intro n i q hi hq hw
    have hw' : ∀ b4 b5, lo_Wy (lo_st (lo_may C A H) s f (i + 1)) b4 b5 → wX_goOnFrom_4 post (nI s) k0 (nI c) (nI z) k3 k4 k5 n (lo_b (lo_any (lo_may C A H) s (i + 1))) (nI (i + 1)) a1 a2 a3 b4 b5 a6 a7 a8 a9 := fun b4 b5 h => hw (b4, b5) h
    refine pk_le 4 i (fun z => absurd z (by omega)) (fun _ => lo_mayGoOn hB hs hi (lo_br0 rfl (fun hm => nm_r (nI_1 i) ?_) (fun hm => lo_weightOf hi (nm_r (nI_add _ _) ?_))))
    · have e1 : lo_st (lo_may C A H) s f (i + 1) = lo_st (lo_may C A H) s f i := by
        rw [lo_st, if_neg (by rw [hm]; decide)]
      have e2 : lo_any (lo_may C A H) s (i + 1) = lo_any (lo_may C A H) s i := by
        rw [lo_any, hm, Bool.or_false]
      have := hw' q.1 q.2 (by rw [e1]; exact hq)
      rw [e2] at this
      exact this
    · have hd : lo_d s i < 6 := by
        have hC := (hB.1 i hi).1
        unfold lo_may at hm
        simp at hm
        omega
      have hn := lo_next hs hi hd
      have e1 : lo_st (lo_may C A H) s f (i + 1) = fun S => if S = s + lo_w i then lo_st (lo_may C A H) s f i S + lo_st (lo_may C A H) s f i s else lo_st (lo_may C A H) s f i S := by
        rw [lo_st, if_pos hm]
      have e2 : lo_any (lo_may C A H) s (i + 1) = true := by
        rw [lo_any, hm, Bool.or_true]
      have hself := lo_st_self (M := lo_may C A H) (s := s) (f := f) i (by omega)
      have hbd := hb (i + 1) (s + lo_w i) (by omega) hn
      rw [e1] at hbd
      simp only [if_true] at hbd
      have hq1 := hq (s + lo_w i) hn
      have hq2 := hq s hs
      have ev : q.2 (nI (s + lo_w i)).toNatClampNeg + q.2 (nI s).toNatClampNeg = nI (lo_st (lo_may C A H) s f i (s + lo_w i) + lo_st (lo_may C A H) s f i s) := by
        rw [nI_clamp (by omega), nI_clamp (by omega), hq1.1, hq2.1, nI_add]
      have er : nI (lo_st (lo_may C A H) s f i (s + lo_w i) + lo_st (lo_may C A H) s f i s) - nI (lo_st (lo_may C A H) s f i (s + lo_w i) + lo_st (lo_may C A H) s f i s) / nI 1000003 * nI 1000003 = nI (lo_st (lo_may C A H) s f i (s + lo_w i) + lo_st (lo_may C A H) s f i s) := by
        rw [pk_rem (by omega) (by omega) (by omega), Nat.mod_eq_of_lt hbd]
      have eu : upd q.2 (nI (s + lo_w i)).toNatClampNeg ((q.2 (nI (s + lo_w i)).toNatClampNeg + q.2 (nI s).toNatClampNeg) - (q.2 (nI (s + lo_w i)).toNatClampNeg + q.2 (nI s).toNatClampNeg) / 1000003 * 1000003) = upd q.2 (s + lo_w i) (nI (lo_st (lo_may C A H) s f i (s + lo_w i) + lo_st (lo_may C A H) s f i s)) := by
        rw [ev, nI_clamp (by omega)]
        exact congrArg _ er
      refine ⟨pk_in _ 2401 hn, nm_r (by rw [nI_clamp (by omega)]) ⟨pk_in _ 2401 hn, pk_in s 2401 hs, by decide, pk_in _ 2401 hn, nm_r eu (nm_r (nI_1 i) ?_)⟩⟩
      have := hw' (upd q.1 (s + lo_w i) 1) (upd q.2 (s + lo_w i) (nI (lo_st (lo_may C A H) s f i (s + lo_w i) + lo_st (lo_may C A H) s f i s))) ?_
      · rw [e2] at this
        exact this
      · intro S hS
        rw [e1]
        by_cases e : S = s + lo_w i
        · subst e
          rw [pk_us, pk_us]
          simp only [if_true]
          refine ⟨trivial, ?_⟩
          have hne : lo_st (lo_may C A H) s f i (s + lo_w i) + lo_st (lo_may C A H) s f i s ≠ 0 := by
            rw [hself]
            omega
          rw [decide_eq_true hne]
          rfl
        · rw [pk_un e, pk_un e]
          simp only [if_neg e]
          exact hq S hS
end
end
section
/-! ===== findStates ===== -/
/-- the ways to each state, behind the states below s -/
def lo_all (M : Nat → Nat → Bool) : Nat → Nat → Nat
  | 0 => fun S => if S = 0 then 1 else 0
  | s + 1 => lo_st M s (lo_all M s) 4
def lo_cmB (M : Nat → Nat → Bool) (S : Nat) : Bool := decide (lo_all M S S ≠ 0)
def lo_smB (M : Nat → Nat → Bool) (l S : Nat) : Bool := decide (lo_all M S S ≠ 0) && (!(lo_any M S 4) && decide (S ≠ l))
def lo_cm (M : Nat → Nat → Bool) (n : Nat) : Nat := lo_sum (fun S => (lo_cmB M S).toNat) n
def lo_sm (M : Nat → Nat → Bool) (l n : Nat) : Nat := lo_sum (fun S => (lo_smB M l S).toNat) n
def lo_Bd (M : Nat → Nat → Bool) : Prop := ∀ s t S, s < 2401 → t ≤ 4 → S < 2401 → lo_st M s (lo_all M s) t S < 1000003
section
variable {k0 k1 k2 k3 k4 k5 : Int32} {a1 a2 a3 a4 a5 a6 a7 a8 a9 : Nat → Int32} {C : Nat → Nat} {A H : Nat → Nat → Nat}
theorem lo_fs55 {post : St2 → Prop} (hB : lo_Base C A H a1 a2 a3) (hb : lo_Bd (lo_may C A H)) (hf : lo_Wy (lo_all (lo_may C A H) 0) a4 a5)
    (hp : ∀ b4 b5 b6, lo_Wy (lo_all (lo_may C A H) 2401) b4 b5 → (∀ k, k < lo_sm (lo_may C A H) (lo_lastN C 4) 2401 → ∃ S, S < 2401 ∧ lo_cmB (lo_may C A H) S = true ∧ b6 k = nI S) → post (k0, nI (lo_cm (lo_may C A H) 2401), nI (lo_sm (lo_may C A H) (lo_lastN C 4) 2401), k3, k4, k5, a1, a2, a3, b4, b5, b6, a7, a8, a9)) :
    ∃ n, wX_findStates_55 post n 0 k0 0 0 k3 k4 k5 a1 a2 a3 a4 a5 a6 a7 a8 a9 := by
  refine pk_loop (σ := Int32 × Int32 × (Nat → Int32) × (Nat → Int32) × (Nat → Int32)) (fun n i q => wX_findStates_55 post n (nI i) k0 q.1 q.2.1 k3 k4 k5 a1 a2 a3 q.2.2.1 q.2.2.2.1 q.2.2.2.2 a7 a8 a9)
    (fun i q => q.1 = nI (lo_cm (lo_may C A H) i) ∧ q.2.1 = nI (lo_sm (lo_may C A H) (lo_lastN C 4) i) ∧ lo_Wy (lo_all (lo_may C A H) i) q.2.2.1 q.2.2.2.1 ∧ (∀ k, k < lo_sm (lo_may C A H) (lo_lastN C 4) i → ∃ S, S < 2401 ∧ lo_cmB (lo_may C A H) S = true ∧ q.2.2.2.2 k = nI S))
    2401 0 (0, 0, a4, a5, a6) (by omega) ⟨rfl, rfl, hf, fun k hk => absurd hk (Nat.not_lt_zero k)⟩ ?_ ?_
  · intro n q hq
    obtain ⟨q1, q2, q4, q5, q6⟩ := q
    obtain ⟨e1, e2, e3, e4⟩ := hq
    dsimp only at e1 e2 e3 e4
    subst e1 e2
    exact pk_le 2401 2401 (fun _ => hp _ _ _ e3 e4) (fun z => absurd z (by omega))
  · intro n s q hs hq hw
    obtain ⟨q1, q2, q4, q5, q6⟩ := q
    obtain ⟨e1, e2, e3, e4⟩ := hq
    dsimp only at e1 e2 e3 e4
    have hw' : ∀ c1 c2 b4 b5 b6, c1 = nI (lo_cm (lo_may C A H) (s + 1)) → c2 = nI (lo_sm (lo_may C A H) (lo_lastN C 4) (s + 1)) → lo_Wy (lo_all (lo_may C A H) (s + 1)) b4 b5 → (∀ k, k < lo_sm (lo_may C A H) (lo_lastN C 4) (s + 1) → ∃ S, S < 2401 ∧ lo_cmB (lo_may C A H) S = true ∧ b6 k = nI S) → wX_findStates_55 post n (nI (s + 1)) k0 c1 c2 k3 k4 k5 a1 a2 a3 b4 b5 b6 a7 a8 a9 := fun c1 c2 b4 b5 b6 g1 g2 g3 g4 => hw (c1, c2, b4, b5, b6) ⟨g1, g2, g3, g4⟩
    have hcm : lo_cm (lo_may C A H) (s + 1) = lo_cm (lo_may C A H) s + (lo_cmB (lo_may C A H) s).toNat := rfl
    have hsm : lo_sm (lo_may C A H) (lo_lastN C 4) (s + 1) = lo_sm (lo_may C A H) (lo_lastN C 4) s + (lo_smB (lo_may C A H) (lo_lastN C 4) s).toNat := rfl
    have hle : lo_sm (lo_may C A H) (lo_lastN C 4) s ≤ s := lo_sum_le s
    show wX_findStates_55 post (n + 1) (nI s) k0 q1 q2 k3 k4 k5 a1 a2 a3 q4 q5 q6 a7 a8 a9
    refine pk_le 2401 s (fun z => absurd z (by omega)) (fun _ => ⟨pk_in s 2401 hs, ?_⟩)
    rw [nI_clamp (by omega), (e3 s hs).2]
    refine lo_br0 rfl (fun h0 => nm_r (nI_1 s) ?_) (fun h0 => ?_)
    · have hz : lo_all (lo_may C A H) s s = 0 := by simpa using h0
      have b1 : lo_cmB (lo_may C A H) s = false := h0
      have b2 : lo_smB (lo_may C A H) (lo_lastN C 4) s = false := by
        unfold lo_smB
        rw [h0, Bool.false_and]
      have e5 : lo_all (lo_may C A H) (s + 1) = lo_all (lo_may C A H) s := lo_st_0 hz 4 (by omega)
      rw [b1, Bool.toNat_false, Nat.add_zero (lo_cm (lo_may C A H) s)] at hcm
      rw [b2, Bool.toNat_false, Nat.add_zero (lo_sm (lo_may C A H) (lo_lastN C 4) s)] at hsm
      refine hw' _ _ _ _ _ ?_ ?_ ?_ ?_
      · rw [hcm]; exact e1
      · rw [hsm]; exact e2
      · rw [e5]; exact e3
      · rw [hsm]; exact e4
    · have hz : lo_all (lo_may C A H) s s ≠ 0 := by simpa using h0
      have b1 : lo_cmB (lo_may C A H) s = true := h0
      rw [b1, Bool.toNat_true] at hcm
      refine lo_goOnFrom hB hs e3 hz (fun t S => hb s t S hs) e1 e2 (by omega) (fun b4 b5 hb45 => ⟨fun hc => nm_r (nI_1 s) ?_, fun hc => nm_r (nI_1 s) ?_⟩)
      · have b2 : lo_smB (lo_may C A H) (lo_lastN C 4) s = false := by
          unfold lo_smB
          rw [h0, Bool.true_and]
          cases hany : lo_any (lo_may C A H) s 4
          · by_cases hl : s = lo_lastN C 4
            · simp [hl]
            · exact absurd ⟨hany, hl⟩ hc
          · rfl
        rw [b2, Bool.toNat_false, Nat.add_zero (lo_sm (lo_may C A H) (lo_lastN C 4) s)] at hsm
        refine hw' _ _ _ _ _ ?_ ?_ hb45 ?_
        · rw [hcm]
        · rw [hsm]
        · rw [hsm]; exact e4
      · have b2 : lo_smB (lo_may C A H) (lo_lastN C 4) s = true := by
          unfold lo_smB
          rw [h0, hc.1, Bool.true_and, Bool.not_false, Bool.true_and]
          exact decide_eq_true hc.2
        rw [b2, Bool.toNat_true] at hsm
        refine hw' _ _ _ _ _ ?_ ?_ hb45 ?_
        · rw [hcm]
        · rw [hsm]
        · intro k hk
          rw [hsm] at hk
          by_cases e : k = lo_sm (lo_may C A H) (lo_lastN C 4) s
          · exact ⟨s, hs, b1, by rw [e, pk_us]⟩
          · obtain ⟨S, h1, h2, h3⟩ := e4 k (by omega)
            exact ⟨S, h1, h2, by rw [pk_un e]; exact h3⟩
theorem lo_findStates {post : St2 → Prop} (hB : lo_Base C A H a1 a2 a3) (hb : lo_Bd (lo_may C A H))
    (hp : ∀ b4 b5 b6, lo_Wy (lo_all (lo_may C A H) 2401) b4 b5 → (∀ k, k < lo_sm (lo_may C A H) (lo_lastN C 4) 2401 → ∃ S, S < 2401 ∧ lo_cmB (lo_may C A H) S = true ∧ b6 k = nI S) → post (k0, nI (lo_cm (lo_may C A H) 2401), nI (lo_sm (lo_may C A H) (lo_lastN C 4) 2401), k3, k4, k5, a1, a2, a3, b4, b5, b6, a7, a8, a9)) :
    wpX_findStates post (k0, k1, k2, k3, k4, k5, a1, a2, a3, a4, a5, a6, a7, a8, a9) := by
  refine pk_loop (σ := (Nat → Int32) × (Nat → Int32)) (fun n i q => wX_findStates_2 post k0 k1 k2 k3 k4 k5 n (nI i) a1 a2 a3 q.1 q.2 a6 a7 a8 a9) (fun i q => ∀ S, S < i → q.1 S = 0 ∧ q.2 S = 0) 2401 0 (a4, a5) (by omega) (fun S h => absurd h (by omega)) ?_ ?_
  · intro n q hq
    refine pk_le 2401 2401 (fun _ => nm_e (nm_e (lo_fs55 hB hb ?_ hp))) (fun z => absurd z (by omega))
    intro S hS
    by_cases e : S = 0
    · subst e
      rw [pk_us, pk_us]
      exact ⟨rfl, rfl⟩
    · have e' : lo_all (lo_may C A H) 0 S = 0 := if_neg e
      rw [pk_un e, pk_un e, e']
      exact ⟨(hq S hS).2, (hq S hS).1⟩
  · intro n i q hi hq hw
    have hw' : ∀ b4 b5, (∀ S, S < i + 1 → b4 S = 0 ∧ b5 S = 0) → wX_findStates_2 post k0 k1 k2 k3 k4 k5 n (nI (i + 1)) a1 a2 a3 b4 b5 a6 a7 a8 a9 := fun b4 b5 h => hw (b4, b5) h
    refine pk_le 2401 i (fun z => absurd z (by omega)) (fun _ => ⟨pk_in i 2401 hi, nm_e ⟨pk_in i 2401 hi, nm_e (nm_r (nI_1 i) (hw' _ _ ?_))⟩⟩)
    intro S hS
    rw [nI_clamp (by omega)]
    by_cases e : S = i
    · subst e
      rw [pk_us, pk_us]
      exact ⟨rfl, rfl⟩
    · rw [pk_un e, pk_un e]
      exact hq S (by omega)
end
end
section
/-! ===== rings ===== -/
def lo_hol (pl hd : Nat → Nat) (l : Nat) : Nat → Nat
  | 0 => 0
  | t + 1 => if pl t < 7 ∧ hd t / 2 ^ l % 2 = 1 then t + 1 else lo_hol pl hd l t
def lo_hv (h : Nat) : Int32 := if h = 0 then -1 else nI (h - 1)
def lo_Pl (pl : Nat → Nat) (a9 : Nat → Int32) : Prop := ∀ t, t < 4 → pl t ≤ 7 ∧ a9 t = nI (pl t)
theorem lo_hol_ok {pl hd : Nat → Nat} {l : Nat} : ∀ n, lo_hol pl hd l n ≠ 0 → lo_hol pl hd l n ≤ n ∧ pl (lo_hol pl hd l n - 1) < 7
  | 0, h => absurd rfl h
  | n + 1, h => by
    by_cases e : pl n < 7 ∧ hd n / 2 ^ l % 2 = 1
    · rw [lo_hol, if_pos e]
      exact ⟨Nat.le_refl _, e.1⟩
    · rw [lo_hol, if_neg e] at h ⊢
      have := lo_hol_ok n h
      exact ⟨by omega, this.2⟩
theorem lo_m1 : ∀ n, n < 4 → ¬ (-1 : Int32) = nI n := by decide +kernel
def lo_gr (pl hd lk : Nat → Nat) (many start : Nat) : Nat → Nat → Nat → Bool
  | 0, _, _ => false
  | f + 1, a, step => if many ≤ step then false else if lo_hol pl hd (lk a) 4 = 0 then false else if lo_hol pl hd (lk a) 4 = start + 1 then decide (step + 1 = many) else lo_gr pl hd lk many start f (lo_hol pl hd (lk a) 4 - 1) (step + 1)
def lo_start (pl : Nat → Nat) : Nat := if pl 0 ≠ 7 then 0 else if pl 1 ≠ 7 then 1 else if pl 2 ≠ 7 then 2 else 3
def lo_rA (pl hd : Nat → Nat) : Nat → Nat
  | 0 => 0
  | t + 1 => if pl t < 7 then lo_rA pl hd t ||| hd t else lo_rA pl hd t
def lo_rM (pl : Nat → Nat) : Nat → Nat
  | 0 => 0
  | t + 1 => if pl t < 7 then lo_rM pl t + 1 else lo_rM pl t
def lo_rP (pl hd : Nat → Nat) : Nat → Bool
  | 0 => true
  | t + 1 => if pl t < 7 then lo_rP pl hd t && decide (lo_rA pl hd t &&& hd t = 0) else lo_rP pl hd t
def lo_ring (pl hd lk : Nat → Nat) : Bool := lo_rP pl hd 4 && (decide (1 < lo_rM pl 4) && lo_gr pl hd lk (lo_rM pl 4) (lo_start pl) 5 (lo_start pl) 0)
theorem lo_rM_le {pl : Nat → Nat} : ∀ t, lo_rM pl t ≤ t
  | 0 => Nat.le_refl 0
  | t + 1 => by
    have := lo_rM_le (pl := pl) t
    unfold lo_rM
    split <;> omega
theorem lo_start_ok (pl : Nat → Nat) : lo_start pl ≤ 3 ∧ (∀ t, t < lo_start pl → pl t = 7) ∧ (lo_start pl < 3 → pl (lo_start pl) ≠ 7) := by
  unfold lo_start
  by_cases h0 : pl 0 = 7
  · by_cases h1 : pl 1 = 7
    · by_cases h2 : pl 2 = 7
      · simp only [h0, h1, h2, ne_eq, not_true, if_false]
        refine ⟨by omega, fun t ht => ?_, fun h => absurd h (by omega)⟩
        rcases (show t = 0 ∨ t = 1 ∨ t = 2 by omega) with e | e | e <;> subst e <;> assumption
      · simp only [h0, h1, h2, ne_eq, not_true, not_false_iff, if_false, if_true]
        refine ⟨by omega, fun t ht => ?_, fun _ => trivial⟩
        rcases (show t = 0 ∨ t = 1 by omega) with e | e <;> subst e <;> assumption
    · simp only [h0, h1, ne_eq, not_true, not_false_iff, if_false, if_true]
      refine ⟨by omega, fun t ht => ?_, fun _ => trivial⟩
      have e : t = 0 := by omega
      subst e
      assumption
  · simp only [h0, ne_eq, not_false_iff, if_true]
    exact ⟨by omega, fun t ht => absurd ht (by omega), fun _ => trivial⟩
theorem lo_start_in {pl : Nat → Nat} (h7 : ∀ t, t < 4 → pl t ≤ 7) (h : 1 < lo_rM pl 4) : pl (lo_start pl) < 7 := by
  obtain ⟨h1, h2, h3⟩ := lo_start_ok pl
  by_cases e : lo_start pl < 3
  · have := h3 e
    have := h7 (lo_start pl) (by omega)
    omega
  · have e3 : lo_start pl = 3 := by omega
    rw [e3] at h2
    have g0 : ¬ pl 0 < 7 := by have := h2 0 (by omega); omega
    have g1 : ¬ pl 1 < 7 := by have := h2 1 (by omega); omega
    have g2 : ¬ pl 2 < 7 := by have := h2 2 (by omega); omega
    simp only [lo_rM, g0, g1, g2, if_false] at h
    split at h <;> omega
section
variable {k0 k1 k2 k3 k4 k5 : Int32} {a1 a2 a3 a4 a5 a6 a7 a8 a9 : Nat → Int32} {C : Nat → Nat} {A H : Nat → Nat → Nat}
theorem lo_holderOf {post : Int32 → Prop} {l : Nat} {pl : Nat → Nat} (hB : lo_Base C A H a1 a2 a3) (hP : lo_Pl pl a9) (hl : l < 32) (hp : post (lo_hv (lo_hol pl (fun t => H t (pl t)) l 4))) : wpX_holderOf post (k0, k1, k2, k3, k4, k5, a1, a2, a3, a4, a5, a6, a7, a8, a9) (nI l) := by
  refine pk_loop (σ := Unit) (fun n i _ => wX_holderOf_4 post (nI l) k0 k1 k2 k3 k4 k5 a1 a2 a3 a4 a5 a6 a7 a8 a9 n (lo_hv (lo_hol pl (fun t => H t (pl t)) l i)) (nI i)) (fun _ _ => True) 4 0 () (by omega) trivial
    (fun n _ _ => pk_le 4 4 (fun _ => hp) (fun z => absurd z (by omega))) ?_
  intro n i _ hi _ hw
  have hw' : wX_holderOf_4 post (nI l) k0 k1 k2 k3 k4 k5 a1 a2 a3 a4 a5 a6 a7 a8 a9 n (lo_hv (lo_hol pl (fun t => H t (pl t)) l (i + 1))) (nI (i + 1)) := hw () trivial
  have hPi := hP i hi
  refine pk_le 4 i (fun z => absurd z (by omega)) (fun _ => ⟨pk_in i 4 hi, ?_⟩)
  rw [nI_clamp (by omega), hPi.2]
  refine pk_le 7 (pl i) (fun h => ?_) (fun h => ⟨pk_in i 4 hi, lo_heldAfter hB hi (by omega) ?_⟩)
  · refine br_t rfl (nm_r (nI_1 i) ?_)
    rw [lo_hol, if_neg (by omega)] at hw'
    exact hw'
  · have hH := (hB.2.2 i (pl i) hi (by omega)).1
    rw [lo_bit (by omega) hl]
    refine pk_eq (H i (pl i) / 2 ^ l % 2) 1 (fun e => ?_) (fun e => ?_)
    · refine br_f (by decide) (nm_r (nI_1 i) ?_)
      rw [lo_hol, if_pos ⟨h, e⟩] at hw'
      exact hw'
    · refine br_t rfl (nm_r (nI_1 i) ?_)
      rw [lo_hol, if_neg (fun g => e g.2)] at hw'
      exact hw'
theorem lo_gr29 {post : Int32 → Prop} {many st : Nat} {pl : Nat → Nat} (hB : lo_Base C A H a1 a2 a3) (hP : lo_Pl pl a9) (hq : ∀ t, t < 4 → pl t < 7 → pl t < C t ∧ A t (pl t) < 8) (hst : st < 4) (hm : many ≤ 4) (hm2 : 2 ≤ many) :
    ∀ f a step, many < f + step → step ≤ many → a < 4 → pl a < 7 → post (lo_b (lo_gr pl (fun t => H t (pl t)) (fun t => A t (pl t)) many st f a step)) → wX_goesRound_29 post (nI many) (nI st) k0 k1 k2 k3 k4 k5 a1 a2 a3 a4 a5 a6 a7 a8 a9 f (nI a) (nI step) := by
  intro f
  induction f with
  | zero => intro a step h1 h2; omega
  | succ f ih =>
    intro a step h1 h2 ha hpa hp
    refine pk_le many step (fun h => ?_) (fun h => ⟨pk_in a 4 ha, ?_⟩)
    · rw [lo_gr, if_pos h] at hp
      exact hp
    · obtain ⟨g1, g2⟩ := hq a ha hpa
      have hC := (hB.1 a ha).1
      have hA := hB.2.1 a (pl a) ha g1
      have e : (6 : Int32) * nI a + nI (pl a) = nI (6 * a + pl a) := lo_ix (c := 6)
      rw [nI_clamp (n := a) (by omega), (hP a ha).2, e, nI_clamp (n := 6 * a + pl a) (by omega), hA.2, lo_ac_t g2]
      refine ⟨vp_in_nI (by omega) (by omega), lo_holderOf hB hP (by omega) ?_⟩
      rw [lo_gr, if_neg (by omega)] at hp
      generalize hh : lo_hol pl (fun t => H t (pl t)) (A a (pl a)) 4 = h' at hp ⊢
      have hok := lo_hol_ok (pl := pl) (hd := fun t => H t (pl t)) (l := A a (pl a)) 4
      rw [hh] at hok
      by_cases z : h' = 0
      · rw [if_pos z] at hp
        subst z
        exact br_t (by decide) (br_f (lo_m1 st hst) hp)
      · have ev : lo_hv h' = nI (h' - 1) := if_neg z
        obtain ⟨o1, o2⟩ := hok z
        rw [if_neg z] at hp
        rw [ev]
        refine br_f (nI_pos (by omega)) (pk_eq (h' - 1) st (fun y => ?_) (fun y => ?_))
        · rw [if_pos (show h' = st + 1 by omega)] at hp
          refine br_t (by rw [y]) (pk_eq step (many - 1) (fun x => ?_) (fun x => ?_) rfl (pk_sub (b := 1) (by omega)))
          · rw [decide_eq_true (show step + 1 = many by omega)] at hp
            exact hp
          · rw [decide_eq_false (show ¬ step + 1 = many by omega)] at hp
            exact hp
        · rw [if_neg (show ¬ h' = st + 1 by omega)] at hp
          exact nm_r (nI_1 step) (ih (h' - 1) (step + 1) (by omega) (by omega) (by omega) o2 hp)
theorem lo_goesRound {post : Int32 → Prop} {many : Nat} {pl : Nat → Nat} (hB : lo_Base C A H a1 a2 a3) (hP : lo_Pl pl a9) (hq : ∀ t, t < 4 → pl t < 7 → pl t < C t ∧ A t (pl t) < 8) (hm : many = lo_rM pl 4) (hm2 : 2 ≤ many)
    (hp : post (lo_b (lo_gr pl (fun t => H t (pl t)) (fun t => A t (pl t)) many (lo_start pl) 5 (lo_start pl) 0))) : wpX_goesRound post (k0, k1, k2, k3, k4, k5, a1, a2, a3, a4, a5, a6, a7, a8, a9) (nI many) := by
  have hm4 : many ≤ 4 := by rw [hm]; exact lo_rM_le 4
  obtain ⟨s1, s2, s3⟩ := lo_start_ok pl
  have s4 := lo_start_in (fun t ht => (hP t ht).1) (show 1 < lo_rM pl 4 by omega)
  have H29 : ∃ n, wX_goesRound_29 post (nI many) (nI (lo_start pl)) k0 k1 k2 k3 k4 k5 a1 a2 a3 a4 a5 a6 a7 a8 a9 n (nI (lo_start pl)) 0 := ⟨5, lo_gr29 hB hP hq (by omega) hm4 hm2 5 (lo_start pl) 0 (by omega) (by omega) (by omega) s4 hp⟩
  refine pk_loop (σ := Unit) (fun n i _ => wX_goesRound_2 post (nI many) k0 k1 k2 k3 k4 k5 a1 a2 a3 a4 a5 a6 a7 a8 a9 n (nI i)) (fun _ _ => True) (lo_start pl) 0 () (by omega) trivial ?_ ?_
  · intro n _ _
    refine pk_le 3 (lo_start pl) (fun _ => H29) (fun z => ⟨pk_in (lo_start pl) 4 (by omega), br_f ?_ H29⟩)
    rw [nI_clamp (by omega), (hP _ (by omega)).2]
    intro h
    have h' := (nI_eq (b := 7) (by omega) (by omega)).mp h
    exact s3 z h'
  · intro n i _ hi _ hw
    refine pk_le 3 i (fun z => absurd z (by omega)) (fun z => ⟨pk_in i 4 (by omega), br_t ?_ (nm_r (nI_1 i) (hw () trivial))⟩)
    rw [nI_clamp (by omega), (hP _ (by omega)).2, s2 i hi]
    rfl
theorem lo_isRing {post : Int32 → Prop} {pl : Nat → Nat} (hB : lo_Base C A H a1 a2 a3) (hP : lo_Pl pl a9) (hq : ∀ t, t < 4 → pl t < 7 → pl t < C t ∧ A t (pl t) < 8)
    (hp : post (lo_b (lo_ring pl (fun t => H t (pl t)) (fun t => A t (pl t))))) : wpX_isRing post (k0, k1, k2, k3, k4, k5, a1, a2, a3, a4, a5, a6, a7, a8, a9) := by
  refine pk_loop (σ := Unit) (fun n i _ => wX_isRing_9 post k0 k1 k2 k3 k4 k5 a1 a2 a3 a4 a5 a6 a7 a8 a9 n (nI (lo_rA pl (fun t => H t (pl t)) i)) (nI (lo_rM pl i)) (lo_b (lo_rP pl (fun t => H t (pl t)) i)) (nI i)) (fun _ _ => True) 4 0 () (by omega) trivial ?_ ?_
  · intro n _ _
    have hm4 : lo_rM pl 4 ≤ 4 := lo_rM_le 4
    refine pk_le 4 4 (fun _ => lo_br0 rfl (fun h => ?_) (fun h => pk_le (lo_rM pl 4) 1 (fun g => ?_) (fun g => lo_goesRound hB hP hq rfl (by omega) (lo_br0 rfl (fun y => ?_) (fun y => ?_))))) (fun z => absurd z (by omega))
    · rw [lo_ring, h] at hp
      exact hp
    · rw [lo_ring, h, decide_eq_false (show ¬ 1 < lo_rM pl 4 by omega)] at hp
      exact hp
    · rw [lo_ring, h, y, decide_eq_true (show 1 < lo_rM pl 4 by omega)] at hp
      exact hp
    · rw [lo_ring, h, y, decide_eq_true (show 1 < lo_rM pl 4 by omega)] at hp
      exact hp
  · intro n i _ hi _ hw
    have hw' : wX_isRing_9 post k0 k1 k2 k3 k4 k5 a1 a2 a3 a4 a5 a6 a7 a8 a9 n (nI (lo_rA pl (fun t => H t (pl t)) (i + 1))) (nI (lo_rM pl (i + 1))) (lo_b (lo_rP pl (fun t => H t (pl t)) (i + 1))) (nI (i + 1)) := hw () trivial
    have hPi := hP i hi
    have hm4 : lo_rM pl i ≤ i := lo_rM_le i
    refine pk_le 4 i (fun z => absurd z (by omega)) (fun _ => ⟨pk_in i 4 hi, ?_⟩)
    rw [nI_clamp (by omega), hPi.2]
    refine pk_le 7 (pl i) (fun h => nm_r (nI_1 i) ?_) (fun h => ⟨pk_in i 4 hi, lo_heldAfter hB hi (by omega) ?_⟩)
    · have h' : ¬ pl i < 7 := by omega
      rw [lo_rA, if_neg h', lo_rM, if_neg h', lo_rP, if_neg h'] at hw'
      exact hw'
    · rw [lo_rA, if_pos h, lo_rM, if_pos h, lo_rP, if_pos h] at hw'
      refine lo_br0 rfl (fun g => ?_) (fun g => ?_)
      · rw [g, Bool.false_and] at hw'
        exact nm_r (lo_or _ _) (nm_r (nI_1 _) (nm_r (nI_1 i) hw'))
      · rw [g, Bool.true_and] at hw'
        rw [lo_and]
        have hlt : lo_rA pl (fun t => H t (pl t)) i &&& H i (pl i) < 2 ^ 31 := by
          have hH := (hB.2.2 i (pl i) hi (by omega)).1
          exact Nat.lt_of_le_of_lt Nat.and_le_right (by omega)
        refine pk_eq (lo_rA pl (fun t => H t (pl t)) i &&& H i (pl i)) 0 (fun y => ?_) (fun y => ?_)
        · rw [decide_eq_true y] at hw'
          exact nm_r (lo_or _ _) (nm_r (nI_1 _) (nm_r (nI_1 i) hw'))
        · rw [decide_eq_false y] at hw'
          exact nm_r (lo_or _ _) (nm_r (nI_1 _) (nm_r (nI_1 i) hw'))
end
end
section
/-! ===== findRings ===== -/
def lo_e (k t : Nat) : Nat := k / 2 ^ (3 * t) % 8
def lo_req (C : Nat → Nat) (A H : Nat → Nat → Nat) (t i : Nat) : Bool := decide (i < C t) && (decide (A t i < 8) && decide (H t i ≠ 0))
def lo_good (C : Nat → Nat) (A H : Nat → Nat → Nat) (k : Nat) : Nat → Bool
  | 0 => true
  | t + 1 => lo_good C A H k t && (decide (lo_e k t = 7) || lo_req C A H t (lo_e k t))
def lo_rg (C : Nat → Nat) (A H : Nat → Nat → Nat) (k : Nat) : Bool := lo_good C A H k 4 && lo_ring (lo_e k) (fun t => H t (lo_e k t)) (fun t => A t (lo_e k t))
def lo_rm (C : Nat → Nat) (A H : Nat → Nat → Nat) (n : Nat) : Nat := lo_sum (fun k => (lo_rg C A H k).toNat) n
theorem lo_e_lt (k t : Nat) : lo_e k t < 8 := Nat.mod_lt _ (by omega)
theorem lo_good_t {C : Nat → Nat} {A H : Nat → Nat → Nat} {k : Nat} : ∀ n, lo_good C A H k n = true → ∀ t, t < n → lo_e k t = 7 ∨ lo_req C A H t (lo_e k t) = true
  | 0, _, t, ht => absurd ht (Nat.not_lt_zero t)
  | n + 1, h, t, ht => by
    rw [lo_good, Bool.and_eq_true, Bool.or_eq_true, decide_eq_true_eq] at h
    by_cases e : t = n
    · subst e
      exact h.2
    · exact lo_good_t n h.1 t (by omega)
theorem lo_ex {k i : Nat} (hk : k < 4096) (hi : i < 4) : (nI k >>> (((3 : Int32) * nI i) &&& 31)) &&& 7 = nI (lo_e k i) := by
  have e3 : (3 : Int32) * nI i = nI (3 * i) := pk_mul 3 i
  rw [e3, lo_shr (by omega) (by omega)]
  exact pk_andN (Nat.lt_of_le_of_lt (Nat.div_le_self _ _) (by omega)) 3 (by decide)
section
variable {k0 k1 k2 k3 k4 k5 : Int32} {a1 a2 a3 a4 a5 a6 a7 a8 a9 : Nat → Int32} {C : Nat → Nat} {A H : Nat → Nat → Nat}
theorem lo_isRequest {post : Int32 → Prop} {t i : Nat} (hB : lo_Base C A H a1 a2 a3) (ht : t < 4) (hi : i < 7) (hp : post (lo_b (lo_req C A H t i))) : wpX_isRequest post (k0, k1, k2, k3, k4, k5, a1, a2, a3, a4, a5, a6, a7, a8, a9) (nI t) (nI i) := by
  have hC := (hB.1 t ht).1
  refine ⟨pk_in t 4 ht, ?_⟩
  rw [nI_clamp (n := t) (by omega), (hB.1 t ht).2]
  refine pk_le (C t) i (fun h => ?_) (fun h => ?_)
  · rw [lo_req, decide_eq_false (show ¬ i < C t by omega)] at hp
    exact hp
  · have e : (6 : Int32) * nI t + nI i = nI (6 * t + i) := lo_ix (c := 6)
    have hA := hB.2.1 t i ht h
    rw [e, nI_clamp (n := 6 * t + i) (by omega), hA.2]
    refine ⟨vp_in_nI (by omega) (by omega), ?_⟩
    rw [lo_req, decide_eq_true h, Bool.true_and] at hp
    by_cases h8 : 8 ≤ A t i
    · refine br_t (lo_ac_neg _ hA.1 h8) ?_
      rw [decide_eq_false (show ¬ A t i < 8 by omega)] at hp
      exact hp
    · refine br_f (lo_ac_nn _ (by omega)) (lo_heldAfter hB ht hi ?_)
      rw [decide_eq_true (show A t i < 8 by omega), Bool.true_and] at hp
      have hH := (hB.2.2 t i ht hi).1
      refine pk_eq (H t i) 0 (fun z => ?_) (fun z => ?_)
      · rw [decide_eq_false (fun g => g z)] at hp
        exact hp
      · rw [decide_eq_true z] at hp
        exact hp
theorem lo_fr18 {post : St2 → Prop} {J7 : Int32 → Int32 → (Nat → Int32) → (Nat → Int32) → (Nat → Int32) → (Nat → Int32) → (Nat → Int32) → (Nat → Int32) → (Nat → Int32) → (Nat → Int32) → (Nat → Int32) → Prop} {k rm : Nat}
    (hB : lo_Base C A H a1 a2 a3) (hk : k < 4096) (hrm : rm < 4096) (hr : k3 = nI rm)
    (hJ : ∀ b9, (lo_rg C A H k = false → J7 (nI (k + 1)) (nI rm) a1 a2 a3 a4 a5 a6 a7 a8 b9) ∧ (lo_rg C A H k = true → J7 (nI (k + 1)) (nI (rm + 1)) a1 a2 a3 a4 a5 a6 (upd a7 rm (nI k)) (upd a8 rm 0) b9)) :
    ∃ n, wX_findRings_18 post J7 (nI k) k0 k1 k2 k3 k4 k5 n 1 0 a1 a2 a3 a4 a5 a6 a7 a8 a9 := by
  subst hr
  refine pk_loop (σ := Nat → Int32) (fun n i q => wX_findRings_18 post J7 (nI k) k0 k1 k2 (nI rm) k4 k5 n (lo_b (lo_good C A H k i)) (nI i) a1 a2 a3 a4 a5 a6 a7 a8 q) (fun i q => ∀ t, t < i → q t = nI (lo_e k t)) 4 0 a9 (by omega) (fun t h => absurd h (by omega)) ?_ ?_
  · intro n q hq
    have hno : lo_rg C A H k = false → wX_findRings_90 post J7 (nI k) k0 k1 k2 (nI rm) k4 k5 a1 a2 a3 a4 a5 a6 a7 a8 q := fun h => br_t rfl (nm_r (nI_1 k) ((hJ q).1 h))
    refine pk_le 4 4 (fun _ => lo_br0 rfl (fun h => ?_) (fun h => ?_)) (fun z => absurd z (by omega))
    · exact hno (by rw [lo_rg, h, Bool.false_and])
    · refine lo_isRing (pl := lo_e k) hB (fun t ht => ⟨Nat.le_of_lt_succ (lo_e_lt k t), hq t ht⟩) (fun t ht h7 => ?_) (lo_br0 rfl (fun g => ?_) (fun g => ?_))
      · rcases lo_good_t 4 h t ht with y | y
        · omega
        · rw [lo_req, Bool.and_eq_true, Bool.and_eq_true, decide_eq_true_eq, decide_eq_true_eq] at y
          exact ⟨y.1, y.2.1⟩
      · exact hno (by rw [lo_rg, h, g, Bool.true_and])
      · refine br_f (by decide) ⟨pk_in rm 4096 hrm, nm_r (by rw [nI_clamp (by omega), lo_i16 (by omega)]) ⟨pk_in rm 4096 hrm, nm_r (by rw [nI_clamp (by omega)]) (nm_r (nI_1 rm) (nm_r (nI_1 k) ((hJ q).2 ?_)))⟩⟩
        rw [lo_rg, h, g, Bool.true_and]
  · intro n i q hi hq hw
    have hw' : ∀ b9, (∀ t, t < i + 1 → b9 t = nI (lo_e k t)) → wX_findRings_18 post J7 (nI k) k0 k1 k2 (nI rm) k4 k5 n (lo_b (lo_good C A H k (i + 1))) (nI (i + 1)) a1 a2 a3 a4 a5 a6 a7 a8 b9 := fun b9 h => hw b9 h
    have he := lo_e_lt k i
    have hx := lo_ex hk hi
    have hq' : ∀ t, t < i + 1 → upd q i (nI (lo_e k i)) t = nI (lo_e k t) := by
      intro t ht
      by_cases e : t = i
      · subst e
        rw [pk_us]
      · rw [pk_un e]
        exact hq t (by omega)
    have hw2 := hw' _ hq'
    rw [lo_good] at hw2
    refine pk_le 4 i (fun z => absurd z (by omega)) (fun _ => nm_r hx ⟨pk_in i 4 hi, nm_r (by rw [nI_clamp (by omega), lo_i8 (by omega)]) (lo_br0 rfl (fun h => nm_r (nI_1 i) ?_) (fun h => pk_eq (lo_e k i) 7 (fun g => nm_r (nI_1 i) ?_) (fun g => lo_isRequest hB hi (by omega) (lo_br0 rfl (fun y => nm_r (nI_1 i) ?_) (fun y => nm_r (nI_1 i) ?_)))))⟩)
    · rw [h, Bool.false_and] at hw2
      exact hw2
    · rw [h, decide_eq_true g, Bool.true_or, Bool.true_and] at hw2
      exact hw2
    · rw [h, decide_eq_false g, y, Bool.or_false, Bool.and_false] at hw2
      exact hw2
    · rw [h, decide_eq_false g, y, Bool.or_true, Bool.and_true] at hw2
      exact hw2
/-- the rings found: their codes -/
def lo_Rk (C : Nat → Nat) (A H : Nat → Nat → Nat) (n : Nat) (rk : Nat → Nat) (a7 : Nat → Int32) : Prop :=
  (∀ r, r < lo_rm C A H n → rk r < 4096 ∧ a7 r = nI (rk r)) ∧ (∀ g : Nat → Nat, lo_sum (fun r => g (rk r)) (lo_rm C A H n) = lo_sum (fun k => if lo_rg C A H k = true then g k else 0) n)
theorem lo_findRings {post : St2 → Prop} (hB : lo_Base C A H a1 a2 a3)
    (hp : ∀ rk b7 b8 b9, lo_Rk C A H 4096 rk b7 → (∀ r, r < lo_rm C A H 4096 → b8 r = 0) → post (k0, k1, k2, nI (lo_rm C A H 4096), k4, k5, a1, a2, a3, a4, a5, a6, b7, b8, b9)) : wpX_findRings post (k0, k1, k2, k3, k4, k5, a1, a2, a3, a4, a5, a6, a7, a8, a9) := by
  refine pk_loop (σ := Int32 × (Nat → Int32) × (Nat → Int32) × (Nat → Int32)) (fun n i q => wX_findRings_7 post k0 k1 k2 k4 k5 n (nI i) q.1 a1 a2 a3 a4 a5 a6 q.2.1 q.2.2.1 q.2.2.2)
    (fun i q => q.1 = nI (lo_rm C A H i) ∧ (∃ rk, lo_Rk C A H i rk q.2.1) ∧ (∀ r, r < lo_rm C A H i → q.2.2.1 r = 0)) 4096 0 (0, a7, a8, a9) (by omega)
    ⟨rfl, ⟨fun _ => 0, fun r h => absurd h (Nat.not_lt_zero r), fun g => rfl⟩, fun r h => absurd h (Nat.not_lt_zero r)⟩ ?_ ?_
  · intro n q hq
    obtain ⟨q1, q7, q8, q9⟩ := q
    obtain ⟨e1, ⟨rk, e2⟩, e3⟩ := hq
    dsimp only at e1 e2 e3
    subst e1
    exact pk_le 4096 4096 (fun _ => hp rk _ _ _ e2 e3) (fun z => absurd z (by omega))
  · intro n k q hk hq hw
    obtain ⟨q1, q7, q8, q9⟩ := q
    obtain ⟨e1, ⟨rk, e2, e2s⟩, e3⟩ := hq
    dsimp only at e1 e2 e2s e3
    have hw' : ∀ c b7 b8 b9, c = nI (lo_rm C A H (k + 1)) → (∃ rk, lo_Rk C A H (k + 1) rk b7) → (∀ r, r < lo_rm C A H (k + 1) → b8 r = 0) → wX_findRings_7 post k0 k1 k2 k4 k5 n (nI (k + 1)) c a1 a2 a3 a4 a5 a6 b7 b8 b9 := fun c b7 b8 b9 g1 g2 g3 => hw (c, b7, b8, b9) ⟨g1, g2, g3⟩
    have hle : lo_rm C A H k ≤ k := lo_sum_le k
    have hrm : lo_rm C A H (k + 1) = lo_rm C A H k + (lo_rg C A H k).toNat := rfl
    have hsm : ∀ g : Nat → Nat, lo_sum (fun k => if lo_rg C A H k = true then g k else 0) (k + 1) = lo_sum (fun k => if lo_rg C A H k = true then g k else 0) k + (if lo_rg C A H k = true then g k else 0) := fun g => rfl
    show wX_findRings_7 post k0 k1 k2 k4 k5 (n + 1) (nI k) q1 a1 a2 a3 a4 a5 a6 q7 q8 q9
    refine pk_le 4096 k (fun z => absurd z (by omega)) (fun _ => lo_fr18 hB hk (show lo_rm C A H k < 4096 by omega) e1 (fun b9 => ⟨fun h => ?_, fun h => ?_⟩))
    · rw [h, Bool.toNat_false, Nat.add_zero (lo_rm C A H k)] at hrm
      refine hw' _ _ _ _ (by rw [hrm]) ⟨rk, ?_, ?_⟩ ?_
      · rw [hrm]; exact e2
      · intro g
        rw [hrm, hsm, h, e2s]
        simp
      · rw [hrm]; exact e3
    · rw [h, Bool.toNat_true] at hrm
      refine hw' _ _ _ _ (by rw [hrm]) ⟨fun r => if r = lo_rm C A H k then k else rk r, ?_, ?_⟩ ?_
      · intro r hr
        rw [hrm] at hr
        by_cases e : r = lo_rm C A H k
        · subst e
          rw [pk_us]
          simp only [if_true]
          exact ⟨hk, trivial⟩
        · rw [pk_un e]
          simp only [if_neg e]
          exact e2 r (by omega)
      · intro g
        rw [hrm, hsm, if_pos h, ← e2s g]
        show lo_sum (fun r => g (if r = lo_rm C A H k then k else rk r)) (lo_rm C A H k) + g (if lo_rm C A H k = lo_rm C A H k then k else rk (lo_rm C A H k)) = _
        rw [if_pos rfl]
        congr 1
        exact lo_sum_ext _ (fun i hi => by rw [if_neg (show ¬ i = lo_rm C A H k by omega)])
      · intro r hr
        rw [hrm] at hr
        by_cases e : r = lo_rm C A H k
        · subst e
          rw [pk_us]
        · rw [pk_un e]
          exact e3 r (by omega)
end
end
section
/-! ===== findMet, find ===== -/
def lo_meet (S k : Nat) : Nat → Bool
  | 0 => true
  | t + 1 => lo_meet S k t && (decide (lo_e k t = 7) || decide (lo_e k t = lo_d S t))
def lo_anyR (S : Nat) (rk : Nat → Nat) : Nat → Bool
  | 0 => false
  | r + 1 => lo_anyR S rk r || lo_meet S (rk r) 4
def lo_sumD (S : Nat) : Nat → Nat
  | 0 => 0
  | t + 1 => lo_sumD S t + lo_d S t
theorem lo_sumD_lt (S : Nat) : lo_sumD S 4 < 100 := by
  have h0 := lo_d_lt S 0
  have h1 := lo_d_lt S 1
  have h2 := lo_d_lt S 2
  have h3 := lo_d_lt S 3
  show 0 + lo_d S 0 + lo_d S 1 + lo_d S 2 + lo_d S 3 < 100
  omega
/-- which rings are met, behind the states below s -/
def lo_mt (cm : Nat → Bool) (rk : Nat → Nat) : Nat → Nat → Bool
  | 0, _ => false
  | S + 1, r => lo_mt cm rk S r || (cm S && lo_meet S (rk r) 4)
def lo_metB (cm : Nat → Bool) (rk : Nat → Nat) (rm S : Nat) : Bool := cm S && lo_anyR S rk rm
def lo_ms (cm : Nat → Bool) (rk : Nat → Nat) (rm n : Nat) : Nat := lo_sum (fun S => (lo_metB cm rk rm S).toNat) n
section
variable {k0 k1 k2 k3 k4 k5 : Int32} {a1 a2 a3 a4 a5 a6 a7 a8 a9 : Nat → Int32} {C : Nat → Nat} {A H : Nat → Nat → Nat}
theorem lo_meets {post : Int32 → Prop} {S r k : Nat} (hS : S < 2401) (hr : r < 4096) (hk : k < 4096) (h7 : a7 r = nI k) (hp : post (lo_b (lo_meet S k 4))) : wpX_meets post (k0, k1, k2, k3, k4, k5, a1, a2, a3, a4, a5, a6, a7, a8, a9) (nI S) (nI r) := by
  refine pk_loop (σ := Unit) (fun n i _ => wX_meets_5 post (nI S) (nI r) k0 k1 k2 k3 k4 k5 a1 a2 a3 a4 a5 a6 a7 a8 a9 n (lo_b (lo_meet S k i)) (nI i)) (fun _ _ => True) 4 0 () (by omega) trivial
    (fun n _ _ => pk_le 4 4 (fun _ => ⟨lo_nb _, hp⟩) (fun z => absurd z (by omega))) ?_
  intro n i _ hi _ hw
  have hw' : wX_meets_5 post (nI S) (nI r) k0 k1 k2 k3 k4 k5 a1 a2 a3 a4 a5 a6 a7 a8 a9 n (lo_b (lo_meet S k (i + 1))) (nI (i + 1)) := hw () trivial
  rw [lo_meet] at hw'
  have he := lo_e_lt k i
  have hd := lo_d_lt S i
  refine pk_le 4 i (fun z => absurd z (by omega)) (fun _ => ⟨pk_in r 4096 hr, nm_r (show (a7 (nI r).toNatClampNeg >>> (((3 : Int32) * nI i) &&& 31)) &&& 7 = nI (lo_e k i) by rw [nI_clamp (by omega), h7]; exact lo_ex hk hi) (lo_br0 rfl (fun h => nm_r (nI_1 i) ?_) (fun h => pk_eq (lo_e k i) 7 (fun g => nm_r (nI_1 i) ?_) (fun g => lo_doneIn hS hi (pk_eq (lo_e k i) (lo_d S i) (fun y => nm_r (nI_1 i) ?_) (fun y => nm_r (nI_1 i) ?_)))))⟩)
  · rw [h, Bool.false_and] at hw'
    exact hw'
  · rw [h, decide_eq_true g, Bool.true_or, Bool.true_and] at hw'
    exact hw'
  · rw [h, decide_eq_true y, Bool.or_true, Bool.true_and] at hw'
    exact hw'
  · rw [h, decide_eq_false g, decide_eq_false y, Bool.or_false, Bool.true_and] at hw'
    exact hw'
theorem lo_mr44 {post : Int32 → St2 → Prop} {J4 : Int32 → Int32 → (Nat → Int32) → (Nat → Int32) → (Nat → Int32) → (Nat → Int32) → (Nat → Int32) → (Nat → Int32) → (Nat → Int32) → (Nat → Int32) → (Nat → Int32) → Prop} {x1 : Int32} {any mm zb : Bool} {r : Nat} (hr : r < 4096)
    (hJ : J4 (lo_b (any || mm)) (nI (r + 1)) a1 a2 a3 a4 a5 a6 a7 (upd a8 r (lo_b zb)) a9) : wX_meetRings_44 post J4 x1 (lo_b any) (nI r) (lo_b mm) (lo_b zb) (nI r) k0 k1 k2 k3 k4 k5 a1 a2 a3 a4 a5 a6 a7 a8 a9 := by
  refine ⟨pk_in r 4096 hr, nm_r (by rw [nI_clamp (by omega), lo_vnb]) (lo_br0 rfl (fun h => lo_br0 rfl (fun g => nm_r (nI_1 r) ?_) (fun g => nm_r (nI_1 r) ?_)) (fun h => nm_r (nI_1 r) ?_))⟩
  · rw [h, g] at hJ
    exact hJ
  · rw [h, g] at hJ
    exact hJ
  · rw [h, Bool.true_or] at hJ
    exact hJ
theorem lo_meetRings {post : Int32 → St2 → Prop} {S rm : Nat} {rk : Nat → Nat} {mt : Nat → Bool} (hS : S < 2401) (hrm : rm ≤ 4096) (hk3 : k3 = nI rm) (hrk : ∀ r, r < rm → rk r < 4096 ∧ a7 r = nI (rk r)) (hmt : ∀ r, r < rm → a8 r = lo_b (mt r))
    (hp : ∀ b8, (∀ r, r < rm → b8 r = lo_b (mt r || lo_meet S (rk r) 4)) → post (lo_b (lo_anyR S rk rm)) (k0, k1, k2, nI rm, k4, k5, a1, a2, a3, a4, a5, a6, a7, b8, a9)) : wpX_meetRings post (k0, k1, k2, k3, k4, k5, a1, a2, a3, a4, a5, a6, a7, a8, a9) (nI S) := by
  subst hk3
  refine pk_loop (σ := Nat → Int32) (fun n i q => wX_meetRings_4 post (nI S) k0 k1 k2 (nI rm) k4 k5 n (lo_b (lo_anyR S rk i)) (nI i) a1 a2 a3 a4 a5 a6 a7 q a9) (fun i q => ∀ r, r < rm → q r = lo_b (if r < i then mt r || lo_meet S (rk r) 4 else mt r)) rm 0 a8 (by omega) (fun r h => by rw [if_neg (by omega)]; exact hmt r h) ?_ ?_
  · intro n q hq
    refine pk_le rm rm (fun _ => ⟨lo_nb _, hp q (fun r h => ?_)⟩) (fun z => absurd z (by omega))
    have := hq r h
    rw [if_pos h] at this
    exact this
  · intro n i q hi hq hw
    have hw' : ∀ b8, (∀ r, r < rm → b8 r = lo_b (if r < i + 1 then mt r || lo_meet S (rk r) 4 else mt r)) → wX_meetRings_4 post (nI S) k0 k1 k2 (nI rm) k4 k5 n (lo_b (lo_anyR S rk (i + 1))) (nI (i + 1)) a1 a2 a3 a4 a5 a6 a7 b8 a9 := fun b8 h => hw b8 h
    obtain ⟨g1, g2⟩ := hrk i hi
    have hqi := hq i hi
    rw [if_neg (by omega)] at hqi
    have hup : ∀ zb, zb = (mt i || lo_meet S (rk i) 4) → wX_meetRings_4 post (nI S) k0 k1 k2 (nI rm) k4 k5 n (lo_b (lo_anyR S rk (i + 1))) (nI (i + 1)) a1 a2 a3 a4 a5 a6 a7 (upd q i (lo_b zb)) a9 := by
      intro zb ez
      refine hw' _ (fun r hr => ?_)
      by_cases e : r = i
      · subst e
        rw [pk_us, if_pos (by omega), ez]
      · rw [pk_un e, hq r hr]
        by_cases h : r < i
        · rw [if_pos h, if_pos (by omega)]
        · rw [if_neg h, if_neg (by omega)]
    refine pk_le rm i (fun z => absurd z (by omega)) (fun _ => lo_meets hS (by omega) g1 g2 ⟨pk_in i 4096 (by omega), ?_⟩)
    rw [nI_clamp (by omega), hqi]
    refine lo_br0 rfl (fun h => lo_br0 rfl (fun g => ?_) (fun g => ?_)) (fun h => ?_)
    · exact lo_mr44 (zb := false) (by omega) (hup false (by rw [h, g]; rfl))
    · exact lo_mr44 (zb := true) (by omega) (hup true (by rw [h, g]; rfl))
    · exact lo_mr44 (zb := true) (by omega) (hup true (by rw [h, Bool.true_or]))
theorem lo_sumOf {post : Int32 → Prop} {S : Nat} (hS : S < 2401) (hp : post (nI (lo_sumD S 4))) : wpX_sumOf post (k0, k1, k2, k3, k4, k5, a1, a2, a3, a4, a5, a6, a7, a8, a9) (nI S) :=
  pk_loop (σ := Unit) (fun n i _ => wX_sumOf_4 post (nI S) k0 k1 k2 k3 k4 k5 a1 a2 a3 a4 a5 a6 a7 a8 a9 n (nI (lo_sumD S i)) (nI i)) (fun _ _ => True) 4 0 () (by omega) trivial
    (fun n _ _ => pk_le 4 4 (fun _ => hp) (fun z => absurd z (by omega)))
    (fun n i _ hi _ hw => pk_le 4 i (fun z => absurd z (by omega)) (fun _ => lo_doneIn hS hi (nm_r (nI_add _ _) (nm_r (nI_1 i) (hw () trivial)))))
/-- the soonest meeting: none, or a number -/
def lo_So (ms : Nat) (c5 : Int32) : Prop := (ms = 0 ∧ c5 = -4) ∨ (ms ≠ 0 ∧ ∃ m, m < 100 ∧ c5 = nI m)
theorem lo_findMet {post : St2 → Prop} {rm : Nat} {rk : Nat → Nat} {cm : Nat → Bool} (hrm : rm ≤ 4096) (hk3 : k3 = nI rm) (hrk : ∀ r, r < rm → rk r < 4096 ∧ a7 r = nI (rk r)) (h8 : ∀ r, r < rm → a8 r = 0) (h4 : ∀ S, S < 2401 → a4 S = lo_b (cm S))
    (hp : ∀ c5 b8, lo_So (lo_ms cm rk rm 2401) c5 → (∀ r, r < rm → b8 r = lo_b (lo_mt cm rk 2401 r)) → post (k0, k1, k2, nI rm, nI (lo_ms cm rk rm 2401), c5, a1, a2, a3, a4, a5, a6, a7, b8, a9)) : wpX_findMet post (k0, k1, k2, k3, k4, k5, a1, a2, a3, a4, a5, a6, a7, a8, a9) := by
  subst hk3
  refine pk_loop (σ := Int32 × Int32 × (Nat → Int32)) (fun n i q => wX_findMet_13 post n (nI i) k0 k1 k2 (nI rm) q.1 q.2.1 a1 a2 a3 a4 a5 a6 a7 q.2.2 a9)
    (fun i q => q.1 = nI (lo_ms cm rk rm i) ∧ lo_So (lo_ms cm rk rm i) q.2.1 ∧ (∀ r, r < rm → q.2.2 r = lo_b (lo_mt cm rk i r))) 2401 0 (0, -4, a8) (by omega)
    ⟨rfl, Or.inl ⟨rfl, rfl⟩, fun r h => h8 r h⟩ ?_ ?_
  · intro n q hq
    obtain ⟨q4, q5, q8⟩ := q
    obtain ⟨e1, e2, e3⟩ := hq
    dsimp only at e1 e2 e3
    subst e1
    exact pk_le 2401 2401 (fun _ => hp _ _ e2 e3) (fun z => absurd z (by omega))
  · intro n s q hs hq hw
    obtain ⟨q4, q5, q8⟩ := q
    obtain ⟨e1, e2, e3⟩ := hq
    dsimp only at e1 e2 e3
    have hw' : ∀ c4 c5 b8, c4 = nI (lo_ms cm rk rm (s + 1)) → lo_So (lo_ms cm rk rm (s + 1)) c5 → (∀ r, r < rm → b8 r = lo_b (lo_mt cm rk (s + 1) r)) → wX_findMet_13 post n (nI (s + 1)) k0 k1 k2 (nI rm) c4 c5 a1 a2 a3 a4 a5 a6 a7 b8 a9 := fun c4 c5 b8 g1 g2 g3 => hw (c4, c5, b8) ⟨g1, g2, g3⟩
    have hms : lo_ms cm rk rm (s + 1) = lo_ms cm rk rm s + (lo_metB cm rk rm s).toNat := rfl
    have hmt : ∀ r, lo_mt cm rk (s + 1) r = (lo_mt cm rk s r || (cm s && lo_meet s (rk r) 4)) := fun r => rfl
    have hle : lo_ms cm rk rm s ≤ s := lo_sum_le s
    have hno : ∀ b8, lo_metB cm rk rm s = false → (∀ r, r < rm → b8 r = lo_b (lo_mt cm rk (s + 1) r)) → wX_findMet_41 post (wX_findMet_13 post n) (nI s) k0 k1 k2 (nI rm) q4 q5 a1 a2 a3 a4 a5 a6 a7 b8 a9 := by
      intro b8 h hb8
      rw [h, Bool.toNat_false, Nat.add_zero (lo_ms cm rk rm s)] at hms
      refine br_t rfl (nm_r (nI_1 s) (hw' _ _ _ ?_ ?_ hb8))
      · rw [hms]; exact e1
      · rw [hms]; exact e2
    show wX_findMet_13 post (n + 1) (nI s) k0 k1 k2 (nI rm) q4 q5 a1 a2 a3 a4 a5 a6 a7 q8 a9
    refine pk_le 2401 s (fun z => absurd z (by omega)) (fun _ => ⟨pk_in s 2401 hs, ?_⟩)
    rw [nI_clamp (by omega), h4 s hs]
    refine lo_br0 rfl (fun h => ?_) (fun h => ?_)
    · refine hno _ (by rw [lo_metB, h, Bool.false_and]) (fun r hr => ?_)
      rw [hmt, h, Bool.false_and, Bool.or_false]
      exact e3 r hr
    · refine lo_meetRings hs hrm rfl hrk e3 (fun b8 hb8 => ?_)
      have hb8' : ∀ r, r < rm → b8 r = lo_b (lo_mt cm rk (s + 1) r) := by
        intro r hr
        rw [hmt, h, Bool.true_and]
        exact hb8 r hr
      refine lo_br0 rfl (fun g => ?_) (fun g => ?_)
      · exact hno _ (by rw [lo_metB, h, g, Bool.true_and]) hb8'
      · have hT : lo_metB cm rk rm s = true := by rw [lo_metB, h, g, Bool.true_and]
        rw [hT, Bool.toNat_true] at hms
        have hsd := lo_sumD_lt s
        refine br_f (by decide) (lo_sumOf hs (nm_r (show q4 + 1 = nI (lo_ms cm rk rm (s + 1)) by rw [e1, hms, nI_1]) ?_))
        have hnew : lo_So (lo_ms cm rk rm (s + 1)) (nI (lo_sumD s 4)) := Or.inr ⟨by omega, _, hsd, rfl⟩
        rcases e2 with ⟨z1, z2⟩ | ⟨z1, m, z2, z3⟩
        · exact br_t (by rw [z2]; decide) (nm_r (nI_1 s) (hw' _ _ _ rfl hnew hb8'))
        · subst z3
          refine br_f (nI_pos (by omega)) (br_c (fun _ => nm_r (nI_1 s) (hw' _ _ _ rfl (Or.inr ⟨by omega, m, z2, rfl⟩) hb8')) (fun _ => nm_r (nI_1 s) (hw' _ _ _ rfl hnew hb8')))
end
/-- all is found -/
def lo_Fd (C : Nat → Nat) (A H : Nat → Nat → Nat) (k0 k1 k2 k3 k4 k5 : Int32) (a1 a2 a3 a4 a5 a6 a7 a8 : Nat → Int32) : Prop :=
  k0 = 1 ∧ k1 = nI (lo_cm (lo_may C A H) 2401) ∧ k2 = nI (lo_sm (lo_may C A H) (lo_lastN C 4) 2401) ∧ k3 = nI (lo_rm C A H 4096) ∧ lo_Base C A H a1 a2 a3 ∧ lo_Wy (lo_all (lo_may C A H) 2401) a4 a5 ∧
  (∀ k, k < lo_sm (lo_may C A H) (lo_lastN C 4) 2401 → ∃ S, S < 2401 ∧ lo_cmB (lo_may C A H) S = true ∧ a6 k = nI S) ∧
  ∃ rk, lo_Rk C A H 4096 rk a7 ∧ k4 = nI (lo_ms (fun S => decide (lo_all (lo_may C A H) 2401 S ≠ 0)) rk (lo_rm C A H 4096) 2401) ∧ lo_So (lo_ms (fun S => decide (lo_all (lo_may C A H) 2401 S ≠ 0)) rk (lo_rm C A H 4096) 2401) k5 ∧
    (∀ r, r < lo_rm C A H 4096 → a8 r = lo_b (lo_mt (fun S => decide (lo_all (lo_may C A H) 2401 S ≠ 0)) rk 2401 r))
section
variable {k0 k1 k2 k3 k4 k5 : Int32} {a1 a2 a3 a4 a5 a6 a7 a8 a9 : Nat → Int32} {C : Nat → Nat} {A H : Nat → Nat → Nat}
theorem lo_find {post : St2 → Prop} (hB : lo_Base C A H a1 a2 a3) (hb : lo_Bd (lo_may C A H)) (hk : k0 = 0 ∨ lo_Fd C A H k0 k1 k2 k3 k4 k5 a1 a2 a3 a4 a5 a6 a7 a8)
    (hp : ∀ c1 c2 c3 c4 c5 b4 b5 b6 b7 b8 b9, lo_Fd C A H 1 c1 c2 c3 c4 c5 a1 a2 a3 b4 b5 b6 b7 b8 → post (1, c1, c2, c3, c4, c5, a1, a2, a3, b4, b5, b6, b7, b8, b9)) : wpX_find post (k0, k1, k2, k3, k4, k5, a1, a2, a3, a4, a5, a6, a7, a8, a9) := by
  rcases hk with e | h
  · refine br_t e (lo_findStates hB hb (fun b4 b5 b6 h1 h2 => lo_findRings hB (fun rk b7 b8 b9 h3 h4 => ?_)))
    refine lo_findMet (rk := rk) (cm := fun S => decide (lo_all (lo_may C A H) 2401 S ≠ 0)) (lo_sum_le 4096) rfl h3.1 h4 (fun S hS => (h1 S hS).2) (fun c5 c8 h5 h6 => ?_)
    exact hp _ _ _ _ _ _ _ _ _ _ _ ⟨rfl, rfl, rfl, rfl, hB, h1, h2, rk, h3, rfl, h5, h6⟩
  · have e : k0 = 1 := h.1
    subst e
    exact br_f (by decide) (hp _ _ _ _ _ _ _ _ _ _ _ h)
end
end
section
/-! ===== the questions ===== -/
/-- whether S is reached in the end -/
def lo_cB (C : Nat → Nat) (A H : Nat → Nat → Nat) (S : Nat) : Bool := decide (lo_all (lo_may C A H) 2401 S ≠ 0)
def lo_nMet (C : Nat → Nat) (A H : Nat → Nat → Nat) : Nat := lo_sum (fun k => if lo_rg C A H k = true then (lo_mt (lo_cB C A H) (fun k => k) 2401 k).toNat else 0) 4096
def lo_nSM (C : Nat → Nat) (A H : Nat → Nat → Nat) : Nat := lo_sum (fun S => (lo_cB C A H S && decide (lo_sum (fun k => if lo_rg C A H k = true then (lo_meet S k 4).toNat else 0) 4096 ≠ 0)).toNat) 2401
theorem lo_mt_id {cm : Nat → Bool} {rk : Nat → Nat} {r : Nat} : ∀ n, lo_mt cm rk n r = lo_mt cm (fun k => k) n (rk r)
  | 0 => rfl
  | n + 1 => by
    rw [lo_mt, lo_mt, lo_mt_id n]
theorem lo_anyR_sum {S : Nat} {rk : Nat → Nat} : ∀ n, lo_anyR S rk n = decide (lo_sum (fun r => (lo_meet S (rk r) 4).toNat) n ≠ 0)
  | 0 => rfl
  | n + 1 => by
    rw [lo_anyR, lo_anyR_sum n]
    show _ = decide (lo_sum (fun r => (lo_meet S (rk r) 4).toNat) n + (lo_meet S (rk n) 4).toNat ≠ 0)
    cases lo_meet S (rk n) 4
    · rw [Bool.or_false]
      rfl
    · rw [Bool.or_true]
      symm
      apply decide_eq_true
      show lo_sum (fun r => (lo_meet S (rk r) 4).toNat) n + 1 ≠ 0
      omega
theorem lo_ms_eq {C : Nat → Nat} {A H : Nat → Nat → Nat} {rk : Nat → Nat} {a7 : Nat → Int32} (h : lo_Rk C A H 4096 rk a7) : lo_ms (lo_cB C A H) rk (lo_rm C A H 4096) 2401 = lo_nSM C A H := by
  refine lo_sum_ext 2401 (fun S _ => ?_)
  rw [lo_metB, lo_anyR_sum, h.2 (fun k => (lo_meet S k 4).toNat)]
/-- the object is ready for questions: nothing is known yet, or all is found -/
def lo_Rd (C : Nat → Nat) (A H : Nat → Nat → Nat) (k0 k1 k2 k3 k4 k5 : Int32) (a1 a2 a3 a4 a5 a6 a7 a8 : Nat → Int32) : Prop :=
  lo_Base C A H a1 a2 a3 ∧ lo_Bd (lo_may C A H) ∧ (k0 = 0 ∨ lo_Fd C A H k0 k1 k2 k3 k4 k5 a1 a2 a3 a4 a5 a6 a7 a8)
section
variable {k0 k1 k2 k3 k4 k5 : Int32} {a1 a2 a3 a4 a5 a6 a7 a8 a9 : Nat → Int32} {C : Nat → Nat} {A H : Nat → Nat → Nat}
theorem lo_findR {post : St2 → Prop} (hR : lo_Rd C A H k0 k1 k2 k3 k4 k5 a1 a2 a3 a4 a5 a6 a7 a8)
    (hp : ∀ c1 c2 c3 c4 c5 b4 b5 b6 b7 b8 b9, lo_Fd C A H 1 c1 c2 c3 c4 c5 a1 a2 a3 b4 b5 b6 b7 b8 → lo_Rd C A H 1 c1 c2 c3 c4 c5 a1 a2 a3 b4 b5 b6 b7 b8 → post (1, c1, c2, c3, c4, c5, a1, a2, a3, b4, b5, b6, b7, b8, b9)) : wpX_find post (k0, k1, k2, k3, k4, k5, a1, a2, a3, a4, a5, a6, a7, a8, a9) :=
  lo_find hR.1 hR.2.1 hR.2.2 (fun c1 c2 c3 c4 c5 b4 b5 b6 b7 b8 b9 h => hp c1 c2 c3 c4 c5 b4 b5 b6 b7 b8 b9 h ⟨hR.1, hR.2.1, Or.inr h⟩)
theorem lo_states {post : Int32 → St2 → Prop} (hR : lo_Rd C A H k0 k1 k2 k3 k4 k5 a1 a2 a3 a4 a5 a6 a7 a8)
    (hp : ∀ c1 c2 c3 c4 c5 b4 b5 b6 b7 b8 b9, lo_Rd C A H 1 c1 c2 c3 c4 c5 a1 a2 a3 b4 b5 b6 b7 b8 → post (nI (lo_cm (lo_may C A H) 2401)) (1, c1, c2, c3, c4, c5, a1, a2, a3, b4, b5, b6, b7, b8, b9)) : wpX_states post (k0, k1, k2, k3, k4, k5, a1, a2, a3, a4, a5, a6, a7, a8, a9) := by
  unfold wpX_states
  dsimp only
  refine lo_findR hR (fun c1 c2 c3 c4 c5 b4 b5 b6 b7 b8 b9 h h' => ?_)
  have := hp c1 c2 c3 c4 c5 b4 b5 b6 b7 b8 b9 h'
  rw [← h.2.1] at this
  exact this
theorem lo_stuck {post : Int32 → St2 → Prop} (hR : lo_Rd C A H k0 k1 k2 k3 k4 k5 a1 a2 a3 a4 a5 a6 a7 a8)
    (hp : ∀ c1 c2 c3 c4 c5 b4 b5 b6 b7 b8 b9, lo_Rd C A H 1 c1 c2 c3 c4 c5 a1 a2 a3 b4 b5 b6 b7 b8 → post (nI (lo_sm (lo_may C A H) (lo_lastN C 4) 2401)) (1, c1, c2, c3, c4, c5, a1, a2, a3, b4, b5, b6, b7, b8, b9)) : wpX_stuck post (k0, k1, k2, k3, k4, k5, a1, a2, a3, a4, a5, a6, a7, a8, a9) := by
  unfold wpX_stuck
  dsimp only
  refine lo_findR hR (fun c1 c2 c3 c4 c5 b4 b5 b6 b7 b8 b9 h h' => ?_)
  have := hp c1 c2 c3 c4 c5 b4 b5 b6 b7 b8 b9 h'
  rw [← h.2.2.1] at this
  exact this
theorem lo_rings {post : Int32 → St2 → Prop} (hR : lo_Rd C A H k0 k1 k2 k3 k4 k5 a1 a2 a3 a4 a5 a6 a7 a8)
    (hp : ∀ c1 c2 c3 c4 c5 b4 b5 b6 b7 b8 b9, lo_Rd C A H 1 c1 c2 c3 c4 c5 a1 a2 a3 b4 b5 b6 b7 b8 → post (nI (lo_rm C A H 4096)) (1, c1, c2, c3, c4, c5, a1, a2, a3, b4, b5, b6, b7, b8, b9)) : wpX_rings post (k0, k1, k2, k3, k4, k5, a1, a2, a3, a4, a5, a6, a7, a8, a9) := by
  unfold wpX_rings
  dsimp only
  refine lo_findR hR (fun c1 c2 c3 c4 c5 b4 b5 b6 b7 b8 b9 h h' => ?_)
  have := hp c1 c2 c3 c4 c5 b4 b5 b6 b7 b8 b9 h'
  rw [← h.2.2.2.1] at this
  exact this
theorem lo_statesMet {post : Int32 → St2 → Prop} (hR : lo_Rd C A H k0 k1 k2 k3 k4 k5 a1 a2 a3 a4 a5 a6 a7 a8)
    (hp : ∀ c1 c2 c3 c4 c5 b4 b5 b6 b7 b8 b9, lo_Rd C A H 1 c1 c2 c3 c4 c5 a1 a2 a3 b4 b5 b6 b7 b8 → post (nI (lo_nSM C A H)) (1, c1, c2, c3, c4, c5, a1, a2, a3, b4, b5, b6, b7, b8, b9)) : wpX_statesMet post (k0, k1, k2, k3, k4, k5, a1, a2, a3, a4, a5, a6, a7, a8, a9) := by
  unfold wpX_statesMet
  dsimp only
  refine lo_findR hR (fun c1 c2 c3 c4 c5 b4 b5 b6 b7 b8 b9 h h' => ?_)
  obtain ⟨rk, g1, g2, g3, g4⟩ := h.2.2.2.2.2.2.2
  have := hp c1 c2 c3 c4 c5 b4 b5 b6 b7 b8 b9 h'
  rw [← lo_ms_eq g1] at this
  exact ek_v (P := fun v => post v (1, c1, c2, c3, c4, c5, a1, a2, a3, b4, b5, b6, b7, b8, b9)) g2 this
theorem lo_soonest {post : Int32 → St2 → Prop} (hR : lo_Rd C A H k0 k1 k2 k3 k4 k5 a1 a2 a3 a4 a5 a6 a7 a8)
    (hp : ∀ c1 c2 c3 c4 c5 b4 b5 b6 b7 b8 b9, lo_Rd C A H 1 c1 c2 c3 c4 c5 a1 a2 a3 b4 b5 b6 b7 b8 → lo_So (lo_nSM C A H) c5 → post c5 (1, c1, c2, c3, c4, c5, a1, a2, a3, b4, b5, b6, b7, b8, b9)) : wpX_soonest post (k0, k1, k2, k3, k4, k5, a1, a2, a3, a4, a5, a6, a7, a8, a9) := by
  unfold wpX_soonest
  dsimp only
  refine lo_findR hR (fun c1 c2 c3 c4 c5 b4 b5 b6 b7 b8 b9 h h' => ?_)
  obtain ⟨rk, g1, g2, g3, g4⟩ := h.2.2.2.2.2.2.2
  refine hp c1 c2 c3 c4 c5 b4 b5 b6 b7 b8 b9 h' ?_
  rw [← lo_ms_eq g1]
  exact g3
theorem lo_last_lt (hB : lo_Base C A H a1 a2 a3) : lo_lastN C 4 < 2401 := by
  have e : lo_lastN C 4 = 0 + C 0 * 343 + C 1 * 49 + C 2 * 7 + C 3 * 1 := rfl
  have h0 := (hB.1 0 (by omega)).1
  have h1 := (hB.1 1 (by omega)).1
  have h2 := (hB.1 2 (by omega)).1
  have h3 := (hB.1 3 (by omega)).1
  omega
theorem lo_canFinish {post : Int32 → St2 → Prop} (hR : lo_Rd C A H k0 k1 k2 k3 k4 k5 a1 a2 a3 a4 a5 a6 a7 a8)
    (hp : ∀ c1 c2 c3 c4 c5 b4 b5 b6 b7 b8 b9, lo_Rd C A H 1 c1 c2 c3 c4 c5 a1 a2 a3 b4 b5 b6 b7 b8 → post (lo_b (lo_cB C A H (lo_lastN C 4))) (1, c1, c2, c3, c4, c5, a1, a2, a3, b4, b5, b6, b7, b8, b9)) : wpX_canFinish post (k0, k1, k2, k3, k4, k5, a1, a2, a3, a4, a5, a6, a7, a8, a9) := by
  unfold wpX_canFinish
  dsimp only
  refine lo_findR hR (fun c1 c2 c3 c4 c5 b4 b5 b6 b7 b8 b9 h h' => ?_)
  have hl := lo_last_lt hR.1
  dsimp only
  refine lo_lastState hR.1 ?_
  refine ⟨pk_in _ 2401 hl, ?_⟩
  have hp' := hp c1 c2 c3 c4 c5 b4 b5 b6 b7 b8 b9 h'
  rw [nI_clamp (by omega), (h.2.2.2.2.2.1 _ hl).2]
  refine lo_br0 rfl (fun g => ?_) (fun g => ?_)
  · rw [lo_cB, g] at hp'
    exact hp'
  · rw [lo_cB, g] at hp'
    exact hp'
theorem lo_all_lt (hb : lo_Bd (lo_may C A H)) {S : Nat} (hS : S < 2401) : lo_all (lo_may C A H) 2401 S < 1000003 := hb 2400 4 S (by omega) (by omega) hS
theorem lo_ways {post : Int32 → St2 → Prop} (hR : lo_Rd C A H k0 k1 k2 k3 k4 k5 a1 a2 a3 a4 a5 a6 a7 a8)
    (hp : ∀ c1 c2 c3 c4 c5 b4 b5 b6 b7 b8 b9, lo_Rd C A H 1 c1 c2 c3 c4 c5 a1 a2 a3 b4 b5 b6 b7 b8 → post (nI (lo_all (lo_may C A H) 2401 (lo_lastN C 4))) (1, c1, c2, c3, c4, c5, a1, a2, a3, b4, b5, b6, b7, b8, b9)) : wpX_ways post (k0, k1, k2, k3, k4, k5, a1, a2, a3, a4, a5, a6, a7, a8, a9) := by
  unfold wpX_ways
  dsimp only
  refine lo_findR hR (fun c1 c2 c3 c4 c5 b4 b5 b6 b7 b8 b9 h h' => ?_)
  have hl := lo_last_lt hR.1
  dsimp only
  refine lo_lastState hR.1 ?_
  refine ⟨pk_in _ 2401 hl, ?_⟩
  have hp' := hp c1 c2 c3 c4 c5 b4 b5 b6 b7 b8 b9 h'
  rw [nI_clamp (by omega), (h.2.2.2.2.2.1 _ hl).1]
  exact hp'
theorem lo_ringsMet {post : Int32 → St2 → Prop} (hR : lo_Rd C A H k0 k1 k2 k3 k4 k5 a1 a2 a3 a4 a5 a6 a7 a8)
    (hp : ∀ c1 c2 c3 c4 c5 b4 b5 b6 b7 b8 b9, lo_Rd C A H 1 c1 c2 c3 c4 c5 a1 a2 a3 b4 b5 b6 b7 b8 → post (nI (lo_nMet C A H)) (1, c1, c2, c3, c4, c5, a1, a2, a3, b4, b5, b6, b7, b8, b9)) : wpX_ringsMet post (k0, k1, k2, k3, k4, k5, a1, a2, a3, a4, a5, a6, a7, a8, a9) := by
  unfold wpX_ringsMet
  dsimp only
  refine lo_findR hR (fun c1 c2 c3 c4 c5 b4 b5 b6 b7 b8 b9 h h' => ?_)
  obtain ⟨rk, g1, g2, g3, g4⟩ := h.2.2.2.2.2.2.2
  have hp' := hp c1 c2 c3 c4 c5 b4 b5 b6 b7 b8 b9 h'
  have hle : lo_rm C A H 4096 ≤ 4096 := lo_sum_le 4096
  have e3 : c3 = nI (lo_rm C A H 4096) := h.2.2.2.1
  subst e3
  have ev : lo_nMet C A H = lo_sum (fun r => (lo_mt (lo_cB C A H) rk 2401 r).toNat) (lo_rm C A H 4096) := by
    rw [lo_nMet, ← g1.2 (fun k => (lo_mt (lo_cB C A H) (fun k => k) 2401 k).toNat)]
    exact lo_sum_ext _ (fun r _ => by rw [← lo_mt_id])
  rw [ev] at hp'
  refine pk_loop (σ := Unit) (fun n i _ => wX_ringsMet_8 post 1 c1 c2 (nI (lo_rm C A H 4096)) c4 c5 a1 a2 a3 b4 b5 b6 b7 b8 b9 n (nI (lo_sum (fun r => (lo_mt (lo_cB C A H) rk 2401 r).toNat) i)) (nI i)) (fun _ _ => True) (lo_rm C A H 4096) 0 () (by omega) trivial
    (fun n _ _ => pk_le (lo_rm C A H 4096) (lo_rm C A H 4096) (fun _ => hp') (fun z => absurd z (by omega))) ?_
  intro n i _ hi _ hw
  have hw' : wX_ringsMet_8 post 1 c1 c2 (nI (lo_rm C A H 4096)) c4 c5 a1 a2 a3 b4 b5 b6 b7 b8 b9 n (nI (lo_sum (fun r => (lo_mt (lo_cB C A H) rk 2401 r).toNat) i + (lo_mt (lo_cB C A H) rk 2401 i).toNat)) (nI (i + 1)) := hw () trivial
  refine pk_le (lo_rm C A H 4096) i (fun z => absurd z (by omega)) (fun _ => ⟨pk_in i 4096 (by omega), ?_⟩)
  rw [nI_clamp (by omega), g4 i hi]
  refine lo_br0 (b := lo_mt (lo_cB C A H) rk 2401 i) rfl (fun g => nm_r (nI_1 i) ?_) (fun g => nm_r (nI_1 _) (nm_r (nI_1 i) ?_))
  · rw [g] at hw'
    exact hw'
  · rw [g] at hw'
    exact hw'
theorem lo_badCount {post : Int32 → Prop} {n : Nat} (hn : n ≤ 6) (hp : post 0) : wpX_badCount post (k0, k1, k2, k3, k4, k5, a1, a2, a3, a4, a5, a6, a7, a8, a9) (nI n) := br_f (nI_pos (by omega)) (br_t (nI_le (b := 6) hn (by omega)) hp)
theorem lo_reached {post : Int32 → St2 → Prop} {x y z w : Nat} (hR : lo_Rd C A H k0 k1 k2 k3 k4 k5 a1 a2 a3 a4 a5 a6 a7 a8) (hx : x ≤ 6) (hy : y ≤ 6) (hz : z ≤ 6) (hw : w ≤ 6)
    (hp : ∀ c1 c2 c3 c4 c5 b4 b5 b6 b7 b8 b9, lo_Rd C A H 1 c1 c2 c3 c4 c5 a1 a2 a3 b4 b5 b6 b7 b8 → post (lo_b (lo_cB C A H (343 * x + 49 * y + 7 * z + w))) (1, c1, c2, c3, c4, c5, a1, a2, a3, b4, b5, b6, b7, b8, b9)) : wpX_reached post (k0, k1, k2, k3, k4, k5, a1, a2, a3, a4, a5, a6, a7, a8, a9) (nI x) (nI y) (nI z) (nI w) := by
  unfold wpX_reached
  dsimp only
  refine lo_badCount hx (br_t rfl (lo_badCount hy (br_t rfl (lo_badCount hz (br_t rfl (lo_badCount hw (br_t rfl (lo_findR hR (fun c1 c2 c3 c4 c5 b4 b5 b6 b7 b8 b9 h h' => ?_)))))))))
  have hl : 343 * x + 49 * y + 7 * z + w < 2401 := by omega
  have e : (((343 : Int32) * nI x + 49 * nI y) + 7 * nI z) + nI w = nI (343 * x + 49 * y + 7 * z + w) := by
    show ((nI 343 * nI x + nI 49 * nI y) + nI 7 * nI z) + nI w = _
    rw [pk_mul, pk_mul, pk_mul, nI_add, nI_add, nI_add]
  have hp' := hp c1 c2 c3 c4 c5 b4 b5 b6 b7 b8 b9 h'
  dsimp only
  rw [e, nI_clamp (by omega), (h.2.2.2.2.2.1 _ hl).2]
  refine ⟨vp_in_nI hl (by omega), lo_br0 rfl (fun g => ?_) (fun g => ?_)⟩
  · rw [lo_cB, g] at hp'
    exact hp'
  · rw [lo_cB, g] at hp'
    exact hp'
theorem lo_reached7 {post : Int32 → St2 → Prop} (hp : post (-1) (k0, k1, k2, k3, k4, k5, a1, a2, a3, a4, a5, a6, a7, a8, a9)) : wpX_reached post (k0, k1, k2, k3, k4, k5, a1, a2, a3, a4, a5, a6, a7, a8, a9) 7 0 0 0 := by
  unfold wpX_reached
  dsimp only
  exact br_f (by decide) (br_f (by decide) (br_f (by decide) hp))
/-- a place below the number of stuck states -/
theorem lo_stuckAt1 {post : Int32 → St2 → Prop} {i t : Nat} (hR : lo_Rd C A H k0 k1 k2 k3 k4 k5 a1 a2 a3 a4 a5 a6 a7 a8) (ht : t < 4) (hi : i < lo_sm (lo_may C A H) (lo_lastN C 4) 2401)
    (hp : ∀ c1 c2 c3 c4 c5 b4 b5 b6 b7 b8 b9 S, lo_Rd C A H 1 c1 c2 c3 c4 c5 a1 a2 a3 b4 b5 b6 b7 b8 → S < 2401 → lo_cmB (lo_may C A H) S = true → post (nI (lo_d S t)) (1, c1, c2, c3, c4, c5, a1, a2, a3, b4, b5, b6, b7, b8, b9)) : wpX_stuckAt post (k0, k1, k2, k3, k4, k5, a1, a2, a3, a4, a5, a6, a7, a8, a9) (nI i) (nI t) := by
  have hle : lo_sm (lo_may C A H) (lo_lastN C 4) 2401 ≤ 2401 := lo_sum_le 2401
  unfold wpX_stuckAt
  dsimp only
  refine br_f (nI_pos (by omega)) (br_t (nI_lt (b := 4) ht (by omega)) (lo_findR hR (fun c1 c2 c3 c4 c5 b4 b5 b6 b7 b8 b9 h h' => ?_)))
  have e2 : c2 = nI (lo_sm (lo_may C A H) (lo_lastN C 4) 2401) := h.2.2.1
  subst e2
  obtain ⟨S, g1, g2, g3⟩ := h.2.2.2.2.2.2.1 i hi
  dsimp only
  refine br_f (nI_pos (by omega)) (br_t (nI_lt hi (by omega)) ⟨pk_in i 2401 (by omega), ?_⟩)
  rw [nI_clamp (by omega), g3]
  exact lo_doneIn g1 ht (hp _ _ _ _ _ _ _ _ _ _ _ S h' g1 g2)
theorem lo_stuckAt0 {post : Int32 → St2 → Prop} {i t : Nat} (hR : lo_Rd C A H k0 k1 k2 k3 k4 k5 a1 a2 a3 a4 a5 a6 a7 a8) (ht : t < 4) (hi : i = lo_sm (lo_may C A H) (lo_lastN C 4) 2401)
    (hp : ∀ c1 c2 c3 c4 c5 b4 b5 b6 b7 b8 b9, lo_Rd C A H 1 c1 c2 c3 c4 c5 a1 a2 a3 b4 b5 b6 b7 b8 → post (-4) (1, c1, c2, c3, c4, c5, a1, a2, a3, b4, b5, b6, b7, b8, b9)) : wpX_stuckAt post (k0, k1, k2, k3, k4, k5, a1, a2, a3, a4, a5, a6, a7, a8, a9) (nI i) (nI t) := by
  have hle : lo_sm (lo_may C A H) (lo_lastN C 4) 2401 ≤ 2401 := lo_sum_le 2401
  unfold wpX_stuckAt
  dsimp only
  refine br_f (nI_pos (by omega)) (br_t (nI_lt (b := 4) ht (by omega)) (lo_findR hR (fun c1 c2 c3 c4 c5 b4 b5 b6 b7 b8 b9 h h' => ?_)))
  have e2 : c2 = nI (lo_sm (lo_may C A H) (lo_lastN C 4) 2401) := h.2.2.1
  subst e2
  exact br_f (nI_pos (by omega)) (br_f (nI_nlt (by omega) (by omega)) (hp _ _ _ _ _ _ _ _ _ _ _ h'))
theorem lo_drop {post : Int32 → St2 → Prop} {t x : Nat} (ht : t < 4) (hx : x ≤ 6) (h1 : a1 t = nI x) (hp : ∀ u, post (if x = 0 then -4 else nI x - 1) u) : wpX_drop post (k0, k1, k2, k3, k4, k5, a1, a2, a3, a4, a5, a6, a7, a8, a9) (nI t) := by
  refine br_f (nI_pos (by omega)) (br_t (nI_lt (b := 4) ht (by omega)) ⟨pk_in t 4 ht, ?_⟩)
  rw [nI_clamp (by omega), h1]
  refine pk_eq x 0 (fun z => ?_) (fun z => ⟨pk_in t 4 ht, pk_in t 4 ht, nm_e ⟨pk_in t 4 ht, ?_⟩⟩)
  · have := hp (k0, k1, k2, k3, k4, k5, a1, a2, a3, a4, a5, a6, a7, a8, a9)
    rw [if_pos z] at this
    exact this
  · have e : nI x - 1 = nI (x - 1) := pk_sub (b := 1) (by omega)
    have hp' := hp
    rw [if_neg z, e] at hp'
    rw [e, lo_i8 (by omega)]
    refine ek_v (P := fun v => post v _) (pk_us) (hp' _)
end
end
section
/-! ===== take, give; rows of actions as the law keeps them ===== -/
def lo_nib (r k : Nat) : Nat := r / 2 ^ (4 * k) % 16
def lo_step (h a : Nat) : Nat := if a < 8 then h ||| 2 ^ a else h &&& (255 - 2 ^ (a - 8))
def lo_hl (r : Nat) : Nat → Nat
  | 0 => 0
  | k + 1 => lo_step (lo_hl r k) (lo_nib r k)
theorem lo_step_lt : ∀ h, h < 8 → ∀ a, a < 16 → a % 8 < 3 → lo_step h a < 8 := by decide +kernel
theorem lo_step_t : ∀ h, h < 8 → ∀ a, a < 8 → a % 8 < 3 → nI h ||| ((1 : Int32) <<< (nI a &&& 31)) = nI (lo_step h a) := by decide +kernel
theorem lo_step_g : ∀ h, h < 8 → ∀ a, a < 16 → a % 8 < 3 → 8 ≤ a → nI h &&& (((1 : Int32) <<< ((nI a - 8) &&& 31)) ^^^ (-1)) = nI (lo_step h a) := by decide +kernel
theorem lo_nib_lt (r k : Nat) : lo_nib r k < 16 := Nat.mod_lt _ (by omega)
theorem lo_hl_lt {r : Nat} : ∀ n, (∀ i, i < n → lo_nib r i % 8 < 3) → lo_hl r n < 8
  | 0, _ => by show 0 < 8; omega
  | n + 1, h => lo_step_lt _ (lo_hl_lt n (fun i hi => h i (by omega))) _ (lo_nib_lt r n) (h n (by omega))
theorem lo_nib_lo {r a x k : Nat} (hk : k < x) : lo_nib (r + a * 2 ^ (4 * x)) k = lo_nib r k := by
  have e : 2 ^ (4 * x) = 2 ^ (4 * k) * (16 * 2 ^ (4 * (x - k - 1))) := by
    rw [show (16 : Nat) = 2 ^ 4 from rfl, ← Nat.pow_add, ← Nat.pow_add]
    congr 1
    omega
  unfold lo_nib
  rw [e, Nat.mul_left_comm a (2 ^ (4 * k)), Nat.mul_left_comm a 16, Nat.add_mul_div_left _ _ (Nat.two_pow_pos _), Nat.add_mul_mod_self_left]
theorem lo_nib_hi {r a x : Nat} (hr : r < 2 ^ (4 * x)) (ha : a < 16) : lo_nib (r + a * 2 ^ (4 * x)) x = a := by
  unfold lo_nib
  rw [Nat.add_mul_div_right _ _ (Nat.two_pow_pos _), Nat.div_eq_of_lt hr, Nat.zero_add, Nat.mod_eq_of_lt ha]
theorem lo_hl_lo {r a x : Nat} : ∀ n, n ≤ x → lo_hl (r + a * 2 ^ (4 * x)) n = lo_hl r n
  | 0, _ => rfl
  | n + 1, h => by
    rw [lo_hl, lo_hl, lo_hl_lo n (by omega), lo_nib_lo (by omega)]
/-- a thread's row in the arrays -/
def lo_Th (t x r : Nat) (a1 a2 a3 : Nat → Int32) : Prop :=
  x ≤ 5 ∧ r < 2 ^ (4 * x) ∧ a1 t = nI x ∧ (∀ i, i < x → lo_nib r i % 8 < 3 ∧ a2 (6 * t + i) = lo_ac (lo_nib r i)) ∧ (∀ i, i < 7 → a3 (7 * t + i) = nI (if i ≤ x then lo_hl r i else 0))
theorem lo_Th_put {t x r a : Nat} {a1 a2 a3 : Nat → Int32} (h : lo_Th t x r a1 a2 a3) (hx : x < 5) (ha : a < 16) (ha3 : a % 8 < 3) :
    lo_Th t (x + 1) (r + a * 2 ^ (4 * x)) (upd a1 t (nI (x + 1))) (upd a2 (6 * t + x) (lo_ac a)) (upd a3 (7 * t + x + 1) (nI (lo_step (lo_hl r x) a))) := by
  obtain ⟨h1, h2, h3, h4, h5⟩ := h
  refine ⟨by omega, ?_, pk_us, fun i hi => ?_, fun i hi => ?_⟩
  · have e : 2 ^ (4 * (x + 1)) = 16 * 2 ^ (4 * x) := by
      rw [show 4 * (x + 1) = 4 + 4 * x by omega, Nat.pow_add]
    have : a * 2 ^ (4 * x) ≤ 15 * 2 ^ (4 * x) := Nat.mul_le_mul_right _ (by omega)
    omega
  · by_cases e : i = x
    · subst e
      rw [lo_nib_hi h2 ha, pk_us]
      exact ⟨ha3, rfl⟩
    · rw [lo_nib_lo (by omega), pk_un (by omega)]
      exact h4 i (by omega)
  · by_cases e : i = x + 1
    · subst e
      rw [← Nat.add_assoc, pk_us, if_pos (Nat.le_refl _), lo_hl, lo_hl_lo x (Nat.le_refl x), lo_nib_hi h2 ha]
    · rw [pk_un (by omega), h5 i hi]
      by_cases g : i ≤ x
      · rw [if_pos g, if_pos (by omega), lo_hl_lo i g]
      · rw [if_neg g, if_neg (by omega)]
theorem lo_Th_other {t t' x x' r : Nat} {a1 a2 a3 : Nat → Int32} {v1 v2 v3 : Int32} (h : lo_Th t x r a1 a2 a3) (hn : t ≠ t') (hx : x' < 6) :
    lo_Th t x r (upd a1 t' v1) (upd a2 (6 * t' + x') v2) (upd a3 (7 * t' + x' + 1) v3) := by
  obtain ⟨h1, h2, h3, h4, h5⟩ := h
  refine ⟨h1, h2, ?_, fun i hi => ?_, fun i hi => ?_⟩
  · rw [pk_un hn]
    exact h3
  · rw [pk_un (by omega)]
    exact h4 i hi
  · rw [pk_un (by omega)]
    exact h5 i hi
theorem lo_Th_0 (t : Nat) : lo_Th t 0 0 (fun _ => 0) (fun _ => 0) (fun _ => 0) := by
  refine ⟨by omega, by decide, rfl, fun i hi => absurd hi (by omega), fun i hi => ?_⟩
  by_cases e : i = 0
  · subst e
    rfl
  · rw [if_neg (by omega)]
    rfl
theorem lo_gl : ∀ l, l < 3 → ((-1 : Int32) - nI l).toInt8.toInt32 = lo_ac (8 + l) := by decide +kernel
theorem lo_give_set : ∀ h, h < 8 → ∀ l, l < 3 → (nI h &&& (((1 : Int32) <<< (nI l &&& 31)) ^^^ (-1))).toInt8.toInt32 = nI (lo_step h (8 + l)) := by decide +kernel
theorem lo_take_set : ∀ h, h < 8 → ∀ l, l < 3 → (nI h ||| ((1 : Int32) <<< (nI l &&& 31))).toInt8.toInt32 = nI (lo_step h l) := by decide +kernel
section
variable {k0 k1 k2 k3 k4 k5 : Int32} {a1 a2 a3 a4 a5 a6 a7 a8 a9 : Nat → Int32}
theorem lo_put {post : Int32 → St2 → Prop} {t x : Nat} {p1 p2 v1 v2 : Int32} (ht : t < 4) (hx : x < 6) (h1 : a1 t = nI x) (e1 : p1.toInt8.toInt32 = v1) (e2 : p2.toInt8.toInt32 = v2)
    (hp : post (nI (x + 1)) (0, k1, k2, k3, k4, k5, upd a1 t (nI (x + 1)), upd a2 (6 * t + x) v1, upd a3 (7 * t + x + 1) v2, a4, a5, a6, a7, a8, a9)) : wpX_put post (k0, k1, k2, k3, k4, k5, a1, a2, a3, a4, a5, a6, a7, a8, a9) (nI t) p1 p2 := by
  have i6 : (6 : Int32) * nI t + nI x = nI (6 * t + x) := lo_ix (c := 6)
  have i7 : (7 : Int32) * nI t + nI x + 1 = nI (7 * t + x + 1) := by
    rw [show (7 : Int32) * nI t + nI x = nI (7 * t + x) from lo_ix (c := 7), nI_1]
  have u2 : upd a2 ((6 : Int32) * nI t + nI x).toNatClampNeg p1.toInt8.toInt32 = upd a2 (6 * t + x) v1 := by rw [i6, nI_clamp (by omega), e1]
  have u3 : upd a3 ((7 : Int32) * nI t + nI x + 1).toNatClampNeg p2.toInt8.toInt32 = upd a3 (7 * t + x + 1) v2 := by rw [i7, nI_clamp (by omega), e2]
  have u1 : upd a1 (nI t).toNatClampNeg (a1 (nI t).toNatClampNeg + 1).toInt8.toInt32 = upd a1 t (nI (x + 1)) := by rw [nI_clamp (by omega), h1, nI_1, lo_i8 (by omega)]
  refine ⟨pk_in t 4 ht, nm_r (show a1 (nI t).toNatClampNeg = nI x by rw [nI_clamp (by omega), h1]) ⟨?_, nm_r u2 ⟨?_, nm_r u3 ⟨pk_in t 4 ht, pk_in t 4 ht, nm_r u1 ⟨pk_in t 4 ht, ?_⟩⟩⟩⟩⟩
  · rw [i6]
    exact vp_in_nI (by omega) (by omega)
  · rw [i7]
    exact vp_in_nI (by omega) (by omega)
  · rw [nI_clamp (by omega), pk_us]
    exact hp
theorem lo_badArgs {post : Int32 → Prop} {t l : Nat} (ht : t < 4) (hl : l < 5) (hp : post 0) : wpX_badArguments post (k0, k1, k2, k3, k4, k5, a1, a2, a3, a4, a5, a6, a7, a8, a9) (nI t) (nI l) :=
  br_f (nI_pos (by omega)) (br_f (nI_ge (b := 4) ht (by omega)) (br_f (nI_pos (by omega)) (br_t (nI_lt (b := 5) hl (by omega)) hp)))
theorem lo_heldR {post : Int32 → Prop} {t i h : Nat} (ht : t < 4) (hi : i < 7) (h3 : a3 (7 * t + i) = nI h) (hp : post (nI h)) : wpX_heldAfter post (k0, k1, k2, k3, k4, k5, a1, a2, a3, a4, a5, a6, a7, a8, a9) (nI t) (nI i) := by
  have e : (7 : Int32) * nI t + nI i = nI (7 * t + i) := lo_ix (c := 7)
  refine ⟨?_, ?_⟩
  · rw [e]
    exact vp_in_nI (by omega) (by omega)
  · rw [e, nI_clamp (by omega), h3]
    exact hp
theorem lo_take {post : Int32 → St2 → Prop} {t x r l : Nat} (ht : t < 4) (hl : l < 3) (hT : lo_Th t x r a1 a2 a3) (hx : x < 5) (hbit : lo_hl r x / 2 ^ l % 2 = 0)
    (hp : post (nI (x + 1)) (0, k1, k2, k3, k4, k5, upd a1 t (nI (x + 1)), upd a2 (6 * t + x) (lo_ac l), upd a3 (7 * t + x + 1) (nI (lo_step (lo_hl r x) l)), a4, a5, a6, a7, a8, a9)) : wpX_take post (k0, k1, k2, k3, k4, k5, a1, a2, a3, a4, a5, a6, a7, a8, a9) (nI t) (nI l) := by
  have hh := lo_hl_lt x (fun i hi => (hT.2.2.2.1 i hi).1)
  have h1 := hT.2.2.1
  have h3 := hT.2.2.2.2 x (by omega)
  rw [if_pos (Nat.le_refl x)] at h3
  unfold wpX_take
  dsimp only
  refine lo_badArgs ht (by omega) (br_t rfl ⟨pk_in t 4 ht, ?_⟩)
  rw [nI_clamp (by omega), h1]
  refine br_f (fun z => ?_) ⟨pk_in t 4 ht, lo_heldR ht (by omega) h3 ?_⟩
  · have := (nI_eq (b := 6) (by omega) (by omega)).mp z
    omega
  · rw [lo_bit (by omega) (by omega)]
    refine br_f (fun z => ?_) (lo_put ht (by omega) h1 (show (nI l).toInt8.toInt32 = lo_ac l by rw [lo_i8 (by omega), lo_ac_t (by omega)]) (lo_take_set _ hh l hl) hp)
    have := (nI_eq (b := 1) (by omega) (by omega)).mp z
    omega
theorem lo_give {post : Int32 → St2 → Prop} {t x r l : Nat} (ht : t < 4) (hl : l < 3) (hT : lo_Th t x r a1 a2 a3) (hx : x < 5) (hbit : lo_hl r x / 2 ^ l % 2 = 1)
    (hp : post (nI (x + 1)) (0, k1, k2, k3, k4, k5, upd a1 t (nI (x + 1)), upd a2 (6 * t + x) (lo_ac (8 + l)), upd a3 (7 * t + x + 1) (nI (lo_step (lo_hl r x) (8 + l))), a4, a5, a6, a7, a8, a9)) : wpX_give post (k0, k1, k2, k3, k4, k5, a1, a2, a3, a4, a5, a6, a7, a8, a9) (nI t) (nI l) := by
  have hh := lo_hl_lt x (fun i hi => (hT.2.2.2.1 i hi).1)
  have h1 := hT.2.2.1
  have h3 := hT.2.2.2.2 x (by omega)
  rw [if_pos (Nat.le_refl x)] at h3
  unfold wpX_give
  dsimp only
  refine lo_badArgs ht (by omega) (br_t rfl ⟨pk_in t 4 ht, ?_⟩)
  rw [nI_clamp (by omega), h1]
  refine br_f (fun z => ?_) ⟨pk_in t 4 ht, lo_heldR ht (by omega) h3 ?_⟩
  · have := (nI_eq (b := 6) (by omega) (by omega)).mp z
    omega
  · rw [lo_bit (by omega) (by omega)]
    refine br_f (fun z => ?_) (lo_put ht (by omega) h1 (lo_gl l hl) (lo_give_set _ hh l hl) hp)
    have := (nI_eq (b := 0) (by omega) (by omega)).mp z
    omega
end
/-- the law's own held -/
theorem lo_held {post : Int32 → Prop} {r n : Nat} (hr : r < 2 ^ 31) (hn : n ≤ 7) (hv : ∀ i, i < n → lo_nib r i % 8 < 3) (hp : post (nI (lo_hl r n))) : wpL_held post () (nI r) (nI n) := by
  refine pk_loop (σ := Unit) (fun m i _ => wL_held_4 post (nI r) (nI n) m (nI (lo_hl r i)) (nI i)) (fun _ _ => True) n 0 () (by omega) trivial
    (fun m _ _ => pk_le n n (fun _ => hp) (fun z => absurd z (by omega))) ?_
  intro m i _ hi _ hw
  have hw' : wL_held_4 post (nI r) (nI n) m (nI (lo_step (lo_hl r i) (lo_nib r i))) (nI (i + 1)) := hw () trivial
  have hx : (nI r >>> (((4 : Int32) * nI i) &&& 31)) &&& 15 = nI (lo_nib r i) := by
    have e : (4 : Int32) * nI i = nI (4 * i) := pk_mul 4 i
    rw [e, lo_shr hr (by omega)]
    exact pk_andN (Nat.lt_of_le_of_lt (Nat.div_le_self _ _) (by omega)) 4 (by decide)
  have hh := lo_hl_lt i (fun k hk => hv k (by omega))
  have h16 := lo_nib_lt r i
  refine pk_le n i (fun z => absurd z (by omega)) (fun _ => nm_r hx (pk_le 8 (lo_nib r i) (fun g => nm_r (lo_step_g _ hh _ h16 (hv i hi) g) (nm_r (nI_1 i) hw')) (fun g => nm_r (lo_step_t _ hh _ g (hv i hi)) (nm_r (nI_1 i) hw'))))
end
section
/-! ===== the plain law: the ways on a grid ===== -/
def lo_r0 (R : Nat → Nat → Bool) : Nat → Nat
  | 0 => 1
  | j + 1 => if R 0 j = true then lo_r0 R j else 0
def lo_rs (L R : Nat → Nat → Bool) (i : Nat) (g : Nat → Nat) : Nat → Nat
  | 0 => if L i 0 = true then g 0 else 0
  | j + 1 => (if L i (j + 1) = true then g (j + 1) else 0) + (if R (i + 1) j = true then lo_rs L R i g j else 0)
/-- the ways to (i, j): L i j: the first may go on from there, R i j: the second -/
def lo_wy (L R : Nat → Nat → Bool) : Nat → Nat → Nat
  | 0 => lo_r0 R
  | i + 1 => lo_rs L R i (lo_wy L R i)
def lo_fL (L : Nat → Nat → Bool) (W : Nat → Nat → Nat) (c : Nat → Nat → Bool) : Nat → Nat → Nat
  | 0, _ => 0
  | i + 1, j => if c i j = true ∧ L i j = true then W i j else 0
def lo_fR (R : Nat → Nat → Bool) (W : Nat → Nat → Nat) (c : Nat → Nat → Bool) (i : Nat) : Nat → Nat
  | 0 => 0
  | j + 1 => if c i j = true ∧ R i j = true then W i j else 0
/-- the ways to (i, j) through the places that c names -/
def lo_qw (L R c : Nat → Nat → Bool) (i j : Nat) : Nat := (if i = 0 ∧ j = 0 then 1 else 0) + lo_fL L (lo_wy L R) c i j + lo_fR R (lo_wy L R) c i j
section
variable {L R c c' : Nat → Nat → Bool}
theorem lo_qw_full {i j : Nat} (hL : ∀ i', i = i' + 1 → c i' j = true) (hR : ∀ j', j = j' + 1 → c i j' = true) : lo_qw L R c i j = lo_wy L R i j := by
  cases i with
  | zero =>
    cases j with
    | zero => rfl
    | succ j =>
      have h := hR j rfl
      show (if 0 = 0 ∧ j + 1 = 0 then 1 else 0) + 0 + (if c 0 j = true ∧ R 0 j = true then lo_wy L R 0 j else 0) = if R 0 j = true then lo_wy L R 0 j else 0
      simp [h]
  | succ i =>
    cases j with
    | zero =>
      have h := hL i rfl
      show (if i + 1 = 0 ∧ 0 = 0 then 1 else 0) + (if c i 0 = true ∧ L i 0 = true then lo_wy L R i 0 else 0) + 0 = if L i 0 = true then lo_wy L R i 0 else 0
      simp [h]
    | succ j =>
      have h := hL i rfl
      have h' := hR j rfl
      show (if i + 1 = 0 ∧ j + 1 = 0 then 1 else 0) + (if c i (j + 1) = true ∧ L i (j + 1) = true then lo_wy L R i (j + 1) else 0) + (if c (i + 1) j = true ∧ R (i + 1) j = true then lo_wy L R (i + 1) j else 0) = (if L i (j + 1) = true then lo_wy L R i (j + 1) else 0) + (if R (i + 1) j = true then lo_wy L R (i + 1) j else 0)
      simp [h, h']
theorem lo_ite_le {P : Prop} [Decidable P] {a b : Nat} (h : a ≤ b) : (if P then a else 0) ≤ b := by
  split
  · exact h
  · exact Nat.zero_le _
theorem lo_pow_s (n : Nat) : 2 ^ (n + 1) = 2 ^ n + 2 ^ n := by rw [Nat.pow_succ]; omega
theorem lo_wy_le : ∀ i j, lo_wy L R i j ≤ 2 ^ (i + j)
  | 0, j => by
    induction j with
    | zero => exact Nat.le_refl 1
    | succ j ih =>
      have e := lo_pow_s (0 + j)
      have h : (if R 0 j = true then lo_wy L R 0 j else 0) ≤ 2 ^ (0 + j) := lo_ite_le ih
      show (if R 0 j = true then lo_wy L R 0 j else 0) ≤ 2 ^ (0 + j + 1)
      omega
  | i + 1, j => by
    have ihi := lo_wy_le i
    induction j with
    | zero =>
      have e := lo_pow_s i
      have h : (if L i 0 = true then lo_wy L R i 0 else 0) ≤ 2 ^ (i + 0) := lo_ite_le (ihi 0)
      show (if L i 0 = true then lo_wy L R i 0 else 0) ≤ 2 ^ (i + 1)
      rw [Nat.add_zero] at h
      omega
    | succ j ih =>
      have e := lo_pow_s (i + 1 + j)
      have h : (if L i (j + 1) = true then lo_wy L R i (j + 1) else 0) ≤ 2 ^ (i + (j + 1)) := lo_ite_le (ihi (j + 1))
      have h' : (if R (i + 1) j = true then lo_wy L R (i + 1) j else 0) ≤ 2 ^ (i + 1 + j) := lo_ite_le ih
      show (if L i (j + 1) = true then lo_wy L R i (j + 1) else 0) + (if R (i + 1) j = true then lo_wy L R (i + 1) j else 0) ≤ 2 ^ (i + 1 + j + 1)
      rw [show i + (j + 1) = i + 1 + j by omega] at h
      omega
theorem lo_qw_le {i j : Nat} : lo_qw L R c i j ≤ 2 ^ (i + j) := by
  cases i with
  | zero =>
    cases j with
    | zero => exact Nat.le_refl 1
    | succ j =>
      have e := lo_pow_s (0 + j)
      have h : (if c 0 j = true ∧ R 0 j = true then lo_wy L R 0 j else 0) ≤ 2 ^ (0 + j) := lo_ite_le (lo_wy_le 0 j)
      show 0 + 0 + (if c 0 j = true ∧ R 0 j = true then lo_wy L R 0 j else 0) ≤ 2 ^ (0 + j + 1)
      omega
  | succ i =>
    cases j with
    | zero =>
      have e := lo_pow_s i
      have h : (if c i 0 = true ∧ L i 0 = true then lo_wy L R i 0 else 0) ≤ 2 ^ (i + 0) := lo_ite_le (lo_wy_le i 0)
      rw [Nat.add_zero] at h
      show 0 + (if c i 0 = true ∧ L i 0 = true then lo_wy L R i 0 else 0) + 0 ≤ 2 ^ (i + 1)
      omega
    | succ j =>
      have e := lo_pow_s (i + 1 + j)
      have h : (if c i (j + 1) = true ∧ L i (j + 1) = true then lo_wy L R i (j + 1) else 0) ≤ 2 ^ (i + (j + 1)) := lo_ite_le (lo_wy_le i (j + 1))
      have h' : (if c (i + 1) j = true ∧ R (i + 1) j = true then lo_wy L R (i + 1) j else 0) ≤ 2 ^ (i + 1 + j) := lo_ite_le (lo_wy_le (i + 1) j)
      rw [show i + (j + 1) = i + 1 + j by omega] at h
      show 0 + (if c i (j + 1) = true ∧ L i (j + 1) = true then lo_wy L R i (j + 1) else 0) + (if c (i + 1) j = true ∧ R (i + 1) j = true then lo_wy L R (i + 1) j else 0) ≤ 2 ^ (i + 1 + j + 1)
      omega
theorem lo_qw_congr {i j : Nat} (h : ∀ a b, a < 7 → b < 7 → c' a b = c a b) (hi : i < 7) (hj : j < 7) : lo_qw L R c' i j = lo_qw L R c i j := by
  have eL : lo_fL L (lo_wy L R) c' i j = lo_fL L (lo_wy L R) c i j := by
    cases i with
    | zero => rfl
    | succ i => rw [lo_fL, lo_fL, h i j (by omega) hj]
  have eR : lo_fR R (lo_wy L R) c' i j = lo_fR R (lo_wy L R) c i j := by
    cases j with
    | zero => rfl
    | succ j => rw [lo_fR, lo_fR, h i j hi (by omega)]
  rw [lo_qw, lo_qw, eL, eR]
/-- one more place is gone on from -/
theorem lo_qw_add {i0 j0 i j : Nat} (h0 : c i0 j0 = false) (h1 : c' i0 j0 = true) (hs : ∀ a b, a < 7 → b < 7 → ¬ (a = i0 ∧ b = j0) → c' a b = c a b) (hi : i < 7) (hj : j < 7) :
    lo_qw L R c' i j = lo_qw L R c i j + (if i = i0 + 1 ∧ j = j0 ∧ L i0 j0 = true then lo_wy L R i0 j0 else 0) + (if i = i0 ∧ j = j0 + 1 ∧ R i0 j0 = true then lo_wy L R i0 j0 else 0) := by
  have eL : lo_fL L (lo_wy L R) c' i j = lo_fL L (lo_wy L R) c i j + (if i = i0 + 1 ∧ j = j0 ∧ L i0 j0 = true then lo_wy L R i0 j0 else 0) := by
    cases i with
    | zero =>
      rw [if_neg (by omega)]
      rfl
    | succ i =>
      rw [lo_fL, lo_fL]
      by_cases e : i = i0 ∧ j = j0
      · obtain ⟨e1, e2⟩ := e
        subst e1 e2
        simp [h0, h1]
      · rw [hs i j (by omega) hj e, if_neg (show ¬ (i + 1 = i0 + 1 ∧ j = j0 ∧ L i0 j0 = true) from fun g => e ⟨by omega, g.2.1⟩)]
        rfl
  have eR : lo_fR R (lo_wy L R) c' i j = lo_fR R (lo_wy L R) c i j + (if i = i0 ∧ j = j0 + 1 ∧ R i0 j0 = true then lo_wy L R i0 j0 else 0) := by
    cases j with
    | zero =>
      rw [if_neg (by omega)]
      rfl
    | succ j =>
      rw [lo_fR, lo_fR]
      by_cases e : i = i0 ∧ j = j0
      · obtain ⟨e1, e2⟩ := e
        subst e1 e2
        simp [h0, h1]
      · rw [hs i j hi (by omega) e, if_neg (show ¬ (i = i0 ∧ j + 1 = j0 + 1 ∧ R i0 j0 = true) from fun g => e ⟨g.1, by omega⟩)]
        rfl
  rw [lo_qw, lo_qw, eL, eR]
  omega
/-- nobody goes behind his last action -/
theorem lo_wy_in {x y : Nat} (hL : ∀ i j, L i j = true → i < x) (hR : ∀ i j, R i j = true → j < y) : ∀ i j, lo_wy L R i j ≠ 0 → i ≤ x ∧ j ≤ y
  | 0, j => by
    induction j with
    | zero => exact fun _ => ⟨Nat.zero_le _, Nat.zero_le _⟩
    | succ j ih =>
      intro h
      have h' : (if R 0 j = true then lo_wy L R 0 j else 0) ≠ 0 := h
      by_cases g : R 0 j = true
      · have := hR 0 j g
        exact ⟨Nat.zero_le _, by omega⟩
      · rw [if_neg g] at h'
        exact absurd rfl h'
  | i + 1, j => by
    have ihi := lo_wy_in hL hR i
    induction j with
    | zero =>
      intro h
      have h' : (if L i 0 = true then lo_wy L R i 0 else 0) ≠ 0 := h
      by_cases g : L i 0 = true
      · have := hL i 0 g
        exact ⟨by omega, Nat.zero_le _⟩
      · rw [if_neg g] at h'
        exact absurd rfl h'
    | succ j ih =>
      intro h
      have h' : (if L i (j + 1) = true then lo_wy L R i (j + 1) else 0) + (if R (i + 1) j = true then lo_wy L R (i + 1) j else 0) ≠ 0 := h
      by_cases g : L i (j + 1) = true
      · by_cases g2 : lo_wy L R i (j + 1) = 0
        · rw [g2] at h'
          by_cases g3 : R (i + 1) j = true
          · rw [if_pos g3] at h'
            have h5 := ih (fun z => by rw [z] at h'; simp at h')
            have := hR (i + 1) j g3
            exact ⟨h5.1, by omega⟩
          · rw [if_neg g3] at h'
            simp at h'
        · have := ihi (j + 1) g2
          have := hL i (j + 1) g
          exact ⟨by omega, by omega⟩
      · rw [if_neg g] at h'
        by_cases g3 : R (i + 1) j = true
        · rw [if_pos g3] at h'
          have h5 := ih (fun z => by rw [z] at h'; simp at h')
          have := hR (i + 1) j g3
          exact ⟨h5.1, by omega⟩
        · rw [if_neg g3] at h'
          simp at h'
end
/-! ===== the states as a grid ===== -/
def lo_G (w S : Nat) : Prop := ∃ i j, i < 7 ∧ j < 7 ∧ S = w * i + j
theorem lo_p_c {P : Nat → Nat → Prop} (h0 : P 0 343) (h1 : P 1 49) (h2 : P 2 7) {p : Nat} (hp : p < 3) : P p (lo_w p) := by
  rcases (show p = 0 ∨ p = 1 ∨ p = 2 by omega) with e | e | e <;> subst e
  · exact h0
  · exact h1
  · exact h2
theorem lo_g_inj {p i j a b : Nat} (hp : p < 3) (hi : i < 7) (hj : j < 7) (ha : a < 7) (hb : b < 7) (h : lo_w p * i + j = lo_w p * a + b) : i = a ∧ j = b := by
  revert h
  exact lo_p_c (P := fun _ w => w * i + j = w * a + b → i = a ∧ j = b) (fun h => by omega) (fun h => by omega) (fun h => by omega) hp
theorem lo_g_lt {p i j : Nat} (hp : p < 3) (hi : i < 7) (hj : j < 7) : lo_w p * i + j < 2401 :=
  lo_p_c (P := fun _ w => w * i + j < 2401) (by omega) (by omega) (by omega) hp
theorem lo_st_eq {M : Nat → Nat → Bool} {s : Nat} {f : Nat → Nat} {S : Nat} : ∀ t, t ≤ 4 → lo_st M s f t S = f S + lo_sum (fun τ => if M s τ = true ∧ S = s + lo_w τ then f s else 0) t
  | 0, _ => rfl
  | t + 1, h => by
    have ih := lo_st_eq (M := M) (s := s) (f := f) (S := S) t (by omega)
    have hs := lo_st_self (M := M) (s := s) (f := f) t (by omega)
    show lo_st M s f (t + 1) S = f S + (lo_sum (fun τ => if M s τ = true ∧ S = s + lo_w τ then f s else 0) t + (if M s t = true ∧ S = s + lo_w t then f s else 0))
    rw [lo_st]
    by_cases g : M s t = true
    · rw [if_pos g]
      show (if S = s + lo_w t then lo_st M s f t S + lo_st M s f t s else lo_st M s f t S) = _
      rw [ih, hs]
      by_cases e : S = s + lo_w t
      · rw [if_pos e, if_pos ⟨g, e⟩]
        omega
      · rw [if_neg e, if_neg (fun z => e z.2)]
        omega
    · rw [if_neg g, if_neg (fun z => g z.1), ih]
      omega
theorem lo_sum_mono {f : Nat → Nat} {a : Nat} : ∀ b, a ≤ b → lo_sum f a ≤ lo_sum f b
  | 0, h => by
    have e : a = 0 := by omega
    subst e
    exact Nat.le_refl _
  | b + 1, h => by
    by_cases e : a = b + 1
    · subst e
      exact Nat.le_refl _
    · have := lo_sum_mono (f := f) (a := a) b (by omega)
      show lo_sum f a ≤ lo_sum f b + f b
      omega
theorem lo_sum4 {f : Nat → Nat} {p : Nat} (hp : p < 3) (h : ∀ t, t < 4 → t ≠ p → t ≠ 3 → f t = 0) : lo_sum f 4 = f p + f 3 := by
  show 0 + f 0 + f 1 + f 2 + f 3 = f p + f 3
  rcases (show p = 0 ∨ p = 1 ∨ p = 2 by omega) with e | e | e <;> subst e
  · rw [h 1 (by omega) (by omega) (by omega), h 2 (by omega) (by omega) (by omega)]
    omega
  · rw [h 0 (by omega) (by omega) (by omega), h 2 (by omega) (by omega) (by omega)]
    omega
  · rw [h 0 (by omega) (by omega) (by omega), h 1 (by omega) (by omega) (by omega)]
    omega
/-- who may go on, by the grid -/
def lo_Mg (p : Nat) (L R : Nat → Nat → Bool) (M : Nat → Nat → Bool) : Prop :=
  p < 3 ∧ (∀ i j, i < 7 → j < 7 → M (lo_w p * i + j) p = L i j) ∧ (∀ i j, i < 7 → j < 7 → M (lo_w p * i + j) 3 = R i j) ∧ (∀ S t, t < 4 → t ≠ p → t ≠ 3 → M S t = false) ∧ (∀ i j, L i j = true → i < 6) ∧ (∀ i j, R i j = true → j < 6)
section
variable {L R : Nat → Nat → Bool} {M : Nat → Nat → Bool} {p : Nat}
theorem lo_all_q (hM : lo_Mg p L R M) : ∀ s, s ≤ 2401 → (∀ i j, i < 7 → j < 7 → lo_all M s (lo_w p * i + j) = lo_qw L R (fun a b => decide (lo_w p * a + b < s)) i j) ∧ (∀ S, S < 2401 → ¬ lo_G (lo_w p) S → lo_all M s S = 0)
  | 0, _ => by
    obtain ⟨hp, hMp, hM3, hMo, hL, hR⟩ := hM
    have hw := lo_w_pos (t := p) (by omega)
    refine ⟨fun i j hi hj => ?_, fun S hS hg => ?_⟩
    · have eL : lo_fL L (lo_wy L R) (fun a b => decide (lo_w p * a + b < 0)) i j = 0 := by
        cases i with
        | zero => rfl
        | succ i => rw [lo_fL, if_neg (fun g => absurd g.1 (by simp))]
      have eR : lo_fR R (lo_wy L R) (fun a b => decide (lo_w p * a + b < 0)) i j = 0 := by
        cases j with
        | zero => rfl
        | succ j => rw [lo_fR, if_neg (fun g => absurd g.1 (by simp))]
      rw [lo_qw, eL, eR]
      show (if lo_w p * i + j = 0 then 1 else 0) = (if i = 0 ∧ j = 0 then 1 else 0) + 0 + 0
      by_cases e : i = 0 ∧ j = 0
      · obtain ⟨e1, e2⟩ := e
        subst e1 e2
        simp
      · rw [if_neg e, if_neg]
        intro z
        have h := lo_g_inj (a := 0) (b := 0) hp hi hj (by omega) (by omega) (by rw [z, Nat.mul_zero])
        exact e h
    · show (if S = 0 then 1 else 0) = 0
      rw [if_neg]
      intro z
      exact hg ⟨0, 0, by omega, by omega, by rw [z, Nat.mul_zero]⟩
  | s + 1, hs => by
    obtain ⟨ih1, ih2⟩ := lo_all_q hM s (by omega)
    obtain ⟨hp, hMp, hM3, hMo, hL, hR⟩ := hM
    have hst : ∀ S, lo_all M (s + 1) S = lo_all M s S + lo_sum (fun τ => if M s τ = true ∧ S = s + lo_w τ then lo_all M s s else 0) 4 := fun S => lo_st_eq 4 (Nat.le_refl 4)
    by_cases hg : lo_G (lo_w p) s
    · obtain ⟨i0, j0, hi0, hj0, es⟩ := hg
      have hv : lo_all M s s = lo_wy L R i0 j0 := by
        have h := ih1 i0 j0 hi0 hj0
        rw [← es] at h
        rw [h]
        have hw := lo_w_pos (t := p) (by omega)
        refine lo_qw_full (fun i' e => ?_) (fun j' e => ?_)
        · subst e
          apply decide_eq_true
          rw [es, Nat.mul_succ]
          omega
        · subst e
          apply decide_eq_true
          rw [es]
          omega
      have hsum : ∀ S, lo_sum (fun τ => if M s τ = true ∧ S = s + lo_w τ then lo_all M s s else 0) 4 = (if L i0 j0 = true ∧ S = s + lo_w p then lo_wy L R i0 j0 else 0) + (if R i0 j0 = true ∧ S = s + 1 then lo_wy L R i0 j0 else 0) := by
        intro S
        rw [lo_sum4 hp (fun t ht h1 h2 => by rw [if_neg]; intro z; rw [hMo s t ht h1 h2] at z; exact absurd z.1 (by decide))]
        have e1 : M s p = L i0 j0 := by rw [es]; exact hMp i0 j0 hi0 hj0
        have e2 : M s 3 = R i0 j0 := by rw [es]; exact hM3 i0 j0 hi0 hj0
        have e3 : lo_w 3 = 1 := rfl
        rw [e1, e2, e3, hv]
      refine ⟨fun i j hi hj => ?_, fun S hS hgS => ?_⟩
      · rw [hst, ih1 i j hi hj, hsum, lo_qw_add (c := fun a b => decide (lo_w p * a + b < s)) (c' := fun a b => decide (lo_w p * a + b < s + 1)) (i0 := i0) (j0 := j0) ?_ ?_ ?_ hi hj, Nat.add_assoc]
        · congr 1
          congr 1
          · by_cases g : L i0 j0 = true
            · have h6 := hL i0 j0 g
              have ei : lo_w p * i + j = s + lo_w p ↔ i = i0 + 1 ∧ j = j0 := by
                constructor
                · intro z
                  exact lo_g_inj hp hi hj (by omega) hj0 (by rw [z, es, Nat.mul_succ]; omega)
                · intro z
                  rw [z.1, z.2, es, Nat.mul_succ]
                  omega
              simp [g, ei]
            · rw [if_neg (fun z => g z.1), if_neg (fun z => g z.2.2)]
          · by_cases g : R i0 j0 = true
            · have h6 := hR i0 j0 g
              have ei : lo_w p * i + j = s + 1 ↔ i = i0 ∧ j = j0 + 1 := by
                constructor
                · intro z
                  exact lo_g_inj hp hi hj hi0 (by omega) (by rw [z, es]; omega)
                · intro z
                  rw [z.1, z.2, es]
                  omega
              simp [g, ei]
            · rw [if_neg (fun z => g z.1), if_neg (fun z => g z.2.2)]
        · apply decide_eq_false
          omega
        · apply decide_eq_true
          omega
        · intro a b ha hb hne
          have hne' : lo_w p * a + b ≠ s := fun z => hne (lo_g_inj hp ha hb hi0 hj0 (by rw [z, es]))
          apply decide_eq_decide.mpr
          omega
      · rw [hst, ih2 S hS hgS, hsum, if_neg, if_neg]
        · intro z
          have h6 := hR i0 j0 z.1
          exact hgS ⟨i0, j0 + 1, hi0, by omega, by rw [z.2, es]; omega⟩
        · intro z
          have h6 := hL i0 j0 z.1
          exact hgS ⟨i0 + 1, j0, by omega, hj0, by rw [z.2, es, Nat.mul_succ]; omega⟩
    · have hz : lo_all M s s = 0 := ih2 s (by omega) hg
      have e : lo_all M (s + 1) = lo_all M s := lo_st_0 hz 4 (Nat.le_refl 4)
      rw [e]
      refine ⟨fun i j hi hj => ?_, ih2⟩
      rw [ih1 i j hi hj]
      refine (lo_qw_congr (fun a b ha hb => ?_) hi hj).symm
      have hne' : lo_w p * a + b ≠ s := fun z => hg ⟨a, b, ha, hb, z.symm⟩
      apply decide_eq_decide.mpr
      omega
theorem lo_Mg_Bd (hM : lo_Mg p L R M) : lo_Bd M := by
  intro s t S hs ht hS
  have h1 : lo_st M s (lo_all M s) t S ≤ lo_all M (s + 1) S := by
    show lo_st M s (lo_all M s) t S ≤ lo_st M s (lo_all M s) 4 S
    rw [lo_st_eq t ht, lo_st_eq 4 (Nat.le_refl 4)]
    exact Nat.add_le_add_left (lo_sum_mono 4 ht) _
  obtain ⟨q1, q2⟩ := lo_all_q hM (s + 1) (by omega)
  by_cases hg : lo_G (lo_w p) S
  · obtain ⟨i, j, hi, hj, e⟩ := hg
    have h2 := q1 i j hi hj
    rw [← e] at h2
    have h3 : lo_qw L R (fun a b => decide (lo_w p * a + b < s + 1)) i j ≤ 2 ^ (i + j) := lo_qw_le
    have h4 : 2 ^ (i + j) ≤ 2 ^ 12 := Nat.pow_le_pow_right (by omega) (by omega)
    omega
  · have h2 := q2 S hS hg
    omega
theorem lo_all_self (hM : lo_Mg p L R M) {i j : Nat} (hi : i < 7) (hj : j < 7) : lo_all M (lo_w p * i + j) (lo_w p * i + j) = lo_wy L R i j := by
  have hp := hM.1
  have hl := lo_g_lt hp hi hj
  have hw := lo_w_pos (t := p) (by omega)
  rw [(lo_all_q hM _ (by omega)).1 i j hi hj]
  refine lo_qw_full (fun i' e => ?_) (fun j' e => ?_)
  · subst e
    apply decide_eq_true
    rw [Nat.mul_succ]
    omega
  · subst e
    apply decide_eq_true
    omega
theorem lo_all_end (hM : lo_Mg p L R M) {i j : Nat} (hi : i < 7) (hj : j < 7) : lo_all M 2401 (lo_w p * i + j) = lo_wy L R i j := by
  have hp := hM.1
  rw [(lo_all_q hM 2401 (Nat.le_refl _)).1 i j hi hj]
  refine lo_qw_full (fun i' e => ?_) (fun j' e => ?_)
  · apply decide_eq_true
    exact lo_g_lt hp (by omega) hj
  · apply decide_eq_true
    exact lo_g_lt hp hi (by omega)
end
end
section
/-! ===== the plain law: two threads, p and 3 ===== -/
def lo_X (p x y t : Nat) : Nat := if t = p then x else if t = 3 then y else 0
def lo_hx (x r i : Nat) : Nat := if i ≤ x then lo_hl r i else 0
def lo_An (Q : Nat → Nat) (t i : Nat) : Nat := lo_nib (Q t) i
def lo_Hn (C Q : Nat → Nat) (t i : Nat) : Nat := lo_hx (C t) (Q t) i
/-- may go on: x actions in the row r, i done, o held by the other -/
def lo_go (x r o i : Nat) : Bool := decide (i < x) && (decide (8 ≤ lo_nib r i) || decide (o / 2 ^ lo_nib r i % 2 = 0))
def lo_L (x y r1 r2 i j : Nat) : Bool := lo_go x r1 (lo_hx y r2 j) i
def lo_R (x y r1 r2 i j : Nat) : Bool := lo_go y r2 (lo_hx x r1 i) j
theorem lo_X_p {p x y : Nat} : lo_X p x y p = x := if_pos rfl
theorem lo_X_3 {p x y : Nat} (hp : p < 3) : lo_X p x y 3 = y := by
  rw [lo_X, if_neg (by omega), if_pos rfl]
theorem lo_X_o {p x y t : Nat} (h1 : t ≠ p) (h2 : t ≠ 3) : lo_X p x y t = 0 := by
  rw [lo_X, if_neg h1, if_neg h2]
theorem lo_Base_Th {C Q : Nat → Nat} {a1 a2 a3 : Nat → Int32} (h : ∀ t, t < 4 → lo_Th t (C t) (Q t) a1 a2 a3) : lo_Base C (lo_An Q) (lo_Hn C Q) a1 a2 a3 := by
  refine ⟨fun t ht => ?_, fun t i ht hi => ?_, fun t i ht hi => ?_⟩
  · obtain ⟨h1, h2, h3, h4, h5⟩ := h t ht
    exact ⟨by omega, h3⟩
  · obtain ⟨h1, h2, h3, h4, h5⟩ := h t ht
    exact ⟨lo_nib_lt _ _, (h4 i hi).2⟩
  · obtain ⟨h1, h2, h3, h4, h5⟩ := h t ht
    refine ⟨?_, h5 i hi⟩
    unfold lo_Hn lo_hx
    split
    · rename_i g
      have := lo_hl_lt (r := Q t) i (fun k hk => (h4 k (by omega)).1)
      omega
    · omega
theorem lo_dig {p i j t : Nat} (hp : p < 3) (hi : i < 7) (hj : j < 7) (ht : t < 4) : lo_d (lo_w p * i + j) t = lo_X p i j t := by
  unfold lo_d
  rcases (show p = 0 ∨ p = 1 ∨ p = 2 by omega) with e | e | e <;> subst e <;> rcases (show t = 0 ∨ t = 1 ∨ t = 2 ∨ t = 3 by omega) with e | e | e | e <;> subst e
  · show (343 * i + j) / 343 % 7 = i; omega
  · show (343 * i + j) / 49 % 7 = 0; omega
  · show (343 * i + j) / 7 % 7 = 0; omega
  · show (343 * i + j) / 1 % 7 = j; omega
  · show (49 * i + j) / 343 % 7 = 0; omega
  · show (49 * i + j) / 49 % 7 = i; omega
  · show (49 * i + j) / 7 % 7 = 0; omega
  · show (49 * i + j) / 1 % 7 = j; omega
  · show (7 * i + j) / 343 % 7 = 0; omega
  · show (7 * i + j) / 49 % 7 = 0; omega
  · show (7 * i + j) / 7 % 7 = i; omega
  · show (7 * i + j) / 1 % 7 = j; omega
theorem lo_oth2 {H : Nat → Nat → Nat} {s p : Nat} (hp : p < 3) (h0 : ∀ t, t < 4 → t ≠ p → t ≠ 3 → H t (lo_d s t) = 0) : lo_oth H s p 4 = H 3 (lo_d s 3) ∧ lo_oth H s 3 4 = H p (lo_d s p) := by
  rcases (show p = 0 ∨ p = 1 ∨ p = 2 by omega) with e | e | e <;> subst e
  · have h1 := h0 1 (by omega) (by omega) (by omega)
    have h2 := h0 2 (by omega) (by omega) (by omega)
    simp [lo_oth, h1, h2]
  · have h1 := h0 0 (by omega) (by omega) (by omega)
    have h2 := h0 2 (by omega) (by omega) (by omega)
    simp [lo_oth, h1, h2]
  · have h1 := h0 0 (by omega) (by omega) (by omega)
    have h2 := h0 1 (by omega) (by omega) (by omega)
    simp [lo_oth, h1, h2]
theorem lo_hx_0 (x r : Nat) : lo_hx x r 0 = 0 := if_pos (Nat.zero_le x)
/-- the picture of a law's two rows -/
def lo_M2 (p x y r1 r2 : Nat) : Nat → Nat → Bool := lo_may (lo_X p x y) (lo_An (lo_X p r1 r2)) (lo_Hn (lo_X p x y) (lo_X p r1 r2))
section
variable {p x y r1 r2 : Nat}
theorem lo_M2_g (hp : p < 3) (hx : x ≤ 5) (hy : y ≤ 5) : lo_Mg p (lo_L x y r1 r2) (lo_R x y r1 r2) (lo_M2 p x y r1 r2) := by
  have hoth : ∀ i j, i < 7 → j < 7 → lo_oth (lo_Hn (lo_X p x y) (lo_X p r1 r2)) (lo_w p * i + j) p 4 = lo_hx y r2 j ∧ lo_oth (lo_Hn (lo_X p x y) (lo_X p r1 r2)) (lo_w p * i + j) 3 4 = lo_hx x r1 i := by
    intro i j hi hj
    have h := lo_oth2 (H := lo_Hn (lo_X p x y) (lo_X p r1 r2)) (s := lo_w p * i + j) hp (fun t ht h1 h2 => by
      rw [lo_dig hp hi hj ht, lo_X_o h1 h2]
      exact lo_hx_0 _ _)
    rw [lo_dig hp hi hj (by omega), lo_dig hp hi hj (by omega), lo_X_p, lo_X_3 hp] at h
    unfold lo_Hn at h ⊢
    rw [lo_X_p, lo_X_p, lo_X_3 hp, lo_X_3 hp] at h
    exact h
  refine ⟨hp, fun i j hi hj => ?_, fun i j hi hj => ?_, fun S t ht h1 h2 => ?_, fun i j h => ?_, fun i j h => ?_⟩
  · unfold lo_M2 lo_may
    rw [(hoth i j hi hj).1, lo_dig hp hi hj (by omega), lo_X_p, lo_X_p]
    unfold lo_An
    rw [lo_X_p]
    rfl
  · unfold lo_M2 lo_may
    rw [(hoth i j hi hj).2, lo_dig hp hi hj (by omega), lo_X_3 hp, lo_X_3 hp]
    unfold lo_An
    rw [lo_X_3 hp]
    rfl
  · unfold lo_M2 lo_may
    rw [lo_X_o h1 h2]
    rfl
  · unfold lo_L lo_go at h
    rw [Bool.and_eq_true, decide_eq_true_eq] at h
    omega
  · unfold lo_R lo_go at h
    rw [Bool.and_eq_true, decide_eq_true_eq] at h
    omega
theorem lo_L_x {i j : Nat} (h : lo_L x y r1 r2 i j = true) : i < x := by
  unfold lo_L lo_go at h
  rw [Bool.and_eq_true, decide_eq_true_eq] at h
  exact h.1
theorem lo_R_y {i j : Nat} (h : lo_R x y r1 r2 i j = true) : j < y := by
  unfold lo_R lo_go at h
  rw [Bool.and_eq_true, decide_eq_true_eq] at h
  exact h.1
theorem lo_last2 (hp : p < 3) : lo_lastN (lo_X p x y) 4 = lo_w p * x + y := by
  show 0 + lo_X p x y 0 * 343 + lo_X p x y 1 * 49 + lo_X p x y 2 * 7 + lo_X p x y 3 * 1 = lo_w p * x + y
  rcases (show p = 0 ∨ p = 1 ∨ p = 2 by omega) with e | e | e <;> subst e
  · show 0 + x * 343 + 0 * 49 + 0 * 7 + y * 1 = 343 * x + y
    omega
  · show 0 + 0 * 343 + x * 49 + 0 * 7 + y * 1 = 49 * x + y
    omega
  · show 0 + 0 * 343 + 0 * 49 + x * 7 + y * 1 = 7 * x + y
    omega
end
/-! ===== sums along a one-to-one row of places ===== -/
theorem lo_sum_rm {f : Nat → Nat} {a : Nat} : ∀ n, a < n → lo_sum f n = lo_sum (fun k => if k = a then 0 else f k) n + f a
  | 0, h => absurd h (Nat.not_lt_zero a)
  | n + 1, h => by
    show lo_sum f n + f n = (lo_sum (fun k => if k = a then 0 else f k) n + (if n = a then 0 else f n)) + f a
    by_cases e : n = a
    · subst e
      rw [if_pos rfl, Nat.add_zero]
      congr 1
      exact lo_sum_ext n (fun i hi => by rw [if_neg (show ¬ i = n by omega)])
    · rw [if_neg e, lo_sum_rm (a := a) n (by omega)]
      omega
theorem lo_sum_inj {φ : Nat → Nat} : ∀ (m : Nat) (f : Nat → Nat) (n : Nat), (∀ k, k < m → φ k < n) → (∀ k l, k < m → l < m → φ k = φ l → k = l) → (∀ a, a < n → (∀ k, k < m → φ k ≠ a) → f a = 0) → lo_sum f n = lo_sum (fun k => f (φ k)) m
  | 0, f, n, _, _, h3 => lo_sum_0 n (fun a ha => h3 a ha (fun k hk => absurd hk (Nat.not_lt_zero k)))
  | m + 1, f, n, h1, h2, h3 => by
    show lo_sum f n = lo_sum (fun k => f (φ k)) m + f (φ m)
    rw [lo_sum_rm (a := φ m) n (h1 m (by omega)), lo_sum_inj m (fun k => if k = φ m then 0 else f k) n (fun k hk => h1 k (by omega)) (fun k l hk hl => h2 k l (by omega) (by omega)) (fun a ha h => ?_)]
    · congr 1
      refine lo_sum_ext m (fun k hk => ?_)
      show (if φ k = φ m then 0 else f (φ k)) = f (φ k)
      rw [if_neg]
      intro z
      have := h2 k m (by omega) (by omega) z
      omega
    · show (if a = φ m then 0 else f a) = 0
      by_cases e : a = φ m
      · rw [if_pos e]
      · rw [if_neg e]
        refine h3 a ha (fun k hk => ?_)
        by_cases e2 : k = m
        · subst e2
          exact fun z => e z.symm
        · exact h k (by omega)
/-- over the states: over the grid -/
theorem lo_sum_grid {f : Nat → Nat} {p : Nat} (hp : p < 3) (h : ∀ S, S < 2401 → ¬ lo_G (lo_w p) S → f S = 0) : lo_sum f 2401 = lo_sum (fun k => f (lo_w p * (k / 7) + k % 7)) 49 := by
  refine lo_sum_inj (φ := fun k => lo_w p * (k / 7) + k % 7) 49 f 2401 (fun k hk => lo_g_lt hp (by omega) (by omega)) (fun k l hk hl e => ?_) (fun a ha hn => h a ha ?_)
  · have := lo_g_inj hp (by omega) (by omega) (by omega) (by omega) e
    omega
  · rintro ⟨i, j, hi, hj, e⟩
    refine hn (7 * i + j) (by omega) ?_
    show lo_w p * ((7 * i + j) / 7) + (7 * i + j) % 7 = a
    rw [show (7 * i + j) / 7 = i by omega, show (7 * i + j) % 7 = j by omega, e]
/-! ===== counts ===== -/
section
variable {p x y r1 r2 : Nat}
def lo_hB (x y r1 r2 k : Nat) : Bool := decide (lo_wy (lo_L x y r1 r2) (lo_R x y r1 r2) (k / 7) (k % 7) ≠ 0)
def lo_sB (x y r1 r2 k : Nat) : Bool := lo_hB x y r1 r2 k && (!(lo_L x y r1 r2 (k / 7) (k % 7)) && (!(lo_R x y r1 r2 (k / 7) (k % 7)) && (decide (k / 7 < x) || decide (k % 7 < y))))
theorem lo_cmB_g (hp : p < 3) (hx : x ≤ 5) (hy : y ≤ 5) {S : Nat} (hS : S < 2401) (h : ¬ lo_G (lo_w p) S) : lo_cmB (lo_M2 p x y r1 r2) S = false := by
  unfold lo_cmB
  rw [(lo_all_q (lo_M2_g hp hx hy) S (by omega)).2 S hS h]
  rfl
theorem lo_cm2 (hp : p < 3) (hx : x ≤ 5) (hy : y ≤ 5) : lo_cm (lo_M2 p x y r1 r2) 2401 = lo_sum (fun k => (lo_hB x y r1 r2 k).toNat) 49 := by
  unfold lo_cm
  rw [lo_sum_grid hp (fun S hS hg => by rw [lo_cmB_g hp hx hy hS hg]; rfl)]
  refine lo_sum_ext 49 (fun k hk => ?_)
  unfold lo_cmB lo_hB
  rw [lo_all_self (lo_M2_g hp hx hy) (by omega) (by omega)]
theorem lo_any2 {M : Nat → Nat → Bool} {S : Nat} (hp : p < 3) (h : ∀ t, t < 4 → t ≠ p → t ≠ 3 → M S t = false) : lo_any M S 4 = (M S p || M S 3) := by
  show ((((false || M S 0) || M S 1) || M S 2) || M S 3) = (M S p || M S 3)
  rcases (show p = 0 ∨ p = 1 ∨ p = 2 by omega) with e | e | e <;> subst e
  · rw [h 1 (by omega) (by omega) (by omega), h 2 (by omega) (by omega) (by omega)]
    simp
  · rw [h 0 (by omega) (by omega) (by omega), h 2 (by omega) (by omega) (by omega)]
    simp
  · rw [h 0 (by omega) (by omega) (by omega), h 1 (by omega) (by omega) (by omega)]
    simp
theorem lo_wy2_in {i j : Nat} (h : lo_wy (lo_L x y r1 r2) (lo_R x y r1 r2) i j ≠ 0) : i ≤ x ∧ j ≤ y := lo_wy_in (fun _ _ => lo_L_x) (fun _ _ => lo_R_y) i j h
theorem lo_sm2 (hp : p < 3) (hx : x ≤ 5) (hy : y ≤ 5) : lo_sm (lo_M2 p x y r1 r2) (lo_lastN (lo_X p x y) 4) 2401 = lo_sum (fun k => (lo_sB x y r1 r2 k).toNat) 49 := by
  have hM := lo_M2_g (r1 := r1) (r2 := r2) hp hx hy
  unfold lo_sm
  rw [lo_sum_grid hp (fun S hS hg => ?_)]
  · refine lo_sum_ext 49 (fun k hk => ?_)
    have h7 : k / 7 < 7 := by omega
    have h7' : k % 7 < 7 := by omega
    congr 1
    unfold lo_smB lo_sB lo_hB
    rw [lo_all_self hM h7 h7', lo_any2 hp (hM.2.2.2.1 _), hM.2.1 _ _ h7 h7', hM.2.2.1 _ _ h7 h7', lo_last2 hp]
    by_cases hw : lo_wy (lo_L x y r1 r2) (lo_R x y r1 r2) (k / 7) (k % 7) = 0
    · rw [hw]
      rfl
    · have hin := lo_wy2_in hw
      rw [decide_eq_true hw, Bool.true_and, Bool.true_and, Bool.not_or, Bool.and_assoc]
      congr 1
      congr 1
      rw [← Bool.decide_or]
      apply decide_eq_decide.mpr
      constructor
      · intro g
        apply Decidable.byContradiction
        intro g2
        apply g
        have e1 : k / 7 = x := by omega
        have e2 : k % 7 = y := by omega
        rw [e1, e2]
      · intro g z
        have := lo_g_inj hp h7 h7' (by omega) (by omega) z
        omega
  · have := lo_cmB_g (r1 := r1) (r2 := r2) hp hx hy hS hg
    unfold lo_cmB at this
    unfold lo_smB
    rw [this, Bool.false_and]
    rfl
theorem lo_cB_M (C : Nat → Nat) (A H : Nat → Nat → Nat) (S : Nat) : lo_cB C A H S = decide (lo_all (lo_may C A H) 2401 S ≠ 0) := rfl
theorem lo_cB2 (hp : p < 3) (hx : x ≤ 5) (hy : y ≤ 5) {i j : Nat} (hi : i < 7) (hj : j < 7) : lo_cB (lo_X p x y) (lo_An (lo_X p r1 r2)) (lo_Hn (lo_X p x y) (lo_X p r1 r2)) (lo_w p * i + j) = decide (lo_wy (lo_L x y r1 r2) (lo_R x y r1 r2) i j ≠ 0) := by
  have := lo_all_end (lo_M2_g (r1 := r1) (r2 := r2) hp hx hy) hi hj
  rw [lo_cB_M]
  unfold lo_M2 at this
  rw [this]
theorem lo_cB2_g (hp : p < 3) (hx : x ≤ 5) (hy : y ≤ 5) {S : Nat} (hS : S < 2401) (h : ¬ lo_G (lo_w p) S) : lo_cB (lo_X p x y) (lo_An (lo_X p r1 r2)) (lo_Hn (lo_X p x y) (lo_X p r1 r2)) S = false := by
  have := (lo_all_q (lo_M2_g (r1 := r1) (r2 := r2) hp hx hy) 2401 (Nat.le_refl _)).2 S hS h
  rw [lo_cB_M]
  unfold lo_M2 at this
  rw [this]
  rfl
theorem lo_cmB2_in (hp : p < 3) (hx : x ≤ 5) (hy : y ≤ 5) {S : Nat} (hS : S < 2401) (h : lo_cmB (lo_M2 p x y r1 r2) S = true) : lo_d S p ≤ x ∧ lo_d S 3 ≤ y := by
  by_cases hg : lo_G (lo_w p) S
  · obtain ⟨i, j, hi, hj, e⟩ := hg
    unfold lo_cmB at h
    rw [e, lo_all_self (lo_M2_g hp hx hy) hi hj, decide_eq_true_eq] at h
    rw [e, lo_dig hp hi hj (by omega), lo_dig hp hi hj (by omega), lo_X_p, lo_X_3 hp]
    exact lo_wy2_in h
  · rw [lo_cmB_g hp hx hy hS hg] at h
    exact absurd h (by decide)
end
end
section
/-! ===== the plain law: rings of two ===== -/
theorem lo_e0 (k : Nat) : lo_e k 0 = k % 8 := by
  show k / 1 % 8 = k % 8
  rw [Nat.div_one]
theorem lo_e1 (k : Nat) : lo_e k 1 = k / 8 % 8 := rfl
theorem lo_e2 (k : Nat) : lo_e k 2 = k / 64 % 8 := rfl
theorem lo_e3 (k : Nat) : lo_e k 3 = k / 512 % 8 := rfl
/-- the code of p's place i and 3's place j, the others' 7 -/
def lo_code (p i j : Nat) : Nat := if p = 0 then i + 512 * j + 504 else if p = 1 then 8 * i + 512 * j + 455 else 64 * i + 512 * j + 63
def lo_P7 (p i j t : Nat) : Nat := if t = p then i else if t = 3 then j else 7
theorem lo_P7_p {p i j : Nat} : lo_P7 p i j p = i := if_pos rfl
theorem lo_P7_3 {p i j : Nat} (hp : p < 3) : lo_P7 p i j 3 = j := by
  rw [lo_P7, if_neg (by omega), if_pos rfl]
theorem lo_P7_o {p i j t : Nat} (h1 : t ≠ p) (h2 : t ≠ 3) : lo_P7 p i j t = 7 := by
  rw [lo_P7, if_neg h1, if_neg h2]
theorem lo_code_lt {p i j : Nat} (hi : i < 7) (hj : j < 7) : lo_code p i j < 4096 := by
  unfold lo_code
  split
  · omega
  · split <;> omega
theorem lo_e_code {p i j t : Nat} (hp : p < 3) (hi : i < 7) (hj : j < 7) (ht : t < 4) : lo_e (lo_code p i j) t = lo_P7 p i j t := by
  rcases (show p = 0 ∨ p = 1 ∨ p = 2 by omega) with e | e | e <;> subst e <;> rcases (show t = 0 ∨ t = 1 ∨ t = 2 ∨ t = 3 by omega) with e | e | e | e <;> subst e
  · rw [lo_e0]; show (i + 512 * j + 504) % 8 = i; omega
  · rw [lo_e1]; show (i + 512 * j + 504) / 8 % 8 = 7; omega
  · rw [lo_e2]; show (i + 512 * j + 504) / 64 % 8 = 7; omega
  · rw [lo_e3]; show (i + 512 * j + 504) / 512 % 8 = j; omega
  · rw [lo_e0]; show (8 * i + 512 * j + 455) % 8 = 7; omega
  · rw [lo_e1]; show (8 * i + 512 * j + 455) / 8 % 8 = i; omega
  · rw [lo_e2]; show (8 * i + 512 * j + 455) / 64 % 8 = 7; omega
  · rw [lo_e3]; show (8 * i + 512 * j + 455) / 512 % 8 = j; omega
  · rw [lo_e0]; show (64 * i + 512 * j + 63) % 8 = 7; omega
  · rw [lo_e1]; show (64 * i + 512 * j + 63) / 8 % 8 = 7; omega
  · rw [lo_e2]; show (64 * i + 512 * j + 63) / 64 % 8 = i; omega
  · rw [lo_e3]; show (64 * i + 512 * j + 63) / 512 % 8 = j; omega
theorem lo_code_of {p k : Nat} (hp : p < 3) (hk : k < 4096) (h : ∀ t, t < 3 → t ≠ p → lo_e k t = 7) : k = lo_code p (lo_e k p) (lo_e k 3) := by
  rcases (show p = 0 ∨ p = 1 ∨ p = 2 by omega) with e | e | e <;> subst e
  · have h1 := h 1 (by omega) (by omega)
    have h2 := h 2 (by omega) (by omega)
    rw [lo_e1] at h1
    rw [lo_e2] at h2
    rw [lo_e0, lo_e3]
    show k = k % 8 + 512 * (k / 512 % 8) + 504
    omega
  · have h1 := h 0 (by omega) (by omega)
    have h2 := h 2 (by omega) (by omega)
    rw [lo_e0] at h1
    rw [lo_e2] at h2
    rw [lo_e1, lo_e3]
    show k = 8 * (k / 8 % 8) + 512 * (k / 512 % 8) + 455
    omega
  · have h1 := h 0 (by omega) (by omega)
    have h2 := h 1 (by omega) (by omega)
    rw [lo_e0] at h1
    rw [lo_e1] at h2
    rw [lo_e2, lo_e3]
    show k = 64 * (k / 64 % 8) + 512 * (k / 512 % 8) + 63
    omega
theorem lo_code_inj {p i j a b : Nat} (hp : p < 3) (hi : i < 7) (hj : j < 7) (ha : a < 7) (hb : b < 7) (h : lo_code p i j = lo_code p a b) : i = a ∧ j = b := by
  have h1 := lo_e_code (t := p) hp hi hj (by omega)
  have h2 := lo_e_code (t := 3) hp hi hj (by omega)
  rw [h, lo_e_code hp ha hb (by omega), lo_P7_p, lo_P7_p] at h1
  rw [h, lo_e_code hp ha hb (by omega), lo_P7_3 hp, lo_P7_3 hp] at h2
  exact ⟨h1.symm, h2.symm⟩
section
variable {pl hd lk : Nat → Nat} {p : Nat}
theorem lo_hol2 {l : Nat} (hp : p < 3) (hpp : pl p < 7) (h3 : pl 3 < 7) (ho : ∀ t, t < 3 → t ≠ p → pl t = 7) : lo_hol pl hd l 4 = if hd 3 / 2 ^ l % 2 = 1 then 4 else if hd p / 2 ^ l % 2 = 1 then p + 1 else 0 := by
  rcases (show p = 0 ∨ p = 1 ∨ p = 2 by omega) with e | e | e <;> subst e
  · have h1 := ho 1 (by omega) (by omega)
    have h2 := ho 2 (by omega) (by omega)
    simp [lo_hol, h1, h2, h3, hpp]
  · have h1 := ho 0 (by omega) (by omega)
    have h2 := ho 2 (by omega) (by omega)
    simp [lo_hol, h1, h2, h3, hpp]
  · have h1 := ho 0 (by omega) (by omega)
    have h2 := ho 1 (by omega) (by omega)
    simp [lo_hol, h1, h2, h3, hpp]
theorem lo_rM2 (hp : p < 3) (ho : ∀ t, t < 3 → t ≠ p → pl t = 7) : lo_rM pl 4 = (if pl p < 7 then 1 else 0) + (if pl 3 < 7 then 1 else 0) := by
  rcases (show p = 0 ∨ p = 1 ∨ p = 2 by omega) with e | e | e <;> subst e
  · have h1 := ho 1 (by omega) (by omega)
    have h2 := ho 2 (by omega) (by omega)
    simp [lo_rM, h1, h2]
    split <;> split <;> rfl
  · have h1 := ho 0 (by omega) (by omega)
    have h2 := ho 2 (by omega) (by omega)
    simp [lo_rM, h1, h2]
    split <;> split <;> rfl
  · have h1 := ho 0 (by omega) (by omega)
    have h2 := ho 1 (by omega) (by omega)
    simp [lo_rM, h1, h2]
    split <;> split <;> rfl
theorem lo_rP2 (hp : p < 3) (hpp : pl p < 7) (h3 : pl 3 < 7) (ho : ∀ t, t < 3 → t ≠ p → pl t = 7) : lo_rP pl hd 4 = decide (hd p &&& hd 3 = 0) := by
  rcases (show p = 0 ∨ p = 1 ∨ p = 2 by omega) with e | e | e <;> subst e
  · have h1 := ho 1 (by omega) (by omega)
    have h2 := ho 2 (by omega) (by omega)
    simp [lo_rP, lo_rA, h1, h2, h3, hpp]
  · have h1 := ho 0 (by omega) (by omega)
    have h2 := ho 2 (by omega) (by omega)
    simp [lo_rP, lo_rA, h1, h2, h3, hpp]
  · have h1 := ho 0 (by omega) (by omega)
    have h2 := ho 1 (by omega) (by omega)
    simp [lo_rP, lo_rA, h1, h2, h3, hpp]
theorem lo_start2 (hp : p < 3) (hpp : pl p < 7) (ho : ∀ t, t < 3 → t ≠ p → pl t = 7) : lo_start pl = p := by
  have h7 : pl p ≠ 7 := by omega
  unfold lo_start
  rcases (show p = 0 ∨ p = 1 ∨ p = 2 by omega) with e | e | e <;> subst e
  · rw [if_pos h7]
  · have h1 := ho 0 (by omega) (by omega)
    rw [if_neg (fun z => z h1), if_pos h7]
  · have h1 := ho 0 (by omega) (by omega)
    have h2 := ho 1 (by omega) (by omega)
    rw [if_neg (fun z => z h1), if_neg (fun z => z h2), if_pos h7]
theorem lo_apart {a b l : Nat} (h : a &&& b = 0) (h1 : a / 2 ^ l % 2 = 1) (h2 : b / 2 ^ l % 2 = 1) : False := by
  have e1 : a.testBit l = true := by rw [Nat.testBit_eq_decide_div_mod_eq]; exact decide_eq_true h1
  have e2 : b.testBit l = true := by rw [Nat.testBit_eq_decide_div_mod_eq]; exact decide_eq_true h2
  have e3 : (a &&& b).testBit l = true := by rw [Nat.testBit_and, e1, e2]; rfl
  rw [h, Nat.zero_testBit] at e3
  exact absurd e3 (by decide)
theorem lo_ring2 (hp : p < 3) (hpp : pl p < 7) (h3 : pl 3 < 7) (ho : ∀ t, t < 3 → t ≠ p → pl t = 7) :
    lo_ring pl hd lk = (decide (hd p &&& hd 3 = 0) && (decide (hd 3 / 2 ^ lk p % 2 = 1) && decide (hd p / 2 ^ lk 3 % 2 = 1))) := by
  have eM : lo_rM pl 4 = 2 := by rw [lo_rM2 hp ho, if_pos hpp, if_pos h3]
  unfold lo_ring
  rw [lo_rP2 hp hpp h3 ho, eM, lo_start2 hp hpp ho]
  by_cases hd0 : hd p &&& hd 3 = 0
  · rw [decide_eq_true hd0, Bool.true_and, Bool.true_and, decide_eq_true (show 1 < 2 by omega), Bool.true_and]
    have g1 : ∀ l, lo_hol pl hd l 4 = if hd 3 / 2 ^ l % 2 = 1 then 4 else if hd p / 2 ^ l % 2 = 1 then p + 1 else 0 := fun l => lo_hol2 hp hpp h3 ho
    by_cases b1 : hd 3 / 2 ^ lk p % 2 = 1
    · have c1 : lo_hol pl hd (lk p) 4 = 4 := by rw [g1, if_pos b1]
      rw [lo_gr, if_neg (show ¬ 2 ≤ 0 by omega), c1, if_neg (show ¬ 4 = 0 by omega), if_neg (show ¬ 4 = p + 1 by omega), decide_eq_true b1, Bool.true_and]
      show lo_gr pl hd lk 2 p 4 3 1 = _
      by_cases b2 : hd p / 2 ^ lk 3 % 2 = 1
      · have b3 : ¬ hd 3 / 2 ^ lk 3 % 2 = 1 := fun z => lo_apart hd0 b2 z
        have c2 : lo_hol pl hd (lk 3) 4 = p + 1 := by rw [g1, if_neg b3, if_pos b2]
        rw [lo_gr, if_neg (show ¬ 2 ≤ 1 by omega), c2, if_neg (show ¬ p + 1 = 0 by omega), if_pos rfl, decide_eq_true b2]
        rfl
      · rw [decide_eq_false b2]
        by_cases b3 : hd 3 / 2 ^ lk 3 % 2 = 1
        · have c2 : lo_hol pl hd (lk 3) 4 = 4 := by rw [g1, if_pos b3]
          rw [lo_gr, if_neg (show ¬ 2 ≤ 1 by omega), c2, if_neg (show ¬ 4 = 0 by omega), if_neg (show ¬ 4 = p + 1 by omega)]
          rfl
        · have c2 : lo_hol pl hd (lk 3) 4 = 0 := by rw [g1, if_neg b3, if_neg b2]
          rw [lo_gr, if_neg (show ¬ 2 ≤ 1 by omega), c2, if_pos rfl]
    · rw [decide_eq_false b1, Bool.false_and]
      by_cases b2 : hd p / 2 ^ lk p % 2 = 1
      · have c1 : lo_hol pl hd (lk p) 4 = p + 1 := by rw [g1, if_neg b1, if_pos b2]
        rw [lo_gr, if_neg (show ¬ 2 ≤ 0 by omega), c1, if_neg (show ¬ p + 1 = 0 by omega), if_pos rfl]
        rfl
      · have c1 : lo_hol pl hd (lk p) 4 = 0 := by rw [g1, if_neg b1, if_neg b2]
        rw [lo_gr, if_neg (show ¬ 2 ≤ 0 by omega), c1, if_pos rfl]
  · rw [decide_eq_false hd0, Bool.false_and, Bool.false_and]
end
/-- the law's ring at (i, j) -/
def lo_rl (x y r1 r2 i j : Nat) : Bool := decide (i < x) && (decide (j < y) && (decide (lo_nib r1 i < 8) && (decide (lo_nib r2 j < 8) && (decide (lo_hl r2 j / 2 ^ lo_nib r1 i % 2 = 1) && (decide (lo_hl r1 i / 2 ^ lo_nib r2 j % 2 = 1) && decide (lo_hl r1 i &&& lo_hl r2 j = 0))))))
def lo_rg2 (p x y r1 r2 k : Nat) : Bool := lo_rg (lo_X p x y) (lo_An (lo_X p r1 r2)) (lo_Hn (lo_X p x y) (lo_X p r1 r2)) k
section
variable {p x y r1 r2 : Nat}
theorem lo_good2 {C : Nat → Nat} {A H : Nat → Nat → Nat} {i j : Nat} (hp : p < 3) (hi : i < 7) (hj : j < 7) : lo_good C A H (lo_code p i j) 4 = (lo_req C A H p i && lo_req C A H 3 j) := by
  have hi' : ¬ i = 7 := by omega
  have hj' : ¬ j = 7 := by omega
  have h0 := lo_e_code (t := 0) hp hi hj (by omega)
  have h1 := lo_e_code (t := 1) hp hi hj (by omega)
  have h2 := lo_e_code (t := 2) hp hi hj (by omega)
  have h3 := lo_e_code (t := 3) hp hi hj (by omega)
  unfold lo_good lo_good lo_good lo_good lo_good
  rw [h0, h1, h2, h3]
  rcases (show p = 0 ∨ p = 1 ∨ p = 2 by omega) with e | e | e <;> subst e <;> simp [lo_P7, hi', hj']
theorem lo_bit_ne {a l : Nat} (h : a / 2 ^ l % 2 = 1) : a ≠ 0 := by
  intro z
  rw [z, Nat.zero_div] at h
  exact absurd h (by decide)
theorem lo_rg_code (hp : p < 3) {i j : Nat} (hi : i < 7) (hj : j < 7) : lo_rg2 p x y r1 r2 (lo_code p i j) = lo_rl x y r1 r2 i j := by
  have ep := lo_e_code (t := p) hp hi hj (by omega)
  have e3 := lo_e_code (t := 3) hp hi hj (by omega)
  rw [lo_P7_p] at ep
  rw [lo_P7_3 hp] at e3
  unfold lo_rg2 lo_rg
  rw [lo_good2 hp hi hj, lo_ring2 (p := p) hp (by omega) (by omega) (fun t ht hn => by rw [lo_e_code hp hi hj (by omega), lo_P7_o hn (by omega)])]
  rw [ep, e3]
  unfold lo_req lo_An lo_Hn
  rw [lo_X_p, lo_X_p, lo_X_3 hp, lo_X_3 hp]
  unfold lo_rl
  by_cases c1 : i < x
  · by_cases c2 : j < y
    · have x1 : lo_hx x r1 i = lo_hl r1 i := if_pos (by omega)
      have x2 : lo_hx y r2 j = lo_hl r2 j := if_pos (by omega)
      rw [x1, x2]
      by_cases b1 : lo_hl r2 j / 2 ^ lo_nib r1 i % 2 = 1
      · by_cases b2 : lo_hl r1 i / 2 ^ lo_nib r2 j % 2 = 1
        · have z1 := lo_bit_ne b1
          have z2 := lo_bit_ne b2
          simp [c1, c2, b1, b2, z1, z2, Bool.and_assoc]
        · simp [b2]
      · simp [b1]
    · simp [c2]
  · simp [c1]
theorem lo_rg_of (hp : p < 3) {k : Nat} (hk : k < 4096) (h : lo_rg2 p x y r1 r2 k = true) : ∃ i j, i < 7 ∧ j < 7 ∧ k = lo_code p i j := by
  unfold lo_rg2 lo_rg at h
  rw [Bool.and_eq_true] at h
  obtain ⟨hg, hr⟩ := h
  have ho : ∀ t, t < 3 → t ≠ p → lo_e k t = 7 := by
    intro t ht hn
    rcases lo_good_t 4 hg t (by omega) with z | z
    · exact z
    · unfold lo_req at z
      rw [lo_X_o hn (by omega)] at z
      simp at z
  unfold lo_ring at hr
  rw [Bool.and_eq_true, Bool.and_eq_true, decide_eq_true_eq, lo_rM2 hp ho] at hr
  have h1 := hr.2.1
  have hp7 : lo_e k p < 7 := by
    apply Decidable.byContradiction
    intro z
    rw [if_neg z] at h1
    split at h1 <;> omega
  have h37 : lo_e k 3 < 7 := by
    apply Decidable.byContradiction
    intro z
    rw [if_neg z] at h1
    split at h1 <;> omega
  exact ⟨_, _, hp7, h37, lo_code_of hp hk ho⟩
/-- over the codes: over the grid -/
theorem lo_sum_code {g : Nat → Nat} (hp : p < 3) : lo_sum (fun k => if lo_rg2 p x y r1 r2 k = true then g k else 0) 4096 = lo_sum (fun k => if lo_rl x y r1 r2 (k / 7) (k % 7) = true then g (lo_code p (k / 7) (k % 7)) else 0) 49 := by
  rw [lo_sum_inj (φ := fun k => lo_code p (k / 7) (k % 7)) 49 (fun k => if lo_rg2 p x y r1 r2 k = true then g k else 0) 4096 (fun k hk => lo_code_lt (by omega) (by omega)) (fun k l hk hl e => ?_) (fun a ha hn => ?_)]
  · refine lo_sum_ext 49 (fun k hk => ?_)
    rw [lo_rg_code hp (by omega) (by omega)]
  · have := lo_code_inj hp (by omega) (by omega) (by omega) (by omega) e
    omega
  · show (if lo_rg2 p x y r1 r2 a = true then g a else 0) = 0
    rw [if_neg]
    intro z
    obtain ⟨i, j, hi, hj, e⟩ := lo_rg_of hp ha z
    refine hn (7 * i + j) (by omega) ?_
    show lo_code p ((7 * i + j) / 7) ((7 * i + j) % 7) = a
    rw [show (7 * i + j) / 7 = i by omega, show (7 * i + j) % 7 = j by omega, e]
theorem lo_meet2 {a b i j : Nat} (hp : p < 3) (ha : a < 7) (hb : b < 7) (hi : i < 7) (hj : j < 7) : lo_meet (lo_w p * a + b) (lo_code p i j) 4 = (decide (i = a) && decide (j = b)) := by
  have hi' : ¬ i = 7 := by omega
  have hj' : ¬ j = 7 := by omega
  have h0 := lo_e_code (t := 0) hp hi hj (by omega)
  have h1 := lo_e_code (t := 1) hp hi hj (by omega)
  have h2 := lo_e_code (t := 2) hp hi hj (by omega)
  have h3 := lo_e_code (t := 3) hp hi hj (by omega)
  have g0 := lo_dig (t := 0) hp ha hb (by omega)
  have g1 := lo_dig (t := 1) hp ha hb (by omega)
  have g2 := lo_dig (t := 2) hp ha hb (by omega)
  have g3 := lo_dig (t := 3) hp ha hb (by omega)
  unfold lo_meet lo_meet lo_meet lo_meet lo_meet
  rw [h0, h1, h2, h3, g0, g1, g2, g3]
  rcases (show p = 0 ∨ p = 1 ∨ p = 2 by omega) with e | e | e <;> subst e <;> simp [lo_P7, lo_X, hi', hj']
theorem lo_mt_iff {cm : Nat → Bool} {rk : Nat → Nat} {r : Nat} : ∀ n, lo_mt cm rk n r = true ↔ ∃ S, S < n ∧ cm S = true ∧ lo_meet S (rk r) 4 = true
  | 0 => ⟨fun h => absurd h (by simp [lo_mt]), fun ⟨S, h, _⟩ => absurd h (Nat.not_lt_zero S)⟩
  | n + 1 => by
    rw [lo_mt, Bool.or_eq_true, Bool.and_eq_true, lo_mt_iff n]
    constructor
    · rintro (⟨S, h1, h2, h3⟩ | ⟨h2, h3⟩)
      · exact ⟨S, by omega, h2, h3⟩
      · exact ⟨n, by omega, h2, h3⟩
    · rintro ⟨S, h1, h2, h3⟩
      by_cases e : S = n
      · subst e
        exact Or.inr ⟨h2, h3⟩
      · exact Or.inl ⟨S, by omega, h2, h3⟩
def lo_rB (x y r1 r2 k : Nat) : Bool := lo_rl x y r1 r2 (k / 7) (k % 7)
def lo_mB (x y r1 r2 k : Nat) : Bool := lo_rB x y r1 r2 k && lo_hB x y r1 r2 k
theorem lo_ite_toNat (b c : Bool) : (if b = true then c.toNat else 0) = (b && c).toNat := by cases b <;> cases c <;> rfl
theorem lo_rm2 (hp : p < 3) : lo_rm (lo_X p x y) (lo_An (lo_X p r1 r2)) (lo_Hn (lo_X p x y) (lo_X p r1 r2)) 4096 = lo_sum (fun k => (lo_rB x y r1 r2 k).toNat) 49 := by
  have h := lo_sum_code (x := x) (y := y) (r1 := r1) (r2 := r2) (g := fun _ => 1) hp
  have e1 : lo_rm (lo_X p x y) (lo_An (lo_X p r1 r2)) (lo_Hn (lo_X p x y) (lo_X p r1 r2)) 4096 = lo_sum (fun k => if lo_rg2 p x y r1 r2 k = true then 1 else 0) 4096 := by
    refine lo_sum_ext 4096 (fun k hk => ?_)
    show (lo_rg2 p x y r1 r2 k).toNat = _
    cases lo_rg2 p x y r1 r2 k <;> rfl
  rw [e1, h]
  refine lo_sum_ext 49 (fun k hk => ?_)
  unfold lo_rB
  cases lo_rl x y r1 r2 (k / 7) (k % 7) <;> rfl
theorem lo_mt2 (hp : p < 3) (hx : x ≤ 5) (hy : y ≤ 5) {i j : Nat} (hi : i < 7) (hj : j < 7) :
    lo_mt (lo_cB (lo_X p x y) (lo_An (lo_X p r1 r2)) (lo_Hn (lo_X p x y) (lo_X p r1 r2))) (fun k => k) 2401 (lo_code p i j) = decide (lo_wy (lo_L x y r1 r2) (lo_R x y r1 r2) i j ≠ 0) := by
  rw [← lo_cB2 hp hx hy hi hj, Bool.eq_iff_iff, lo_mt_iff]
  constructor
  · rintro ⟨S, h1, h2, h3⟩
    by_cases hg : lo_G (lo_w p) S
    · obtain ⟨a, b, ha, hb, e⟩ := hg
      rw [e, lo_meet2 hp ha hb hi hj, Bool.and_eq_true, decide_eq_true_eq, decide_eq_true_eq] at h3
      rw [e, ← h3.1, ← h3.2] at h2
      exact h2
    · rw [lo_cB2_g hp hx hy h1 hg] at h2
      exact absurd h2 (by decide)
  · intro h
    refine ⟨_, lo_g_lt hp hi hj, h, ?_⟩
    rw [lo_meet2 hp hi hj hi hj]
    simp
theorem lo_nMet2 (hp : p < 3) (hx : x ≤ 5) (hy : y ≤ 5) : lo_nMet (lo_X p x y) (lo_An (lo_X p r1 r2)) (lo_Hn (lo_X p x y) (lo_X p r1 r2)) = lo_sum (fun k => (lo_mB x y r1 r2 k).toNat) 49 := by
  have h := lo_sum_code (x := x) (y := y) (r1 := r1) (r2 := r2) (g := fun k => (lo_mt (lo_cB (lo_X p x y) (lo_An (lo_X p r1 r2)) (lo_Hn (lo_X p x y) (lo_X p r1 r2))) (fun k => k) 2401 k).toNat) hp
  have e1 : lo_nMet (lo_X p x y) (lo_An (lo_X p r1 r2)) (lo_Hn (lo_X p x y) (lo_X p r1 r2)) = lo_sum (fun k => if lo_rg2 p x y r1 r2 k = true then (lo_mt (lo_cB (lo_X p x y) (lo_An (lo_X p r1 r2)) (lo_Hn (lo_X p x y) (lo_X p r1 r2))) (fun k => k) 2401 k).toNat else 0) 4096 := rfl
  rw [e1, h]
  refine lo_sum_ext 49 (fun k hk => ?_)
  show (if lo_rl x y r1 r2 (k / 7) (k % 7) = true then (lo_mt (lo_cB (lo_X p x y) (lo_An (lo_X p r1 r2)) (lo_Hn (lo_X p x y) (lo_X p r1 r2))) (fun k => k) 2401 (lo_code p (k / 7) (k % 7))).toNat else 0) = _
  rw [lo_mt2 hp hx hy (by omega) (by omega), lo_ite_toNat]
  rfl
theorem lo_nSM2 (hp : p < 3) (hx : x ≤ 5) (hy : y ≤ 5) : lo_nSM (lo_X p x y) (lo_An (lo_X p r1 r2)) (lo_Hn (lo_X p x y) (lo_X p r1 r2)) = lo_sum (fun k => (lo_mB x y r1 r2 k).toNat) 49 := by
  unfold lo_nSM
  rw [lo_sum_grid hp (fun S hS hg => by rw [lo_cB2_g hp hx hy hS hg, Bool.false_and]; rfl)]
  refine lo_sum_ext 49 (fun k hk => ?_)
  have h7 : k / 7 < 7 := by omega
  have h7' : k % 7 < 7 := by omega
  congr 1
  rw [lo_cB2 hp hx hy h7 h7', Bool.and_comm]
  unfold lo_mB lo_hB
  congr 1
  have e2 : lo_sum (fun k_1 => if lo_rg (lo_X p x y) (lo_An (lo_X p r1 r2)) (lo_Hn (lo_X p x y) (lo_X p r1 r2)) k_1 = true then (lo_meet (lo_w p * (k / 7) + k % 7) k_1 4).toNat else 0) 4096 = lo_sum (fun l => if lo_rl x y r1 r2 (l / 7) (l % 7) = true then (lo_meet (lo_w p * (k / 7) + k % 7) (lo_code p (l / 7) (l % 7)) 4).toNat else 0) 49 := lo_sum_code (x := x) (y := y) (r1 := r1) (r2 := r2) (g := fun l => (lo_meet (lo_w p * (k / 7) + k % 7) l 4).toNat) hp
  rw [e2, lo_sum_one (a := k) hk]
  · rw [lo_meet2 hp h7 h7' h7 h7', lo_ite_toNat]
    unfold lo_rB
    cases lo_rl x y r1 r2 (k / 7) (k % 7) <;> simp
  · intro l hl hne
    rw [lo_meet2 hp h7 h7' (by omega) (by omega), lo_ite_toNat]
    have : ¬ (l / 7 = k / 7 ∧ l % 7 = k % 7) := by omega
    by_cases g : l / 7 = k / 7
    · have g2 : ¬ l % 7 = k % 7 := fun z => this ⟨g, z⟩
      simp [g2]
    · simp [g]
end
end
section
/-! ===== longs (rows wb_, pf_ out of kit/laws/BITS.to-paste) ===== -/
theorem wb_tb (n : Nat) : (lN n).toBitVec = BitVec.ofNat 64 n := rfl
theorem wb_inj {a b : Int64} (h : a.toBitVec = b.toBitVec) : a = b := Int64.toBitVec_inj.mp h
theorem wb_c : ∀ k, k < 64 → ((nI k).toInt64 &&& 63) = lN k := by decide +kernel
theorem wb_sm : ∀ k, k < 64 → (BitVec.ofNat 64 k).smod 64 = BitVec.ofNat 64 k := by decide +kernel
theorem wb_lt2 {a b : Nat} (h : a < b) : 2 ^ a < 2 ^ b := Nat.pow_lt_pow_right (by decide) h
theorem wb_shl (n : Nat) {k : Nat} (hk : k < 64) : lN n <<< ((nI k).toInt64 &&& 63) = lN (n * 2 ^ k) := by
  rw [wb_c k hk]
  apply wb_inj
  rw [Int64.toBitVec_shiftLeft, wb_tb, wb_tb, wb_tb, wb_sm k hk]
  apply BitVec.eq_of_toNat_eq
  rw [BitVec.shiftLeft_eq', BitVec.toNat_shiftLeft, BitVec.toNat_ofNat, BitVec.toNat_ofNat, BitVec.toNat_ofNat, Nat.mod_eq_of_lt (show k < 2 ^ 64 by omega), Nat.shiftLeft_eq, Nat.mul_mod, Nat.mod_mod, ← Nat.mul_mod]
theorem wb_and {a b : Nat} (ha : a < 2 ^ 64) (hb : b < 2 ^ 64) : lN a &&& lN b = lN (a &&& b) := by
  apply wb_inj
  rw [Int64.toBitVec_and, wb_tb, wb_tb, wb_tb]
  apply BitVec.eq_of_toNat_eq
  rw [BitVec.toNat_and, BitVec.toNat_ofNat, BitVec.toNat_ofNat, BitVec.toNat_ofNat, Nat.mod_eq_of_lt ha, Nat.mod_eq_of_lt hb, Nat.mod_eq_of_lt (Nat.and_lt_two_pow _ hb)]
theorem wb_or {a b : Nat} (ha : a < 2 ^ 64) (hb : b < 2 ^ 64) : lN a ||| lN b = lN (a ||| b) := by
  apply wb_inj
  rw [Int64.toBitVec_or, wb_tb, wb_tb, wb_tb]
  apply BitVec.eq_of_toNat_eq
  rw [BitVec.toNat_or, BitVec.toNat_ofNat, BitVec.toNat_ofNat, BitVec.toNat_ofNat, Nat.mod_eq_of_lt ha, Nat.mod_eq_of_lt hb, Nat.mod_eq_of_lt (Nat.or_lt_two_pow ha hb)]
theorem wb_mask {n k : Nat} (hn : n < 2 ^ 64) (hk : k < 64) : lN n &&& lN (2 ^ k - 1) = lN (n % 2 ^ k) := by
  rw [wb_and hn (by have := wb_lt2 hk; omega), Nat.and_two_pow_sub_one_eq_mod]
theorem wb_a1 {n : Nat} (hn : n < 2 ^ 64) : lN n &&& 1 = lN (n % 2) := wb_mask (k := 1) hn (by decide)
theorem pf_shr {a d : Nat} {D : Int64} (hD : (D.toBitVec.smod 64).toNat = d) (h : a < 2 ^ 62) : lN a >>> D = lN (a / 2 ^ d) := by
  have hd : a / 2 ^ d ≤ a := Nat.div_le_self _ _
  apply Int64.toInt_inj.mp
  have e : (lN a >>> D).toInt = (lN a).toInt >>> d := by
    rw [← hD]
    exact BitVec.toInt_sshiftRight ..
  rw [e, Int.shiftRight_eq_div_pow, pk_lT (by omega), pk_lT (by omega)]
  rfl
/-- a bit of a word -/
theorem lo_lbit {m k : Nat} (hm : m < 2 ^ 62) (hk : k < 64) : (lN m >>> ((nI k).toInt64 &&& 63)) &&& 1 = lN (m / 2 ^ k % 2) := by
  rw [wb_c k hk, pf_shr (d := k) (by rw [wb_tb, wb_sm k hk, BitVec.toNat_ofNat, Nat.mod_eq_of_lt (by omega)]) hm]
  exact wb_a1 (Nat.lt_of_le_of_lt (Nat.div_le_self _ _) (by omega))
theorem lo_lbitB {m k : Nat} : m / 2 ^ k % 2 = (m.testBit k).toNat := by
  rw [Nat.testBit_eq_decide_div_mod_eq]
  by_cases h : m / 2 ^ k % 2 = 1
  · rw [decide_eq_true h, h]
    rfl
  · rw [decide_eq_false h]
    show m / 2 ^ k % 2 = 0
    omega
theorem lo_lset {m k : Nat} (hm : m < 2 ^ 62) (hk : k < 62) : lN m ||| ((1 : Int64) <<< ((nI k).toInt64 &&& 63)) = lN (m ||| 2 ^ k) := by
  have e : (1 : Int64) <<< ((nI k).toInt64 &&& 63) = lN (2 ^ k) := by
    have := wb_shl 1 (k := k) (by omega)
    rw [Nat.one_mul] at this
    exact this
  rw [e]
  have h := wb_lt2 hk
  exact wb_or (by omega) (by omega)
theorem lo_badd (n : Nat) (b : Bool) : nI n + lo_b b = nI (n + b.toNat) := by
  cases b
  · exact nI_add n 0
  · exact nI_1 n
/-! ===== the law's end ===== -/
section
variable {post : Int32 → St0 → Prop} {mc ms kc ks : Nat} {k0 k1 k2 k3 k4 k5 : Int32} {a1 a2 a3 a4 a5 a6 a7 a8 a9 : Nat → Int32} {p x y r1 r2 : Nat}
theorem lo_951 (h1 : post 1 ()) (hp : p < 3) (hx : x ≤ 5) (ha : a1 p = nI x) : wL_lawOf_951 post mc ms (nI p) (nI x) kc ks k0 k1 k2 k3 k4 k5 a1 a2 a3 a4 a5 a6 a7 a8 a9 := by
  unfold wL_lawOf_951
  refine lo_reached7 ?_
  refine br_t rfl (lo_drop (t := p) (x := x) (by omega) (by omega) ha (fun u => ?_))
  obtain ⟨d0, d1, d2, d3, d4, d5, e1, e2, e3, e4, e5, e6, e7, e8, e9⟩ := u
  dsimp only
  refine pk_eq x 0 (fun z => br_t (by rw [if_pos z]) h1) (fun z => br_t (by rw [if_neg z]) h1)
theorem lo_903 {z0 : Int32} {n : Nat} (h1 : post 1 ()) (hp : p < 3) (hx : x ≤ 5) (hy : y ≤ 5) (hR : lo_Rd (lo_X p x y) (lo_An (lo_X p r1 r2)) (lo_Hn (lo_X p x y) (lo_X p r1 r2)) k0 k1 k2 k3 k4 k5 a1 a2 a3 a4 a5 a6 a7 a8) (hn : n = lo_sm (lo_M2 p x y r1 r2) (lo_lastN (lo_X p x y) 4) 2401) : wL_lawOf_903 post mc ms (nI p) 3 (nI x) (nI y) (nI n) z0 z0 kc ks k0 k1 k2 k3 k4 k5 a1 a2 a3 a4 a5 a6 a7 a8 a9 := by
  have hle : n ≤ 2401 := by rw [hn]; exact lo_sum_le 2401
  have ha : a1 p = nI x := by
    have := (hR.1.1 p (by omega)).2
    rw [lo_X_p] at this
    exact this
  unfold wL_lawOf_903
  refine br_t rfl (lo_stuckAt0 (t := 3) hR (by omega) hn (fun c1 c2 c3 c4 c5 b4 b5 b6 b7 b8 b9 hR1 => ?_))
  refine br_t rfl (pk_eq n 0 (fun z => lo_951 h1 hp hx ha) (fun z => ?_))
  refine lo_stuckAt1 (i := 0) (t := p) hR1 (by omega) (show 0 < lo_sm (lo_M2 p x y r1 r2) (lo_lastN (lo_X p x y) 4) 2401 by omega) (fun c1 c2 c3 c4 c5 b4 b5 b6 b7 b8 b9 S hR2 hS hc => ?_)
  have hin := lo_cmB2_in hp hx hy hS hc
  refine br_f (nI_nlt hin.1 (by omega)) (lo_stuckAt1 (i := 0) (t := 3) hR2 (by omega) (show 0 < lo_sm (lo_M2 p x y r1 r2) (lo_lastN (lo_X p x y) 4) 2401 by omega) (fun c1 c2 c3 c4 c5 b4 b5 b6 b7 b8 b9 S' hR3 hS' hc' => ?_))
  have hin' := lo_cmB2_in hp hx hy hS' hc'
  exact br_f (nI_nlt hin'.2 (by omega)) (lo_951 h1 hp hx ha)
theorem lo_829 {n2 n3 n4 : Nat} {b : Bool} (h1 : post 1 ()) (hp : p < 3) (hx : x ≤ 5) (hy : y ≤ 5) (hR : lo_Rd (lo_X p x y) (lo_An (lo_X p r1 r2)) (lo_Hn (lo_X p x y) (lo_X p r1 r2)) k0 k1 k2 k3 k4 k5 a1 a2 a3 a4 a5 a6 a7 a8) (hn2 : n2 = lo_sm (lo_M2 p x y r1 r2) (lo_lastN (lo_X p x y) 4) 2401) (hn3 : n3 = lo_sum (fun k => (lo_rB x y r1 r2 k).toNat) 49) (hn4 : n4 = lo_sum (fun k => (lo_mB x y r1 r2 k).toNat) 49)
    (hb : b = decide (lo_wy (lo_L x y r1 r2) (lo_R x y r1 r2) x y ≠ 0)) : wL_lawOf_829 post mc ms (nI p) 3 (nI x) (nI y) (nI n2) (nI n3) (nI n4) (lo_b b) kc ks k0 k1 k2 k3 k4 k5 a1 a2 a3 a4 a5 a6 a7 a8 a9 := by
  have hl3 : n3 ≤ 49 := by rw [hn3]; exact lo_sum_le 49
  have hl4 : n4 ≤ 49 := by rw [hn4]; exact lo_sum_le 49
  have hcf : lo_cB (lo_X p x y) (lo_An (lo_X p r1 r2)) (lo_Hn (lo_X p x y) (lo_X p r1 r2)) (lo_lastN (lo_X p x y) 4) = b := by
    rw [lo_last2 hp, lo_cB2 hp hx hy (by omega) (by omega), hb]
  have main : ∀ c1 c2 c3 c4 c5 b4 b5 b6 b7 b8 b9, lo_Rd (lo_X p x y) (lo_An (lo_X p r1 r2)) (lo_Hn (lo_X p x y) (lo_X p r1 r2)) 1 c1 c2 c3 c4 c5 a1 a2 a3 b4 b5 b6 b7 b8 → wL_lawOf_843 post mc ms (nI p) 3 (nI x) (nI y) (nI n2) (nI n3) (nI n4) (lo_b b) (lo_b b) kc ks 1 c1 c2 c3 c4 c5 a1 a2 a3 b4 b5 b6 b7 b8 b9 := by
    intro c1 c2 c3 c4 c5 b4 b5 b6 b7 b8 b9 hR1
    unfold wL_lawOf_843
    refine br_t rfl (lo_rings hR1 (fun c1 c2 c3 c4 c5 b4 b5 b6 b7 b8 b9 hR2 => br_t (by rw [lo_rm2 hp, hn3]) (lo_ringsMet hR2 (fun c1 c2 c3 c4 c5 b4 b5 b6 b7 b8 b9 hR3 => br_t (by rw [lo_nMet2 hp hx hy, hn4]) (lo_statesMet hR3 (fun c1 c2 c3 c4 c5 b4 b5 b6 b7 b8 b9 hR4 => br_t (by rw [lo_nSM2 hp hx hy, hn4]) (lo_soonest hR4 (fun c1 c2 c3 c4 c5 b4 b5 b6 b7 b8 b9 hR5 hS => ?_))))))))
    rw [lo_nSM2 hp hx hy, ← hn4] at hS
    rcases hS with ⟨z1, z2⟩ | ⟨z1, m, z2, z3⟩
    · exact br_t z2 (pk_eq n4 0 (fun _ => lo_903 h1 hp hx hy hR5 hn2) (fun z => absurd z1 z))
    · refine br_f (fun z => ?_) (pk_eq n4 0 (fun z => absurd z z1) (fun _ => lo_903 h1 hp hx hy hR5 hn2))
      rw [z3] at z
      have h5 : nI m < 0 := by rw [z]; decide
      exact nI_pos (by omega) h5
  unfold wL_lawOf_829
  refine lo_canFinish hR (fun c1 c2 c3 c4 c5 b4 b5 b6 b7 b8 b9 hR1 => ?_)
  rw [hcf]
  have hm := main c1 c2 c3 c4 c5 b4 b5 b6 b7 b8 b9 hR1
  refine lo_br1 rfl (fun g => ?_) (fun g => ?_)
  · rw [g] at hm ⊢
    exact hm
  · rw [g] at hm ⊢
    exact hm
/-- behind the second loop -/
theorem lo_end {n n1 n2 n3 n4 m : Nat} {x8 x9 x12' : Int32} (h1 : post 1 ()) (hp : p < 3) (hx : x ≤ 5) (hy : y ≤ 5) (hR : lo_Rd (lo_X p x y) (lo_An (lo_X p r1 r2)) (lo_Hn (lo_X p x y) (lo_X p r1 r2)) k0 k1 k2 k3 k4 k5 a1 a2 a3 a4 a5 a6 a7 a8) (hn1 : n1 = lo_sum (fun k => (lo_hB x y r1 r2 k).toNat) 49) (hn2 : n2 = lo_sum (fun k => (lo_sB x y r1 r2 k).toNat) 49) (hn3 : n3 = lo_sum (fun k => (lo_rB x y r1 r2 k).toNat) 49) (hn4 : n4 = lo_sum (fun k => (lo_mB x y r1 r2 k).toNat) 49)
    (hm : m < 2 ^ 62) (hbit : m.testBit (7 * x + y) = decide (lo_wy (lo_L x y r1 r2) (lo_R x y r1 r2) x y ≠ 0)) :
    wL_lawOf_341 post mc ms (nI p) 3 x8 x9 (nI x) (nI y) kc ks (n + 1) (lN m) (nI n1) (nI n2) (nI n3) (nI n4) (nI 49) k0 k1 k2 k3 k4 k5 a1 a2 a3 a4 a5 a6 a7 a8 a9 := by
  have ec : lo_cm (lo_M2 p x y r1 r2) 2401 = n1 := by rw [lo_cm2 hp hx hy, hn1]
  have es : n2 = lo_sm (lo_M2 p x y r1 r2) (lo_lastN (lo_X p x y) 4) 2401 := by rw [lo_sm2 hp hx hy, hn2]
  have eb : ((lN m >>> ((((7 : Int32) * nI x) + nI y).toInt64 &&& 63)) &&& 1).toInt32 = lo_b (decide (lo_wy (lo_L x y r1 r2) (lo_R x y r1 r2) x y ≠ 0)) := by
    have e : (7 : Int32) * nI x + nI y = nI (7 * x + y) := lo_ix (c := 7)
    rw [e, lo_lbit hm (by omega), lN_i, lo_lbitB, hbit]
    cases decide (lo_wy (lo_L x y r1 r2) (lo_R x y r1 r2) x y ≠ 0) <;> rfl
  have ew : lo_all (lo_M2 p x y r1 r2) 2401 (lo_lastN (lo_X p x y) 4) = lo_wy (lo_L x y r1 r2) (lo_R x y r1 r2) x y := by
    rw [lo_last2 hp, lo_all_end (lo_M2_g hp hx hy) (by omega) (by omega)]
  have ewl : lo_wy (lo_L x y r1 r2) (lo_R x y r1 r2) x y < 2 ^ 31 := by
    have h3 : lo_wy (lo_L x y r1 r2) (lo_R x y r1 r2) x y ≤ 2 ^ (x + y) := lo_wy_le x y
    have h4 : 2 ^ (x + y) ≤ 2 ^ 12 := Nat.pow_le_pow_right (by omega) (by omega)
    omega
  have hcf : lo_cB (lo_X p x y) (lo_An (lo_X p r1 r2)) (lo_Hn (lo_X p x y) (lo_X p r1 r2)) (lo_lastN (lo_X p x y) 4) = decide (lo_wy (lo_L x y r1 r2) (lo_R x y r1 r2) x y ≠ 0) := by
    rw [lo_last2 hp, lo_cB2 hp hx hy (by omega) (by omega)]
  refine br_t (by decide) (lo_states hR (fun c1 c2 c3 c4 c5 b4 b5 b6 b7 b8 b9 hR1 => br_t (congrArg nI ec) (lo_stuck hR1 (fun c1 c2 c3 c4 c5 b4 b5 b6 b7 b8 b9 hR2 => br_t (congrArg nI es.symm) (lo_canFinish hR2 (fun c1 c2 c3 c4 c5 b4 b5 b6 b7 b8 b9 hR3 => br_t (by rw [eb, hcf]) (lo_ways hR3 (fun c1 c2 c3 c4 c5 b4 b5 b6 b7 b8 b9 hR4 => ?_))))))))
  have ew' : lo_all (lo_may (lo_X p x y) (lo_An (lo_X p r1 r2)) (lo_Hn (lo_X p x y) (lo_X p r1 r2))) 2401 (lo_lastN (lo_X p x y) 4) = lo_wy (lo_L x y r1 r2) (lo_R x y r1 r2) x y := ew
  rw [ew']
  refine pk_le (lo_wy (lo_L x y r1 r2) (lo_R x y r1 r2) x y) 0 (fun z => ?_) (fun z => ?_)
  · exact lo_829 (b := false) h1 hp hx hy hR4 es hn3 hn4 (decide_eq_false (by omega)).symm
  · exact lo_829 (b := true) h1 hp hx hy hR4 es hn3 hn4 (decide_eq_true (by omega)).symm
end
end
section
/-! ===== the second loop: one turn ===== -/
def lo_set (b : Bool) (k m : Nat) : Nat := if b = true then m ||| 2 ^ k else m
def lo_mv (u o : Nat) : Bool := decide (u < 99) && (decide (7 < u) || decide (o / 2 ^ u % 2 = 0))
def lo_rb (u v m o : Nat) : Bool := decide (u < 8) && (decide (v < 8) && ((decide (o / 2 ^ u % 2 = 1) && decide (m / 2 ^ v % 2 = 1)) && decide (m &&& o = 0)))
theorem lo_and1 : ∀ a, a < 8 → ∀ b, b < 8 → (a &&& b) % 2 = (decide (a % 2 = 1) && decide (b % 2 = 1)).toNat := by decide +kernel
theorem lo_set_lt {b : Bool} {k m : Nat} (hm : m < 2 ^ 62) (hk : k < 62) : lo_set b k m < 2 ^ 62 := by
  unfold lo_set
  split
  · exact Nat.or_lt_two_pow hm (Nat.pow_lt_pow_right (by decide) hk)
  · exact hm
section
variable {post : Int32 → St0 → Prop} {mc ms kc ks : Nat} {J341 : Int64 → Int32 → Int32 → Int32 → Int32 → Int32 → Int32 → Int32 → Int32 → Int32 → Int32 → Int32 → (Nat → Int32) → (Nat → Int32) → (Nat → Int32) → (Nat → Int32) → (Nat → Int32) → (Nat → Int32) → (Nat → Int32) → (Nat → Int32) → (Nat → Int32) → Prop} {x6 x7 x8 x9 x10 x11 x14 x15 x16 x17 x18 x19 x20 x21 x22 x23 x24 x25 x26 x27 x28 z0 z1 z2 : Int32} {x12 : Int64} {k0 k1 k2 k3 k4 k5 : Int32} {a1 a2 a3 a4 a5 a6 a7 a8 a9 : Nat → Int32} {p x y r1 r2 : Nat}
theorem lo_748 {a b c j s S : Nat} {h : Bool} (hR : lo_Rd (lo_X p x y) (lo_An (lo_X p r1 r2)) (lo_Hn (lo_X p x y) (lo_X p r1 r2)) k0 k1 k2 k3 k4 k5 a1 a2 a3 a4 a5 a6 a7 a8) (ha : a ≤ 6) (hb : b ≤ 6) (hc : c ≤ 6) (hj : j ≤ 6) (e : 343 * a + 49 * b + 7 * c + j = S) (hh : lo_cB (lo_X p x y) (lo_An (lo_X p r1 r2)) (lo_Hn (lo_X p x y) (lo_X p r1 r2)) S = h)
    (hJ : ∀ c1 c2 c3 c4 c5 b4 b5 b6 b7 b8 b9, lo_Rd (lo_X p x y) (lo_An (lo_X p r1 r2)) (lo_Hn (lo_X p x y) (lo_X p r1 r2)) 1 c1 c2 c3 c4 c5 a1 a2 a3 b4 b5 b6 b7 b8 → J341 x12 x14 x15 x16 x17 (nI (s + 1)) 1 c1 c2 c3 c4 c5 a1 a2 a3 b4 b5 b6 b7 b8 b9) : wL_lawOf_748 post mc ms J341 x6 x7 x8 x9 x10 x11 x12 x14 x15 x16 x17 (nI s) (nI j) (lo_b h) (nI c) (nI b) (nI a) kc ks k0 k1 k2 k3 k4 k5 a1 a2 a3 a4 a5 a6 a7 a8 a9 := by
  unfold wL_lawOf_748
  refine lo_reached hR ha hb hc hj (fun c1 c2 c3 c4 c5 b4 b5 b6 b7 b8 b9 hR1 => ?_)
  rw [e, hh]
  have hJ' := hJ c1 c2 c3 c4 c5 b4 b5 b6 b7 b8 b9 hR1
  refine lo_br0 rfl (fun g => ?_) (fun g => ?_)
  · rw [g]
    exact br_t rfl (nm_r (nI_1 s) hJ')
  · rw [g]
    exact br_t rfl (nm_r (nI_1 s) hJ')
theorem lo_708 {i j s : Nat} {h : Bool} (hp : p < 3) (hi : i < 7) (hj : j < 7) (hR : lo_Rd (lo_X p x y) (lo_An (lo_X p r1 r2)) (lo_Hn (lo_X p x y) (lo_X p r1 r2)) k0 k1 k2 k3 k4 k5 a1 a2 a3 a4 a5 a6 a7 a8) (hh : lo_cB (lo_X p x y) (lo_An (lo_X p r1 r2)) (lo_Hn (lo_X p x y) (lo_X p r1 r2)) (lo_w p * i + j) = h)
    (hJ : ∀ c1 c2 c3 c4 c5 b4 b5 b6 b7 b8 b9, lo_Rd (lo_X p x y) (lo_An (lo_X p r1 r2)) (lo_Hn (lo_X p x y) (lo_X p r1 r2)) 1 c1 c2 c3 c4 c5 a1 a2 a3 b4 b5 b6 b7 b8 → J341 x12 x14 x15 x16 (z1 + z0) (nI (s + 1)) 1 c1 c2 c3 c4 c5 a1 a2 a3 b4 b5 b6 b7 b8 b9) : wL_lawOf_708 post mc ms J341 (nI p) x7 x8 x9 x10 x11 x12 x14 x15 x16 (nI s) (nI i) (nI j) (lo_b h) z0 z1 kc ks k0 k1 k2 k3 k4 k5 a1 a2 a3 a4 a5 a6 a7 a8 a9 := by
  rcases (show p = 0 ∨ p = 1 ∨ p = 2 by omega) with e | e | e <;> subst e
  · exact nm_e (br_t rfl (br_f (by decide) (br_f (by decide) (lo_748 (a := i) (b := 0) (c := 0) hR (by omega) (by omega) (by omega) (by omega) (show 343 * i + 49 * 0 + 7 * 0 + j = lo_w 0 * i + j by show _ = 343 * i + j; omega) hh hJ))))
  · exact nm_e (br_f (by decide) (br_t rfl (br_f (by decide) (lo_748 (a := 0) (b := i) (c := 0) hR (by omega) (by omega) (by omega) (by omega) (show 343 * 0 + 49 * i + 7 * 0 + j = lo_w 1 * i + j by show _ = 49 * i + j; omega) hh hJ))))
  · exact nm_e (br_f (by decide) (br_f (by decide) (br_t rfl (lo_748 (a := 0) (b := 0) (c := i) hR (by omega) (by omega) (by omega) (by omega) (show 343 * 0 + 49 * 0 + 7 * i + j = lo_w 2 * i + j by show _ = 7 * i + j; omega) hh hJ))))
theorem lo_674 {n : Nat} {h b : Bool} (hn : wL_lawOf_708 post mc ms J341 x6 x7 x8 x9 x10 x11 x12 x14 x15 (nI (n + b.toNat)) x18 x19 x20 (lo_b h) (lo_b (b && h)) x17 kc ks k0 k1 k2 k3 k4 k5 a1 a2 a3 a4 a5 a6 a7 a8 a9) : wL_lawOf_674 post mc ms J341 x6 x7 x8 x9 x10 x11 x12 x14 x15 (nI n) x17 x18 x19 x20 (lo_b h) (lo_b b) kc ks k0 k1 k2 k3 k4 k5 a1 a2 a3 a4 a5 a6 a7 a8 a9 := by
  cases b
  · exact br_t rfl (nm_r (nI_add n 0) (br_t rfl hn))
  · cases h
    · exact br_f (by decide) (nm_r (nI_1 n) (br_f (by decide) (br_t rfl hn)))
    · exact br_f (by decide) (nm_r (nI_1 n) (br_f (by decide) (br_f (by decide) hn)))
theorem lo_627 {n u v m o : Nat} {b : Bool} (hu : u < 100) (hv : v < 100) (hm : m < 8) (ho : o < 8)
    (hn : wL_lawOf_674 post mc ms J341 x6 x7 x8 x9 x10 x11 x12 x14 (nI (n + b.toNat)) x16 x17 x18 x19 x20 x25 (lo_b (lo_rb u v m o)) kc ks k0 k1 k2 k3 k4 k5 a1 a2 a3 a4 a5 a6 a7 a8 a9) : wL_lawOf_627 post mc ms J341 x6 x7 x8 x9 x10 x11 x12 x14 x16 x17 x18 x19 x20 (nI u) (nI v) (nI m) (nI o) x25 (lo_b b) (nI n) kc ks k0 k1 k2 k3 k4 k5 a1 a2 a3 a4 a5 a6 a7 a8 a9 := by
  refine nm_r (lo_badd n b) (pk_le 8 u (fun g => ?_) (fun g => pk_le 8 v (fun g2 => ?_) (fun g2 => ?_)))
  · rw [lo_rb, decide_eq_false (show ¬ u < 8 by omega), Bool.false_and] at hn
    exact hn
  · rw [lo_rb, decide_eq_false (show ¬ v < 8 by omega), Bool.false_and, Bool.and_false] at hn
    exact hn
  · have hou : o / 2 ^ u < 8 := Nat.lt_of_le_of_lt (Nat.div_le_self _ _) ho
    have hmv : m / 2 ^ v < 8 := Nat.lt_of_le_of_lt (Nat.div_le_self _ _) hm
    have hmo : m &&& o < 2 ^ 31 := Nat.lt_of_le_of_lt Nat.and_le_right (by omega)
    have e1 : ((nI o >>> (nI u &&& 31)) &&& (nI m >>> (nI v &&& 31))) &&& 1 = lo_b (decide (o / 2 ^ u % 2 = 1) && decide (m / 2 ^ v % 2 = 1)) := by
      rw [lo_shr (by omega) (by omega), lo_shr (by omega) (by omega), lo_and]
      have e2 : nI (o / 2 ^ u &&& m / 2 ^ v) &&& 1 = nI ((o / 2 ^ u &&& m / 2 ^ v) % 2) := pk_andN (Nat.lt_of_le_of_lt Nat.and_le_right (by omega)) 1 (by decide)
      rw [e2, lo_and1 _ hou _ hmv]
      cases (decide (o / 2 ^ u % 2 = 1) && decide (m / 2 ^ v % 2 = 1)) <;> rfl
    rw [e1, lo_and]
    rw [lo_rb, decide_eq_true g, decide_eq_true g2, Bool.true_and, Bool.true_and] at hn
    refine lo_br1 rfl (fun c => pk_eq (m &&& o) 0 (fun d => ?_) (fun d => ?_)) (fun c => ?_)
    · rw [c, decide_eq_true d] at hn
      exact hn
    · rw [c, decide_eq_false d] at hn
      exact hn
    · rw [c, Bool.false_and] at hn
      exact hn
theorem lo_576 {n u v : Nat} {h l r : Bool} (hu : u < 100) (hv : v < 100)
    (hn : wL_lawOf_627 post mc ms J341 x6 x7 x8 x9 x10 x11 x12 (nI (n + h.toNat)) x16 x17 x18 x19 x20 (nI u) (nI v) x23 x24 (lo_b h) (lo_b (h && (!l && (!r && (decide (u < 99) || decide (v < 99)))))) x15 kc ks k0 k1 k2 k3 k4 k5 a1 a2 a3 a4 a5 a6 a7 a8 a9) : wL_lawOf_576 post mc ms J341 x6 x7 x8 x9 x10 x11 x12 (nI n) x15 x16 x17 x18 x19 x20 (nI u) (nI v) x23 x24 (lo_b h) (lo_b l) (lo_b r) kc ks k0 k1 k2 k3 k4 k5 a1 a2 a3 a4 a5 a6 a7 a8 a9 := by
  cases h
  · exact br_t rfl (nm_r (nI_add n 0) (br_t rfl hn))
  · refine br_f (by decide) (nm_r (nI_1 n) (br_f (by decide) ?_))
    cases l
    · refine br_t rfl ?_
      cases r
      · refine br_t rfl (pk_lt u 99 (fun g => ?_) (fun g => pk_le 99 v (fun g2 => ?_) (fun g2 => ?_)))
        · rw [decide_eq_true g] at hn
          exact hn
        · rw [decide_eq_false (show ¬ u < 99 by omega), decide_eq_false (show ¬ v < 99 by omega)] at hn
          exact hn
        · rw [decide_eq_true g2, Bool.or_true] at hn
          exact hn
      · exact br_f (by decide) hn
    · exact br_f (by decide) hn
theorem lo_555 {m s : Nat} {h r : Bool} (hm : m < 2 ^ 62) (hs : s < 49) (hn : wL_lawOf_576 post mc ms J341 x6 x7 x8 x9 x10 x11 (lN (lo_set (h && r) (s + 1) m)) x14 x15 x16 x17 (nI s) x19 x20 x21 x22 x23 x24 (lo_b h) x26 (lo_b r) kc ks k0 k1 k2 k3 k4 k5 a1 a2 a3 a4 a5 a6 a7 a8 a9) : wL_lawOf_555 post mc ms J341 x6 x7 x8 x9 x10 x11 (lN m) x14 x15 x16 x17 (nI s) x19 x20 x21 x22 x23 x24 (lo_b h) x26 (lo_b r) kc ks k0 k1 k2 k3 k4 k5 a1 a2 a3 a4 a5 a6 a7 a8 a9 := by
  cases h
  · exact br_t rfl hn
  · cases r
    · exact br_f (by decide) (br_t rfl hn)
    · refine br_f (by decide) (br_f (by decide) (nm_r ?_ hn))
      rw [nI_1]
      exact lo_lset hm (by omega)
theorem lo_531 {m s : Nat} {h l r : Bool} (hm : m < 2 ^ 62) (hs : s < 49) (hn : wL_lawOf_576 post mc ms J341 x6 x7 x8 x9 x10 x11 (lN (lo_set (h && r) (s + 1) (lo_set (h && l) (s + 7) m))) x14 x15 x16 x17 (nI s) x19 x20 x21 x22 x23 x24 (lo_b h) (lo_b l) (lo_b r) kc ks k0 k1 k2 k3 k4 k5 a1 a2 a3 a4 a5 a6 a7 a8 a9) : wL_lawOf_531 post mc ms J341 x6 x7 x8 x9 x10 x11 (lN m) x14 x15 x16 x17 (nI s) x19 x20 x21 x22 x23 x24 (lo_b h) (lo_b l) (lo_b r) kc ks k0 k1 k2 k3 k4 k5 a1 a2 a3 a4 a5 a6 a7 a8 a9 := by
  cases h
  · exact br_t rfl (lo_555 (h := false) hm hs hn)
  · cases l
    · exact br_f (by decide) (br_t rfl (lo_555 (h := true) hm hs hn))
    · refine br_f (by decide) (br_f (by decide) (nm_r ?_ (lo_555 (h := true) (lo_set_lt (b := true) hm (by omega)) hs hn)))
      have e : nI s + 7 = nI (s + 7) := nI_add s 7
      rw [e]
      exact lo_lset hm (by omega)
theorem lo_500 {v m : Nat} (hv : v < 100) (hm : m < 8) (hn : wL_lawOf_531 post mc ms J341 x6 x7 x8 x9 x10 x11 x12 x14 x15 x16 x17 x18 x19 x20 x21 (nI v) (nI m) x24 x25 z0 (lo_b (lo_mv v m)) kc ks k0 k1 k2 k3 k4 k5 a1 a2 a3 a4 a5 a6 a7 a8 a9) : wL_lawOf_500 post mc ms J341 x6 x7 x8 x9 x10 x11 x12 x14 x15 x16 x17 x18 x19 x20 x21 (nI v) (nI m) x24 x25 z0 kc ks k0 k1 k2 k3 k4 k5 a1 a2 a3 a4 a5 a6 a7 a8 a9 := by
  refine pk_le 99 v (fun g => ?_) (fun g => pk_lt 7 v (fun g2 => ?_) (fun g2 => ?_))
  · rw [lo_mv, decide_eq_false (show ¬ v < 99 by omega), Bool.false_and] at hn
    exact hn
  · rw [lo_mv, decide_eq_true g, decide_eq_true g2] at hn
    exact hn
  · rw [lo_mv, decide_eq_true g, decide_eq_false (show ¬ 7 < v by omega), Bool.true_and, Bool.false_or] at hn
    rw [lo_bit (by omega) (by omega)]
    refine pk_eq (m / 2 ^ v % 2) 0 (fun c => ?_) (fun c => ?_)
    · rw [decide_eq_true c] at hn
      exact hn
    · rw [decide_eq_false c] at hn
      exact hn
theorem lo_469 {u o : Nat} (hu : u < 100) (ho : o < 8) (hn : wL_lawOf_500 post mc ms J341 x6 x7 x8 x9 x10 x11 x12 x14 x15 x16 x17 x18 x19 x20 (nI u) x22 x23 (nI o) z0 (lo_b (lo_mv u o)) kc ks k0 k1 k2 k3 k4 k5 a1 a2 a3 a4 a5 a6 a7 a8 a9) : wL_lawOf_469 post mc ms J341 x6 x7 x8 x9 x10 x11 x12 x14 x15 x16 x17 x18 x19 x20 (nI u) x22 x23 (nI o) z0 kc ks k0 k1 k2 k3 k4 k5 a1 a2 a3 a4 a5 a6 a7 a8 a9 := by
  refine pk_le 99 u (fun g => ?_) (fun g => pk_lt 7 u (fun g2 => ?_) (fun g2 => ?_))
  · rw [lo_mv, decide_eq_false (show ¬ u < 99 by omega), Bool.false_and] at hn
    exact hn
  · rw [lo_mv, decide_eq_true g, decide_eq_true g2] at hn
    exact hn
  · rw [lo_mv, decide_eq_true g, decide_eq_false (show ¬ 7 < u by omega), Bool.true_and, Bool.false_or] at hn
    rw [lo_bit (by omega) (by omega)]
    refine pk_eq (o / 2 ^ u % 2) 0 (fun c => ?_) (fun c => ?_)
    · rw [decide_eq_true c] at hn
      exact hn
    · rw [decide_eq_false c] at hn
      exact hn
/-- the whole turn, from the two requests on: u, v the next actions, m, o what is held -/
theorem lo_turn {i j s u v mm oo w n1 n2 n3 n4 : Nat} {h : Bool} (hp : p < 3) (hi : i < 7) (hj : j < 7) (hs : s < 49) (hu : u < 100) (hv : v < 100) (hm : mm < 8) (ho : oo < 8) (hw : w < 2 ^ 62) (hR : lo_Rd (lo_X p x y) (lo_An (lo_X p r1 r2)) (lo_Hn (lo_X p x y) (lo_X p r1 r2)) k0 k1 k2 k3 k4 k5 a1 a2 a3 a4 a5 a6 a7 a8) (hh : lo_cB (lo_X p x y) (lo_An (lo_X p r1 r2)) (lo_Hn (lo_X p x y) (lo_X p r1 r2)) (lo_w p * i + j) = h)
    (hJ : ∀ c1 c2 c3 c4 c5 b4 b5 b6 b7 b8 b9, lo_Rd (lo_X p x y) (lo_An (lo_X p r1 r2)) (lo_Hn (lo_X p x y) (lo_X p r1 r2)) 1 c1 c2 c3 c4 c5 a1 a2 a3 b4 b5 b6 b7 b8 → J341 (lN (lo_set (h && lo_mv v mm) (s + 1) (lo_set (h && lo_mv u oo) (s + 7) w))) (nI (n1 + h.toNat)) (nI (n2 + (h && (!(lo_mv u oo) && (!(lo_mv v mm) && (decide (u < 99) || decide (v < 99))))).toNat)) (nI (n3 + (lo_rb u v mm oo).toNat)) (nI (n4 + (lo_rb u v mm oo && h).toNat)) (nI (s + 1)) 1 c1 c2 c3 c4 c5 a1 a2 a3 b4 b5 b6 b7 b8 b9) :
    wL_lawOf_469 post mc ms J341 (nI p) x7 x8 x9 x10 x11 (lN w) (nI n1) (nI n2) (nI n3) (nI n4) (nI s) (nI i) (nI j) (nI u) (nI v) (nI mm) (nI oo) (lo_b h) kc ks k0 k1 k2 k3 k4 k5 a1 a2 a3 a4 a5 a6 a7 a8 a9 := by
  refine lo_469 hu ho (lo_500 hv hm (lo_531 hw hs (lo_576 hu hv (lo_627 hu hv hm ho (lo_674 (lo_708 hp hi hj hR hh (fun c1 c2 c3 c4 c5 b4 b5 b6 b7 b8 b9 hR1 => ?_)))))))
  rw [lo_badd]
  exact hJ c1 c2 c3 c4 c5 b4 b5 b6 b7 b8 b9 hR1
end
end
section
/-! ===== the second loop ===== -/
/-- the word of the states reached, behind s turns -/
def lo_Wd (x y r1 r2 s m : Nat) : Prop := m < 2 ^ 49 ∧ ∀ k, k < 49 → m.testBit k = decide (lo_qw (lo_L x y r1 r2) (lo_R x y r1 r2) (fun a b => decide (7 * a + b < s)) (k / 7) (k % 7) ≠ 0)
section
variable {x y r1 r2 : Nat}
theorem lo_Wd_0 : lo_Wd x y r1 r2 0 1 := by
  refine ⟨by decide, fun k hk => ?_⟩
  have eL : ∀ i j, lo_fL (lo_L x y r1 r2) (lo_wy (lo_L x y r1 r2) (lo_R x y r1 r2)) (fun a b => decide (7 * a + b < 0)) i j = 0 := by
    intro i j
    cases i with
    | zero => rfl
    | succ i => rw [lo_fL, if_neg (fun g => absurd g.1 (by simp))]
  have eR : ∀ i j, lo_fR (lo_R x y r1 r2) (lo_wy (lo_L x y r1 r2) (lo_R x y r1 r2)) (fun a b => decide (7 * a + b < 0)) i j = 0 := by
    intro i j
    cases j with
    | zero => rfl
    | succ j => rw [lo_fR, if_neg (fun g => absurd g.1 (by simp))]
  rw [lo_qw, eL, eR]
  have e1 : (1 : Nat) = 2 ^ 0 := rfl
  rw [show Nat.testBit 1 k = Nat.testBit (2 ^ 0) k from rfl, Nat.testBit_two_pow]
  by_cases e : k = 0
  · subst e
    rfl
  · have e2 : ¬ (k / 7 = 0 ∧ k % 7 = 0) := by omega
    rw [if_neg e2, decide_eq_false (show ¬ 0 = k by omega)]
    rfl
theorem lo_Wd_here {s m : Nat} (h : lo_Wd x y r1 r2 s m) (hs : s < 49) : m.testBit s = lo_hB x y r1 r2 s := by
  rw [h.2 s hs, lo_hB]
  have e : lo_qw (lo_L x y r1 r2) (lo_R x y r1 r2) (fun a b => decide (7 * a + b < s)) (s / 7) (s % 7) = lo_wy (lo_L x y r1 r2) (lo_R x y r1 r2) (s / 7) (s % 7) := by
    refine lo_qw_full (fun i' e => ?_) (fun j' e => ?_)
    · apply decide_eq_true
      omega
    · apply decide_eq_true
      omega
  rw [e]
theorem lo_Wd_end {m : Nat} (hx : x ≤ 5) (hy : y ≤ 5) (h : lo_Wd x y r1 r2 49 m) : m.testBit (7 * x + y) = decide (lo_wy (lo_L x y r1 r2) (lo_R x y r1 r2) x y ≠ 0) := by
  rw [h.2 (7 * x + y) (by omega), show (7 * x + y) / 7 = x by omega, show (7 * x + y) % 7 = y by omega]
  have e : lo_qw (lo_L x y r1 r2) (lo_R x y r1 r2) (fun a b => decide (7 * a + b < 49)) x y = lo_wy (lo_L x y r1 r2) (lo_R x y r1 r2) x y := by
    refine lo_qw_full (fun i' e => ?_) (fun j' e => ?_)
    · apply decide_eq_true
      omega
    · apply decide_eq_true
      omega
  rw [e]
theorem lo_set_bit {b : Bool} {k m i : Nat} : (lo_set b k m).testBit i = (m.testBit i || (b && decide (k = i))) := by
  unfold lo_set
  cases b
  · simp
  · rw [if_pos rfl, Nat.testBit_or, Nat.testBit_two_pow, Bool.true_and]
theorem lo_set_lt9 {b : Bool} {k m : Nat} (hm : m < 2 ^ 49) (hk : b = true → k < 49) : lo_set b k m < 2 ^ 49 := by
  unfold lo_set
  split
  · rename_i g
    exact Nat.or_lt_two_pow hm (Nat.pow_lt_pow_right (by decide) (hk g))
  · exact hm
theorem lo_Wd_s {s m : Nat} (hx : x ≤ 5) (hy : y ≤ 5) (h : lo_Wd x y r1 r2 s m) (hs : s < 49) :
    lo_Wd x y r1 r2 (s + 1) (lo_set (lo_hB x y r1 r2 s && lo_R x y r1 r2 (s / 7) (s % 7)) (s + 1) (lo_set (lo_hB x y r1 r2 s && lo_L x y r1 r2 (s / 7) (s % 7)) (s + 7) m)) := by
  have gL : lo_L x y r1 r2 (s / 7) (s % 7) = true → s / 7 < x := lo_L_x
  have gR : lo_R x y r1 r2 (s / 7) (s % 7) = true → s % 7 < y := lo_R_y
  refine ⟨lo_set_lt9 (lo_set_lt9 h.1 (fun g => ?_)) (fun g => ?_), fun k hk => ?_⟩
  · rw [Bool.and_eq_true] at g
    have := gL g.2
    omega
  · rw [Bool.and_eq_true] at g
    have := gR g.2
    omega
  · rw [lo_set_bit, lo_set_bit, h.2 k hk, lo_qw_add (c := fun a b => decide (7 * a + b < s)) (c' := fun a b => decide (7 * a + b < s + 1)) (i0 := s / 7) (j0 := s % 7) (decide_eq_false (by omega)) (decide_eq_true (by omega)) (fun a b ha hb hne => decide_eq_decide.mpr (by omega)) (by omega) (by omega)]
    unfold lo_hB
    generalize lo_qw (lo_L x y r1 r2) (lo_R x y r1 r2) (fun a b => decide (7 * a + b < s)) (k / 7) (k % 7) = q
    generalize lo_wy (lo_L x y r1 r2) (lo_R x y r1 r2) (s / 7) (s % 7) = w
    by_cases hw : w = 0
    · rw [hw]
      simp
    · rw [decide_eq_true hw, Bool.true_and, Bool.true_and]
      have c1 : (lo_L x y r1 r2 (s / 7) (s % 7) && decide (s + 7 = k)) = decide (k / 7 = s / 7 + 1 ∧ k % 7 = s % 7 ∧ lo_L x y r1 r2 (s / 7) (s % 7) = true) := by
        cases gg : lo_L x y r1 r2 (s / 7) (s % 7)
        · simp
        · have := gL gg
          rw [Bool.true_and]
          apply decide_eq_decide.mpr
          constructor
          · intro z
            exact ⟨by omega, by omega, rfl⟩
          · intro z
            omega
      have c2 : (lo_R x y r1 r2 (s / 7) (s % 7) && decide (s + 1 = k)) = decide (k / 7 = s / 7 ∧ k % 7 = s % 7 + 1 ∧ lo_R x y r1 r2 (s / 7) (s % 7) = true) := by
        cases gg : lo_R x y r1 r2 (s / 7) (s % 7)
        · simp
        · have := gR gg
          rw [Bool.true_and]
          apply decide_eq_decide.mpr
          constructor
          · intro z
            exact ⟨by omega, by omega, rfl⟩
          · intro z
            omega
      rw [c1, c2, ← Bool.decide_or, ← Bool.decide_or]
      apply decide_eq_decide.mpr
      by_cases d1 : k / 7 = s / 7 + 1 ∧ k % 7 = s % 7 ∧ lo_L x y r1 r2 (s / 7) (s % 7) = true
      · rw [if_pos d1]
        constructor
        · intro _ z
          omega
        · intro _
          exact Or.inl (Or.inr d1)
      · rw [if_neg d1]
        by_cases d2 : k / 7 = s / 7 ∧ k % 7 = s % 7 + 1 ∧ lo_R x y r1 r2 (s / 7) (s % 7) = true
        · rw [if_pos d2]
          constructor
          · intro _ z
            omega
          · intro _
            exact Or.inr d2
        · rw [if_neg d2]
          constructor
          · rintro ((z | z) | z)
            · omega
            · exact absurd z d1
            · exact absurd z d2
          · intro z
            exact Or.inl (Or.inl (by omega))
/-! what the turn's flags are -/
def lo_u (x r i : Nat) : Nat := if i < x then lo_nib r i else 99
def lo_hm (x r i : Nat) : Nat := lo_hl r (if x ≤ i then x else i)
theorem lo_u_lt {x r i : Nat} : lo_u x r i < 100 := by
  unfold lo_u
  have := lo_nib_lt r i
  split <;> omega
theorem lo_mv_go {x r o i : Nat} : lo_mv (lo_u x r i) o = lo_go x r o i := by
  unfold lo_mv lo_u lo_go
  have h := lo_nib_lt r i
  by_cases g : i < x
  · rw [if_pos g, decide_eq_true g, decide_eq_true (show lo_nib r i < 99 by omega), Bool.true_and, Bool.true_and]
    congr 1
  · rw [if_neg g, decide_eq_false g, decide_eq_false (show ¬ 99 < 99 by omega), Bool.false_and, Bool.false_and]
theorem lo_hm_hx {x r i : Nat} (h : i ≤ x) : lo_hm x r i = lo_hx x r i := by
  unfold lo_hm lo_hx
  rw [if_pos h]
  by_cases g : x ≤ i
  · have e : i = x := by omega
    rw [if_pos g, e]
  · rw [if_neg g]
theorem lo_fl {s : Nat} : (lo_hB x y r1 r2 s && lo_mv (lo_u x r1 (s / 7)) (lo_hm y r2 (s % 7))) = (lo_hB x y r1 r2 s && lo_L x y r1 r2 (s / 7) (s % 7)) := by
  cases h : lo_hB x y r1 r2 s
  · rfl
  · unfold lo_hB at h
    have hin := lo_wy2_in (of_decide_eq_true h)
    rw [lo_mv_go, lo_hm_hx hin.2]
    rfl
theorem lo_fr {s : Nat} : (lo_hB x y r1 r2 s && lo_mv (lo_u y r2 (s % 7)) (lo_hm x r1 (s / 7))) = (lo_hB x y r1 r2 s && lo_R x y r1 r2 (s / 7) (s % 7)) := by
  cases h : lo_hB x y r1 r2 s
  · rfl
  · unfold lo_hB at h
    have hin := lo_wy2_in (of_decide_eq_true h)
    rw [lo_mv_go, lo_hm_hx hin.1]
    rfl
theorem lo_u99 {x r i : Nat} : decide (lo_u x r i < 99) = decide (i < x) := by
  apply decide_eq_decide.mpr
  unfold lo_u
  have h := lo_nib_lt r i
  split <;> omega
theorem lo_fs {s : Nat} : (lo_hB x y r1 r2 s && (!(lo_mv (lo_u x r1 (s / 7)) (lo_hm y r2 (s % 7))) && (!(lo_mv (lo_u y r2 (s % 7)) (lo_hm x r1 (s / 7))) && (decide (lo_u x r1 (s / 7) < 99) || decide (lo_u y r2 (s % 7) < 99))))) = lo_sB x y r1 r2 s := by
  have h1 := lo_fl (x := x) (y := y) (r1 := r1) (r2 := r2) (s := s)
  have h2 := lo_fr (x := x) (y := y) (r1 := r1) (r2 := r2) (s := s)
  unfold lo_sB
  cases h : lo_hB x y r1 r2 s
  · rfl
  · rw [h, Bool.true_and, Bool.true_and] at h1 h2
    rw [h1, h2, lo_u99, lo_u99]
theorem lo_fg {s : Nat} : lo_rb (lo_u x r1 (s / 7)) (lo_u y r2 (s % 7)) (lo_hm x r1 (s / 7)) (lo_hm y r2 (s % 7)) = lo_rB x y r1 r2 s := by
  unfold lo_rB lo_rl lo_rb
  by_cases g1 : s / 7 < x
  · by_cases g2 : s % 7 < y
    · have e1 : lo_u x r1 (s / 7) = lo_nib r1 (s / 7) := if_pos g1
      have e2 : lo_u y r2 (s % 7) = lo_nib r2 (s % 7) := if_pos g2
      have e3 : lo_hm x r1 (s / 7) = lo_hl r1 (s / 7) := by rw [lo_hm, if_neg (by omega)]
      have e4 : lo_hm y r2 (s % 7) = lo_hl r2 (s % 7) := by rw [lo_hm, if_neg (by omega)]
      rw [e1, e2, e3, e4, decide_eq_true g1, decide_eq_true g2, Bool.true_and, Bool.true_and, Bool.and_assoc]
    · have e2 : lo_u y r2 (s % 7) = 99 := if_neg g2
      rw [e2, decide_eq_false g2, decide_eq_false (show ¬ 99 < 8 by omega), Bool.false_and, Bool.false_and, Bool.and_false, Bool.and_false]
  · have e1 : lo_u x r1 (s / 7) = 99 := if_neg g1
    rw [e1, decide_eq_false g1, decide_eq_false (show ¬ 99 < 8 by omega), Bool.false_and, Bool.false_and]
end
section
variable {post : Int32 → St0 → Prop} {mc ms kc ks : Nat} {J341 : Int64 → Int32 → Int32 → Int32 → Int32 → Int32 → Int32 → Int32 → Int32 → Int32 → Int32 → Int32 → (Nat → Int32) → (Nat → Int32) → (Nat → Int32) → (Nat → Int32) → (Nat → Int32) → (Nat → Int32) → (Nat → Int32) → (Nat → Int32) → (Nat → Int32) → Prop} {x6 x7 x8 x9 x10 x11 x14 x15 x16 x17 x18 x19 x20 x21 x22 x23 x24 x25 x26 x27 x28 z0 z1 z2 : Int32} {x12 : Int64} {k0 k1 k2 k3 k4 k5 : Int32} {a1 a2 a3 a4 a5 a6 a7 a8 a9 : Nat → Int32} {p x y r1 r2 : Nat}
theorem lo_447 {w s c : Nat} {h : Bool} (hw : w < 2 ^ 62) (hs : s < 49) (hb : w.testBit s = h) (hr2 : r2 < 2 ^ 31) (hc : c ≤ 7) (hv : ∀ i, i < c → lo_nib r2 i % 8 < 3) (hn : wL_lawOf_469 post mc ms J341 x6 x7 x8 x9 x10 x11 (lN w) x14 x15 x16 x17 (nI s) x19 x20 x21 x22 x23 (nI (lo_hl r2 c)) (lo_b h) kc ks k0 k1 k2 k3 k4 k5 a1 a2 a3 a4 a5 a6 a7 a8 a9) : wL_lawOf_447 post mc ms J341 x6 x7 x8 x9 x10 x11 (lN w) x14 x15 x16 x17 (nI s) x19 x20 x21 x22 x23 (nI c) (nI r2) kc ks k0 k1 k2 k3 k4 k5 a1 a2 a3 a4 a5 a6 a7 a8 a9 := by
  unfold wL_lawOf_447
  refine lo_held hr2 hc hv ?_
  rw [lo_lbit hw (by omega), lo_lbitB, hb]
  cases h
  · exact br_f (by decide) hn
  · exact br_t rfl hn
theorem lo_426 {w s c j : Nat} {h : Bool} (hw : w < 2 ^ 62) (hs : s < 49) (hb : w.testBit s = h) (hr1 : r1 < 2 ^ 31) (hr2 : r2 < 2 ^ 31) (hc : c ≤ 7) (hv : ∀ i, i < c → lo_nib r1 i % 8 < 3) (hy : y ≤ 5) (hj : j < 7) (hv2 : ∀ i, i < y → lo_nib r2 i % 8 < 3)
    (hn : wL_lawOf_469 post mc ms J341 x6 x7 x8 (nI r2) x10 (nI y) (lN w) x14 x15 x16 x17 (nI s) x19 (nI j) x21 x22 (nI (lo_hl r1 c)) (nI (lo_hm y r2 j)) (lo_b h) kc ks k0 k1 k2 k3 k4 k5 a1 a2 a3 a4 a5 a6 a7 a8 a9) : wL_lawOf_426 post mc ms J341 x6 x7 x8 (nI r2) x10 (nI y) (lN w) x14 x15 x16 x17 (nI s) x19 (nI j) x21 x22 (nI c) (nI r1) kc ks k0 k1 k2 k3 k4 k5 a1 a2 a3 a4 a5 a6 a7 a8 a9 := by
  unfold wL_lawOf_426
  refine lo_held hr1 hc hv ?_
  refine pk_le y j (fun g => lo_447 (c := y) hw hs hb hr2 (by omega) hv2 ?_) (fun g => lo_447 (c := j) hw hs hb hr2 (by omega) (fun i hi => hv2 i (by omega)) ?_)
  · rw [lo_hm, if_pos g] at hn
    exact hn
  · rw [lo_hm, if_neg (by omega)] at hn
    exact hn
theorem lo_408 {w s i j v : Nat} {h : Bool} (hw : w < 2 ^ 62) (hs : s < 49) (hb : w.testBit s = h) (hr1 : r1 < 2 ^ 31) (hr2 : r2 < 2 ^ 31) (hx : x ≤ 5) (hy : y ≤ 5) (hi : i < 7) (hj : j < 7) (hv1 : ∀ i, i < x → lo_nib r1 i % 8 < 3) (hv2 : ∀ i, i < y → lo_nib r2 i % 8 < 3)
    (hn : wL_lawOf_469 post mc ms J341 x6 x7 (nI r1) (nI r2) (nI x) (nI y) (lN w) x14 x15 x16 x17 (nI s) (nI i) (nI j) x21 (nI v) (nI (lo_hm x r1 i)) (nI (lo_hm y r2 j)) (lo_b h) kc ks k0 k1 k2 k3 k4 k5 a1 a2 a3 a4 a5 a6 a7 a8 a9) : wL_lawOf_408 post mc ms J341 x6 x7 (nI r1) (nI r2) (nI x) (nI y) (lN w) x14 x15 x16 x17 (nI s) (nI i) (nI j) x21 (nI v) kc ks k0 k1 k2 k3 k4 k5 a1 a2 a3 a4 a5 a6 a7 a8 a9 := by
  refine pk_le x i (fun g => lo_426 (c := x) hw hs hb hr1 hr2 (by omega) hv1 hy hj hv2 ?_) (fun g => lo_426 (c := i) hw hs hb hr1 hr2 (by omega) (fun k hk => hv1 k (by omega)) hy hj hv2 ?_)
  · rw [lo_hm, if_pos g] at hn
    exact hn
  · rw [lo_hm, if_neg (by omega)] at hn
    exact hn
theorem lo_nibX {r i : Nat} (hr : r < 2 ^ 31) (hi : i < 8) : (nI r >>> (((4 : Int32) * nI i) &&& 31)) &&& 15 = nI (lo_nib r i) := by
  have e : (4 : Int32) * nI i = nI (4 * i) := pk_mul 4 i
  rw [e, lo_shr hr (by omega)]
  exact pk_andN (Nat.lt_of_le_of_lt (Nat.div_le_self _ _) (by omega)) 4 (by decide)
theorem lo_384 {w s i j u : Nat} {h : Bool} (hw : w < 2 ^ 62) (hs : s < 49) (hb : w.testBit s = h) (hr1 : r1 < 2 ^ 31) (hr2 : r2 < 2 ^ 31) (hx : x ≤ 5) (hy : y ≤ 5) (hi : i < 7) (hj : j < 7) (hv1 : ∀ i, i < x → lo_nib r1 i % 8 < 3) (hv2 : ∀ i, i < y → lo_nib r2 i % 8 < 3)
    (hn : wL_lawOf_469 post mc ms J341 x6 x7 (nI r1) (nI r2) (nI x) (nI y) (lN w) x14 x15 x16 x17 (nI s) (nI i) (nI j) (nI u) (nI (lo_u y r2 j)) (nI (lo_hm x r1 i)) (nI (lo_hm y r2 j)) (lo_b h) kc ks k0 k1 k2 k3 k4 k5 a1 a2 a3 a4 a5 a6 a7 a8 a9) : wL_lawOf_384 post mc ms J341 x6 x7 (nI r1) (nI r2) (nI x) (nI y) (lN w) x14 x15 x16 x17 (nI s) (nI i) (nI j) (nI u) kc ks k0 k1 k2 k3 k4 k5 a1 a2 a3 a4 a5 a6 a7 a8 a9 := by
  refine pk_le y j (fun g => ?_) (fun g => ?_)
  · rw [show lo_u y r2 j = 99 from if_neg (by omega)] at hn
    exact lo_408 (v := 99) hw hs hb hr1 hr2 hx hy hi hj hv1 hv2 hn
  · rw [lo_nibX hr2 (by omega)]
    rw [show lo_u y r2 j = lo_nib r2 j from if_pos g] at hn
    exact lo_408 hw hs hb hr1 hr2 hx hy hi hj hv1 hv2 hn
theorem lo_341f {a1 a2 a3 : Nat → Int32} (h1 : post 1 ()) (hp : p < 3) (hx : x ≤ 5) (hy : y ≤ 5) (hr1 : r1 < 2 ^ 31) (hr2 : r2 < 2 ^ 31) (hv1 : ∀ i, i < x → lo_nib r1 i % 8 < 3) (hv2 : ∀ i, i < y → lo_nib r2 i % 8 < 3) :
    ∀ (f s m : Nat) (k0 k1 k2 k3 k4 k5 : Int32) (a4 a5 a6 a7 a8 a9 : Nat → Int32), 49 < f + s → s ≤ 49 → lo_Wd x y r1 r2 s m → lo_Rd (lo_X p x y) (lo_An (lo_X p r1 r2)) (lo_Hn (lo_X p x y) (lo_X p r1 r2)) k0 k1 k2 k3 k4 k5 a1 a2 a3 a4 a5 a6 a7 a8 →
      wL_lawOf_341 post mc ms (nI p) 3 (nI r1) (nI r2) (nI x) (nI y) kc ks f (lN m) (nI (lo_sum (fun k => (lo_hB x y r1 r2 k).toNat) s)) (nI (lo_sum (fun k => (lo_sB x y r1 r2 k).toNat) s)) (nI (lo_sum (fun k => (lo_rB x y r1 r2 k).toNat) s)) (nI (lo_sum (fun k => (lo_mB x y r1 r2 k).toNat) s)) (nI s) k0 k1 k2 k3 k4 k5 a1 a2 a3 a4 a5 a6 a7 a8 a9 := by
  intro f
  induction f with
  | zero => intro s m k0 k1 k2 k3 k4 k5 a4 a5 a6 a7 a8 a9 q1 q2; omega
  | succ f ih =>
    intro s m k0 k1 k2 k3 k4 k5 a4 a5 a6 a7 a8 a9 q1 q2 hW hR
    have hm : m < 2 ^ 62 := by have := hW.1; omega
    by_cases e : s = 49
    · subst e
      exact lo_end (x12' := 0) h1 hp hx hy hR rfl rfl rfl rfl hm (lo_Wd_end hx hy hW)
    · have hs : s < 49 := by omega
      have hi : s / 7 < 7 := by omega
      have hj : s % 7 < 7 := by omega
      have hb := lo_Wd_here hW hs
      have hcB : lo_cB (lo_X p x y) (lo_An (lo_X p r1 r2)) (lo_Hn (lo_X p x y) (lo_X p r1 r2)) (lo_w p * (s / 7) + s % 7) = lo_hB x y r1 r2 s := lo_cB2 hp hx hy hi hj
      have hmm : lo_hm x r1 (s / 7) < 8 := by
        unfold lo_hm
        refine lo_hl_lt _ (fun k hk => hv1 k ?_)
        split at hk <;> omega
      have hoo : lo_hm y r2 (s % 7) < 8 := by
        unfold lo_hm
        refine lo_hl_lt _ (fun k hk => hv2 k ?_)
        split at hk <;> omega
      have hturn : ∀ u, u = lo_u x r1 (s / 7) → wL_lawOf_384 post mc ms (wL_lawOf_341 post mc ms (nI p) 3 (nI r1) (nI r2) (nI x) (nI y) kc ks f) (nI p) 3 (nI r1) (nI r2) (nI x) (nI y) (lN m) (nI (lo_sum (fun k => (lo_hB x y r1 r2 k).toNat) s)) (nI (lo_sum (fun k => (lo_sB x y r1 r2 k).toNat) s)) (nI (lo_sum (fun k => (lo_rB x y r1 r2 k).toNat) s)) (nI (lo_sum (fun k => (lo_mB x y r1 r2 k).toNat) s)) (nI s) (nI (s / 7)) (nI (s % 7)) (nI u) kc ks k0 k1 k2 k3 k4 k5 a1 a2 a3 a4 a5 a6 a7 a8 a9 := by
        intro u hu
        subst hu
        refine lo_384 hm hs hb hr1 hr2 hx hy hi hj hv1 hv2 (lo_turn hp hi hj hs lo_u_lt lo_u_lt hmm hoo hm hR hcB (fun c1 c2 c3 c4 c5 b4 b5 b6 b7 b8 b9 hR1 => ?_))
        rw [lo_fs, lo_fg, lo_fl, lo_fr]
        exact ih (s + 1) _ 1 c1 c2 c3 c4 c5 b4 b5 b6 b7 b8 b9 (by omega) (by omega) (lo_Wd_s hx hy hW hs) hR1
      have ed : nI s / 7 = nI (s / 7) := pk_div (d := 7) (by omega) (by omega) (by omega)
      have er : nI s - nI s / 7 * 7 = nI (s % 7) := pk_rem (d := 7) (by omega) (by omega) (by omega)
      refine br_f (nI_ge (b := 49) hs (by omega)) ⟨by decide, nm_r ed ⟨by decide, nm_r er (pk_le x (s / 7) (fun g => ?_) (fun g => ?_))⟩⟩
      · exact hturn 99 (show 99 = lo_u x r1 (s / 7) by rw [lo_u, if_neg (by omega)])
      · rw [lo_nibX hr1 (by omega)]
        exact hturn _ (show lo_nib r1 (s / 7) = lo_u x r1 (s / 7) by rw [lo_u, if_pos g])
theorem lo_loop2 (h1 : post 1 ()) (hp : p < 3) (hx : x ≤ 5) (hy : y ≤ 5) (hr1 : r1 < 2 ^ 31) (hr2 : r2 < 2 ^ 31) (hv1 : ∀ i, i < x → lo_nib r1 i % 8 < 3) (hv2 : ∀ i, i < y → lo_nib r2 i % 8 < 3) (hR : lo_Rd (lo_X p x y) (lo_An (lo_X p r1 r2)) (lo_Hn (lo_X p x y) (lo_X p r1 r2)) k0 k1 k2 k3 k4 k5 a1 a2 a3 a4 a5 a6 a7 a8) :
    ∃ n, wL_lawOf_341 post mc ms (nI p) 3 (nI r1) (nI r2) (nI x) (nI y) kc ks n 1 0 0 0 0 0 k0 k1 k2 k3 k4 k5 a1 a2 a3 a4 a5 a6 a7 a8 a9 :=
  ⟨50, lo_341f h1 hp hx hy hr1 hr2 hv1 hv2 50 0 1 _ _ _ _ _ _ _ _ _ _ _ _ (by omega) (by omega) lo_Wd_0 hR⟩
end
end
section
/-! ===== the first loop ===== -/
theorem lo_rowset {r l h s : Nat} (hr : r < 2 ^ (4 * s)) (hs : s ≤ 4) (hl : l + 8 * h < 16) : nI r ||| ((nI l + 8 * nI h) <<< (((4 : Int32) * nI s) &&& 31)) = nI (r + (l + 8 * h) * 2 ^ (4 * s)) := by
  have e1 : nI l + 8 * nI h = nI (l + 8 * h) := by
    show nI l + nI 8 * nI h = _
    rw [pk_mul, nI_add]
  have e2 : (4 : Int32) * nI s = nI (4 * s) := pk_mul 4 s
  have h16 : 2 ^ (4 * s) ≤ 2 ^ 16 := Nat.pow_le_pow_right (by omega) (by omega)
  have h20 : (l + 8 * h) * 2 ^ (4 * s) ≤ 15 * 2 ^ 16 := Nat.mul_le_mul (by omega) h16
  rw [e1, e2, pk_shlN (nI (4 * s) &&& 31) (4 * s) (lo_cnt _ (by omega)) (by omega), lo_or]
  congr 1
  rw [Nat.or_comm, Nat.mul_comm, ← Nat.two_pow_add_eq_or_of_lt hr, Nat.add_comm]
section
variable {post : Int32 → St0 → Prop} {mc ms kc ks : Nat} {J35 : Int32 → Int32 → Int32 → Int32 → Int32 → Int32 → Int32 → Int32 → Int32 → Int32 → Int32 → (Nat → Int32) → (Nat → Int32) → (Nat → Int32) → (Nat → Int32) → (Nat → Int32) → (Nat → Int32) → (Nat → Int32) → (Nat → Int32) → (Nat → Int32) → Prop} {x0 x1 x3 x4 x6 x7 x8 x9 x10 x11 x12 x13 x14 x15 x16 x17 x18 x19 x20 z0 z1 z2 : Int32} {k0 k1 k2 k3 k4 k5 : Int32} {a1 a2 a3 a4 a5 a6 a7 a8 a9 : Nat → Int32} {p x y r1 r2 : Nat}
theorem lo_243a {k n n' : Nat} {b : Bool} (hk : k < 5) (hJ : J35 z0 x9 (nI (n + (!b).toNat)) (nI n') (nI (k + 1)) k0 k1 k2 k3 k4 k5 a1 a2 a3 a4 a5 a6 a7 a8 a9) : wL_lawOf_243 post mc ms J35 x0 x1 x3 x4 x6 x7 x8 x9 (nI n) (nI n') (nI k) (lo_b b) z0 kc ks k0 k1 k2 k3 k4 k5 a1 a2 a3 a4 a5 a6 a7 a8 a9 := by
  have h5 : ¬ (5 : Int32) ≤ nI k := nI_ge (b := 5) hk (by omega)
  have h4 : nI k ≤ (4 : Int32) := nI_le (b := 4) (by omega) (by omega)
  cases b
  · exact br_f h5 (br_f h5 (br_f h5 (br_t rfl (nm_r (nI_1 n) (br_t h4 (nm_r (nI_add n' 0) (nm_r (nI_1 k) hJ)))))))
  · exact br_f h5 (br_f h5 (br_f h5 (br_f (by decide) (nm_r (nI_add n 0) (br_t h4 (nm_r (nI_add n' 0) (nm_r (nI_1 k) hJ)))))))
theorem lo_243b {k n n' : Nat} {b : Bool} (hk : 5 ≤ k) (hk2 : k < 2 ^ 30) (hJ : J35 x8 z0 (nI n) (nI (n' + (!b).toNat)) (nI (k + 1)) k0 k1 k2 k3 k4 k5 a1 a2 a3 a4 a5 a6 a7 a8 a9) : wL_lawOf_243 post mc ms J35 x0 x1 x3 x4 x6 x7 x8 x9 (nI n) (nI n') (nI k) (lo_b b) z0 kc ks k0 k1 k2 k3 k4 k5 a1 a2 a3 a4 a5 a6 a7 a8 a9 := by
  have h5 : (5 : Int32) ≤ nI k := nI_le (a := 5) hk (by omega)
  have h4 : ¬ nI k ≤ (4 : Int32) := nI_ge (a := 4) (by omega) (by omega)
  cases b
  · exact br_t h5 (br_t h5 (br_t h5 (nm_r (nI_add n 0) (br_f h4 (br_t rfl (nm_r (nI_1 n') (nm_r (nI_1 k) hJ)))))))
  · exact br_t h5 (br_t h5 (br_t h5 (nm_r (nI_add n 0) (br_f h4 (br_f (by decide) (nm_r (nI_add n' 0) (nm_r (nI_1 k) hJ)))))))
theorem lo_208 {r l h s : Nat} (hr : r < 2 ^ (4 * s)) (hs : s ≤ 4) (hl : l + 8 * h < 16) (hn : wL_lawOf_243 post mc ms J35 x0 x1 x3 x4 x6 x7 x8 x9 x10 x11 x12 0 (nI (r + (l + 8 * h) * 2 ^ (4 * s))) kc ks k0 k1 k2 k3 k4 k5 a1 a2 a3 a4 a5 a6 a7 a8 a9) : wL_lawOf_208 post mc ms J35 x0 x1 x3 x4 x6 x7 x8 x9 x10 x11 x12 (nI l) (nI r) (nI s) (nI h) 0 (nI (s + 1)) kc ks k0 k1 k2 k3 k4 k5 a1 a2 a3 a4 a5 a6 a7 a8 a9 := by
  refine br_t (nI_1 s).symm (br_t rfl ?_)
  rw [lo_rowset hr hs hl]
  exact hn
/-- one action of the thread q, or none -/
theorem lo_152 {q s r l h k : Nat} {b : Bool} (hk : k < 10) (hq : q < 4) (hq1 : 5 ≤ k → q = 3) (hq2 : k < 5 → q = p) (hT : lo_Th q s r a1 a2 a3) (hs : s < 5) (hl : l < 3) (hh : h = lo_hl r s / 2 ^ l % 2)
    (h1 : b = true → wL_lawOf_243 post mc ms J35 x0 x1 x3 x4 (nI p) 3 x8 x9 x10 x11 (nI k) 1 (nI r) kc ks k0 k1 k2 k3 k4 k5 a1 a2 a3 a4 a5 a6 a7 a8 a9)
    (h0 : b = false → wL_lawOf_243 post mc ms J35 x0 x1 x3 x4 (nI p) 3 x8 x9 x10 x11 (nI k) 0 (nI (r + (l + 8 * h) * 2 ^ (4 * s))) kc ks 0 k1 k2 k3 k4 k5 (upd a1 q (nI (s + 1))) (upd a2 (6 * q + s) (lo_ac (l + 8 * h))) (upd a3 (7 * q + s + 1) (nI (lo_step (lo_hl r s) (l + 8 * h)))) a4 a5 a6 a7 a8 a9) :
    wL_lawOf_152 post mc ms J35 x0 x1 x3 x4 (nI p) 3 x8 x9 x10 x11 (nI k) (nI l) (nI r) (nI s) (nI h) (lo_b b) kc ks k0 k1 k2 k3 k4 k5 a1 a2 a3 a4 a5 a6 a7 a8 a9 := by
  have hr := hT.2.1
  cases b
  · have h0' := h0 rfl
    by_cases e : h = 1
    · have hbit : lo_hl r s / 2 ^ l % 2 = 1 := by omega
      have ea : l + 8 * h = 8 + l := by omega
      rw [show lo_ac (l + 8 * h) = lo_ac (8 + l) by rw [ea], show lo_step (lo_hl r s) (l + 8 * h) = lo_step (lo_hl r s) (8 + l) by rw [ea]] at h0'
      have hgive : wpX_give (fun r_686 u => match u with | (d0, d1, d2, d3, d4, d5, e1, e2, e3, e4, e5, e6, e7, e8, e9) => wL_lawOf_208 post mc ms J35 x0 x1 x3 x4 (nI p) 3 x8 x9 x10 x11 (nI k) (nI l) (nI r) (nI s) (nI h) 0 r_686 kc ks d0 d1 d2 d3 d4 d5 e1 e2 e3 e4 e5 e6 e7 e8 e9) (k0, k1, k2, k3, k4, k5, a1, a2, a3, a4, a5, a6, a7, a8, a9) (nI q) (nI l) :=
        lo_give hq hl hT hs hbit (lo_208 hr (by omega) (by omega) h0')
      refine br_t rfl (br_t (by rw [e]; rfl) (pk_le 5 k (fun g => ?_) (fun g => ?_)))
      · have e3 := hq1 g
        rw [e3] at hgive
        exact hgive
      · have e3 := hq2 g
        rw [e3] at hgive
        exact hgive
    · have e0 : h = 0 := by omega
      have hbit : lo_hl r s / 2 ^ l % 2 = 0 := by omega
      have ea : l + 8 * h = l := by omega
      rw [show lo_ac (l + 8 * h) = lo_ac l by rw [ea], show lo_step (lo_hl r s) (l + 8 * h) = lo_step (lo_hl r s) l by rw [ea]] at h0'
      have htake : wpX_take (fun r_686 u => match u with | (d0, d1, d2, d3, d4, d5, e1, e2, e3, e4, e5, e6, e7, e8, e9) => wL_lawOf_208 post mc ms J35 x0 x1 x3 x4 (nI p) 3 x8 x9 x10 x11 (nI k) (nI l) (nI r) (nI s) (nI h) 0 r_686 kc ks d0 d1 d2 d3 d4 d5 e1 e2 e3 e4 e5 e6 e7 e8 e9) (k0, k1, k2, k3, k4, k5, a1, a2, a3, a4, a5, a6, a7, a8, a9) (nI q) (nI l) :=
        lo_take hq hl hT hs hbit (lo_208 hr (by omega) (by omega) h0')
      refine br_t rfl (br_f (by rw [e0]; decide) (pk_le 5 k (fun g => ?_) (fun g => ?_)))
      · have e3 := hq1 g
        rw [e3] at htake
        exact htake
      · have e3 := hq2 g
        rw [e3] at htake
        exact htake
  · exact br_f (by decide) (br_f (by decide) (h1 rfl))
/-- from the lock on: l = z0 & 31 % 3 -/
theorem lo_105 {q s r l k : Nat} (hk : k < 10) (hq : q < 4) (hq1 : 5 ≤ k → q = 3) (hq2 : k < 5 → q = p) (hT : lo_Th q s r a1 a2 a3) (hs : s < 5) (hl : l < 3)
    (h1 : wL_lawOf_243 post mc ms J35 x0 x1 x3 x4 (nI p) 3 x8 x9 x10 x11 (nI k) 1 (nI r) kc ks k0 k1 k2 k3 k4 k5 a1 a2 a3 a4 a5 a6 a7 a8 a9)
    (h0 : ∀ a, a < 16 → a % 8 < 3 → wL_lawOf_243 post mc ms J35 x0 x1 x3 x4 (nI p) 3 x8 x9 x10 x11 (nI k) 0 (nI (r + a * 2 ^ (4 * s))) kc ks 0 k1 k2 k3 k4 k5 (upd a1 q (nI (s + 1))) (upd a2 (6 * q + s) (lo_ac a)) (upd a3 (7 * q + s + 1) (nI (lo_step (lo_hl r s) a))) a4 a5 a6 a7 a8 a9) :
    wL_lawOf_105 post mc ms J35 x0 x1 x3 x4 (nI p) 3 x8 x9 x10 x11 (nI k) (nI l) (nI r) (nI s) kc ks k0 k1 k2 k3 k4 k5 a1 a2 a3 a4 a5 a6 a7 a8 a9 := by
  have hr31 : r < 2 ^ 31 := by
    have h1 := hT.2.1
    have h16 : 2 ^ (4 * s) ≤ 2 ^ 16 := Nat.pow_le_pow_right (by omega) (by omega)
    omega
  have hh := lo_hl_lt (r := r) s (fun i hi => (hT.2.2.2.1 i hi).1)
  have h133 : ∀ z : Int32, wL_lawOf_133 post mc ms J35 x0 x1 x3 x4 (nI p) 3 x8 x9 x10 x11 (nI k) (nI l) (nI r) (nI s) (nI (lo_hl r s / 2 ^ l % 2)) z kc ks k0 k1 k2 k3 k4 k5 a1 a2 a3 a4 a5 a6 a7 a8 a9 := by
    intro z
    refine nm_e ⟨by decide, br_c (fun _ => ?_) (fun _ => ?_)⟩
    · exact lo_152 (b := false) hk hq hq1 hq2 hT hs hl rfl (fun g => absurd g (by decide)) (fun _ => h0 _ (by omega) (by omega))
    · exact lo_152 (b := true) hk hq hq1 hq2 hT hs hl rfl (fun _ => h1) (fun g => absurd g (by decide))
  unfold wL_lawOf_105
  refine lo_held hr31 (by omega) (fun i hi => (hT.2.2.2.1 i hi).1) (nm_r (lo_bit (by omega) (by omega)) (br_c (fun _ => h133 _) (fun _ => h133 _)))
/-- the picture of both threads -/
def lo_Ths (p x y r1 r2 : Nat) (a1 a2 a3 : Nat → Int32) : Prop := ∀ t, t < 4 → lo_Th t (lo_X p x y t) (lo_X p r1 r2 t) a1 a2 a3
theorem lo_Ths_p {a : Nat} (hp : p < 3) (h : lo_Ths p x y r1 r2 a1 a2 a3) (hx : x < 5) (ha : a < 16) (ha3 : a % 8 < 3) :
    lo_Ths p (x + 1) y (r1 + a * 2 ^ (4 * x)) r2 (upd a1 p (nI (x + 1))) (upd a2 (6 * p + x) (lo_ac a)) (upd a3 (7 * p + x + 1) (nI (lo_step (lo_hl r1 x) a))) := by
  intro t ht
  have hT := h t ht
  by_cases e : t = p
  · subst e
    rw [lo_X_p, lo_X_p] at hT ⊢
    exact lo_Th_put hT hx ha ha3
  · have e1 : lo_X p (x + 1) y t = lo_X p x y t := by rw [lo_X, lo_X, if_neg e, if_neg e]
    have e2 : lo_X p (r1 + a * 2 ^ (4 * x)) r2 t = lo_X p r1 r2 t := by rw [lo_X, lo_X, if_neg e, if_neg e]
    rw [e1, e2]
    exact lo_Th_other hT e (by omega)
theorem lo_Ths_3 {a : Nat} (hp : p < 3) (h : lo_Ths p x y r1 r2 a1 a2 a3) (hy : y < 5) (ha : a < 16) (ha3 : a % 8 < 3) :
    lo_Ths p x (y + 1) r1 (r2 + a * 2 ^ (4 * y)) (upd a1 3 (nI (y + 1))) (upd a2 (6 * 3 + y) (lo_ac a)) (upd a3 (7 * 3 + y + 1) (nI (lo_step (lo_hl r2 y) a))) := by
  intro t ht
  have hT := h t ht
  by_cases e : t = 3
  · subst e
    rw [lo_X_3 hp, lo_X_3 hp] at hT ⊢
    exact lo_Th_put hT hy ha ha3
  · have e1 : lo_X p x (y + 1) t = lo_X p x y t := by rw [lo_X, lo_X, if_neg e, if_neg e]
    have e2 : lo_X p r1 (r2 + a * 2 ^ (4 * y)) t = lo_X p r1 r2 t := by rw [lo_X, lo_X, if_neg e, if_neg e]
    rw [e1, e2]
    exact lo_Th_other hT e (by omega)
theorem lo_35f {k1 k2 k3 k4 k5 : Int32} {a4 a5 a6 a7 a8 a9 : Nat → Int32} (hpost : post 1 ()) (hp : p < 3) :
    ∀ (f k x y r1 r2 : Nat) (a1 a2 a3 : Nat → Int32), 10 < f + k → k ≤ 10 → x ≤ k → y ≤ k - 5 → lo_Ths p x y r1 r2 a1 a2 a3 →
      wL_lawOf_35 post mc ms x0 x1 x3 x4 (nI p) 3 kc ks f (nI r1) (nI r2) (nI x) (nI y) (nI k) 0 k1 k2 k3 k4 k5 a1 a2 a3 a4 a5 a6 a7 a8 a9 := by
  intro f
  induction f with
  | zero => intro k x y r1 r2 a1 a2 a3 q1 q2; omega
  | succ f ih =>
    intro k x y r1 r2 a1 a2 a3 q1 q2 q3 q4 hT
    have hTp := hT p (by omega)
    have hT3 := hT 3 (by omega)
    rw [lo_X_p, lo_X_p] at hTp
    rw [lo_X_3 hp, lo_X_3 hp] at hT3
    by_cases e : k = 10
    · subst e
      have hr1 : r1 < 2 ^ 31 := by
        have h1 := hTp.2.1
        have h2 := hTp.1
        have h16 : 2 ^ (4 * x) ≤ 2 ^ 20 := Nat.pow_le_pow_right (by omega) (by omega)
        omega
      have hr2 : r2 < 2 ^ 31 := by
        have h1 := hT3.2.1
        have h2 := hT3.1
        have h16 : 2 ^ (4 * y) ≤ 2 ^ 20 := Nat.pow_le_pow_right (by omega) (by omega)
        omega
      refine br_t (by decide) (lo_loop2 hpost hp hTp.1 hT3.1 hr1 hr2 (fun i hi => (hTp.2.2.2.1 i hi).1) (fun i hi => (hT3.2.2.2.1 i hi).1) ⟨lo_Base_Th hT, lo_Mg_Bd (lo_M2_g hp hTp.1 hT3.1), Or.inl rfl⟩)
    · have h66 : ∀ z : Int32, wL_lawOf_66 post mc ms (wL_lawOf_35 post mc ms x0 x1 x3 x4 (nI p) 3 kc ks f) x0 x1 x3 x4 (nI p) 3 (nI r1) (nI r2) (nI x) (nI y) (nI k) z kc ks 0 k1 k2 k3 k4 k5 a1 a2 a3 a4 a5 a6 a7 a8 a9 := by
        intro z
        obtain ⟨j, hj, ej⟩ := pk_andE z (m := 31) 5 (by decide)
        have e3 : nI j - nI j / 3 * 3 = nI (j % 3) := pk_rem (d := 3) (by omega) (by omega) (by omega)
        refine nm_r ej ⟨by decide, nm_r e3 (pk_le 5 k (fun g => br_t (nI_le (a := 5) g (by omega)) ?_) (fun g => br_f (nI_ge (b := 5) g (by omega)) ?_))⟩
        · refine lo_105 (q := 3) (by omega) (by omega) (fun _ => rfl) (fun h => absurd h (by omega)) hT3 (by omega) (by omega) ?_ (fun a ha ha3 => ?_)
          · exact lo_243b (b := true) g (by omega) (ih (k + 1) x y r1 r2 a1 a2 a3 (by omega) (by omega) (by omega) (by omega) hT)
          · exact lo_243b (b := false) g (by omega) (ih (k + 1) x (y + 1) r1 _ _ _ _ (by omega) (by omega) (by omega) (by omega) (lo_Ths_3 hp hT (by omega) ha ha3))
        · refine lo_105 (q := p) (by omega) (by omega) (fun h => absurd h (by omega)) (fun _ => rfl) hTp (by omega) (by omega) ?_ (fun a ha ha3 => ?_)
          · exact lo_243a (b := true) g (ih (k + 1) x y r1 r2 a1 a2 a3 (by omega) (by omega) (by omega) (by omega) hT)
          · exact lo_243a (b := false) g (ih (k + 1) (x + 1) y _ r2 _ _ _ (by omega) (by omega) (by omega) (by omega) (lo_Ths_p hp hT (by omega) ha ha3))
      exact br_f (nI_ge (b := 10) (by omega) (by omega)) (br_c (fun _ => h66 _) (fun _ => h66 _))
end
end
section
/-! ===== the top ===== -/
theorem lo_Ths_0 (p : Nat) : lo_Ths p 0 0 0 0 (fun _ => 0) (fun _ => 0) (fun _ => 0) := by
  intro t ht
  have e : lo_X p 0 0 t = 0 := by
    unfold lo_X
    split
    · rfl
    · split <;> rfl
  rw [e]
  exact lo_Th_0 t
theorem lo_lawOf {p0 p1 p2 p3 p4 : Int32} : wpL_lawOf (fun r _ => r = 1) 3676 58800 () p0 p1 p2 p3 p4 := by
  obtain ⟨j, hj, ej⟩ := pk_andE p2 (m := 127) 7 (by decide)
  have e3 : nI j - nI j / 3 * 3 = nI (j % 3) := pk_rem (d := 3) (by omega) (by omega) (by omega)
  refine ⟨by omega, by omega, 9, 15455, by omega, by omega, ?_⟩
  refine ⟨by omega, by omega, by omega, by omega, by omega, by omega, by omega, by omega, by omega, by omega, by omega, by omega, by omega, by omega, by omega, by omega, by omega, by omega, ?_⟩
  refine ⟨by decide, nm_r (show (p2 &&& 127) - (p2 &&& 127) / 3 * 3 = nI (j % 3) by rw [ej]; exact e3) ⟨11, ?_⟩⟩
  exact lo_35f (post := fun r _ => r = 1) rfl (show j % 3 < 3 by omega) 11 0 0 0 0 0 _ _ _ (by omega) (by omega) (by omega) (by omega) (lo_Ths_0 _)
theorem lo_cell {post : Int32 → Prop} {L i : Nat} {xs : Nat → Int32} (hL : L ≤ 5) (hi : i < 5) (hp : ∀ v, post v) : wpL_cellAt post L xs () (nI i) :=
  pk_le L i (fun _ => hp 0) (fun h => ⟨pk_in i L h, hp _⟩)
theorem i_vc (xs : Nat → Int32) (L : Nat) (hL : L ≤ 5) : wpL_law (fun r => r = 1) L xs := by
  unfold wpL_law
  refine lo_cell (i := 0) hL (by omega) (fun v0 => lo_cell (i := 1) hL (by omega) (fun v1 => lo_cell (i := 2) hL (by omega) (fun v2 => lo_cell (i := 3) hL (by omega) (fun v3 => lo_cell (i := 4) hL (by omega) (fun v4 => ?_)))))
  exact ⟨3676, 58800, by omega, by omega, lo_lawOf⟩
end
