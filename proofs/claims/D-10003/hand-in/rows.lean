section
/-- the sum of f over 0 .. n - 1 -/
def sd_S (f : Nat → Nat) : Nat → Nat
  | 0 => 0
  | n + 1 => sd_S f n + f n
/-- a place of a Nat function written -/
def sd_u (f : Nat → Nat) (k v : Nat) : Nat → Nat := fun j => if j = k then v else f j
theorem sd_us {f : Nat → Nat} {k v : Nat} : sd_u f k v k = v := if_pos rfl
theorem sd_un {f : Nat → Nat} {k v j : Nat} (h : j ≠ k) : sd_u f k v j = f j := if_neg h
theorem sd_S_succ (f : Nat → Nat) (n : Nat) : sd_S f (n + 1) = sd_S f n + f n := rfl
theorem sd_S_congr {f g : Nat → Nat} {n : Nat} (h : ∀ i, i < n → f i = g i) : sd_S f n = sd_S g n := by
  induction n with
  | zero => rfl
  | succ n ih => rw [sd_S_succ, sd_S_succ, ih (fun i hi => h i (by omega)), h n (by omega)]
theorem sd_S_add (f g : Nat → Nat) (n : Nat) : sd_S (fun i => f i + g i) n = sd_S f n + sd_S g n := by
  induction n with
  | zero => rfl
  | succ n ih => rw [sd_S_succ, sd_S_succ, sd_S_succ, ih]; omega
theorem sd_S_le {f g : Nat → Nat} {n : Nat} (h : ∀ i, i < n → f i ≤ g i) : sd_S f n ≤ sd_S g n := by
  induction n with
  | zero => exact Nat.le_refl _
  | succ n ih =>
    have a := ih (fun i hi => h i (by omega))
    have b := h n (by omega)
    rw [sd_S_succ, sd_S_succ]; omega
theorem sd_S_zero {f : Nat → Nat} {n : Nat} (h : ∀ i, i < n → f i = 0) : sd_S f n = 0 := by
  induction n with
  | zero => rfl
  | succ n ih => rw [sd_S_succ, ih (fun i hi => h i (by omega)), h n (by omega)]
theorem sd_S_pt {f g : Nat → Nat} {n k : Nat} (hk : k < n) (h : ∀ i, i < n → i ≠ k → f i = g i) : sd_S f n + g k = sd_S g n + f k := by
  induction n with
  | zero => omega
  | succ n ih =>
    rw [sd_S_succ, sd_S_succ]
    by_cases e : k = n
    · subst e
      rw [sd_S_congr (f := f) (g := g) (fun i hi => h i (by omega) (by omega))]
      omega
    · have a := ih (by omega) (fun i hi hn => h i (by omega) hn)
      have b := h n (by omega) (by omega)
      omega
theorem sd_S_ge {f : Nat → Nat} {n k : Nat} (hk : k < n) : f k ≤ sd_S f n := by
  induction n with
  | zero => omega
  | succ n ih =>
    rw [sd_S_succ]
    by_cases e : k = n
    · subst e; omega
    · have a := ih (by omega)
      omega
theorem sd_S_bd {f : Nat → Nat} {n c : Nat} (h : ∀ i, i < n → f i ≤ c) : sd_S f n ≤ n * c := by
  induction n with
  | zero => simp [sd_S]
  | succ n ih =>
    have a := ih (fun i hi => h i (by omega))
    have b := h n (by omega)
    rw [sd_S_succ, Nat.succ_mul]; omega
/-! endings -/
theorem sd_mm {k l d d' : Nat} (h : k % 2 ^ d = l % 2 ^ d) (hd : d' ≤ d) : k % 2 ^ d' = l % 2 ^ d' := by
  have hv : 2 ^ d' ∣ 2 ^ d := Nat.pow_dvd_pow 2 hd
  rw [← Nat.mod_mod_of_dvd k hv, h, Nat.mod_mod_of_dvd l hv]
theorem sd_mmod (k : Nat) {d d' : Nat} (hd : d' ≤ d) : k % 2 ^ d % 2 ^ d' = k % 2 ^ d' := Nat.mod_mod_of_dvd k (Nat.pow_dvd_pow 2 hd)
/-- the digit of k at place d -/
def sd_b (k d : Nat) : Nat := k / 2 ^ d % 2
theorem sd_b2 (k d : Nat) : sd_b k d = 0 ∨ sd_b k d = 1 := Nat.mod_two_eq_zero_or_one _
theorem sd_ms (k d : Nat) : k % 2 ^ (d + 1) = k % 2 ^ d + 2 ^ d * sd_b k d := Nat.mod_pow_succ
theorem sd_es {k l d : Nat} : k % 2 ^ (d + 1) = l % 2 ^ (d + 1) ↔ k % 2 ^ d = l % 2 ^ d ∧ sd_b k d = sd_b l d := by
  constructor
  · intro h
    have h1 : k % 2 ^ d = l % 2 ^ d := sd_mm h (by omega)
    refine ⟨h1, ?_⟩
    rw [sd_ms, sd_ms, h1] at h
    have h2 : 2 ^ d * sd_b k d = 2 ^ d * sd_b l d := by omega
    exact Nat.eq_of_mul_eq_mul_left (Nat.two_pow_pos d) h2
  · intro h
    rw [sd_ms, sd_ms, h.1, h.2]
theorem sd_bmod (k : Nat) {d D : Nat} (hd : d < D) : sd_b (k % 2 ^ D) d = sd_b k d := (sd_es.mp (sd_mmod k (d := D) (d' := d + 1) hd)).2
theorem sd_bsame {k l d D : Nat} (h : k % 2 ^ D = l % 2 ^ D) (hd : d < D) : sd_b k d = sd_b l d := (sd_es.mp (sd_mm h (d' := d + 1) hd)).2
theorem sd_0 (k l : Nat) : k % 2 ^ 0 = l % 2 ^ 0 := by rw [Nat.pow_zero, Nat.mod_one, Nat.mod_one]
/-- every ending goes on with either digit -/
theorem sd_ext (e d t : Nat) (ht : t < 2) : ∃ k, k % 2 ^ d = e % 2 ^ d ∧ sd_b k d = t := by
  refine ⟨e % 2 ^ d + 2 ^ d * t, ?_, ?_⟩
  · rw [Nat.add_mul_mod_self_left, Nat.mod_mod]
  · unfold sd_b
    rw [Nat.add_mul_div_left _ _ (Nat.two_pow_pos d), Nat.div_eq_of_lt (Nat.mod_lt _ (Nat.two_pow_pos d)), Nat.zero_add, Nat.mod_eq_of_lt ht]
/-! counts -/
/-- how many of 0 .. 255 have Q -/
def sd_N (Q : Nat → Bool) : Nat := sd_S (fun l => (Q l).toNat) 256
/-- l is a key with k's ending of length d -/
def sd_P (K : Nat → Bool) (d k l : Nat) : Bool := K l && decide (l % 2 ^ d = k % 2 ^ d)
def sd_c (K : Nat → Bool) (d k : Nat) : Nat := sd_N (sd_P K d k)
theorem sd_P_iff {K : Nat → Bool} {d k l : Nat} : sd_P K d k l = true ↔ K l = true ∧ l % 2 ^ d = k % 2 ^ d := by
  unfold sd_P
  rw [Bool.and_eq_true, decide_eq_true_iff]
theorem sd_c_same {K : Nat → Bool} {d k l : Nat} (h : k % 2 ^ d = l % 2 ^ d) : sd_c K d k = sd_c K d l := by
  unfold sd_c sd_P
  rw [h]
theorem sd_tn {a b : Bool} (h : a = true → b = true) : a.toNat ≤ b.toNat := by
  cases a with
  | false => exact Nat.zero_le _
  | true => rw [h rfl]; exact Nat.le_refl _
theorem sd_c_mono {K : Nat → Bool} {d d' : Nat} (k : Nat) (h : d' ≤ d) : sd_c K d k ≤ sd_c K d' k := by
  unfold sd_c sd_N
  refine sd_S_le (fun l _ => sd_tn (fun z => ?_))
  have z' := sd_P_iff.mp z
  exact sd_P_iff.mpr ⟨z'.1, sd_mm z'.2 h⟩
theorem sd_c_two {K : Nat → Bool} {j e e' : Nat} (h : e' % 2 ^ j = e % 2 ^ j) (hb : sd_b e' j ≠ sd_b e j) : sd_c K j e = sd_c K (j + 1) e + sd_c K (j + 1) e' := by
  unfold sd_c sd_N
  rw [← sd_S_add]
  refine sd_S_congr (fun l _ => ?_)
  show (sd_P K j e l).toNat = (sd_P K (j + 1) e l).toNat + (sd_P K (j + 1) e' l).toNat
  unfold sd_P
  cases K l with
  | false => rfl
  | true =>
    rw [Bool.true_and, Bool.true_and, Bool.true_and]
    have a := sd_es (k := l) (l := e) (d := j)
    have b := sd_es (k := l) (l := e') (d := j)
    rw [h] at b
    have p1 := sd_b2 l j
    have p2 := sd_b2 e j
    have p3 := sd_b2 e' j
    by_cases c : l % 2 ^ j = e % 2 ^ j
    · by_cases q : sd_b l j = sd_b e j
      · rw [decide_eq_true c, decide_eq_true (a.mpr ⟨c, q⟩), decide_eq_false (fun z => hb ((b.mp z).2 ▸ q))]; rfl
      · rw [decide_eq_true c, decide_eq_false (fun z => q (a.mp z).2), decide_eq_true (b.mpr ⟨c, by omega⟩)]; rfl
    · rw [decide_eq_false c, decide_eq_false (fun z => c (a.mp z).1), decide_eq_false (fun z => c (b.mp z).1)]; rfl
theorem sd_six : ∀ r, r < 64 → sd_S (fun l => (decide (l % 64 = r)).toNat) 256 = 4 := by decide +kernel
theorem sd_c_six (K : Nat → Bool) (k : Nat) : sd_c K 6 k ≤ 4 := by
  have h := sd_six (k % 64) (Nat.mod_lt _ (by omega))
  refine Nat.le_trans (sd_S_le (fun l _ => sd_tn (fun z => ?_))) (Nat.le_of_eq h)
  exact decide_eq_true (sd_P_iff.mp z).2
/-- one key more -/
theorem sd_c_one {K K0 : Nat → Bool} {key : Nat} (hk : key < 256) (h1 : K key = true) (h0 : K0 key = false) (ho : ∀ l, l ≠ key → K l = K0 l) (d k : Nat) : sd_c K d k = sd_c K0 d k + if key % 2 ^ d = k % 2 ^ d then 1 else 0 := by
  unfold sd_c sd_N
  have h := sd_S_pt (f := fun l => (sd_P K d k l).toNat) (g := fun l => (sd_P K0 d k l).toNat) (n := 256) (k := key) hk (fun i _ hi => by
    show (sd_P K d k i).toNat = (sd_P K0 d k i).toNat
    unfold sd_P
    rw [ho i hi])
  have a : (sd_P K0 d k key).toNat = 0 := by unfold sd_P; rw [h0]; rfl
  have b : (sd_P K d k key).toNat = if key % 2 ^ d = k % 2 ^ d then 1 else 0 := by
    unfold sd_P
    rw [h1, Bool.true_and]
    by_cases c : key % 2 ^ d = k % 2 ^ d
    · rw [decide_eq_true c, if_pos c]; rfl
    · rw [decide_eq_false c, if_neg c]; rfl
  rw [a, b] at h
  exact h
theorem sd_c_pos {K : Nat → Bool} {key : Nat} (hk : key < 256) (h1 : K key = true) (d : Nat) : 1 ≤ sd_c K d key := by
  have h := sd_S_ge (f := fun l => (sd_P K d key l).toNat) (n := 256) hk
  have b : (sd_P K d key key).toNat = 1 := by rw [sd_P_iff.mpr ⟨h1, rfl⟩]; rfl
  rw [b] at h
  exact h
theorem sd_c0 (K : Nat → Bool) (k l : Nat) : sd_c K 0 k = sd_c K 0 l := sd_c_same (sd_0 k l)
/-- the key set with one place written -/
def sd_uK (K : Nat → Bool) (k : Nat) (v : Bool) : Nat → Bool := fun j => if j = k then v else K j
theorem sd_uKs {K : Nat → Bool} {k : Nat} {v : Bool} : sd_uK K k v k = v := if_pos rfl
theorem sd_uKn {K : Nat → Bool} {k j : Nat} {v : Bool} (h : j ≠ k) : sd_uK K k v j = K j := if_neg h
theorem sd_c_in {K : Nat → Bool} {key : Nat} (hk : key < 256) (h0 : K key = false) (d k : Nat) : sd_c (sd_uK K key true) d k = sd_c K d k + if key % 2 ^ d = k % 2 ^ d then 1 else 0 :=
  sd_c_one hk sd_uKs h0 (fun l hl => sd_uKn hl) d k
theorem sd_c_out {K : Nat → Bool} {key : Nat} (hk : key < 256) (h1 : K key = true) (d k : Nat) : sd_c K d k = sd_c (sd_uK K key false) d k + if key % 2 ^ d = k % 2 ^ d then 1 else 0 :=
  sd_c_one hk h1 sd_uKs (fun l hl => (sd_uKn hl).symm) d k
/-- put in and taken out again -/
theorem sd_uK_back {K : Nat → Bool} {key : Nat} (h0 : K key = false) : sd_uK (sd_uK K key true) key false = K := by
  funext j
  by_cases e : j = key
  · rw [e, sd_uKs, h0]
  · rw [sd_uKn e, sd_uKn e]
/-- the weights of the endings of one leaf -/
theorem sd_w64 : ∀ d, d < 6 → ∀ r, r < 2 ^ d → sd_S (fun j => if j % 2 ^ d = r then 2 ^ d else 0) 64 = 64 := by decide +kernel
end
section
/-- n cells f (keys) and g (values) hold exactly the keys of P, each once, with the values V -/
def sd_H (n : Nat) (f : Nat → Nat) (g : Nat → Int32) (V : Nat → Int32) (P : Nat → Prop) : Prop :=
  (∀ i, i < n → f i < 256 ∧ P (f i) ∧ g i = V (f i)) ∧ (∀ k, k < 256 → P k → ∃ i, i < n ∧ f i = k) ∧ (∀ i j, i < n → j < n → f i = f j → i = j)
theorem sd_H_0 {f : Nat → Nat} {g V : Nat → Int32} {P : Nat → Prop} (h : ∀ k, k < 256 → ¬ P k) : sd_H 0 f g V P :=
  ⟨fun i hi => absurd hi (by omega), fun k hk hp => absurd hp (h k hk), fun i j hi => absurd hi (by omega)⟩
theorem sd_H_ext {n n' : Nat} {f f' : Nat → Nat} {g g' V V' : Nat → Int32} {P P' : Nat → Prop} (h : sd_H n f g V P) (hn : n' = n) (hf : ∀ i, i < n → f' i = f i) (hg : ∀ i, i < n → g' i = g i) (hP : ∀ k, k < 256 → (P' k ↔ P k)) (hV : ∀ k, k < 256 → P k → V' k = V k) : sd_H n' f' g' V' P' := by
  subst hn
  obtain ⟨h1, h2, h3⟩ := h
  refine ⟨fun i hi => ?_, fun k hk hp => ?_, fun i j hi hj e => ?_⟩
  · obtain ⟨a, b, c⟩ := h1 i hi
    rw [hf i hi, hg i hi]
    exact ⟨a, (hP _ a).mpr b, by rw [hV _ a b]; exact c⟩
  · obtain ⟨i, hi, e⟩ := h2 k hk ((hP k hk).mp hp)
    exact ⟨i, hi, by rw [hf i hi]; exact e⟩
  · rw [hf i hi, hf j hj] at e
    exact h3 i j hi hj e
/-- one cell more -/
theorem sd_H_add {n key : Nat} {f f' : Nat → Nat} {g g' V : Nat → Int32} {P : Nat → Prop} (h : sd_H n f g V P) (hk : key < 256) (hn : ¬ P key) (hf : ∀ i, i < n → f' i = f i) (hg : ∀ i, i < n → g' i = g i) (ef : f' n = key) (eg : g' n = V key) : sd_H (n + 1) f' g' V (fun k => P k ∨ k = key) := by
  obtain ⟨h1, h2, h3⟩ := h
  have hx : ∀ i, i < n → f' i ≠ key := fun i hi e => hn (by rw [hf i hi] at e; rw [← e]; exact (h1 i hi).2.1)
  refine ⟨fun i hi => ?_, fun k hk hp => ?_, fun i j hi hj e => ?_⟩
  · by_cases c : i = n
    · subst c
      rw [ef, eg]
      exact ⟨hk, Or.inr rfl, rfl⟩
    · have hi' : i < n := by omega
      rw [hf i hi', hg i hi']
      exact ⟨(h1 i hi').1, Or.inl (h1 i hi').2.1, (h1 i hi').2.2⟩
  · rcases hp with hp | hp
    · obtain ⟨i, hi, e⟩ := h2 k hk hp
      exact ⟨i, by omega, by rw [hf i hi]; exact e⟩
    · exact ⟨n, by omega, by rw [ef, hp]⟩
  · by_cases ci : i = n
    · by_cases cj : j = n
      · rw [ci, cj]
      · exact absurd (by rw [← e, ci, ef]) (hx j (by omega))
    · by_cases cj : j = n
      · exact absurd (by rw [e, cj, ef]) (hx i (by omega))
      · rw [hf i (by omega), hf j (by omega)] at e
        exact h3 i j (by omega) (by omega) e
/-- the cell p taken out, the last one in its place -/
theorem sd_H_del {n p key : Nat} {f f' : Nat → Nat} {g g' V : Nat → Int32} {P : Nat → Prop} (h : sd_H (n + 1) f g V P) (hp : p ≤ n) (ep : f p = key) (hf : ∀ i, i < n → i ≠ p → f' i = f i) (hg : ∀ i, i < n → i ≠ p → g' i = g i) (ef : p < n → f' p = f n) (eg : p < n → g' p = g n) : sd_H n f' g' V (fun k => P k ∧ k ≠ key) := by
  obtain ⟨h1, h2, h3⟩ := h
  have hx : ∀ i, i < n + 1 → i ≠ p → f i ≠ key := fun i hi hip e => hip (h3 i p hi (by omega) (by rw [e, ep]))
  refine ⟨fun i hi => ?_, fun k hk hq => ?_, fun i j hi hj e => ?_⟩
  · by_cases c : i = p
    · rw [c, ef (by omega), eg (by omega)]
      exact ⟨(h1 n (by omega)).1, ⟨(h1 n (by omega)).2.1, hx n (by omega) (by omega)⟩, (h1 n (by omega)).2.2⟩
    · rw [hf i hi c, hg i hi c]
      exact ⟨(h1 i (by omega)).1, ⟨(h1 i (by omega)).2.1, hx i (by omega) c⟩, (h1 i (by omega)).2.2⟩
  · obtain ⟨i, hi, e⟩ := h2 k hk hq.1
    by_cases c : i = p
    · exact absurd (by rw [← e, c, ep]) hq.2
    · by_cases cn : i = n
      · exact ⟨p, by omega, by rw [ef (by omega), ← cn]; exact e⟩
      · exact ⟨i, by omega, by rw [hf i (by omega) c]; exact e⟩
  · by_cases ci : i = p
    · by_cases cj : j = p
      · rw [ci, cj]
      · rw [ci, ef (by omega), hf j hj cj] at e
        have := h3 n j (by omega) (by omega) e
        omega
    · by_cases cj : j = p
      · rw [cj, ef (by omega), hf i hi ci] at e
        have := h3 i n (by omega) (by omega) e
        omega
      · rw [hf i hi ci, hf j hj cj] at e
        exact h3 i j (by omega) (by omega) e
theorem sd_H_cnt {f : Nat → Nat} {g V : Nat → Int32} : ∀ (n : Nat) (P : Nat → Prop) (Q : Nat → Bool), sd_H n f g V P → (∀ l, l < 256 → (Q l = true ↔ P l)) → sd_N Q = n := by
  intro n
  induction n with
  | zero =>
    intro P Q h hQ
    refine sd_S_zero (fun l hl => ?_)
    show (Q l).toNat = 0
    cases c : Q l with
    | false => rfl
    | true =>
      obtain ⟨i, hi, _⟩ := h.2.1 l hl ((hQ l hl).mp c)
      exact absurd hi (by omega)
  | succ n ih =>
    intro P Q h hQ
    have h' := sd_H_del (p := n) (key := f n) (f' := f) (g' := g) h (Nat.le_refl n) rfl (fun _ _ _ => rfl) (fun _ _ _ => rfl) (fun z => absurd z (by omega)) (fun z => absurd z (by omega))
    have a := ih _ (fun l => Q l && decide (l ≠ f n)) h' (fun l hl => by rw [Bool.and_eq_true, decide_eq_true_iff, hQ l hl])
    have hn := h.1 n (by omega)
    have b := sd_S_pt (f := fun l => (Q l).toNat) (g := fun l => (Q l && decide (l ≠ f n)).toNat) (n := 256) (k := f n) hn.1 (fun i _ hi => by
      show (Q i).toNat = (Q i && decide (i ≠ f n)).toNat
      rw [decide_eq_true hi, Bool.and_true])
    rw [(hQ _ hn.1).mpr hn.2.1] at b
    have c : (true && decide (f n ≠ f n)).toNat = 0 := by rw [decide_eq_false (fun z => z rfl)]; rfl
    have d : true.toNat = 1 := rfl
    rw [c, d] at b
    have a' : sd_S (fun l => (Q l && decide (l ≠ f n)).toNat) 256 = n := a
    show sd_S (fun l => (Q l).toNat) 256 = n + 1
    omega
end
section
/-- the directory and the buckets as a tree of endings; Bf: the bucket of every number -/
def sd_T (D : Nat) (dir us dp Bf : Nat → Nat) (bc : Nat) : Prop :=
  D ≤ 6 ∧ (∀ k, dir (k % 2 ^ D) = Bf k) ∧ (∀ k, Bf k < 64 ∧ us (Bf k) = 1 ∧ dp (Bf k) ≤ D) ∧ (∀ b, us b ≤ 1) ∧ (∀ b, us b = 1 → b < 64 ∧ ∃ k, Bf k = b) ∧ (∀ k l, Bf k = Bf l ↔ k % 2 ^ dp (Bf k) = l % 2 ^ dp (Bf k)) ∧ sd_S us 64 = bc ∧ sd_S (fun b => us b * 2 ^ (6 - dp b)) 64 = 64 ∧ sd_S (fun j => 2 ^ dp (Bf j)) 64 = 64 * bc
/-- every bucket holds the keys of its ending -/
def sd_C (K : Nat → Bool) (V : Nat → Int32) (dp ld ky : Nat → Nat) (vl : Nat → Int32) (Bf : Nat → Nat) : Prop :=
  ∀ k, sd_H (ld (Bf k)) (fun i => ky (Bf k * 5 + i)) (fun i => vl (Bf k * 5 + i)) V (fun l => K l = true ∧ l % 2 ^ dp (Bf k) = k % 2 ^ dp (Bf k))
theorem sd_load {K : Nat → Bool} {V : Nat → Int32} {dp ld ky : Nat → Nat} {vl : Nat → Int32} {Bf : Nat → Nat} (C : sd_C K V dp ld ky vl Bf) (k : Nat) : ld (Bf k) = sd_c K (dp (Bf k)) k :=
  (sd_H_cnt _ _ _ (C k) (fun l _ => sd_P_iff)).symm
/-! the directory doubles, halves -/
theorem sd_T_dbl {D bc : Nat} {dir dir' us dp Bf : Nat → Nat} (T : sd_T D dir us dp Bf bc) (hD : D < 6) (h0 : ∀ j, j < 2 ^ D → dir' j = dir j) (h1 : ∀ j, j < 2 ^ D → dir' (j + 2 ^ D) = dir j) : sd_T (D + 1) dir' us dp Bf bc := by
  obtain ⟨t1, t2, t3, t4, t5, t6, t7, t8, t9⟩ := T
  refine ⟨by omega, fun k => ?_, fun k => ⟨(t3 k).1, (t3 k).2.1, Nat.le_succ_of_le (t3 k).2.2⟩, t4, t5, t6, t7, t8, t9⟩
  have hk : k % 2 ^ D < 2 ^ D := Nat.mod_lt _ (Nat.two_pow_pos D)
  rw [sd_ms]
  rcases sd_b2 k D with z | z
  · rw [z, Nat.mul_zero, Nat.add_zero, h0 _ hk, t2]
  · rw [z, Nat.mul_one, h1 _ hk, t2]
theorem sd_T_half {D bc : Nat} {dir us dp Bf : Nat → Nat} (T : sd_T (D + 1) dir us dp Bf bc) (h : ∀ b, us b = 1 → dp b ≤ D) : sd_T D dir us dp Bf bc := by
  obtain ⟨t1, t2, t3, t4, t5, t6, t7, t8, t9⟩ := T
  refine ⟨by omega, fun k => ?_, fun k => ⟨(t3 k).1, (t3 k).2.1, h _ (t3 k).2.1⟩, t4, t5, t6, t7, t8, t9⟩
  have hk : k % 2 ^ D < 2 ^ D := Nat.mod_lt _ (Nat.two_pow_pos D)
  have h2 : 2 ^ (D + 1) = 2 * 2 ^ D := by rw [Nat.pow_succ, Nat.mul_comm]
  have a := t2 (k % 2 ^ D)
  rw [Nat.mod_eq_of_lt (show k % 2 ^ D < 2 ^ (D + 1) by omega)] at a
  rw [a]
  exact (t6 _ _).mpr (sd_mmod k (h _ (t3 _).2.1))
/-! a bucket splits -/
def sd_sB (Bf : Nat → Nat) (c d e : Nat) : Nat → Nat := fun k => if k % 2 ^ d = e % 2 ^ d ∧ sd_b k d = 1 then c else Bf k
def sd_sd (dp : Nat → Nat) (b c d : Nat) : Nat → Nat := sd_u (sd_u dp b (d + 1)) c (d + 1)
theorem sd_split_cs {D bc : Nat} {dir us dp Bf : Nat → Nat} (T : sd_T D dir us dp Bf bc) {e c d : Nat} (hd : dp (Bf e) = d) (hc : us c = 0) (k : Nat) :
    (k % 2 ^ d = e % 2 ^ d ∧ sd_b k d = 1 ∧ Bf k = Bf e ∧ sd_sB Bf c d e k = c ∧ sd_sd dp (Bf e) c d c = d + 1 ∧ c ≠ Bf e) ∨
    (k % 2 ^ d = e % 2 ^ d ∧ sd_b k d = 0 ∧ Bf k = Bf e ∧ sd_sB Bf c d e k = Bf e ∧ sd_sd dp (Bf e) c d (Bf e) = d + 1 ∧ Bf e ≠ c) ∨
    (¬ k % 2 ^ d = e % 2 ^ d ∧ sd_sB Bf c d e k = Bf k ∧ Bf k ≠ Bf e ∧ Bf k ≠ c ∧ sd_sd dp (Bf e) c d (Bf k) = dp (Bf k)) := by
  obtain ⟨t1, t2, t3, t4, t5, t6, t7, t8, t9⟩ := T
  have F0 : ∀ k, Bf k ≠ c := fun k z => by
    have := (t3 k).2.1
    rw [z, hc] at this
    exact absurd this (by omega)
  have F1 : Bf k = Bf e ↔ k % 2 ^ d = e % 2 ^ d := by
    have := t6 e k
    rw [hd] at this
    exact ⟨fun z => (this.mp z.symm).symm, fun z => (this.mpr z.symm).symm⟩
  unfold sd_sB sd_sd
  by_cases cl : k % 2 ^ d = e % 2 ^ d
  · rcases sd_b2 k d with z | z
    · refine Or.inr (Or.inl ⟨cl, z, F1.mpr cl, ?_, ?_, F0 e⟩)
      · rw [if_neg (fun w => by omega), F1.mpr cl]
      · rw [sd_un (F0 e), sd_us]
    · refine Or.inl ⟨cl, z, F1.mpr cl, ?_, ?_, (F0 e).symm⟩
      · rw [if_pos ⟨cl, z⟩]
      · rw [sd_us]
  · refine Or.inr (Or.inr ⟨cl, ?_, fun z => cl (F1.mp z), F0 k, ?_⟩)
    · rw [if_neg (fun w => cl w.1)]
    · rw [sd_un (F0 k), sd_un (fun z => cl (F1.mp z))]
theorem sd_T_split {D bc : Nat} {dir dir' us dp Bf : Nat → Nat} (T : sd_T D dir us dp Bf bc) {e c d : Nat} (hd : dp (Bf e) = d) (hdD : d < D) (hc : us c = 0) (hc64 : c < 64)
    (hdir : ∀ j, j < 2 ^ D → dir' j = if j % 2 ^ d = e % 2 ^ d ∧ sd_b j d = 1 then c else dir j) :
    sd_T D dir' (sd_u us c 1) (sd_sd dp (Bf e) c d) (sd_sB Bf c d e) (bc + 1) := by
  have cs := fun k => sd_split_cs T hd hc k
  obtain ⟨t1, t2, t3, t4, t5, t6, t7, t8, t9⟩ := T
  have F0 : ∀ k, Bf k ≠ c := fun k z => by
    have := (t3 k).2.1
    rw [z, hc] at this
    exact absurd this (by omega)
  refine ⟨t1, fun k => ?_, fun k => ?_, fun b => ?_, fun b hb => ?_, fun k l => ?_, ?_, ?_, ?_⟩
  · rw [hdir _ (Nat.mod_lt _ (Nat.two_pow_pos D)), sd_mmod k (Nat.le_of_lt hdD), sd_bmod k hdD, t2]
    rfl
  · rcases cs k with ⟨_, _, _, e1, e2, e3⟩ | ⟨_, _, _, e1, e2, e3⟩ | ⟨_, e1, _, e3, e2⟩
    · rw [e1, e2, sd_us]
      exact ⟨hc64, rfl, hdD⟩
    · rw [e1, e2, sd_un e3]
      exact ⟨(t3 e).1, (t3 e).2.1, hdD⟩
    · rw [e1, e2, sd_un e3]
      exact t3 k
  · by_cases z : b = c
    · rw [z, sd_us]; omega
    · rw [sd_un z]; exact t4 b
  · by_cases z : b = c
    · refine ⟨by rw [z]; exact hc64, ?_⟩
      obtain ⟨k, k1, k2⟩ := sd_ext e d 1 (by omega)
      exact ⟨k, by unfold sd_sB; rw [if_pos ⟨k1, k2⟩, z]⟩
    · rw [sd_un z] at hb
      refine ⟨(t5 b hb).1, ?_⟩
      by_cases w : b = Bf e
      · obtain ⟨k, k1, k2⟩ := sd_ext e d 0 (by omega)
        refine ⟨k, ?_⟩
        rcases cs k with ⟨_, q, _⟩ | ⟨_, _, _, e1, _⟩ | ⟨q, _⟩
        · omega
        · rw [e1, w]
        · exact absurd k1 q
      · obtain ⟨k, ek⟩ := (t5 b hb).2
        refine ⟨k, ?_⟩
        rcases cs k with ⟨_, _, q, _⟩ | ⟨_, _, q, _⟩ | ⟨_, e1, _⟩
        · exact absurd (by rw [← ek, q]) w
        · exact absurd (by rw [← ek, q]) w
        · rw [e1, ek]
  · rcases cs k with ⟨a1, a2, a3, a4, a5, a6⟩ | ⟨a1, a2, a3, a4, a5, a6⟩ | ⟨a1, a2, a3, a4, a5⟩
    · rw [a4, a5, sd_es]
      rcases cs l with ⟨b1, b2, b3, b4, b5, b6⟩ | ⟨b1, b2, b3, b4, b5, b6⟩ | ⟨b1, b2, b3, b4, b5⟩
      · rw [b4]
        exact ⟨fun _ => ⟨by rw [a1, b1], by rw [a2, b2]⟩, fun _ => rfl⟩
      · rw [b4]
        exact ⟨fun z => absurd z a6, fun z => by omega⟩
      · rw [b2]
        exact ⟨fun z => absurd z.symm b4, fun z => absurd (by rw [← z.1, a1]) b1⟩
    · rw [a4, a5, sd_es]
      rcases cs l with ⟨b1, b2, b3, b4, b5, b6⟩ | ⟨b1, b2, b3, b4, b5, b6⟩ | ⟨b1, b2, b3, b4, b5⟩
      · rw [b4]
        exact ⟨fun z => absurd z a6, fun z => by omega⟩
      · rw [b4]
        exact ⟨fun _ => ⟨by rw [a1, b1], by rw [a2, b2]⟩, fun _ => rfl⟩
      · rw [b2]
        exact ⟨fun z => absurd z.symm b3, fun z => absurd (by rw [← z.1, a1]) b1⟩
    · rw [a2, a5]
      rcases cs l with ⟨b1, b2, b3, b4, b5, b6⟩ | ⟨b1, b2, b3, b4, b5, b6⟩ | ⟨b1, b2, b3, b4, b5⟩
      · rw [b4]
        exact ⟨fun z => absurd z a4, fun z => absurd (((t6 k l).mpr z).trans b3) a3⟩
      · rw [b4]
        exact ⟨fun z => absurd z a3, fun z => absurd (((t6 k l).mpr z).trans b3) a3⟩
      · rw [b2]
        exact t6 k l
  · have h := sd_S_pt (f := sd_u us c 1) (g := us) (n := 64) (k := c) hc64 (fun i _ hi => sd_un hi)
    rw [sd_us, hc, t7] at h
    omega
  · have h1 := sd_S_pt (f := fun b => if b = c then 2 ^ (6 - (d + 1)) else us b * 2 ^ (6 - dp b)) (g := fun b => us b * 2 ^ (6 - dp b)) (n := 64) (k := c) hc64 (fun i _ hi => if_neg hi)
    have h2 := sd_S_pt (f := fun b => sd_u us c 1 b * 2 ^ (6 - sd_sd dp (Bf e) c d b)) (g := fun b => if b = c then 2 ^ (6 - (d + 1)) else us b * 2 ^ (6 - dp b)) (n := 64) (k := Bf e) (t3 e).1 (fun i _ hi => by
      by_cases z : i = c
      · rw [if_pos z, z, sd_us, Nat.one_mul]
        unfold sd_sd
        rw [sd_us]
      · rw [if_neg z, sd_un z]
        unfold sd_sd
        rw [sd_un z, sd_un hi])
    rw [if_pos rfl, hc, t8, Nat.zero_mul] at h1
    rw [if_neg (F0 e), sd_un (F0 e), (t3 e).2.1, hd, Nat.one_mul, Nat.one_mul] at h2
    have h3 : sd_sd dp (Bf e) c d (Bf e) = d + 1 := by
      unfold sd_sd
      rw [sd_un (F0 e), sd_us]
    have h4 : 2 ^ (6 - d) = 2 * 2 ^ (6 - (d + 1)) := by
      rw [show 6 - d = (6 - (d + 1)) + 1 by omega, Nat.pow_succ, Nat.mul_comm]
    rw [h3, h4] at h2
    omega
  · have h1 : sd_S (fun j => 2 ^ sd_sd dp (Bf e) c d (sd_sB Bf c d e j)) 64 = sd_S (fun j => 2 ^ dp (Bf j) + if j % 2 ^ d = e % 2 ^ d then 2 ^ d else 0) 64 := by
      refine sd_S_congr (fun j _ => ?_)
      rcases cs j with ⟨a1, a2, a3, a4, a5, a6⟩ | ⟨a1, a2, a3, a4, a5, a6⟩ | ⟨a1, a2, a3, a4, a5⟩
      · rw [a4, a5, a3, hd, if_pos a1, Nat.pow_succ]; omega
      · rw [a4, a5, a3, hd, if_pos a1, Nat.pow_succ]; omega
      · rw [a2, a5, if_neg a1, Nat.add_zero]
    have h2 := sd_w64 d (by omega) (e % 2 ^ d) (Nat.mod_lt _ (Nat.two_pow_pos d))
    rw [h1, sd_S_add, t9, h2]
    omega
theorem sd_C_split {D bc : Nat} {dir us dp Bf ld ky ld' ky' : Nat → Nat} {K : Nat → Bool} {V vl vl' : Nat → Int32} (T : sd_T D dir us dp Bf bc) (C : sd_C K V dp ld ky vl Bf) {e c d : Nat} (hd : dp (Bf e) = d) (hc : us c = 0)
    (hl : ∀ k, ld (Bf k) ≤ 5)
    (h0 : sd_H (ld' (Bf e)) (fun i => ky' (Bf e * 5 + i)) (fun i => vl' (Bf e * 5 + i)) V (fun l => (K l = true ∧ l % 2 ^ d = e % 2 ^ d) ∧ sd_b l d = 0))
    (h1 : sd_H (ld' c) (fun i => ky' (c * 5 + i)) (fun i => vl' (c * 5 + i)) V (fun l => (K l = true ∧ l % 2 ^ d = e % 2 ^ d) ∧ ¬ sd_b l d = 0))
    (ho : ∀ b, b ≠ Bf e → b ≠ c → ld' b = ld b ∧ ∀ i, i < 5 → ky' (b * 5 + i) = ky (b * 5 + i) ∧ vl' (b * 5 + i) = vl (b * 5 + i)) :
    sd_C K V (sd_sd dp (Bf e) c d) ld' ky' vl' (sd_sB Bf c d e) := by
  intro k
  rcases sd_split_cs T hd hc k with ⟨a1, a2, a3, a4, a5, a6⟩ | ⟨a1, a2, a3, a4, a5, a6⟩ | ⟨a1, a2, a3, a4, a5⟩
  · rw [a4, a5]
    refine sd_H_ext h1 rfl (fun _ _ => rfl) (fun _ _ => rfl) (fun l _ => ?_) (fun _ _ _ => rfl)
    rw [sd_es, a1, a2]
    have := sd_b2 l d
    exact ⟨fun z => ⟨⟨z.1, z.2.1⟩, by omega⟩, fun z => ⟨z.1.1, z.1.2, by omega⟩⟩
  · rw [a4, a5]
    refine sd_H_ext h0 rfl (fun _ _ => rfl) (fun _ _ => rfl) (fun l _ => ?_) (fun _ _ _ => rfl)
    rw [sd_es, a1, a2]
    exact ⟨fun z => ⟨⟨z.1, z.2.1⟩, z.2.2⟩, fun z => ⟨z.1.1, z.1.2, z.2⟩⟩
  · rw [a2, a5]
    have q := ho _ a3 a4
    have w := hl k
    exact sd_H_ext (C k) q.1 (fun i hi => (q.2 i (by omega)).1) (fun i hi => (q.2 i (by omega)).2) (fun _ _ => Iff.rfl) (fun _ _ _ => rfl)
/-- a free bucket -/
theorem sd_free {D bc : Nat} {dir us dp Bf : Nat → Nat} (T : sd_T D dir us dp Bf bc) {e : Nat} (hd : dp (Bf e) < 6) : ∃ c, c < 64 ∧ us c = 0 ∧ ∀ j, j < c → us j = 1 := by
  obtain ⟨t1, t2, t3, t4, t5, t6, t7, t8, t9⟩ := T
  have ex : ∃ c, c < 64 ∧ us c = 0 := by
    refine Classical.byContradiction (fun hn => ?_)
    have all : ∀ c, c < 64 → us c = 1 := fun c hc => by
      have h1 := t4 c
      have h2 : us c ≠ 0 := fun z => hn ⟨c, hc, z⟩
      omega
    have h1 := sd_S_pt (f := fun b => if b = Bf e then 2 else 1) (g := fun _ => 1) (n := 64) (k := Bf e) (t3 e).1 (fun i _ hi => if_neg hi)
    have h2 : sd_S (fun b => if b = Bf e then 2 else 1) 64 ≤ sd_S (fun b => us b * 2 ^ (6 - dp b)) 64 := by
      refine sd_S_le (fun b hb => ?_)
      rw [all b hb, Nat.one_mul]
      by_cases z : b = Bf e
      · rw [if_pos z, z]
        exact Nat.pow_le_pow_right (n := 2) (by omega) (show 1 ≤ 6 - dp (Bf e) by omega)
      · rw [if_neg z]
        exact Nat.two_pow_pos _
    have h3 : sd_S (fun _ => 1) 64 = 64 := by decide +kernel
    rw [if_pos rfl, h3] at h1
    rw [t8] at h2
    omega
  obtain ⟨c, h1, h2⟩ := pk_least (fun c => c < 64 ∧ us c = 0) ex
  refine ⟨c, h1.1, h1.2, fun j hj => ?_⟩
  have h3 := h2 j hj
  have h4 := t4 j
  have h5 : us j ≠ 0 := fun z => h3 ⟨by omega, z⟩
  omega
/-! two buckets are joined -/
def sd_jB (Bf : Nat → Nat) (b c : Nat) : Nat → Nat := fun k => if Bf k = c then b else Bf k
theorem sd_join_cs {D bc : Nat} {dir us dp Bf : Nat → Nat} (T : sd_T D dir us dp Bf bc) {e e' j : Nat} (hd : dp (Bf e) = j + 1) (hd' : dp (Bf e') = j + 1) (he : e' % 2 ^ j = e % 2 ^ j) (hb : sd_b e' j ≠ sd_b e j) (k : Nat) :
    (k % 2 ^ j = e % 2 ^ j ∧ sd_b k j = sd_b e j ∧ Bf k = Bf e ∧ sd_jB Bf (Bf e) (Bf e') k = Bf e) ∨
    (k % 2 ^ j = e % 2 ^ j ∧ sd_b k j = sd_b e' j ∧ Bf k = Bf e' ∧ sd_jB Bf (Bf e) (Bf e') k = Bf e) ∨
    (¬ k % 2 ^ j = e % 2 ^ j ∧ Bf k ≠ Bf e ∧ Bf k ≠ Bf e' ∧ sd_jB Bf (Bf e) (Bf e') k = Bf k) := by
  obtain ⟨t1, t2, t3, t4, t5, t6, t7, t8, t9⟩ := T
  have F1 : Bf k = Bf e ↔ k % 2 ^ j = e % 2 ^ j ∧ sd_b k j = sd_b e j := by
    have := t6 e k
    rw [hd] at this
    rw [← sd_es]
    exact ⟨fun z => (this.mp z.symm).symm, fun z => (this.mpr z.symm).symm⟩
  have F2 : Bf k = Bf e' ↔ k % 2 ^ j = e % 2 ^ j ∧ sd_b k j = sd_b e' j := by
    have := t6 e' k
    rw [hd'] at this
    rw [← he, ← sd_es]
    exact ⟨fun z => (this.mp z.symm).symm, fun z => (this.mpr z.symm).symm⟩
  have p1 := sd_b2 k j
  have p2 := sd_b2 e j
  have p3 := sd_b2 e' j
  unfold sd_jB
  by_cases cl : k % 2 ^ j = e % 2 ^ j
  · by_cases z : sd_b k j = sd_b e j
    · refine Or.inl ⟨cl, z, F1.mpr ⟨cl, z⟩, ?_⟩
      rw [if_neg (fun w => hb (by rw [← (F2.mp w).2, z])), F1.mpr ⟨cl, z⟩]
    · have z' : sd_b k j = sd_b e' j := by omega
      refine Or.inr (Or.inl ⟨cl, z', F2.mpr ⟨cl, z'⟩, ?_⟩)
      rw [if_pos (F2.mpr ⟨cl, z'⟩)]
  · refine Or.inr (Or.inr ⟨cl, fun z => cl (F1.mp z).1, fun z => cl (F2.mp z).1, ?_⟩)
    rw [if_neg (fun z => cl (F2.mp z).1)]
theorem sd_T_ne {D bc : Nat} {dir us dp Bf : Nat → Nat} (T : sd_T D dir us dp Bf bc) {e e' j : Nat} (hd : dp (Bf e) = j + 1) (hb : sd_b e' j ≠ sd_b e j) : Bf e ≠ Bf e' := by
  intro z
  have := (T.2.2.2.2.2.1 e e').mp z
  rw [hd, sd_es] at this
  exact hb this.2.symm
theorem sd_T_join {D bc : Nat} {dir dir' us dp Bf : Nat → Nat} (T : sd_T D dir us dp Bf (bc + 1)) {e e' j : Nat} (hd : dp (Bf e) = j + 1) (hd' : dp (Bf e') = j + 1) (he : e' % 2 ^ j = e % 2 ^ j) (hb : sd_b e' j ≠ sd_b e j)
    (hdir : ∀ i, i < 2 ^ D → dir' i = if dir i = Bf e' then Bf e else dir i) :
    sd_T D dir' (sd_u us (Bf e') 0) (sd_u dp (Bf e) j) (sd_jB Bf (Bf e) (Bf e')) bc := by
  have cs := fun k => sd_join_cs T hd hd' he hb k
  have ne := sd_T_ne T hd hb
  obtain ⟨t1, t2, t3, t4, t5, t6, t7, t8, t9⟩ := T
  refine ⟨t1, fun k => ?_, fun k => ?_, fun b => ?_, fun b h => ?_, fun k l => ?_, ?_, ?_, ?_⟩
  · rw [hdir _ (Nat.mod_lt _ (Nat.two_pow_pos D)), t2]
    rfl
  · have hj := (t3 e).2.2
    rcases cs k with ⟨_, _, _, e1⟩ | ⟨_, _, _, e1⟩ | ⟨_, e2, e3, e1⟩
    · rw [e1, sd_us, sd_un ne]
      exact ⟨(t3 e).1, (t3 e).2.1, by omega⟩
    · rw [e1, sd_us, sd_un ne]
      exact ⟨(t3 e).1, (t3 e).2.1, by omega⟩
    · rw [e1, sd_un e2, sd_un e3]
      exact t3 k
  · by_cases z : b = Bf e'
    · rw [z, sd_us]; omega
    · rw [sd_un z]; exact t4 b
  · by_cases z : b = Bf e'
    · rw [z, sd_us] at h
      exact absurd h (by omega)
    · rw [sd_un z] at h
      obtain ⟨h1, k, h2⟩ := t5 b h
      exact ⟨h1, k, by unfold sd_jB; rw [if_neg (by rw [h2]; exact z), h2]⟩
  · rcases cs k with ⟨a1, a2, a3, a4⟩ | ⟨a1, a2, a3, a4⟩ | ⟨a1, a2, a3, a4⟩
    · rw [a4, sd_us]
      rcases cs l with ⟨b1, b2, b3, b4⟩ | ⟨b1, b2, b3, b4⟩ | ⟨b1, b2, b3, b4⟩
      · rw [b4]; exact ⟨fun _ => by rw [a1, b1], fun _ => rfl⟩
      · rw [b4]; exact ⟨fun _ => by rw [a1, b1], fun _ => rfl⟩
      · rw [b4]; exact ⟨fun z => absurd z.symm b2, fun z => absurd (by rw [← z, a1]) b1⟩
    · rw [a4, sd_us]
      rcases cs l with ⟨b1, b2, b3, b4⟩ | ⟨b1, b2, b3, b4⟩ | ⟨b1, b2, b3, b4⟩
      · rw [b4]; exact ⟨fun _ => by rw [a1, b1], fun _ => rfl⟩
      · rw [b4]; exact ⟨fun _ => by rw [a1, b1], fun _ => rfl⟩
      · rw [b4]; exact ⟨fun z => absurd z.symm b2, fun z => absurd (by rw [← z, a1]) b1⟩
    · rw [a4, sd_un a2]
      rcases cs l with ⟨b1, b2, b3, b4⟩ | ⟨b1, b2, b3, b4⟩ | ⟨b1, b2, b3, b4⟩
      · rw [b4]; exact ⟨fun z => absurd z a2, fun z => absurd (((t6 k l).mpr z).trans b3) a2⟩
      · rw [b4]; exact ⟨fun z => absurd z a2, fun z => absurd (((t6 k l).mpr z).trans b3) a3⟩
      · rw [b4]; exact t6 k l
  · have h := sd_S_pt (f := sd_u us (Bf e') 0) (g := us) (n := 64) (k := Bf e') (t3 e').1 (fun i _ hi => sd_un hi)
    rw [sd_us, (t3 e').2.1, t7] at h
    omega
  · have h1 := sd_S_pt (f := fun b => if b = Bf e' then 0 else us b * 2 ^ (6 - dp b)) (g := fun b => us b * 2 ^ (6 - dp b)) (n := 64) (k := Bf e') (t3 e').1 (fun i _ hi => if_neg hi)
    have h2 := sd_S_pt (f := fun b => sd_u us (Bf e') 0 b * 2 ^ (6 - sd_u dp (Bf e) j b)) (g := fun b => if b = Bf e' then 0 else us b * 2 ^ (6 - dp b)) (n := 64) (k := Bf e) (t3 e).1 (fun i _ hi => by
      by_cases z : i = Bf e'
      · rw [if_pos z, z, sd_us, Nat.zero_mul]
      · rw [if_neg z, sd_un z, sd_un hi])
    rw [if_pos rfl, (t3 e').2.1, t8, hd', Nat.one_mul] at h1
    rw [if_neg ne, sd_un ne, (t3 e).2.1, hd, sd_us, Nat.one_mul, Nat.one_mul] at h2
    have hj := (t3 e).2.2
    have h4 : 2 ^ (6 - j) = 2 * 2 ^ (6 - (j + 1)) := by
      rw [show 6 - j = (6 - (j + 1)) + 1 by omega, Nat.pow_succ, Nat.mul_comm]
    rw [h4] at h2
    omega
  · have h1 : sd_S (fun i => 2 ^ dp (Bf i)) 64 = sd_S (fun i => 2 ^ sd_u dp (Bf e) j (sd_jB Bf (Bf e) (Bf e') i) + if i % 2 ^ j = e % 2 ^ j then 2 ^ j else 0) 64 := by
      refine sd_S_congr (fun i _ => ?_)
      rcases cs i with ⟨a1, a2, a3, a4⟩ | ⟨a1, a2, a3, a4⟩ | ⟨a1, a2, a3, a4⟩
      · rw [a4, a3, hd, sd_us, if_pos a1, Nat.pow_succ]; omega
      · rw [a4, a3, hd', sd_us, if_pos a1, Nat.pow_succ]; omega
      · rw [a4, sd_un a2, if_neg a1, Nat.add_zero]
    have hj := (t3 e).2.2
    have h2 := sd_w64 j (by omega) (e % 2 ^ j) (Nat.mod_lt _ (Nat.two_pow_pos j))
    rw [h1, sd_S_add, h2] at t9
    omega
theorem sd_C_join {D bc : Nat} {dir us dp Bf ld ky ld' ky' : Nat → Nat} {K : Nat → Bool} {V vl vl' : Nat → Int32} (T : sd_T D dir us dp Bf bc) (C : sd_C K V dp ld ky vl Bf) {e e' j : Nat} (hd : dp (Bf e) = j + 1) (hd' : dp (Bf e') = j + 1) (he : e' % 2 ^ j = e % 2 ^ j) (hb : sd_b e' j ≠ sd_b e j)
    (hl : ∀ k, ld (Bf k) ≤ 5)
    (h0 : sd_H (ld' (Bf e)) (fun i => ky' (Bf e * 5 + i)) (fun i => vl' (Bf e * 5 + i)) V (fun l => (K l = true ∧ l % 2 ^ (j + 1) = e % 2 ^ (j + 1)) ∨ (K l = true ∧ l % 2 ^ (j + 1) = e' % 2 ^ (j + 1))))
    (ho : ∀ b, b ≠ Bf e → ld' b = ld b ∧ ∀ i, i < 5 → ky' (b * 5 + i) = ky (b * 5 + i) ∧ vl' (b * 5 + i) = vl (b * 5 + i)) :
    sd_C K V (sd_u dp (Bf e) j) ld' ky' vl' (sd_jB Bf (Bf e) (Bf e')) := by
  intro k
  have base : ∀ m, m % 2 ^ j = e % 2 ^ j → sd_H (ld' (Bf e)) (fun i => ky' (Bf e * 5 + i)) (fun i => vl' (Bf e * 5 + i)) V (fun l => K l = true ∧ l % 2 ^ j = m % 2 ^ j) := by
    intro m hm
    refine sd_H_ext h0 rfl (fun _ _ => rfl) (fun _ _ => rfl) (fun l _ => ?_) (fun _ _ _ => rfl)
    rw [sd_es, sd_es, he, hm]
    have p1 := sd_b2 l j
    have p2 := sd_b2 e j
    have p3 := sd_b2 e' j
    constructor
    · intro z
      by_cases w : sd_b l j = sd_b e j
      · exact Or.inl ⟨z.1, z.2, w⟩
      · exact Or.inr ⟨z.1, z.2, by omega⟩
    · intro z
      rcases z with z | z
      · exact ⟨z.1, z.2.1⟩
      · exact ⟨z.1, z.2.1⟩
  rcases sd_join_cs T hd hd' he hb k with ⟨a1, a2, a3, a4⟩ | ⟨a1, a2, a3, a4⟩ | ⟨a1, a2, a3, a4⟩
  · rw [a4, sd_us]
    exact base k a1
  · rw [a4, sd_us]
    exact base k a1
  · rw [a4, sd_un a2]
    have q := ho _ a2
    have w := hl k
    exact sd_H_ext (C k) q.1 (fun i hi => (q.2 i (by omega)).1) (fun i hi => (q.2 i (by omega)).2) (fun _ _ => Iff.rfl) (fun _ _ _ => rfl)
end
section
/-- an array of small numbers -/
def sd_i (f : Nat → Nat) : Nat → Int32 := fun i => nI (f i)
theorem sd_ia (f : Nat → Nat) (k : Nat) : sd_i f k = nI (f k) := rfl
theorem sd_iu (f : Nat → Nat) (k v : Nat) : upd (sd_i f) k (nI v) = sd_i (sd_u f k v) := by
  funext j
  by_cases e : j = k
  · rw [e, pk_us, sd_ia, sd_us]
  · rw [pk_un e, sd_ia, sd_ia, sd_un e]
theorem sd_iu' (f : Nat → Nat) (k v : Nat) {x : Int32} (h : x = nI v) : upd (sd_i f) k x = sd_i (sd_u f k v) := by rw [h, sd_iu]
/-- the state that a picture stands for -/
abbrev sd_st (D bc kc : Nat) (dir us dp ld ky : Nat → Nat) (vl : Nat → Int32) : St1 := (nI D, nI bc, nI kc, sd_i dir, sd_i us, sd_i dp, sd_i ld, sd_i ky, vl)
/-! numbers -/
theorem sd_nb8 : ∀ n, n < 128 → (nI n).toInt8.toInt32 = nI n := by decide +kernel
theorem sd_nb16 : ∀ n, n < 256 → (nI n).toInt16.toInt32 = nI n := by decide +kernel
theorem sd_sh : ∀ D, D < 7 → (1 : Int32) <<< (nI D &&& 31) = nI (2 ^ D) := by decide +kernel
theorem sd_mk : ∀ D, D < 7 → (nI (2 ^ D) - 1).toBitVec.toNat = 2 ^ D - 1 := by decide +kernel
theorem sd_sm : ∀ D, D < 7 → ((nI D &&& 31).toBitVec.smod 32).toNat = D := by decide +kernel
theorem sd_xor : ∀ j, j < 6 → ∀ e, e < 256 → nI e ^^^ ((1 : Int32) <<< (nI j &&& 31)) = nI (e ^^^ 2 ^ j) := by decide +kernel
theorem sd_xlt : ∀ j, j < 6 → ∀ e, e < 256 → e ^^^ 2 ^ j < 256 ∧ (e ^^^ 2 ^ j) % 2 ^ j = e % 2 ^ j ∧ sd_b (e ^^^ 2 ^ j) j ≠ sd_b e j := by decide +kernel
theorem sd_pw {D : Nat} (h : D ≤ 6) : 2 ^ D ≤ 64 := Nat.pow_le_pow_right (n := 2) (by omega) h
theorem sd_mask {k D : Nat} (hk : k < 2 ^ 31) (hD : D ≤ 6) : nI k &&& (((1 : Int32) <<< (nI D &&& 31)) - 1) = nI (k % 2 ^ D) := by
  rw [sd_sh D (by omega)]
  exact pk_andN (by omega) D (sd_mk D (by omega))
theorem sd_bit {k d : Nat} (hk : k < 2 ^ 31) (hd : d ≤ 6) : (nI k >>> (nI d &&& 31)) &&& 1 = nI (sd_b k d) := by
  rw [pk_shrN hk _ d (sd_sm d (by omega))]
  have h : k / 2 ^ d ≤ k := Nat.div_le_self _ _
  exact pk_andN (by omega) 1 (by decide)
theorem sd_ix (b i : Nat) : nI b * 5 + nI i = nI (b * 5 + i) := by
  show nI b * nI 5 + nI i = _
  rw [pk_mul, nI_add]
theorem sd_m0 {n : Nat} (h : n < 2 ^ 31) : ¬ (0 : Int32) = nI n ∨ n = 0 := by
  by_cases e : n = 0
  · exact Or.inr e
  · exact Or.inl (fun z => nI_ne0 (by omega) h z.symm)
/-! isKey, bucketOf -/
theorem sd_key {post : Int32 → Prop} {u : St2} {k : Nat} (hk : k < 256) (h : post 1) : wpX_isKey post u (nI k) :=
  br_f (nI_pos (by omega)) (br_f (nI_ge (b := 256) hk (by decide)) h)
section
variable {D bc kc : Nat} {dir us dp ld ky : Nat → Nat} {vl : Nat → Int32}
theorem sd_bOf {post : Int32 → Prop} {k b : Nat} (hD : D ≤ 6) (hk : k < 2 ^ 31) (e : dir (k % 2 ^ D) = b) (h : post (nI b)) : wpX_bucketOf post (sd_st D bc kc dir us dp ld ky vl) (nI k) := by
  have h2 : k % 2 ^ D < 2 ^ D := Nat.mod_lt _ (Nat.two_pow_pos D)
  have h3 := sd_pw hD
  unfold wpX_bucketOf
  dsimp only
  rw [sd_mask hk hD, nI_clamp (by omega), sd_ia, e]
  exact ⟨vp_in_nI (by omega) (by decide), h⟩
/-! find -/
theorem sd_find {post : Int32 → Prop} {b key : Nat} (hb : b < 65) (hl : ld b ≤ 5) (hky : ∀ i, i < ld b → ky (b * 5 + i) < 256) (hk : key < 256)
    (h0 : (∀ i, i < ld b → ky (b * 5 + i) ≠ key) → post (-1)) (h1 : ∀ i, i < ld b → ky (b * 5 + i) = key → post (nI i)) : wpX_find post (sd_st D bc kc dir us dp ld ky vl) (nI b) (nI key) := by
  unfold wpX_find
  dsimp only
  refine pk_loop (σ := Unit) (fun n i _ => wX_find_2 post (nI b) (nI key) (nI D) (nI bc) (nI kc) (sd_i dir) (sd_i us) (sd_i dp) (sd_i ld) (sd_i ky) vl n (nI i)) (fun i _ => ∀ j, j < i → ky (b * 5 + j) ≠ key) (ld b) 0 () (by omega) (fun j hj => absurd hj (by omega)) ?_ ?_
  · intro n _ hI
    unfold wX_find_2
    rw [nI_clamp (show b < 2 ^ 31 by omega), sd_ia]
    exact ⟨vp_in_nI hb (by decide), pk_le (ld b) (ld b) (fun _ => h0 hI) (fun z => absurd z (by omega))⟩
  · intro n i _ hi hI hw
    unfold wX_find_2
    rw [nI_clamp (show b < 2 ^ 31 by omega), sd_ia, sd_ix, nI_clamp (show b * 5 + i < 2 ^ 31 by omega), sd_ia]
    have hx := hky i hi
    refine ⟨vp_in_nI hb (by decide), pk_le (ld b) i (fun z => absurd z (by omega)) (fun _ => ⟨vp_in_nI (by omega) (by decide), pk_eq (ky (b * 5 + i)) key (fun z => h1 i hi z) (fun z => nm_r (nI_1 i) (hw () ?_))⟩)⟩
    exact lt_s hI z
/-! append -/
theorem sd_append {post : St1 → Prop} {b key : Nat} {x : Int32} (hb : b < 65) (hl : ld b ≤ 4) (hk : key < 256)
    (h : post (sd_st D bc kc dir us dp (sd_u ld b (ld b + 1)) (sd_u ky (b * 5 + ld b) key) (upd vl (b * 5 + ld b) x))) : wpX_append post (sd_st D bc kc dir us dp ld ky vl) (nI b) (nI key) x := by
  unfold wpX_append
  dsimp only
  rw [nI_clamp (show b < 2 ^ 31 by omega), sd_ia, sd_ix, nI_clamp (show b * 5 + ld b < 2 ^ 31 by omega), nI_1, sd_nb8 _ (by omega), sd_nb16 _ hk, sd_iu, sd_iu]
  have i1 : vp_in (nI b) 65 := vp_in_nI hb (by decide)
  have i2 : vp_in (nI (b * 5 + ld b)) 325 := vp_in_nI (by omega) (by decide)
  exact ⟨i1, i2, nm_e ⟨i1, i2, nm_e ⟨i1, i1, nm_e h⟩⟩⟩
/-! newBucket -/
theorem sd_new {post : Int32 → St1 → Prop} {c : Nat} (hc : c < 64) (h0 : us c = 0) (h1 : ∀ j, j < c → us j = 1)
    (h : post (nI c) (sd_st D (bc + 1) kc dir (sd_u us c 1) dp (sd_u ld c 0) ky vl)) : wpX_newBucket post (sd_st D bc kc dir us dp ld ky vl) := by
  unfold wpX_newBucket
  dsimp only
  refine pk_loop (σ := Unit) (fun n i _ => wX_newBucket_2 post (nI D) (nI bc) (nI kc) (sd_i dir) (sd_i us) (sd_i dp) (sd_i ld) (sd_i ky) vl n (nI i)) (fun i _ => True) c 0 () (by omega) trivial ?_ ?_
  · intro n _ _
    unfold wX_newBucket_2
    rw [nI_clamp (show c < 2 ^ 31 by omega), sd_ia, h0]
    have i1 : vp_in (nI c) 65 := vp_in_nI (by omega) (by decide)
    exact ⟨i1, br_t rfl ⟨i1, nm_r (sd_iu us c 1) ⟨i1, nm_r (sd_iu ld c 0) (nm_r (nI_1 bc) h)⟩⟩⟩
  · intro n i _ hi _ hw
    unfold wX_newBucket_2
    rw [nI_clamp (show i < 2 ^ 31 by omega), sd_ia, h1 i hi]
    exact ⟨vp_in_nI (by omega) (by decide), br_f (by decide) (nm_r (nI_1 i) (hw () trivial))⟩
/-! deepest -/
theorem sd_deep {post : Int32 → Prop} (hu : ∀ b, us b ≤ 1) (hd : ∀ b, us b = 1 → dp b ≤ 6)
    (h : ∀ m, m ≤ 6 → (∀ b, b < 64 → us b = 1 → dp b ≤ m) → (m = 0 ∨ ∃ b, b < 64 ∧ us b = 1 ∧ dp b = m) → post (nI m)) : wpX_deepest post (sd_st D bc kc dir us dp ld ky vl) := by
  unfold wpX_deepest
  dsimp only
  refine pk_loop (fun n i (m : Nat) => wX_deepest_4 post (nI D) (nI bc) (nI kc) (sd_i dir) (sd_i us) (sd_i dp) (sd_i ld) (sd_i ky) vl n (nI m) (nI i)) (fun i m => m ≤ 6 ∧ (∀ b, b < i → us b = 1 → dp b ≤ m) ∧ (m = 0 ∨ ∃ b, b < i ∧ us b = 1 ∧ dp b = m)) 64 0 0 (by omega) ⟨by omega, fun b hb => absurd hb (by omega), Or.inl rfl⟩ ?_ ?_
  · intro n m hI
    exact pk_le 64 64 (fun _ => h m hI.1 hI.2.1 hI.2.2) (fun z => absurd z (by omega))
  · intro n i m hi hI hw
    obtain ⟨i1, i2, i3⟩ := hI
    unfold wX_deepest_4
    rw [nI_clamp (show i < 2 ^ 31 by omega), sd_ia, sd_ia]
    have v1 : vp_in (nI i) 65 := vp_in_nI (by omega) (by decide)
    have hui := hu i
    refine pk_le 64 i (fun z => absurd z (by omega)) (fun _ => ⟨v1, ?_⟩)
    refine pk_eq (us i) 0 (fun z => nm_r (nI_1 i) (hw m ⟨i1, ?_, ?_⟩)) (fun z => ⟨v1, ?_⟩)
    · exact lt_s i2 (fun w => by omega)
    · rcases i3 with i3 | ⟨b, b1, b2⟩
      · exact Or.inl i3
      · exact Or.inr ⟨b, by omega, b2⟩
    · have hdi := hd i (by omega)
      refine pk_le (dp i) m (fun w => nm_r (nI_1 i) (hw m ⟨i1, lt_s i2 (fun _ => w), ?_⟩)) (fun w => ⟨v1, nm_e (nm_r (nI_1 i) (hw (dp i) ⟨hdi, ?_, Or.inr ⟨i, by omega, by omega, rfl⟩⟩))⟩)
      · rcases i3 with i3 | ⟨b, b1, b2⟩
        · exact Or.inl i3
        · exact Or.inr ⟨b, by omega, b2⟩
      · exact lt_s (fun b hb hb1 => Nat.le_trans (i2 b hb hb1) (by omega)) (fun _ => Nat.le_refl _)
/-! ofDepth -/
theorem sd_ofD {post : Int32 → Prop} {d : Nat} (hu : ∀ b, us b ≤ 1) (hp : ∀ b, us b = 1 → dp b ≤ 6) (hd : d ≤ 6)
    (h : post (nI (sd_S (fun b => us b * (decide (dp b = d)).toNat) 64))) : wpX_ofDepth post (sd_st D bc kc dir us dp ld ky vl) (nI d) := by
  unfold wpX_ofDepth
  dsimp only
  refine pk_loop (σ := Unit) (fun n i _ => wX_ofDepth_4 post (nI d) (nI D) (nI bc) (nI kc) (sd_i dir) (sd_i us) (sd_i dp) (sd_i ld) (sd_i ky) vl n (nI (sd_S (fun b => us b * (decide (dp b = d)).toNat) i)) (nI i)) (fun i _ => True) 64 0 () (by omega) trivial ?_ ?_
  · intro n _ _
    exact pk_le 64 64 (fun _ => h) (fun z => absurd z (by omega))
  · intro n i _ hi _ hw
    have hw' := hw () trivial
    rw [sd_S_succ] at hw'
    unfold wX_ofDepth_4
    rw [nI_clamp (show i < 2 ^ 31 by omega), sd_ia, sd_ia]
    have v1 : vp_in (nI i) 65 := vp_in_nI (by omega) (by decide)
    have hui := hu i
    refine pk_le 64 i (fun z => absurd z (by omega)) (fun _ => ⟨v1, ?_⟩)
    refine pk_eq (us i) 0 (fun z => nm_r (Int32.add_zero _) (nm_r (nI_1 i) ?_)) (fun z => ⟨v1, ?_⟩)
    · rw [z, Nat.zero_mul, Nat.add_zero] at hw'
      exact hw'
    · have u1 : us i = 1 := by omega
      have hdi := hp i u1
      rw [u1, Nat.one_mul] at hw'
      refine pk_eq (dp i) d (fun w => nm_r (nI_1 _) (nm_r (nI_1 i) ?_)) (fun w => nm_r (Int32.add_zero _) (nm_r (nI_1 i) ?_))
      · rw [decide_eq_true w] at hw'
        exact hw'
      · rw [decide_eq_false w] at hw'
        exact hw'
end
end
section
/-! one cell appended, on pictures -/
theorem sd_app {ld ky : Nat → Nat} {vl V : Nat → Int32} {P : Nat → Prop} {t key : Nat} {x : Int32} (h : sd_H (ld t) (fun i => ky (t * 5 + i)) (fun i => vl (t * 5 + i)) V P) (hk : key < 256) (hn : ¬ P key) (hx : x = V key) :
    sd_H (sd_u ld t (ld t + 1) t) (fun i => sd_u ky (t * 5 + ld t) key (t * 5 + i)) (fun i => upd vl (t * 5 + ld t) x (t * 5 + i)) V (fun k => P k ∨ k = key) := by
  rw [sd_us]
  refine sd_H_add h hk hn (fun i hi => ?_) (fun i hi => ?_) ?_ ?_
  · exact sd_un (by omega)
  · exact pk_un (by omega)
  · exact sd_us
  · rw [pk_us, hx]
theorem sd_appF {ld ky : Nat → Nat} {vl : Nat → Int32} {t key b : Nat} {x : Int32} (hl : ld t ≤ 4) (hb : b ≠ t) :
    sd_u ld t (ld t + 1) b = ld b ∧ ∀ i, i < 5 → sd_u ky (t * 5 + ld t) key (b * 5 + i) = ky (b * 5 + i) ∧ upd vl (t * 5 + ld t) x (b * 5 + i) = vl (b * 5 + i) :=
  ⟨sd_un hb, fun i hi => ⟨sd_un (by omega), pk_un (by omega)⟩⟩
theorem sd_H_fr {ld ky ld' ky' : Nat → Nat} {vl vl' V : Nat → Int32} {P P' : Nat → Prop} {b : Nat} (h : sd_H (ld b) (fun i => ky (b * 5 + i)) (fun i => vl (b * 5 + i)) V P) (hl : ld b ≤ 5)
    (hf : ld' b = ld b ∧ ∀ i, i < 5 → ky' (b * 5 + i) = ky (b * 5 + i) ∧ vl' (b * 5 + i) = vl (b * 5 + i)) (hP : ∀ k, k < 256 → (P' k ↔ P k)) :
    sd_H (ld' b) (fun i => ky' (b * 5 + i)) (fun i => vl' (b * 5 + i)) V P' :=
  sd_H_ext h hf.1 (fun i hi => (hf.2 i (by omega)).1) (fun i hi => (hf.2 i (by omega)).2) hP (fun _ _ _ => rfl)
section
variable {D bc kc : Nat} {dir us dp ld ky : Nat → Nat} {vl : Nat → Int32}
/-! the directory doubles -/
theorem sd_s18 {post : St1 → Prop} {b e d : Nat} (hD : D < 6) (hdir : ∀ j, j < 2 ^ D → dir j < 64)
    (h : ∀ dir' : Nat → Nat, (∀ j, j < 2 ^ D → dir' j = dir j) → (∀ j, j < 2 ^ D → dir' (j + 2 ^ D) = dir j) → wX_split_66 post (nI b) (nI e) (nI d) (nI (D + 1)) (nI bc) (nI kc) (sd_i dir') (sd_i us) (sd_i dp) (sd_i ld) (sd_i ky) vl) :
    ∃ n, wX_split_18 post (nI b) (nI e) (nI d) (nI D) (nI bc) (nI kc) n 0 (sd_i dir) (sd_i us) (sd_i dp) (sd_i ld) (sd_i ky) vl := by
  have h3 : 2 ^ D ≤ 32 := Nat.pow_le_pow_right (n := 2) (i := D) (j := 5) (by omega) (by omega)
  have h4 : 0 < 2 ^ D := Nat.two_pow_pos D
  refine pk_loop (fun n i (s : Nat → Nat) => wX_split_18 post (nI b) (nI e) (nI d) (nI D) (nI bc) (nI kc) n (nI i) (sd_i s) (sd_i us) (sd_i dp) (sd_i ld) (sd_i ky) vl) (fun i s => (∀ j, j < 2 ^ D → s j = dir j) ∧ (∀ j, j < i → s (j + 2 ^ D) = dir j)) (2 ^ D) 0 dir (Nat.zero_le _) ⟨fun _ _ => rfl, fun j hj => absurd hj (by omega)⟩ ?_ ?_
  · intro n s hI
    unfold wX_split_18
    rw [sd_sh D (by omega)]
    exact pk_le (2 ^ D) (2 ^ D) (fun _ => nm_r (nI_1 D) (h s hI.1 hI.2)) (fun z => absurd z (by omega))
  · intro n i s hi hI hw
    unfold wX_split_18
    have q := hdir i hi
    rw [sd_sh D (by omega), nI_add, nI_clamp (show i < 2 ^ 31 by omega), nI_clamp (show i + 2 ^ D < 2 ^ 31 by omega), vp_nar_byte, sd_ia, hI.1 i hi, sd_nb8 _ (by omega), sd_iu]
    refine pk_le (2 ^ D) i (fun z => absurd z (by omega)) (fun _ => ⟨vp_in_nI (by omega) (by decide), vp_in_nI (by omega) (by decide), nm_e (nm_r (nI_1 i) (hw _ ⟨fun j hj => ?_, ?_⟩))⟩)
    · rw [sd_un (by omega)]
      exact hI.1 j hj
    · refine lt_s (fun j hj => ?_) ?_
      · rw [sd_un (by omega)]
        exact hI.2 j hj
      · exact sd_us
/-! the endings of the new bucket -/
theorem sd_s183 {post : St1 → Prop} {e d c : Nat} (hD : D ≤ 6) (hd : d ≤ 6) (he : e < 256) (hc : c < 64)
    (h : ∀ dir' : Nat → Nat, (∀ j, j < 2 ^ D → dir' j = if j % 2 ^ d = e % 2 ^ d ∧ sd_b j d = 1 then c else dir j) → post (sd_st D bc kc dir' us dp ld ky vl)) :
    ∃ n, wX_split_183 post (nI e) (nI d) (nI c) (((1 : Int32) <<< (nI d &&& 31)) - 1) (nI D) (nI bc) (nI kc) n 0 (sd_i dir) (sd_i us) (sd_i dp) (sd_i ld) (sd_i ky) vl := by
  have h3 := sd_pw hD
  refine pk_loop (fun n i (s : Nat → Nat) => wX_split_183 post (nI e) (nI d) (nI c) (((1 : Int32) <<< (nI d &&& 31)) - 1) (nI D) (nI bc) (nI kc) n (nI i) (sd_i s) (sd_i us) (sd_i dp) (sd_i ld) (sd_i ky) vl) (fun i s => (∀ j, j < i → s j = if j % 2 ^ d = e % 2 ^ d ∧ sd_b j d = 1 then c else dir j) ∧ (∀ j, i ≤ j → s j = dir j)) (2 ^ D) 0 dir (Nat.zero_le _) ⟨fun j hj => absurd hj (by omega), fun _ _ => rfl⟩ ?_ ?_
  · intro n s hI
    unfold wX_split_183
    rw [sd_sh D (by omega)]
    exact pk_le (2 ^ D) (2 ^ D) (fun _ => h s hI.1) (fun z => absurd z (by omega))
  · intro n i s hi hI hw
    unfold wX_split_183
    rw [sd_sh D (by omega), sd_mask (k := i) (by omega) hd, sd_mask (k := e) (by omega) hd, sd_bit (by omega) hd, nI_clamp (show i < 2 ^ 31 by omega), sd_nb8 c (by omega), sd_iu]
    have m1 : i % 2 ^ d ≤ i := Nat.mod_le _ _
    have m2 : e % 2 ^ d ≤ e := Nat.mod_le _ _
    have m3 := sd_b2 i d
    have keep : ¬ (i % 2 ^ d = e % 2 ^ d ∧ sd_b i d = 1) → (∀ j, j < i + 1 → s j = if j % 2 ^ d = e % 2 ^ d ∧ sd_b j d = 1 then c else dir j) ∧ (∀ j, i + 1 ≤ j → s j = dir j) :=
      fun z => ⟨lt_s hI.1 (by rw [if_neg z]; exact hI.2 i (by omega)), fun j hj => hI.2 j (by omega)⟩
    refine pk_le (2 ^ D) i (fun z => absurd z (by omega)) (fun _ => pk_eq (i % 2 ^ d) (e % 2 ^ d) (fun z => pk_eq (sd_b i d) 1 (fun w => ⟨vp_in_nI (by omega) (by decide), nm_e (nm_r (nI_1 i) (hw _ ⟨?_, fun j hj => ?_⟩))⟩) (fun w => nm_r (nI_1 i) (hw _ (keep (fun q => w q.2))))) (fun z => nm_r (nI_1 i) (hw _ (keep (fun q => z q.1)))))
    · refine lt_s (fun j hj => ?_) ?_
      · rw [sd_un (by omega)]
        exact hI.1 j hj
      · rw [sd_us, if_pos ⟨z, w⟩]
    · rw [sd_un (by omega)]
      exact hI.2 j (by omega)
/-! the keys are told apart -/
theorem sd_s111 {post : St1 → Prop} {V : Nat → Int32} {P : Nat → Prop} {b e d c m : Nat} (hd : d ≤ 6) (hb : b < 65) (hc : c < 65) (hbc : b ≠ c) (hm : m ≤ 5) (lb : ld b = 0) (lc : ld c = 0)
    (hH : sd_H m (fun i => ky (b * 5 + i)) (fun i => vl (b * 5 + i)) V P)
    (h : ∀ (ld' ky' : Nat → Nat) (vl' : Nat → Int32), sd_H (ld' b) (fun i => ky' (b * 5 + i)) (fun i => vl' (b * 5 + i)) V (fun l => P l ∧ sd_b l d = 0) → sd_H (ld' c) (fun i => ky' (c * 5 + i)) (fun i => vl' (c * 5 + i)) V (fun l => P l ∧ ¬ sd_b l d = 0) →
      (∀ a, a ≠ b → a ≠ c → ld' a = ld a ∧ ∀ i, i < 5 → ky' (a * 5 + i) = ky (a * 5 + i) ∧ vl' (a * 5 + i) = vl (a * 5 + i)) →
      ∃ n, wX_split_183 post (nI e) (nI d) (nI c) (((1 : Int32) <<< (nI d &&& 31)) - 1) (nI D) (nI bc) (nI kc) n 0 (sd_i dir) (sd_i us) (sd_i dp) (sd_i ld') (sd_i ky') vl') :
    ∃ n, wX_split_111 post (nI b) (nI e) (nI d) (nI c) (nI m) n 0 (nI D) (nI bc) (nI kc) (sd_i dir) (sd_i us) (sd_i dp) (sd_i ld) (sd_i ky) vl := by
  obtain ⟨g1, g2, g3⟩ := hH
  refine pk_loop (σ := (Nat → Nat) × (Nat → Nat) × (Nat → Int32)) (fun n i s => wX_split_111 post (nI b) (nI e) (nI d) (nI c) (nI m) n (nI i) (nI D) (nI bc) (nI kc) (sd_i dir) (sd_i us) (sd_i dp) (sd_i s.1) (sd_i s.2.1) s.2.2)
    (fun i s => sd_H (s.1 b) (fun j => s.2.1 (b * 5 + j)) (fun j => s.2.2 (b * 5 + j)) V (fun l => (∃ j, j < i ∧ ky (b * 5 + j) = l) ∧ sd_b l d = 0) ∧
      sd_H (s.1 c) (fun j => s.2.1 (c * 5 + j)) (fun j => s.2.2 (c * 5 + j)) V (fun l => (∃ j, j < i ∧ ky (b * 5 + j) = l) ∧ ¬ sd_b l d = 0) ∧ s.1 b ≤ i ∧ s.1 c ≤ i ∧
      (∀ j, i ≤ j → j < m → s.2.1 (b * 5 + j) = ky (b * 5 + j) ∧ s.2.2 (b * 5 + j) = vl (b * 5 + j)) ∧
      (∀ a, a ≠ b → a ≠ c → s.1 a = ld a ∧ ∀ j, j < 5 → s.2.1 (a * 5 + j) = ky (a * 5 + j) ∧ s.2.2 (a * 5 + j) = vl (a * 5 + j))) m 0 (ld, ky, vl) (by omega) ?_ ?_ ?_
  · dsimp only
    rw [lb, lc]
    refine ⟨sd_H_0 (fun k _ z => ?_), sd_H_0 (fun k _ z => ?_), by omega, by omega, fun _ _ _ => ⟨rfl, rfl⟩, fun _ _ _ => ⟨rfl, fun _ _ => ⟨rfl, rfl⟩⟩⟩
    · obtain ⟨⟨j, hj, _⟩, _⟩ := z
      exact absurd hj (by omega)
    · obtain ⟨⟨j, hj, _⟩, _⟩ := z
      exact absurd hj (by omega)
  · intro n s hI
    obtain ⟨ld', ky', vl'⟩ := s
    obtain ⟨i1, i2, i3, i4, i5, i6⟩ := hI
    have eqv : ∀ k, k < 256 → ((∃ j, j < m ∧ ky (b * 5 + j) = k) ↔ P k) := fun k hk =>
      ⟨fun ⟨j, hj, ej⟩ => by rw [← ej]; exact (g1 j hj).2.1, fun z => g2 k hk z⟩
    unfold wX_split_111
    refine pk_le m m (fun _ => nm_e (h ld' ky' vl' ?_ ?_ i6)) (fun z => absurd z (by omega))
    · exact sd_H_ext i1 rfl (fun _ _ => rfl) (fun _ _ => rfl) (fun k hk => by rw [eqv k hk]) (fun _ _ _ => rfl)
    · exact sd_H_ext i2 rfl (fun _ _ => rfl) (fun _ _ => rfl) (fun k hk => by rw [eqv k hk]) (fun _ _ _ => rfl)
  · intro n i s hi hI hw
    obtain ⟨ld', ky', vl'⟩ := s
    obtain ⟨i1, i2, i3, i4, i5, i6⟩ := hI
    dsimp only at i1 i2 i3 i4 i5 i6
    obtain ⟨gk, gp, gv⟩ := g1 i hi
    dsimp only at gk gv
    have gn : ¬ ∃ j, j < i ∧ ky (b * 5 + j) = ky (b * 5 + i) := fun ⟨j, hj, ej⟩ => by
      have := g3 j i (by omega) hi ej
      omega
    have u5 := i5 i (by omega) hi
    show wX_split_111 post (nI b) (nI e) (nI d) (nI c) (nI m) (n + 1) (nI i) (nI D) (nI bc) (nI kc) (sd_i dir) (sd_i us) (sd_i dp) (sd_i ld') (sd_i ky') vl'
    unfold wX_split_111
    rw [sd_ix, nI_clamp (show b * 5 + i < 2 ^ 31 by omega), sd_ia, u5.1]
    refine pk_le m i (fun z => absurd z (by omega)) (fun _ => ⟨vp_in_nI (by omega) (by decide), nm_e ?_⟩)
    rw [sd_bit (by omega) hd]
    have m3 := sd_b2 (ky (b * 5 + i)) d
    refine pk_eq (sd_b (ky (b * 5 + i)) d) 0 (fun z => ?_) (fun z => ?_)
    · unfold wX_split_146
      rw [sd_ix, nI_clamp (show b * 5 + i < 2 ^ 31 by omega), u5.2]
      refine ⟨vp_in_nI (by omega) (by decide), sd_append hb (by omega) gk ?_⟩
      refine nm_r (nI_1 i) (hw (sd_u ld' b (ld' b + 1), sd_u ky' (b * 5 + ld' b) (ky (b * 5 + i)), upd vl' (b * 5 + ld' b) (vl (b * 5 + i))) ⟨?_, ?_, ?_, ?_, ?_, ?_⟩)
      · refine sd_H_ext (sd_app i1 gk (fun w => gn w.1) gv) rfl (fun _ _ => rfl) (fun _ _ => rfl) (fun k _ => ?_) (fun _ _ _ => rfl)
        constructor
        · rintro ⟨⟨j, hj, ej⟩, w⟩
          by_cases q : j = i
          · exact Or.inr (by rw [← ej, q])
          · exact Or.inl ⟨⟨j, by omega, ej⟩, w⟩
        · rintro (⟨⟨j, hj, ej⟩, w⟩ | w)
          · exact ⟨⟨j, by omega, ej⟩, w⟩
          · exact ⟨⟨i, by omega, w.symm⟩, by rw [w]; exact z⟩
      · refine sd_H_fr i2 (by omega) (sd_appF (by omega) hbc.symm) (fun k _ => ?_)
        constructor
        · rintro ⟨⟨j, hj, ej⟩, w⟩
          by_cases q : j = i
          · exact absurd (by rw [← ej, q]; exact z) w
          · exact ⟨⟨j, by omega, ej⟩, w⟩
        · rintro ⟨⟨j, hj, ej⟩, w⟩
          exact ⟨⟨j, by omega, ej⟩, w⟩
      · dsimp only
        rw [sd_us]; omega
      · dsimp only
        rw [sd_un hbc.symm]; omega
      · intro j hj hjm
        dsimp only
        rw [sd_un (by omega), pk_un (by omega)]
        exact i5 j (by omega) hjm
      · intro a ha ha'
        dsimp only
        have q := sd_appF (ky := ky') (vl := vl') (key := ky (b * 5 + i)) (x := vl (b * 5 + i)) (show ld' b ≤ 4 by omega) ha
        have q' := i6 a ha ha'
        exact ⟨q.1.trans q'.1, fun j hj => ⟨(q.2 j hj).1.trans (q'.2 j hj).1, (q.2 j hj).2.trans (q'.2 j hj).2⟩⟩
    · unfold wX_split_146
      rw [sd_ix, nI_clamp (show b * 5 + i < 2 ^ 31 by omega), u5.2]
      refine ⟨vp_in_nI (by omega) (by decide), sd_append hc (by omega) gk ?_⟩
      refine nm_r (nI_1 i) (hw (sd_u ld' c (ld' c + 1), sd_u ky' (c * 5 + ld' c) (ky (b * 5 + i)), upd vl' (c * 5 + ld' c) (vl (b * 5 + i))) ⟨?_, ?_, ?_, ?_, ?_, ?_⟩)
      · refine sd_H_fr i1 (by omega) (sd_appF (by omega) hbc) (fun k _ => ?_)
        constructor
        · rintro ⟨⟨j, hj, ej⟩, w⟩
          by_cases q : j = i
          · exact absurd (by rw [q] at ej; rw [ej]; exact w) z
          · exact ⟨⟨j, by omega, ej⟩, w⟩
        · rintro ⟨⟨j, hj, ej⟩, w⟩
          exact ⟨⟨j, by omega, ej⟩, w⟩
      · refine sd_H_ext (sd_app i2 gk (fun w => gn w.1) gv) rfl (fun _ _ => rfl) (fun _ _ => rfl) (fun k _ => ?_) (fun _ _ _ => rfl)
        constructor
        · rintro ⟨⟨j, hj, ej⟩, w⟩
          by_cases q : j = i
          · exact Or.inr (by rw [← ej, q])
          · exact Or.inl ⟨⟨j, by omega, ej⟩, w⟩
        · rintro (⟨⟨j, hj, ej⟩, w⟩ | w)
          · exact ⟨⟨j, by omega, ej⟩, w⟩
          · exact ⟨⟨i, by omega, w.symm⟩, by rw [w]; exact z⟩
      · dsimp only
        rw [sd_un hbc]; omega
      · dsimp only
        rw [sd_us]; omega
      · intro j hj hjm
        dsimp only
        rw [sd_un (by omega), pk_un (by omega)]
        exact i5 j (by omega) hjm
      · intro a ha ha'
        dsimp only
        have q := sd_appF (ky := ky') (vl := vl') (key := ky (b * 5 + i)) (x := vl (b * 5 + i)) (show ld' c ≤ 4 by omega) ha'
        have q' := i6 a ha ha'
        exact ⟨q.1.trans q'.1, fun j hj => ⟨(q.2 j hj).1.trans (q'.2 j hj).1, (q.2 j hj).2.trans (q'.2 j hj).2⟩⟩
/-! the rest of a split, once the directory is long enough -/
theorem sd_s66 {post : St1 → Prop} {V : Nat → Int32} {P : Nat → Prop} {b e d c : Nat} (hD : D ≤ 6) (hd : d < 6) (he : e < 256) (hb : b < 64) (hc : c < 64) (hbc : b ≠ c) (hl : ld b ≤ 5) (c0 : us c = 0) (c1 : ∀ j, j < c → us j = 1)
    (hH : sd_H (ld b) (fun i => ky (b * 5 + i)) (fun i => vl (b * 5 + i)) V P)
    (h : ∀ (dir' ld' ky' : Nat → Nat) (vl' : Nat → Int32), (∀ j, j < 2 ^ D → dir' j = if j % 2 ^ d = e % 2 ^ d ∧ sd_b j d = 1 then c else dir j) →
      sd_H (ld' b) (fun i => ky' (b * 5 + i)) (fun i => vl' (b * 5 + i)) V (fun l => P l ∧ sd_b l d = 0) → sd_H (ld' c) (fun i => ky' (c * 5 + i)) (fun i => vl' (c * 5 + i)) V (fun l => P l ∧ ¬ sd_b l d = 0) →
      (∀ a, a ≠ b → a ≠ c → ld' a = ld a ∧ ∀ i, i < 5 → ky' (a * 5 + i) = ky (a * 5 + i) ∧ vl' (a * 5 + i) = vl (a * 5 + i)) →
      post (sd_st D (bc + 1) kc dir' (sd_u us c 1) (sd_sd dp b c d) ld' ky' vl')) :
    wX_split_66 post (nI b) (nI e) (nI d) (nI D) (nI bc) (nI kc) (sd_i dir) (sd_i us) (sd_i dp) (sd_i ld) (sd_i ky) vl := by
  unfold wX_split_66
  refine sd_new hc c0 c1 ?_
  dsimp only
  have v1 : vp_in (nI b) 65 := vp_in_nI (by omega) (by decide)
  have v2 : vp_in (nI c) 65 := vp_in_nI (by omega) (by decide)
  have e1 : ((nI d + 1).toInt8.toInt32) = nI (d + 1) := by rw [nI_1, sd_nb8 _ (by omega)]
  rw [nI_clamp (show b < 2 ^ 31 by omega), nI_clamp (show c < 2 ^ 31 by omega), e1]
  refine ⟨v1, nm_r (sd_iu dp b (d + 1)) ⟨v2, nm_r (sd_iu _ c (d + 1)) ⟨v1, nm_r (sd_ia _ b) ⟨v1, nm_r (sd_iu _ b 0) ?_⟩⟩⟩⟩
  rw [sd_un hbc]
  refine sd_s111 (by omega) (by omega) (by omega) hbc hl sd_us ?_ hH (fun ld' ky' vl' k1 k2 k3 => ?_)
  · rw [sd_un hbc.symm, sd_us]
  · refine sd_s183 hD (by omega) he hc (fun dir' k0 => h dir' ld' ky' vl' k0 k1 k2 (fun a ha ha' => ?_))
    have q := k3 a ha ha'
    rw [sd_un ha, sd_un ha'] at q
    exact q
/-! split -/
theorem sd_split {post : St1 → Prop} {K : Nat → Bool} {V : Nat → Int32} {Bf : Nat → Nat} {e d : Nat} (T : sd_T D dir us dp Bf bc) (C : sd_C K V dp ld ky vl Bf) (he : e < 256) (hd : dp (Bf e) = d) (hd6 : d < 6) (hl : ∀ k, ld (Bf k) ≤ 5)
    (h : ∀ (D' : Nat) (dir' us' dp' ld' ky' : Nat → Nat) (vl' : Nat → Int32) (Bf' : Nat → Nat), sd_T D' dir' us' dp' Bf' (bc + 1) → sd_C K V dp' ld' ky' vl' Bf' →
      (∀ k, k % 2 ^ d = e % 2 ^ d → dp' (Bf' k) = d + 1) → (∀ k, ¬ k % 2 ^ d = e % 2 ^ d → dp' (Bf' k) = dp (Bf k)) → post (sd_st D' (bc + 1) kc dir' us' dp' ld' ky' vl')) :
    wpX_split post (sd_st D bc kc dir us dp ld ky vl) (nI (Bf e)) (nI e) := by
  have hb := (T.2.2.1 e).1
  have hdD := (T.2.2.1 e).2.2
  obtain ⟨c, c1, c2, c3⟩ := sd_free T (e := e) (by omega)
  have hbc : Bf e ≠ c := fun z => by
    have := (T.2.2.1 e).2.1
    rw [z, c2] at this
    exact absurd this (by omega)
  have hH := C e
  rw [hd] at hH
  have fin : ∀ (D' : Nat) (dir1 : Nat → Nat), sd_T D' dir1 us dp Bf bc → d < D' → wX_split_66 post (nI (Bf e)) (nI e) (nI d) (nI D') (nI bc) (nI kc) (sd_i dir1) (sd_i us) (sd_i dp) (sd_i ld) (sd_i ky) vl := by
    intro D' dir1 T' hdD'
    refine sd_s66 T'.1 hd6 he hb c1 hbc (hl e) c2 c3 hH (fun dir' ld' ky' vl' k0 k1 k2 k3 => ?_)
    refine h D' dir' _ _ ld' ky' vl' (sd_sB Bf c d e) (sd_T_split T' hd hdD' c2 c1 k0) (sd_C_split T' C hd c2 hl k1 k2 k3) (fun k hk => ?_) (fun k hk => ?_)
    · rcases sd_split_cs T' hd c2 k with ⟨a1, a2, a3, a4, a5, a6⟩ | ⟨a1, a2, a3, a4, a5, a6⟩ | ⟨a1, a2, a3, a4, a5⟩
      · rw [a4, a5]
      · rw [a4, a5]
      · exact absurd hk a1
    · rcases sd_split_cs T' hd c2 k with ⟨a1, a2, a3, a4, a5, a6⟩ | ⟨a1, a2, a3, a4, a5, a6⟩ | ⟨a1, a2, a3, a4, a5⟩
      · exact absurd a1 hk
      · exact absurd a1 hk
      · rw [a2, a5]
  unfold wpX_split
  dsimp only
  rw [nI_clamp (show Bf e < 2 ^ 31 by omega), sd_ia, hd]
  have hD6 := T.1
  refine ⟨vp_in_nI (by omega) (by decide), nm_e (pk_eq d D (fun z => ?_) (fun z => fin D dir T (by omega)))⟩
  refine sd_s18 (by omega) (fun j hj => ?_) (fun dir' k0 k1 => fin (D + 1) dir' (sd_T_dbl T (by omega) k0 k1) (by omega))
  have := T.2.1 j
  rw [Nat.mod_eq_of_lt hj] at this
  rw [this]
  exact (T.2.2.1 j).1
end
end
section
/-- each leaf has at most four keys; each node above a leaf has more -/
def sd_L (K : Nat → Bool) (dp Bf : Nat → Nat) : Prop := ∀ k, sd_c K (dp (Bf k)) k ≤ 4
def sd_G (K : Nat → Bool) (dp Bf : Nat → Nat) : Prop := ∀ k d, d < dp (Bf k) → 4 < sd_c K d k
/-- the state holds the keys K with the values V in bc buckets -/
def sd_I (K : Nat → Bool) (V : Nat → Int32) (bc : Nat) (u : St1) : Prop :=
  ∃ (D : Nat) (dir us dp ld ky : Nat → Nat) (vl : Nat → Int32) (Bf : Nat → Nat), u = sd_st D bc (sd_c K 0 0) dir us dp ld ky vl ∧ sd_T D dir us dp Bf bc ∧ sd_C K V dp ld ky vl Bf ∧ sd_L K dp Bf ∧ sd_G K dp Bf
theorem sd_one {K : Nat → Bool} {V V' : Nat → Int32} {bc bc' : Nat} {u u' : St1} (h : sd_I K V bc u) (h' : sd_I K V' bc' u') : bc = bc' := by
  obtain ⟨D, dir, us, dp, ld, ky, vl, Bf, _, T, _, L, G⟩ := h
  obtain ⟨D', dir', us', dp', ld', ky', vl', Bf', _, T', _, L', G'⟩ := h'
  have e : ∀ k, dp (Bf k) = dp' (Bf' k) := fun k => by
    have l1 := L k
    have l2 := L' k
    rcases Nat.lt_trichotomy (dp (Bf k)) (dp' (Bf' k)) with z | z | z
    · have := G' k _ z
      omega
    · exact z
    · have := G k _ z
      omega
  have s1 := T.2.2.2.2.2.2.2.2
  have s2 := T'.2.2.2.2.2.2.2.2
  rw [sd_S_congr (g := fun j => 2 ^ dp' (Bf' j)) (fun j _ => by rw [e j]), s2] at s1
  omega
theorem sd_bc64 {D bc : Nat} {dir us dp Bf : Nat → Nat} (T : sd_T D dir us dp Bf bc) : 1 ≤ bc ∧ bc ≤ 64 := by
  obtain ⟨t1, t2, t3, t4, t5, t6, t7, t8, t9⟩ := T
  have h1 := sd_S_ge (f := us) (t3 0).1
  have h2 := sd_S_bd (f := us) (n := 64) (c := 1) (fun i _ => t4 i)
  rw [(t3 0).2.1] at h1
  omega
section
variable {D bc kc : Nat} {dir us dp ld ky : Nat → Nat} {vl : Nat → Int32}
/-! a key goes into its bucket -/
theorem sd_C_ins {K : Nat → Bool} {V : Nat → Int32} {Bf : Nat → Nat} {key : Nat} {x : Int32} (T : sd_T D dir us dp Bf bc) (C : sd_C K V dp ld ky vl Bf) (hk : key < 256) (h0 : K key = false) (hl : ∀ k, ld (Bf k) ≤ 4) :
    sd_C (sd_uK K key true) (upd V key x) dp (sd_u ld (Bf key) (ld (Bf key) + 1)) (sd_u ky (Bf key * 5 + ld (Bf key)) key) (upd vl (Bf key * 5 + ld (Bf key)) x) Bf := by
  have t6 := T.2.2.2.2.2.1
  have hne : ∀ l, K l = true → l ≠ key := fun l hl e => by rw [e, h0] at hl; exact absurd hl (by decide)
  have hV : ∀ l, K l = true → upd V key x l = V l := fun l hl => pk_un (hne l hl)
  intro k
  by_cases z : Bf k = Bf key
  · have cl : k % 2 ^ dp (Bf k) = key % 2 ^ dp (Bf k) := (t6 k key).mp z
    rw [cl, z]
    have c1 : sd_H (ld (Bf key)) (fun i => ky (Bf key * 5 + i)) (fun i => vl (Bf key * 5 + i)) (upd V key x) (fun l => K l = true ∧ l % 2 ^ dp (Bf key) = key % 2 ^ dp (Bf key)) :=
      sd_H_ext (C key) rfl (fun _ _ => rfl) (fun _ _ => rfl) (fun _ _ => Iff.rfl) (fun l _ hl => hV l hl.1)
    refine sd_H_ext (sd_app c1 hk (fun w => hne key w.1 rfl) (x := x) pk_us.symm) rfl (fun _ _ => rfl) (fun _ _ => rfl) (fun l _ => ?_) (fun _ _ _ => rfl)
    constructor
    · intro w
      by_cases q : l = key
      · exact Or.inr q
      · rw [sd_uKn q] at w
        exact Or.inl w
    · rintro (w | w)
      · rw [sd_uKn (hne l w.1)]
        exact w
      · rw [w]
        exact ⟨sd_uKs, rfl⟩
  · have q := sd_appF (ky := ky) (vl := vl) (key := key) (x := x) (hl key) z
    refine sd_H_ext (C k) q.1 (fun i hi => (q.2 i (by have := hl k; omega)).1) (fun i hi => (q.2 i (by have := hl k; omega)).2) (fun l _ => ?_) (fun l _ hl => hV l hl.1)
    by_cases w : l = key
    · rw [w, h0]
      exact ⟨fun v => absurd ((t6 k key).mpr v.2.symm) z, fun v => absurd v.1 (by decide)⟩
    · rw [sd_uKn w]
theorem sd_ins {post : St1 → Prop} {K : Nat → Bool} {V : Nat → Int32} {u : St1} {key : Nat} {x : Int32} (hI : sd_I K V bc u) (hk : key < 256) (h0 : K key = false)
    (h : ∀ bc' u', sd_I (sd_uK K key true) (upd V key x) bc' u' → post u') : wpX_insert post u (nI key) x := by
  obtain ⟨D, dir, us, dp, ld, ky, vl, Bf, rfl, T, C, L, G⟩ := hI
  have hl : ∀ k, ld (Bf k) ≤ 4 := fun k => by rw [sd_load C k]; exact L k
  have t6 := T.2.2.2.2.2.1
  have hb := (T.2.2.1 key).1
  have cin := fun d k => sd_c_in (K := K) hk h0 d k
  have K1 : sd_uK K key true key = true := sd_uKs
  have kcE : sd_c K 0 0 + 1 = sd_c (sd_uK K key true) 0 0 := by
    rw [cin, if_pos (sd_0 key 0)]
  unfold wpX_insert
  dsimp only
  refine sd_bOf T.1 (by omega) (T.2.1 key) (sd_append (by omega) (hl key) hk ?_)
  dsimp only
  refine nm_r (nI_1 _) ?_
  rw [kcE]
  have C1 := sd_C_ins (x := x) T C hk h0 hl
  revert C1 cin K1 h
  generalize sd_uK K key true = K'
  generalize upd V key x = V'
  intro h cin K1 C1
  -- the loop
  refine pk_loop (σ := Int32 × St1) (fun n i s => wX_insert_26 post (nI key) n s.1 (nI i) s.2.1 s.2.2.1 s.2.2.2.1 s.2.2.2.2.1 s.2.2.2.2.2.1 s.2.2.2.2.2.2.1 s.2.2.2.2.2.2.2.1 s.2.2.2.2.2.2.2.2.1 s.2.2.2.2.2.2.2.2.2)
    (fun i s => ∃ (D bc : Nat) (dir us dp ld ky : Nat → Nat) (vl : Nat → Int32) (Bf : Nat → Nat), s = (nI (Bf key), sd_st D bc (sd_c K' 0 0) dir us dp ld ky vl) ∧ sd_T D dir us dp Bf bc ∧ sd_C K' V' dp ld ky vl Bf ∧
      (∀ k, ¬ k % 2 ^ dp (Bf key) = key % 2 ^ dp (Bf key) → sd_c K' (dp (Bf k)) k ≤ 4) ∧ sd_c K' (dp (Bf key)) key ≤ 5 ∧ sd_G K' dp Bf ∧ i ≤ dp (Bf key)) 6 0
    (nI (Bf key), sd_st D bc (sd_c K' 0 0) dir us dp (sd_u ld (Bf key) (ld (Bf key) + 1)) (sd_u ky (Bf key * 5 + ld (Bf key)) key) (upd vl (Bf key * 5 + ld (Bf key)) x)) (by omega) ?_ ?_ ?_
  · refine ⟨D, bc, dir, us, dp, _, _, _, Bf, rfl, T, C1, fun k hkk => ?_, ?_, fun k d hd => ?_, by omega⟩
    · rw [cin, if_neg (fun z => ?_)]
      · exact L k
      · have e := (t6 k key).mpr z.symm
        exact hkk ((t6 key k).mp e.symm).symm
    · rw [cin, if_pos rfl]
      have := L key
      omega
    · have := G k d hd
      rw [cin]
      omega
  · intro n s hs
    obtain ⟨D, bc, dir, us, dp, ld, ky, vl, Bf, rfl, T, C, A, B, G, R⟩ := hs
    refine pk_le 6 6 (fun _ => h bc _ ⟨D, dir, us, dp, ld, ky, vl, Bf, rfl, T, C, fun k => ?_, G⟩) (fun z => absurd z (by omega))
    have hD := (T.2.2.1 key).2.2
    have hD6 := T.1
    have e6 : dp (Bf key) = 6 := by omega
    by_cases z : k % 2 ^ dp (Bf key) = key % 2 ^ dp (Bf key)
    · have e := (T.2.2.2.2.2.1 key k).mpr z.symm
      rw [← e, e6]
      exact sd_c_six K' k
    · exact A k z
  · intro n i s hi hs hw
    obtain ⟨D, bc, dir, us, dp, ld, ky, vl, Bf, rfl, T, C, A, B, G, R⟩ := hs
    have hbk := (T.2.2.1 key).1
    have same : ∀ k, k % 2 ^ dp (Bf key) = key % 2 ^ dp (Bf key) → Bf k = Bf key := fun k z => ((T.2.2.2.2.2.1 key k).mpr z.symm).symm
    have hl5 : ∀ k, ld (Bf k) ≤ 5 := fun k => by
      by_cases z : k % 2 ^ dp (Bf key) = key % 2 ^ dp (Bf key)
      · rw [same k z, sd_load C key]
        exact B
      · rw [sd_load C k]
        have := A k z
        omega
    have hlk := hl5 key
    show wX_insert_26 post (nI key) (n + 1) (nI (Bf key)) (nI i) (nI D) (nI bc) (nI (sd_c K' 0 0)) (sd_i dir) (sd_i us) (sd_i dp) (sd_i ld) (sd_i ky) vl
    unfold wX_insert_26
    rw [nI_clamp (show Bf key < 2 ^ 31 by omega), sd_ia]
    refine pk_le 6 i (fun z => absurd z (by omega)) (fun _ => ⟨vp_in_nI (by omega) (by decide), pk_le (ld (Bf key)) 4 (fun z => ?_) (fun z => ?_)⟩)
    · refine h bc _ ⟨D, dir, us, dp, ld, ky, vl, Bf, rfl, T, C, fun k => ?_, G⟩
      by_cases w : k % 2 ^ dp (Bf key) = key % 2 ^ dp (Bf key)
      · have e := same k w
        have e2 := sd_load C k
        rw [e] at e2 ⊢
        rw [← e2]
        exact z
      · exact A k w
    · have lk := sd_load C key
      have hd6 : dp (Bf key) < 6 := by
        rcases Nat.lt_or_ge (dp (Bf key)) 6 with w | w
        · exact w
        · have := sd_c_mono (K := K') key w
          have := sd_c_six K' key
          omega
      refine sd_split T C hk rfl hd6 hl5 (fun D' dir' us' dp' ld' ky' vl' Bf' T' C' q1 q2 => ?_)
      dsimp only
      refine sd_bOf T'.1 (by omega) (T'.2.1 key) (nm_r (nI_1 i) (hw (_, sd_st D' (bc + 1) (sd_c K' 0 0) dir' us' dp' ld' ky' vl') ⟨D', bc + 1, dir', us', dp', ld', ky', vl', Bf', rfl, T', C', fun k hkk => ?_, ?_, fun k d hd => ?_, ?_⟩))
      · rw [q1 key rfl] at hkk
        by_cases w : k % 2 ^ dp (Bf key) = key % 2 ^ dp (Bf key)
        · rw [q1 k w]
          have e := sd_c_two (K := K') w (fun v => hkk (sd_es.mpr ⟨w, v⟩))
          have p := sd_c_pos hk K1 (dp (Bf key) + 1)
          omega
        · rw [q2 k w]
          exact A k w
      · rw [q1 key rfl]
        have : sd_c K' (dp (Bf key) + 1) key ≤ sd_c K' (dp (Bf key)) key := sd_c_mono (K := K') key (Nat.le_succ (dp (Bf key)))
        omega
      · by_cases w : k % 2 ^ dp (Bf key) = key % 2 ^ dp (Bf key)
        · rw [q1 k w] at hd
          rcases Nat.lt_or_ge d (dp (Bf key)) with v | v
          · exact G k d (by rw [same k w]; exact v)
          · have e : d = dp (Bf key) := by omega
            rw [e, sd_c_same w]
            omega
        · rw [q2 k w] at hd
          exact G k d hd
      · rw [q1 key rfl]
        omega
end
end
section
section
variable {D bc kc : Nat} {dir us dp ld ky : Nat → Nat} {vl : Nat → Int32}
/-! the endings of the bucket that is given up -/
theorem sd_j154 {post : Int32 → St1 → Prop} {b c : Nat} (hD : D ≤ 6) (hb : b < 64) (hdir : ∀ j, j < 2 ^ D → dir j < 64) (hc : c < 64)
    (h : ∀ dir' : Nat → Nat, (∀ j, j < 2 ^ D → dir' j = if dir j = c then b else dir j) → post 1 (sd_st D bc kc dir' us dp ld ky vl)) :
    ∃ n, wX_joinAt_154 post (nI b) (nI c) (nI D) (nI bc) (nI kc) n 0 (sd_i dir) (sd_i us) (sd_i dp) (sd_i ld) (sd_i ky) vl := by
  have h3 := sd_pw hD
  refine pk_loop (fun n i (s : Nat → Nat) => wX_joinAt_154 post (nI b) (nI c) (nI D) (nI bc) (nI kc) n (nI i) (sd_i s) (sd_i us) (sd_i dp) (sd_i ld) (sd_i ky) vl) (fun i s => (∀ j, j < i → s j = if dir j = c then b else dir j) ∧ (∀ j, i ≤ j → s j = dir j)) (2 ^ D) 0 dir (Nat.zero_le _) ⟨fun j hj => absurd hj (by omega), fun _ _ => rfl⟩ ?_ ?_
  · intro n s hI
    unfold wX_joinAt_154
    rw [sd_sh D (by omega)]
    exact pk_le (2 ^ D) (2 ^ D) (fun _ => h s hI.1) (fun z => absurd z (by omega))
  · intro n i s hi hI hw
    have q := hdir i hi
    have v1 : vp_in (nI i) 64 := vp_in_nI (by omega) (by decide)
    have si := hI.2 i (Nat.le_refl i)
    unfold wX_joinAt_154
    rw [sd_sh D (by omega), nI_clamp (show i < 2 ^ 31 by omega), vp_nar_byte, sd_ia, si, sd_nb8 b (by omega), sd_nb8 (dir i) (by omega), sd_iu, sd_iu]
    refine pk_le (2 ^ D) i (fun z => absurd z (by omega)) (fun _ => ⟨v1, pk_eq (dir i) c (fun z => ⟨v1, nm_e (nm_r (nI_1 i) (hw _ ⟨?_, fun j hj => ?_⟩))⟩) (fun z => ⟨v1, v1, nm_e (nm_r (nI_1 i) (hw _ ⟨?_, fun j hj => ?_⟩))⟩)⟩)
    · refine lt_s (fun j hj => ?_) ?_
      · rw [sd_un (by omega)]
        exact hI.1 j hj
      · rw [sd_us, if_pos z]
    · rw [sd_un (by omega)]
      exact hI.2 j (by omega)
    · refine lt_s (fun j hj => ?_) ?_
      · rw [sd_un (by omega)]
        exact hI.1 j hj
      · rw [sd_us, if_neg z]
    · rw [sd_un (by omega)]
      exact hI.2 j (by omega)
/-! the keys go over -/
theorem sd_j76 {post : Int32 → St1 → Prop} {V : Nat → Int32} {P Q : Nat → Prop} {b c d : Nat} (hb : b < 64) (hc : c < 64) (hbc : b ≠ c) (hl : ld b + ld c ≤ 4) (hd : d < 6)
    (hP : sd_H (ld b) (fun i => ky (b * 5 + i)) (fun i => vl (b * 5 + i)) V P) (hQ : sd_H (ld c) (fun i => ky (c * 5 + i)) (fun i => vl (c * 5 + i)) V Q) (hPQ : ∀ k, P k → ¬ Q k)
    (h : ∀ (ld' ky' : Nat → Nat) (vl' : Nat → Int32), sd_H (ld' b) (fun i => ky' (b * 5 + i)) (fun i => vl' (b * 5 + i)) V (fun l => P l ∨ Q l) →
      (∀ a, a ≠ b → ld' a = ld a ∧ ∀ i, i < 5 → ky' (a * 5 + i) = ky (a * 5 + i) ∧ vl' (a * 5 + i) = vl (a * 5 + i)) →
      ∃ n, wX_joinAt_154 post (nI b) (nI c) (nI D) (nI bc) (nI kc) n 0 (sd_i dir) (sd_i (sd_u us c 0)) (sd_i (sd_u dp b d)) (sd_i ld') (sd_i ky') vl') :
    ∃ n, wX_joinAt_76 post (nI b) (nI (d + 1)) (nI c) n 0 (nI D) (nI (bc + 1)) (nI kc) (sd_i dir) (sd_i us) (sd_i dp) (sd_i ld) (sd_i ky) vl := by
  obtain ⟨g1, g2, g3⟩ := hQ
  refine pk_loop (σ := (Nat → Nat) × (Nat → Nat) × (Nat → Int32)) (fun n i s => wX_joinAt_76 post (nI b) (nI (d + 1)) (nI c) n (nI i) (nI D) (nI (bc + 1)) (nI kc) (sd_i dir) (sd_i us) (sd_i dp) (sd_i s.1) (sd_i s.2.1) s.2.2)
    (fun i s => sd_H (s.1 b) (fun j => s.2.1 (b * 5 + j)) (fun j => s.2.2 (b * 5 + j)) V (fun l => P l ∨ ∃ j, j < i ∧ ky (c * 5 + j) = l) ∧ s.1 b = ld b + i ∧
      (∀ a, a ≠ b → s.1 a = ld a ∧ ∀ j, j < 5 → s.2.1 (a * 5 + j) = ky (a * 5 + j) ∧ s.2.2 (a * 5 + j) = vl (a * 5 + j))) (ld c) 0 (ld, ky, vl) (by omega) ?_ ?_ ?_
  · refine ⟨?_, rfl, fun _ _ => ⟨rfl, fun _ _ => ⟨rfl, rfl⟩⟩⟩
    refine sd_H_ext hP rfl (fun _ _ => rfl) (fun _ _ => rfl) (fun k _ => ?_) (fun _ _ _ => rfl)
    constructor
    · rintro (w | ⟨j, hj, _⟩)
      · exact w
      · exact absurd hj (by omega)
    · exact fun w => Or.inl w
  · intro n s hI
    obtain ⟨ld', ky', vl'⟩ := s
    obtain ⟨i1, i2, i3⟩ := hI
    dsimp only at i1 i2 i3
    show wX_joinAt_76 post (nI b) (nI (d + 1)) (nI c) (n + 1) (nI (ld c)) (nI D) (nI (bc + 1)) (nI kc) (sd_i dir) (sd_i us) (sd_i dp) (sd_i ld') (sd_i ky') vl'
    have v1 : vp_in (nI b) 65 := vp_in_nI (by omega) (by decide)
    have v2 : vp_in (nI c) 65 := vp_in_nI (by omega) (by decide)
    unfold wX_joinAt_76
    rw [nI_clamp (show b < 2 ^ 31 by omega), nI_clamp (show c < 2 ^ 31 by omega), sd_ia, (i3 c hbc.symm).1, nI_pred, nI_pred, sd_nb8 d (by omega)]
    refine ⟨v2, pk_le (ld c) (ld c) (fun _ => ⟨v2, nm_r (sd_iu us c 0) (nm_e ⟨v1, nm_r (sd_iu dp b d) (h ld' ky' vl' ?_ i3)⟩)⟩) (fun z => absurd z (by omega))⟩
    refine sd_H_ext i1 rfl (fun _ _ => rfl) (fun _ _ => rfl) (fun k hk => ?_) (fun _ _ _ => rfl)
    constructor
    · rintro (w | w)
      · exact Or.inl w
      · exact Or.inr (g2 k hk w)
    · rintro (w | ⟨j, hj, ej⟩)
      · exact Or.inl w
      · exact Or.inr (by rw [← ej]; exact (g1 j hj).2.1)
  · intro n i s hi hI hw
    obtain ⟨ld', ky', vl'⟩ := s
    obtain ⟨i1, i2, i3⟩ := hI
    dsimp only at i1 i2 i3
    obtain ⟨gk, gp, gv⟩ := g1 i hi
    dsimp only at gk gp gv
    have gn : ¬ (P (ky (c * 5 + i)) ∨ ∃ j, j < i ∧ ky (c * 5 + j) = ky (c * 5 + i)) := by
      rintro (w | ⟨j, hj, ej⟩)
      · exact hPQ _ w gp
      · have := g3 j i (by omega) hi ej
        omega
    have u5 := i3 c hbc.symm
    have u6 := u5.2 i (by omega)
    show wX_joinAt_76 post (nI b) (nI (d + 1)) (nI c) (n + 1) (nI i) (nI D) (nI (bc + 1)) (nI kc) (sd_i dir) (sd_i us) (sd_i dp) (sd_i ld') (sd_i ky') vl'
    unfold wX_joinAt_76
    rw [sd_ix, nI_clamp (show c < 2 ^ 31 by omega), nI_clamp (show c * 5 + i < 2 ^ 31 by omega), sd_ia ld', u5.1, sd_ia ky', u6.1, u6.2]
    have v2 : vp_in (nI c) 65 := vp_in_nI (by omega) (by decide)
    have v3 : vp_in (nI (c * 5 + i)) 325 := vp_in_nI (by omega) (by decide)
    refine ⟨v2, pk_le (ld c) i (fun z => absurd z (by omega)) (fun _ => ⟨v3, v3, sd_append (by omega) (by omega) gk ?_⟩)⟩
    dsimp only
    refine nm_r (nI_1 i) (hw (sd_u ld' b (ld' b + 1), sd_u ky' (b * 5 + ld' b) (ky (c * 5 + i)), upd vl' (b * 5 + ld' b) (vl (c * 5 + i))) ⟨?_, ?_, fun a ha => ?_⟩)
    · refine sd_H_ext (sd_app i1 gk gn gv) rfl (fun _ _ => rfl) (fun _ _ => rfl) (fun k _ => ?_) (fun _ _ _ => rfl)
      constructor
      · rintro (w | ⟨j, hj, ej⟩)
        · exact Or.inl (Or.inl w)
        · by_cases q : j = i
          · exact Or.inr (by rw [← ej, q])
          · exact Or.inl (Or.inr ⟨j, by omega, ej⟩)
      · rintro ((w | ⟨j, hj, ej⟩) | w)
        · exact Or.inl w
        · exact Or.inr ⟨j, by omega, ej⟩
        · exact Or.inr ⟨i, by omega, w.symm⟩
    · dsimp only
      rw [sd_us]; omega
    · dsimp only
      have q := sd_appF (ky := ky') (vl := vl') (key := ky (c * 5 + i)) (x := vl (c * 5 + i)) (show ld' b ≤ 4 by omega) ha
      have q' := i3 a ha
      exact ⟨q.1.trans q'.1, fun j hj => ⟨(q.2 j hj).1.trans (q'.2 j hj).1, (q.2 j hj).2.trans (q'.2 j hj).2⟩⟩
/-! joinAt -/
theorem sd_joinAt {post : Int32 → St1 → Prop} {K : Nat → Bool} {V : Nat → Int32} {Bf : Nat → Nat} {e : Nat} (T : sd_T D dir us dp Bf bc) (C : sd_C K V dp ld ky vl Bf) (he : e < 256) (hl : ∀ k, ld (Bf k) ≤ 4)
    (h0 : dp (Bf e) = 0 → post 0 (sd_st D bc kc dir us dp ld ky vl))
    (h1 : ∀ j e', dp (Bf e) = j + 1 → e' % 2 ^ j = e % 2 ^ j → sd_b e' j ≠ sd_b e j → (dp (Bf e') ≠ j + 1 ∨ (dp (Bf e') = j + 1 ∧ 4 < ld (Bf e) + ld (Bf e'))) → post 0 (sd_st D bc kc dir us dp ld ky vl))
    (h2 : ∀ (j e' bc' : Nat) (dir' us' dp' ld' ky' : Nat → Nat) (vl' : Nat → Int32) (Bf' : Nat → Nat), dp (Bf e) = j + 1 → dp (Bf e') = j + 1 → e' % 2 ^ j = e % 2 ^ j → sd_b e' j ≠ sd_b e j → ld (Bf e) + ld (Bf e') ≤ 4 →
      sd_T D dir' us' dp' Bf' bc' → sd_C K V dp' ld' ky' vl' Bf' → (∀ k, k % 2 ^ j = e % 2 ^ j → dp' (Bf' k) = j) → (∀ k, ¬ k % 2 ^ j = e % 2 ^ j → dp' (Bf' k) = dp (Bf k)) → post 1 (sd_st D bc' kc dir' us' dp' ld' ky' vl')) :
    wpX_joinAt post (sd_st D bc kc dir us dp ld ky vl) (nI e) := by
  have hb := (T.2.2.1 e).1
  have hdD := (T.2.2.1 e).2.2
  have hD6 := T.1
  have v1 : vp_in (nI (Bf e)) 65 := vp_in_nI (by omega) (by decide)
  unfold wpX_joinAt
  dsimp only
  refine sd_bOf hD6 (by omega) (T.2.1 e) ?_
  rw [nI_clamp (show Bf e < 2 ^ 31 by omega), sd_ia, sd_ia]
  refine ⟨v1, nm_e ?_⟩
  cases hd : dp (Bf e) with
  | zero => exact br_t rfl (h0 hd)
  | succ j =>
    refine br_f (nI_ne0 (by omega) (by omega)) ?_
    obtain ⟨x1, x2, x3⟩ := sd_xlt j (by omega) e he
    have hc := (T.2.2.1 (e ^^^ 2 ^ j)).1
    have hcD := (T.2.2.1 (e ^^^ 2 ^ j)).2.2
    have hm : (e ^^^ 2 ^ j) % 2 ^ D < 2 ^ D := Nat.mod_lt _ (Nat.two_pow_pos D)
    have h64 := sd_pw hD6
    rw [nI_pred, sd_xor j (by omega) e he, sd_mask (by omega) hD6, nI_clamp (show (e ^^^ 2 ^ j) % 2 ^ D < 2 ^ 31 by omega), sd_ia, T.2.1]
    have v2 : vp_in (nI (Bf (e ^^^ 2 ^ j))) 65 := vp_in_nI (by omega) (by decide)
    refine ⟨vp_in_nI (by omega) (by decide), nm_e ?_⟩
    rw [nI_clamp (show Bf (e ^^^ 2 ^ j) < 2 ^ 31 by omega), sd_ia, sd_ia, nI_add]
    have l1 := hl e
    have l2 := hl (e ^^^ 2 ^ j)
    refine ⟨v2, pk_eq (dp (Bf (e ^^^ 2 ^ j))) (j + 1) (fun z => ⟨v1, v2, pk_le (ld (Bf e) + ld (Bf (e ^^^ 2 ^ j))) 4 (fun w => ?_) (fun w => h1 j _ hd x2 x3 (Or.inr ⟨z, w⟩))⟩) (fun z => h1 j _ hd x2 x3 (Or.inl z))⟩
    have ne := sd_T_ne T hd x3
    obtain ⟨bc', rfl⟩ : ∃ bc', bc = bc' + 1 := ⟨bc - 1, by have := sd_bc64 T; omega⟩
    have c1 := C e
    have c2 := C (e ^^^ 2 ^ j)
    rw [hd] at c1
    rw [z] at c2
    refine sd_j76 hb hc ne w (by omega) c1 c2 (fun k p q => ?_) (fun ld' ky' vl' k1 k2 => ?_)
    · have p2 := sd_es.mp p.2
      have q2 := sd_es.mp q.2
      exact x3 (by rw [← q2.2, p2.2])
    · refine sd_j154 hD6 hb (fun i hi => ?_) hc (fun dir' k0 => ?_)
      · have := T.2.1 i
        rw [Nat.mod_eq_of_lt hi] at this
        rw [this]
        exact (T.2.2.1 i).1
      · refine h2 j (e ^^^ 2 ^ j) bc' dir' _ _ ld' ky' vl' (sd_jB Bf (Bf e) (Bf (e ^^^ 2 ^ j))) hd z x2 x3 w (sd_T_join T hd z x2 x3 k0) (sd_C_join T C hd z x2 x3 (fun k => Nat.le_succ_of_le (hl k)) k1 k2) (fun k hk => ?_) (fun k hk => ?_)
        · rcases sd_join_cs T hd z x2 x3 k with ⟨a1, a2, a3, a4⟩ | ⟨a1, a2, a3, a4⟩ | ⟨a1, a2, a3, a4⟩
          · rw [a4, sd_us]
          · rw [a4, sd_us]
          · exact absurd hk a1
        · rcases sd_join_cs T hd z x2 x3 k with ⟨a1, a2, a3, a4⟩ | ⟨a1, a2, a3, a4⟩ | ⟨a1, a2, a3, a4⟩
          · exact absurd a1 hk
          · exact absurd a1 hk
          · rw [a4, sd_un a2]
/-! the directory halves -/
theorem sd_d102 {post : St1 → Prop} {Bf : Nat → Nat} (T : sd_T D dir us dp Bf bc) (h : ∀ D', sd_T D' dir us dp Bf bc → post (sd_st D' bc kc dir us dp ld ky vl)) :
    ∃ n, wX_delete_102 post (nI bc) (nI kc) (sd_i dir) (sd_i us) (sd_i dp) (sd_i ld) (sd_i ky) vl n (nI D) := by
  refine ⟨D + 1, pk_loopD (σ := Unit) (fun n i _ => wX_delete_102 post (nI bc) (nI kc) (sd_i dir) (sd_i us) (sd_i dp) (sd_i ld) (sd_i ky) vl n (nI i)) (fun i _ => sd_T i dir us dp Bf bc) ?_ ?_ D () T⟩
  · intro n _ T0
    exact pk_le 0 0 (fun _ => h 0 T0) (fun z => absurd z (by omega))
  · intro n i _ T0 hw
    have h6 := T0.1
    have d6 : ∀ b, us b = 1 → dp b ≤ 6 := fun b hb => by
      obtain ⟨_, k, e⟩ := T0.2.2.2.2.1 b hb
      have := (T0.2.2.1 k).2.2
      rw [e] at this
      omega
    unfold wX_delete_102
    refine pk_le (i + 1) 0 (fun z => absurd z (by omega)) (fun _ => sd_deep T0.2.2.2.1 d6 (fun m hm m1 _ => pk_le (i + 1) m (fun _ => h (i + 1) T0) (fun z => nm_r (nI_pred i) (hw () (sd_T_half T0 (fun b hb => ?_))))))
    have := m1 b (T0.2.2.2.2.1 b hb).1 hb
    omega
/-! the joining rounds -/
theorem sd_d77 {post : St1 → Prop} {K : Nat → Bool} {V : Nat → Int32} {Bf : Nat → Nat} {key : Nat} (T : sd_T D dir us dp Bf bc) (C : sd_C K V dp ld ky vl Bf) (hk : key < 256) (L : sd_L K dp Bf) (hkc : kc = sd_c K 0 0)
    (G : ∀ k d, d < dp (Bf k) → ¬ k % 2 ^ d = key % 2 ^ d → 4 < sd_c K d k) (h : ∀ bc' u', sd_I K V bc' u' → post u') :
    ∃ n, wX_delete_77 post (nI key) n 1 0 (nI D) (nI bc) (nI kc) (sd_i dir) (sd_i us) (sd_i dp) (sd_i ld) (sd_i ky) vl := by
  subst hkc
  refine pk_loop (σ := Int32 × St1) (fun n i s => wX_delete_77 post (nI key) n s.1 (nI i) s.2.1 s.2.2.1 s.2.2.2.1 s.2.2.2.2.1 s.2.2.2.2.2.1 s.2.2.2.2.2.2.1 s.2.2.2.2.2.2.2.1 s.2.2.2.2.2.2.2.2.1 s.2.2.2.2.2.2.2.2.2)
    (fun i s => ∃ (D bc : Nat) (dir us dp ld ky : Nat → Nat) (vl : Nat → Int32) (Bf : Nat → Nat) (f : Int32), s = (f, sd_st D bc (sd_c K 0 0) dir us dp ld ky vl) ∧ sd_T D dir us dp Bf bc ∧ sd_C K V dp ld ky vl Bf ∧ sd_L K dp Bf ∧
      ((f = 0 ∧ sd_G K dp Bf) ∨ (f = 1 ∧ dp (Bf key) + i ≤ 6 ∧ ∀ k d, d < dp (Bf k) → ¬ k % 2 ^ d = key % 2 ^ d → 4 < sd_c K d k))) 6 0
    (1, sd_st D bc (sd_c K 0 0) dir us dp ld ky vl) (by omega) ?_ ?_ ?_
  · have h1 := (T.2.2.1 key).2.2
    have h2 := T.1
    exact ⟨D, bc, dir, us, dp, ld, ky, vl, Bf, 1, rfl, T, C, L, Or.inr ⟨rfl, by omega, G⟩⟩
  · intro n s hs
    obtain ⟨D, bc, dir, us, dp, ld, ky, vl, Bf, f, rfl, T, C, L, G⟩ := hs
    have G' : sd_G K dp Bf := by
      rcases G with G | G
      · exact G.2
      · intro k d hd
        have z : dp (Bf key) = 0 := by omega
        have e := (T.2.2.2.2.2.1 key k).mpr (by rw [z]; exact sd_0 key k)
        rw [← e, z] at hd
        exact absurd hd (by omega)
    exact pk_le 6 6 (fun _ => sd_d102 T (fun D' T' => h bc _ ⟨D', dir, us, dp, ld, ky, vl, Bf, rfl, T', C, L, G'⟩)) (fun z => absurd z (by omega))
  · intro n i s hi hs hw
    obtain ⟨D, bc, dir, us, dp, ld, ky, vl, Bf, f, rfl, T, C, L, G⟩ := hs
    have hl : ∀ k, ld (Bf k) ≤ 4 := fun k => by rw [sd_load C k]; exact L k
    show wX_delete_77 post (nI key) (n + 1) f (nI i) (nI D) (nI bc) (nI (sd_c K 0 0)) (sd_i dir) (sd_i us) (sd_i dp) (sd_i ld) (sd_i ky) vl
    unfold wX_delete_77
    refine pk_le 6 i (fun z => absurd z (by omega)) (fun _ => ?_)
    rcases G with ⟨rfl, G⟩ | ⟨rfl, hr, G⟩
    · exact br_t rfl (sd_d102 T (fun D' T' => h bc _ ⟨D', dir, us, dp, ld, ky, vl, Bf, rfl, T', C, L, G⟩))
    · refine br_f (by decide) (sd_joinAt T C hk hl (fun hd => ?_) (fun j e' hd he hbb hor => ?_) (fun j e' bc' dir' us' dp' ld' ky' vl' Bf' hd hd' he hbb hle T' C' q1 q2 => ?_))
      · dsimp only
        refine nm_r (nI_1 i) (hw (0, sd_st D bc (sd_c K 0 0) dir us dp ld ky vl) ⟨D, bc, dir, us, dp, ld, ky, vl, Bf, 0, rfl, T, C, L, Or.inl ⟨rfl, fun k d hd2 => ?_⟩⟩)
        have e := (T.2.2.2.2.2.1 key k).mpr (by rw [hd]; exact sd_0 key k)
        rw [← e, hd] at hd2
        exact absurd hd2 (by omega)
      · dsimp only
        refine nm_r (nI_1 i) (hw (0, sd_st D bc (sd_c K 0 0) dir us dp ld ky vl) ⟨D, bc, dir, us, dp, ld, ky, vl, Bf, 0, rfl, T, C, L, Or.inl ⟨rfl, fun k d hd2 => ?_⟩⟩)
        have big : 4 < sd_c K j key := by
          rw [sd_c_two he hbb]
          rcases hor with z | ⟨z, w⟩
          · have lt : j + 1 < dp (Bf e') := by
              rcases Nat.lt_or_ge (j + 1) (dp (Bf e')) with w | w
              · exact w
              · have w' : dp (Bf e') ≤ j := by omega
                have e := (T.2.2.2.2.2.1 e' key).mpr (sd_mm he w')
                rw [e, hd] at z
                exact absurd rfl z
            have := G e' (j + 1) lt (fun v => hbb (sd_es.mp v).2)
            omega
          · have l1 := sd_load C key
            have l2 := sd_load C e'
            rw [hd] at l1
            rw [z] at l2
            omega
        by_cases v : k % 2 ^ d = key % 2 ^ d
        · have dj : d ≤ j := by
            rcases Nat.lt_or_ge j d with w | w
            · have e := (T.2.2.2.2.2.1 key k).mpr (by rw [hd]; exact (sd_mm v w).symm)
              rw [← e, hd] at hd2
              omega
            · exact w
          have m := sd_c_mono (K := K) key dj
          rw [sd_c_same v]
          omega
        · exact G k d hd2 v
      · dsimp only
        refine nm_r (nI_1 i) (hw (1, sd_st D bc' (sd_c K 0 0) dir' us' dp' ld' ky' vl') ⟨D, bc', dir', us', dp', ld', ky', vl', Bf', 1, rfl, T', C', fun k => ?_, Or.inr ⟨rfl, ?_, fun k d hd2 hn => ?_⟩⟩)
        · by_cases v : k % 2 ^ j = key % 2 ^ j
          · rw [q1 k v, sd_c_same v, sd_c_two he hbb]
            have l1 := sd_load C key
            have l2 := sd_load C e'
            rw [hd] at l1
            rw [hd'] at l2
            omega
          · rw [q2 k v]
            exact L k
        · rw [q1 key rfl]
          omega
        · by_cases v : k % 2 ^ j = key % 2 ^ j
          · rw [q1 k v] at hd2
            exact absurd (sd_mm v (Nat.le_of_lt hd2)) hn
          · rw [q2 k v] at hd2
            exact G k d hd2 hn
/-! a key goes out of its bucket -/
theorem sd_C_del {K : Nat → Bool} {V : Nat → Int32} {Bf : Nat → Nat} {key p n : Nat} (T : sd_T D dir us dp Bf bc) (C : sd_C K V dp ld ky vl Bf) (hn : ld (Bf key) = n + 1) (hn4 : n < 5) (hp : p ≤ n) (ep : ky (Bf key * 5 + p) = key) (hl : ∀ k, ld (Bf k) ≤ 5) :
    sd_C (sd_uK K key false) V dp (sd_u ld (Bf key) n) (sd_u ky (Bf key * 5 + p) (ky (Bf key * 5 + n))) (upd vl (Bf key * 5 + p) (vl (Bf key * 5 + n))) Bf := by
  have t6 := T.2.2.2.2.2.1
  intro k
  by_cases z : Bf k = Bf key
  · have cl : k % 2 ^ dp (Bf k) = key % 2 ^ dp (Bf k) := (t6 k key).mp z
    rw [cl, z, sd_us]
    have c1 := C key
    rw [hn] at c1
    refine sd_H_ext (sd_H_del (f' := fun i => sd_u ky (Bf key * 5 + p) (ky (Bf key * 5 + n)) (Bf key * 5 + i)) (g' := fun i => upd vl (Bf key * 5 + p) (vl (Bf key * 5 + n)) (Bf key * 5 + i)) c1 hp ep (fun i hi hip => sd_un (by omega)) (fun i hi hip => pk_un (by omega)) (fun _ => sd_us) (fun _ => pk_us)) rfl (fun _ _ => rfl) (fun _ _ => rfl) (fun l _ => ?_) (fun _ _ _ => rfl)
    by_cases q : l = key
    · rw [q, sd_uKs]
      exact ⟨fun w => absurd w.1 (by decide), fun w => absurd rfl w.2⟩
    · rw [sd_uKn q]
      exact ⟨fun w => ⟨w, q⟩, fun w => w.1⟩
  · refine sd_H_ext (C k) (sd_un z) (fun i hi => sd_un (by have := hl k; omega)) (fun i hi => pk_un (by have := hl k; omega)) (fun l _ => ?_) (fun _ _ _ => rfl)
    by_cases q : l = key
    · rw [q, sd_uKs]
      exact ⟨fun w => absurd w.1 (by decide), fun w => absurd ((t6 k key).mpr w.2.symm) z⟩
    · rw [sd_uKn q]
theorem sd_del {post : St1 → Prop} {K : Nat → Bool} {V : Nat → Int32} {Bf : Nat → Nat} {key p : Nat} (T : sd_T D dir us dp Bf bc) (C : sd_C K V dp ld ky vl Bf) (L : sd_L K dp Bf) (G : sd_G K dp Bf) (hk : key < 256) (h1 : K key = true) (hp : p < ld (Bf key)) (ep : ky (Bf key * 5 + p) = key)
    (h : ∀ bc' u', sd_I (sd_uK K key false) V bc' u' → post u') : wpX_delete post (sd_st D bc (sd_c K 0 0) dir us dp ld ky vl) (nI (Bf key)) (nI p) (nI key) := by
  have hl : ∀ k, ld (Bf k) ≤ 4 := fun k => by rw [sd_load C k]; exact L k
  have hb := (T.2.2.1 key).1
  have hlk := hl key
  obtain ⟨n, hn⟩ : ∃ n, ld (Bf key) = n + 1 := ⟨ld (Bf key) - 1, by omega⟩
  have hky : ky (Bf key * 5 + n) < 256 := ((C key).1 n (by omega)).1
  have cout := fun d k => sd_c_out (K := K) hk h1 d k
  have kcE : sd_c K 0 0 = sd_c (sd_uK K key false) 0 0 + 1 := by
    rw [cout, if_pos (sd_0 key 0)]
  unfold wpX_delete
  dsimp only
  have v1 : vp_in (nI (Bf key)) 65 := vp_in_nI (by omega) (by decide)
  have v2 : vp_in (nI (Bf key * 5 + n)) 325 := vp_in_nI (by omega) (by decide)
  have v3 : vp_in (nI (Bf key * 5 + p)) 325 := vp_in_nI (by omega) (by decide)
  rw [nI_clamp (show Bf key < 2 ^ 31 by omega), sd_ia, hn, nI_pred, sd_nb8 n (by omega), sd_iu, kcE, nI_pred, sd_ix (Bf key) p, nI_clamp (show Bf key * 5 + p < 2 ^ 31 by omega)]
  refine ⟨v1, v1, nm_e ?_⟩
  rw [sd_ia, sd_us, sd_ix, nI_clamp (show Bf key * 5 + n < 2 ^ 31 by omega), sd_ia, vp_nar_short, sd_nb16 _ hky, sd_iu]
  refine ⟨v1, v2, v3, nm_e ⟨v1, v2, v3, nm_e (nm_e ?_)⟩⟩
  refine sd_d77 T (sd_C_del T C hn (by omega) (by omega) ep (fun k => Nat.le_succ_of_le (hl k))) hk (fun k => ?_) rfl (fun k d hd hne => ?_) h
  · have a := L k
    rw [cout] at a
    omega
  · have a := G k d hd
    rw [cout, if_neg (fun z => hne z.symm)] at a
    exact a
end
end
section
theorem sd_N256 (Q : Nat → Bool) : sd_N Q ≤ 256 := by
  have h := sd_S_bd (f := fun l => (Q l).toNat) (n := 256) (c := 1) (fun i _ => Bool.toNat_le _)
  unfold sd_N
  omega
theorem sd_nx (a b : Nat) : nI a ^^^ nI b = nI (a ^^^ b) := by
  apply Int32.toBitVec_inj.1
  show BitVec.ofNat 32 a ^^^ BitVec.ofNat 32 b = BitVec.ofNat 32 (a ^^^ b)
  apply BitVec.eq_of_getLsbD_eq
  intro i hi
  simp [hi]
theorem sd_x0 {a b d : Nat} : (a ^^^ b) % 2 ^ d = 0 ↔ a % 2 ^ d = b % 2 ^ d := by
  rw [Nat.xor_mod_two_pow]
  constructor
  · intro h
    have e : a % 2 ^ d ^^^ b % 2 ^ d ^^^ b % 2 ^ d = a % 2 ^ d := by rw [Nat.xor_assoc, Nat.xor_self, Nat.xor_zero]
    rw [h, Nat.zero_xor] at e
    exact e.symm
  · intro h
    rw [h, Nat.xor_self]
section
variable {D bc kc : Nat} {dir us dp ld ky : Nat → Nat} {vl : Nat → Int32}
theorem sd_findI {post : Int32 → Prop} {K : Nat → Bool} {V : Nat → Int32} {Bf : Nat → Nat} {key : Nat} (T : sd_T D dir us dp Bf bc) (C : sd_C K V dp ld ky vl Bf) (hl : ∀ k, ld (Bf k) ≤ 4) (hk : key < 256)
    (h0 : K key = false → post (-1)) (h1 : ∀ p, p < ld (Bf key) → ky (Bf key * 5 + p) = key → K key = true → post (nI p)) : wpX_find post (sd_st D bc kc dir us dp ld ky vl) (nI (Bf key)) (nI key) := by
  have hb := (T.2.2.1 key).1
  refine sd_find (by omega) (Nat.le_succ_of_le (hl key)) (fun i hi => ((C key).1 i hi).1) hk (fun hn => h0 ?_) (fun i hi e => h1 i hi e ?_)
  · cases hK : K key with
    | false => rfl
    | true =>
      obtain ⟨i, hi, e⟩ := (C key).2.1 key hk ⟨hK, rfl⟩
      exact absurd e (hn i hi)
  · have : K (ky (Bf key * 5 + i)) = true := ((C key).1 i hi).2.1.1
    rw [e] at this
    exact this
theorem sd_lds {K : Nat → Bool} {V : Nat → Int32} {Bf : Nat → Nat} (C : sd_C K V dp ld ky vl Bf) (L : sd_L K dp Bf) : ∀ k, ld (Bf k) ≤ 4 := fun k => by rw [sd_load C k]; exact L k
theorem sd_has {post : Int32 → Prop} {K : Nat → Bool} {V : Nat → Int32} {u : St1} {key : Nat} (hI : sd_I K V bc u) (hk : key < 256) (h0 : K key = false → post 0) (h1 : K key = true → post 1) : wpX_has post u (nI key) := by
  obtain ⟨D, dir, us, dp, ld, ky, vl, Bf, rfl, T, C, L, G⟩ := hI
  have hl := sd_lds C L
  unfold wpX_has
  dsimp only
  exact sd_key hk (br_f (by decide) (sd_bOf T.1 (by omega) (T.2.1 key) (sd_findI T C hl hk (fun e => br_t (by decide) (h0 e)) (fun p hp ep e => br_f (nI_pos (by have := hl key; omega)) (h1 e)))))
theorem sd_rem {post : Int32 → St1 → Prop} {K : Nat → Bool} {V : Nat → Int32} {u : St1} {key : Nat} (hI : sd_I K V bc u) (hk : key < 256) (h0 : K key = false → post (-1) u)
    (h1 : K key = true → ∀ bc' u', sd_I (sd_uK K key false) V bc' u' → post (nI bc') u') : wpX_remove post u (nI key) := by
  have hI' := hI
  obtain ⟨D, dir, us, dp, ld, ky, vl, Bf, rfl, T, C, L, G⟩ := hI
  have hl := sd_lds C L
  unfold wpX_remove
  dsimp only
  refine sd_has hI' hk (fun e => br_t rfl (h0 e)) (fun e => br_f (by decide) (sd_bOf T.1 (by omega) (T.2.1 key) (sd_findI T C hl hk (fun e0 => ?_) (fun p hp ep _ => sd_del T C L G hk e hp ep (fun bc' u' hI2 => ?_)))))
  · rw [e] at e0
    exact absurd e0 (by decide)
  · have hI3 := hI2
    obtain ⟨D', dir', us', dp', ld', ky', vl', Bf', rfl, _⟩ := hI2
    exact h1 e bc' _ hI3
theorem sd_get {post : Int32 → Prop} {K : Nat → Bool} {V : Nat → Int32} {u : St1} {key : Nat} (hI : sd_I K V bc u) (hk : key < 256) (h1 : K key = true) (h : post (V key)) : wpX_get post u (nI key) := by
  have hI' := hI
  obtain ⟨D, dir, us, dp, ld, ky, vl, Bf, rfl, T, C, L, G⟩ := hI
  have hl := sd_lds C L
  have hlk := hl key
  have hb := (T.2.2.1 key).1
  unfold wpX_get
  dsimp only
  refine sd_has hI' hk (fun e => ?_) (fun e => br_f (by decide) (sd_bOf T.1 (by omega) (T.2.1 key) (sd_findI T C hl hk (fun e0 => ?_) (fun p hp ep _ => br_t (nI_pos' (by omega)) ?_))))
  · rw [h1] at e
    exact absurd e (by decide)
  · rw [e] at e0
    exact absurd e0 (by decide)
  · rw [sd_ix, nI_clamp (show Bf key * 5 + p < 2 ^ 31 by omega)]
    refine ⟨vp_in_nI (by omega) (by decide), ?_⟩
    have := ((C key).1 p hp).2.2
    dsimp only at this
    rw [this, ep]
    exact h
theorem sd_C_set {K : Nat → Bool} {V : Nat → Int32} {Bf : Nat → Nat} {key p : Nat} {x : Int32} (T : sd_T D dir us dp Bf bc) (C : sd_C K V dp ld ky vl Bf) (hl : ∀ k, ld (Bf k) ≤ 4) (hp : p < ld (Bf key)) (ep : ky (Bf key * 5 + p) = key) :
    sd_C K (upd V key x) dp ld ky (upd vl (Bf key * 5 + p) x) Bf := by
  intro k
  obtain ⟨h1, h2, h3⟩ := C k
  refine ⟨fun i hi => ⟨(h1 i hi).1, (h1 i hi).2.1, ?_⟩, h2, h3⟩
  show upd vl (Bf key * 5 + p) x (Bf k * 5 + i) = upd V key x (ky (Bf k * 5 + i))
  have hlk := hl k
  have hlk' := hl key
  have old : vl (Bf k * 5 + i) = V (ky (Bf k * 5 + i)) := (h1 i hi).2.2
  have inj : ∀ i j, i < ld (Bf k) → j < ld (Bf k) → ky (Bf k * 5 + i) = ky (Bf k * 5 + j) → i = j := h3
  by_cases z : Bf k = Bf key
  · by_cases w : i = p
    · rw [z, w, ep, pk_us, pk_us]
    · have ne : ky (Bf k * 5 + i) ≠ key := fun q => w (inj i p hi (by rw [z]; exact hp) (by rw [q, z, ep]))
      rw [pk_un (by omega), pk_un ne, old]
  · have ne : ky (Bf k * 5 + i) ≠ key := fun q => by
      have c : ky (Bf k * 5 + i) % 2 ^ dp (Bf k) = k % 2 ^ dp (Bf k) := (h1 i hi).2.1.2
      rw [q] at c
      exact z ((T.2.2.2.2.2.1 k key).mpr c.symm)
    rw [pk_un (by omega), pk_un ne, old]
theorem sd_put {post : Int32 → St1 → Prop} {K : Nat → Bool} {V : Nat → Int32} {u : St1} {key : Nat} {x : Int32} (hI : sd_I K V bc u) (hk : key < 256)
    (h1 : K key = true → ∀ u', sd_I K (upd V key x) bc u' → post (nI bc) u')
    (h2 : K key = false → sd_c K 0 0 < 40 → ∀ bc' u', sd_I (sd_uK K key true) (upd V key x) bc' u' → post (nI bc') u')
    (h3 : K key = false → 40 ≤ sd_c K 0 0 → post (-2) u) : wpX_put post u (nI key) x := by
  have hI' := hI
  obtain ⟨D, dir, us, dp, ld, ky, vl, Bf, rfl, T, C, L, G⟩ := hI
  have hl := sd_lds C L
  have hlk := hl key
  have hb := (T.2.2.1 key).1
  have h256 : sd_c K 0 0 ≤ 256 := sd_N256 _
  unfold wpX_put
  dsimp only
  refine sd_key hk (br_f (by decide) (sd_bOf T.1 (by omega) (T.2.1 key) (sd_findI T C hl hk (fun e => br_t (by decide) (pk_lt (sd_c K 0 0) 40 (fun z => sd_ins hI' hk e (fun bc' u' hI2 => ?_)) (fun z => h3 e z))) (fun p hp ep e => br_f (nI_pos (by omega)) ?_))))
  · have hI3 := hI2
    obtain ⟨D', dir', us', dp', ld', ky', vl', Bf', rfl, _⟩ := hI2
    exact h2 e z bc' _ hI3
  · rw [sd_ix, nI_clamp (show Bf key * 5 + p < 2 ^ 31 by omega)]
    exact ⟨vp_in_nI (by omega) (by decide), nm_e (h1 e _ ⟨D, dir, us, dp, ld, ky, _, Bf, rfl, T, sd_C_set T C hl hp ep, L, G⟩)⟩
theorem sd_grow {post : Int32 → St1 → Prop} {K : Nat → Bool} {V : Nat → Int32} {u : St1} {key : Nat} (hI : sd_I K V bc u) (hk : key < 256) (h1 : K key = true → post 0 u)
    (h0 : K key = false → ∀ (bc' : Nat) (V' V'' : Nat → Int32) (u' u'' : St1), sd_I (sd_uK K key true) V' bc' u' → sd_I K V'' bc u'' → post (nI bc' - nI bc) u'') : wpX_growth post u (nI key) := by
  have hI' := hI
  obtain ⟨D, dir, us, dp, ld, ky, vl, Bf, rfl, T, C, L, G⟩ := hI
  unfold wpX_growth
  dsimp only
  refine sd_key hk (br_f (by decide) (sd_has hI' hk (fun e => br_t rfl (sd_ins hI' hk e (fun bc' u' hI2 => ?_))) (fun e => br_f (by decide) (h1 e))))
  have hI3 := hI2
  obtain ⟨D', dir', us', dp', ld', ky', vl', Bf', rfl, _⟩ := hI2
  dsimp only
  refine sd_rem hI3 hk (fun e1 => ?_) (fun _ bc2 u2 hI4 => ?_)
  · rw [sd_uKs] at e1
    exact absurd e1 (by decide)
  · rw [sd_uK_back e] at hI4
    have e2 := sd_one hI4 hI'
    subst e2
    have hI5 := hI4
    obtain ⟨D'', dir'', us'', dp'', ld'', ky'', vl'', Bf'', rfl, _⟩ := hI4
    exact h0 e bc' _ _ _ _ hI3 hI5
theorem sd_depthOf {post : Int32 → Prop} {Bf : Nat → Nat} {k : Nat} (T : sd_T D dir us dp Bf bc) (hk : k < 256) (h : post (nI (dp (Bf k)))) : wpX_depthOf post (sd_st D bc kc dir us dp ld ky vl) (nI k) := by
  have hb := (T.2.2.1 k).1
  unfold wpX_depthOf
  dsimp only
  refine sd_key hk (br_f (by decide) (sd_bOf T.1 (by omega) (T.2.1 k) ?_))
  rw [nI_clamp (show Bf k < 2 ^ 31 by omega), sd_ia]
  exact ⟨vp_in_nI (by omega) (by decide), h⟩
theorem sd_loadOf {post : Int32 → Prop} {Bf : Nat → Nat} {k : Nat} (T : sd_T D dir us dp Bf bc) (hk : k < 256) (h : post (nI (ld (Bf k)))) : wpX_load post (sd_st D bc kc dir us dp ld ky vl) (nI k) := by
  have hb := (T.2.2.1 k).1
  unfold wpX_load
  dsimp only
  refine sd_key hk (br_f (by decide) (sd_bOf T.1 (by omega) (T.2.1 k) ?_))
  rw [nI_clamp (show Bf k < 2 ^ 31 by omega), sd_ia]
  exact ⟨vp_in_nI (by omega) (by decide), h⟩
theorem sd_tog {post : Int32 → Prop} {Bf : Nat → Nat} {a b : Nat} (T : sd_T D dir us dp Bf bc) (ha : a < 256) (hb : b < 256) (h1 : Bf a = Bf b → post 1) (h0 : Bf a ≠ Bf b → post 0) : wpX_together post (sd_st D bc kc dir us dp ld ky vl) (nI a) (nI b) := by
  have ba := (T.2.2.1 a).1
  have bb := (T.2.2.1 b).1
  unfold wpX_together
  dsimp only
  exact sd_key ha (br_f (by decide) (sd_key hb (br_f (by decide) (sd_bOf T.1 (by omega) (T.2.1 a) (sd_bOf T.1 (by omega) (T.2.1 b) (pk_eq (Bf a) (Bf b) h1 h0))))))
theorem sd_pair {post : Int32 → Prop} {K : Nat → Bool} {V : Nat → Int32} {u : St1} {a b : Nat} (hI : sd_I K V bc u) (ha : a < 256) (hb : b < 256) (h : post 1) : wpL_pair post u (nI a) (nI b) := by
  obtain ⟨D, dir, us, dp, ld, ky, vl, Bf, rfl, T, C, L, G⟩ := hI
  have t6 := T.2.2.2.2.2.1 a b
  have hd := (T.2.2.1 a).2.2
  have hD := T.1
  have hx : a ^^^ b < 2 ^ 8 := Nat.xor_lt_two_pow ha hb
  have hm : (a ^^^ b) % 2 ^ dp (Bf a) ≤ a ^^^ b := Nat.mod_le _ _
  unfold wpL_pair
  dsimp only
  refine sd_depthOf T ha ?_
  rw [sd_nx, sd_mask (by omega) (by omega)]
  refine pk_eq ((a ^^^ b) % 2 ^ dp (Bf a)) 0 (fun z => ?_) (fun z => ?_)
  · have e := t6.mpr (sd_x0.mp z)
    unfold wL_pair_23
    exact sd_tog T ha hb (fun _ => br_t rfl (br_f (by decide) (sd_depthOf T hb (br_t (by rw [e]) h)))) (fun w => absurd e w)
  · have ne : Bf a ≠ Bf b := fun w => z (sd_x0.mpr (t6.mp w))
    unfold wL_pair_23
    exact sd_tog T ha hb (fun w => absurd w ne) (fun _ => br_t rfl (br_t rfl h))
end
end
section
/-! the greatest of some different numbers -/
theorem sd_top (f : Nat → Nat) : ∀ n, (∀ i j, i < n + 1 → j < n + 1 → f i = f j → i = j) → ∃ i, i < n + 1 ∧ ∀ j, j < n + 1 → j ≠ i → f j < f i := by
  intro n
  induction n with
  | zero => exact fun _ => ⟨0, by omega, fun j hj hn => absurd hj (by omega)⟩
  | succ n ih =>
    intro inj
    obtain ⟨i, hi, h⟩ := ih (fun i j hi hj e => inj i j (by omega) (by omega) e)
    by_cases z : f i < f (n + 1)
    · refine ⟨n + 1, by omega, fun j hj hn => ?_⟩
      by_cases w : j = i
      · rw [w]; exact z
      · exact Nat.lt_trans (h j (by omega) w) z
    · refine ⟨i, by omega, fun j hj hn => ?_⟩
      by_cases w : j = n + 1
      · have ne : f i ≠ f (n + 1) := fun q => by
          have := inj i (n + 1) (by omega) (by omega) q
          omega
        rw [w]; omega
      · exact h j (by omega) hn
theorem sd_S_lt {f : Nat → Nat} {n i : Nat} (hi : i < n) (h1 : ∀ j, j < n → f j ≤ 1) (h0 : f i = 0) : sd_S f n < n := by
  have h := sd_S_pt (f := fun j => if j = i then 1 else f j) (g := f) (n := n) hi (fun j _ hj => if_neg hj)
  rw [if_pos rfl, h0] at h
  have b := sd_S_bd (f := fun j => if j = i then 1 else f j) (n := n) (c := 1) (fun j hj => by
    by_cases z : j = i
    · rw [if_pos z]; omega
    · rw [if_neg z]; exact h1 j hj)
  omega
theorem sd_S_const (n : Nat) : sd_S (fun _ => 1) n = n := by
  induction n with
  | zero => rfl
  | succ n ih => rw [sd_S_succ, ih]
theorem sd_S_all {f : Nat → Nat} {n i : Nat} (hi : i < n + 1) (h1 : ∀ j, j < n + 1 → j ≠ i → f j = 1) (h0 : f i = 0) : sd_S f (n + 1) = n := by
  have h := sd_S_pt (f := f) (g := fun _ => 1) (n := n + 1) hi (fun j hj hn => h1 j hj hn)
  rw [sd_S_const, h0] at h
  omega
theorem sd_S_single {f : Nat → Nat} {m v : Nat} (hv : v < m) (h : ∀ d, d < m → d ≠ v → f d = 0) : sd_S f m = f v := by
  have a := sd_S_pt (f := f) (g := fun _ => 0) (n := m) hv h
  have b : sd_S (fun _ => 0) m = 0 := sd_S_zero (fun _ _ => rfl)
  rw [b] at a
  omega
/-- the buckets counted by depth -/
theorem sd_byD {us dp : Nat → Nat} (w : Nat → Nat) : ∀ n, (∀ b, b < n → us b = 0 ∨ dp b ≤ 6) → sd_S (fun d => sd_S (fun b => us b * (decide (dp b = d)).toNat) n * w d) 7 = sd_S (fun b => us b * w (dp b)) n := by
  intro n
  induction n with
  | zero => exact fun _ => sd_S_zero (fun d _ => Nat.zero_mul _)
  | succ n ih =>
    intro h
    have a : sd_S (fun d => sd_S (fun b => us b * (decide (dp b = d)).toNat) (n + 1) * w d) 7 = sd_S (fun d => sd_S (fun b => us b * (decide (dp b = d)).toNat) n * w d + us n * (decide (dp n = d)).toNat * w d) 7 :=
      sd_S_congr (fun d _ => by rw [sd_S_succ, Nat.add_mul])
    have c : sd_S (fun d => us n * (decide (dp n = d)).toNat * w d) 7 = us n * w (dp n) := by
      rcases h n (by omega) with z | z
      · rw [z, Nat.zero_mul]
        exact sd_S_zero (fun d _ => by rw [Nat.zero_mul, Nat.zero_mul])
      · rw [sd_S_single (f := fun d => us n * (decide (dp n = d)).toNat * w d) (m := 7) (v := dp n) (by omega) (fun d _ hd => by
          rw [decide_eq_false (fun q => hd q.symm)]
          show us n * 0 * w d = 0
          rw [Nat.mul_zero, Nat.zero_mul]), decide_eq_true rfl]
        show us n * 1 * w (dp n) = _
        rw [Nat.mul_one]
    have e : sd_S (fun b => us b * w (dp b)) (n + 1) = sd_S (fun b => us b * w (dp b)) n + us n * w (dp n) := rfl
    rw [a, sd_S_add, ih (fun b hb => h b (by omega)), c, e]
theorem sd_K0 (K : Nat → Bool) : sd_S (fun l => (K l).toNat) 256 = sd_c K 0 0 := by
  refine sd_S_congr (fun l _ => ?_)
  unfold sd_P
  rw [decide_eq_true (sd_0 l 0), Bool.and_true]
theorem sd_64 : ∀ d, d < 7 → (64 : Int32) >>> (nI d &&& 31) = nI (2 ^ (6 - d)) := by decide +kernel
section
variable {D bc kc : Nat} {dir us dp ld ky : Nat → Nat} {vl : Nat → Int32}
/-- how many of a bucket's keys are less than its i-th -/
def sd_le (ky : Nat → Nat) (b i j : Nat) : Nat := (decide (ky (b * 5 + j) < ky (b * 5 + i))).toNat
theorem sd_le1 (b i j : Nat) : sd_le ky b i j ≤ 1 := Bool.toNat_le _
theorem sd_b35 {post : Int32 → Prop} {J18 : Int32 → Prop} {b r i : Nat} (hb : b < 65) (hl : ld b ≤ 5) (hi : i < ld b) (hky : ∀ j, j < ld b → ky (b * 5 + j) < 256) (hr : r ≤ 5)
    (h1 : sd_S (sd_le ky b i) (ld b) = r → post (nI (ky (b * 5 + i)))) (h0 : sd_S (sd_le ky b i) (ld b) ≠ r → J18 (nI (i + 1))) :
    ∃ n, wX_inBucket_35 post J18 (nI r) (nI b) (nI i) (nI D) (nI bc) (nI kc) (sd_i dir) (sd_i us) (sd_i dp) (sd_i ld) (sd_i ky) vl n 0 0 := by
  have hS := sd_S_bd (f := sd_le ky b i) (n := ld b) (c := 1) (fun j _ => sd_le1 b i j)
  have v1 : vp_in (nI b) 65 := vp_in_nI hb (by decide)
  have v2 : vp_in (nI (b * 5 + i)) 325 := vp_in_nI (by omega) (by decide)
  have k1 := hky i hi
  refine pk_loop (σ := Unit) (fun n t _ => wX_inBucket_35 post J18 (nI r) (nI b) (nI i) (nI D) (nI bc) (nI kc) (sd_i dir) (sd_i us) (sd_i dp) (sd_i ld) (sd_i ky) vl n (nI (sd_S (sd_le ky b i) t)) (nI t)) (fun _ _ => True) (ld b) 0 () (by omega) trivial ?_ ?_
  · intro n _ _
    unfold wX_inBucket_35
    rw [nI_clamp (show b < 2 ^ 31 by omega), sd_ia, sd_ix b i, nI_clamp (show b * 5 + i < 2 ^ 31 by omega), sd_ia]
    exact ⟨v1, pk_le (ld b) (ld b) (fun _ => pk_eq (sd_S (sd_le ky b i) (ld b)) r (fun z => ⟨v2, h1 z⟩) (fun z => nm_r (nI_1 i) (h0 z))) (fun z => absurd z (by omega))⟩
  · intro n t _ ht _ hw
    have hw' := hw () trivial
    rw [sd_S_succ] at hw'
    have k2 := hky t ht
    unfold wX_inBucket_35
    rw [nI_clamp (show b < 2 ^ 31 by omega), sd_ia, sd_ix b i, nI_clamp (show b * 5 + i < 2 ^ 31 by omega), sd_ia, sd_ix b t, nI_clamp (show b * 5 + t < 2 ^ 31 by omega), sd_ia]
    refine ⟨v1, pk_le (ld b) t (fun z => absurd z (by omega)) (fun _ => ⟨vp_in_nI (by omega) (by decide), v2, pk_le (ky (b * 5 + i)) (ky (b * 5 + t)) (fun z => nm_r (Int32.add_zero _) (nm_r (nI_1 t) ?_)) (fun z => nm_r (nI_1 _) (nm_r (nI_1 t) ?_))⟩)⟩
    · have e : sd_le ky b i t = 0 := by unfold sd_le; rw [decide_eq_false (by omega)]; rfl
      rw [e] at hw'
      exact hw'
    · have e : sd_le ky b i t = 1 := by unfold sd_le; rw [decide_eq_true z]; rfl
      rw [e] at hw'
      exact hw'
theorem sd_inB {post : Int32 → Prop} {K : Nat → Bool} {V : Nat → Int32} {Bf : Nat → Nat} {k r : Nat} (T : sd_T D dir us dp Bf bc) (C : sd_C K V dp ld ky vl Bf) (hl : ∀ k, ld (Bf k) ≤ 4) (hk : k < 256) (hr : r ≤ 5)
    (h0 : (∀ i, i < ld (Bf k) → sd_S (sd_le ky (Bf k) i) (ld (Bf k)) ≠ r) → post (-1)) (h1 : ∀ i, i < ld (Bf k) → sd_S (sd_le ky (Bf k) i) (ld (Bf k)) = r → post (nI (ky (Bf k * 5 + i)))) :
    wpX_inBucket post (sd_st D bc kc dir us dp ld ky vl) (nI k) (nI r) := by
  have hb := (T.2.2.1 k).1
  have hlk := hl k
  have v1 : vp_in (nI (Bf k)) 65 := vp_in_nI (by omega) (by decide)
  unfold wpX_inBucket
  dsimp only
  refine sd_key hk (br_f (by decide) (sd_bOf T.1 (by omega) (T.2.1 k) ?_))
  refine pk_loop (σ := Unit) (fun n i _ => wX_inBucket_18 post (nI r) (nI (Bf k)) (nI D) (nI bc) (nI kc) (sd_i dir) (sd_i us) (sd_i dp) (sd_i ld) (sd_i ky) vl n (nI i)) (fun i _ => ∀ t, t < i → sd_S (sd_le ky (Bf k) t) (ld (Bf k)) ≠ r) (ld (Bf k)) 0 () (by omega) (fun t ht => absurd ht (by omega)) ?_ ?_
  · intro n _ hI
    unfold wX_inBucket_18
    rw [nI_clamp (show Bf k < 2 ^ 31 by omega), sd_ia]
    exact ⟨v1, pk_le (ld (Bf k)) (ld (Bf k)) (fun _ => h0 hI) (fun z => absurd z (by omega))⟩
  · intro n i _ hi hI hw
    unfold wX_inBucket_18
    rw [nI_clamp (show Bf k < 2 ^ 31 by omega), sd_ia]
    exact ⟨v1, pk_le (ld (Bf k)) i (fun z => absurd z (by omega)) (fun _ => sd_b35 (by omega) (by omega) hi (fun j hj => ((C k).1 j hj).1) hr (h1 i hi) (fun z => hw () (lt_s hI z)))⟩
/-- the greatest key is there, one beyond it isn't -/
theorem sd_inTop {post : Int32 → Prop} {K : Nat → Bool} {V : Nat → Int32} {Bf : Nat → Nat} {k r : Nat} (T : sd_T D dir us dp Bf bc) (C : sd_C K V dp ld ky vl Bf) (hl : ∀ k, ld (Bf k) ≤ 4) (hk : k < 256) (hr : ld (Bf k) = r + 1) (h : ∀ v, v < 256 → post (nI v)) :
    wpX_inBucket post (sd_st D bc kc dir us dp ld ky vl) (nI k) (nI r) := by
  have hlk := hl k
  refine sd_inB T C hl hk (by omega) (fun hn => ?_) (fun i hi _ => h _ ((C k).1 i hi).1)
  have inj : ∀ i j, i < ld (Bf k) → j < ld (Bf k) → ky (Bf k * 5 + i) = ky (Bf k * 5 + j) → i = j := (C k).2.2
  rw [hr] at inj hn
  obtain ⟨i, hi, ht⟩ := sd_top (fun i => ky (Bf k * 5 + i)) r inj
  refine absurd (sd_S_all hi (fun j hj hji => ?_) ?_) (hn i hi)
  · unfold sd_le
    rw [decide_eq_true (ht j hj hji)]; rfl
  · unfold sd_le
    rw [decide_eq_false (by omega)]; rfl
theorem sd_inOver {post : Int32 → Prop} {K : Nat → Bool} {V : Nat → Int32} {Bf : Nat → Nat} {k : Nat} (T : sd_T D dir us dp Bf bc) (C : sd_C K V dp ld ky vl Bf) (hl : ∀ k, ld (Bf k) ≤ 4) (hk : k < 256) (h : post (-1)) :
    wpX_inBucket post (sd_st D bc kc dir us dp ld ky vl) (nI k) (nI (ld (Bf k))) := by
  have hlk := hl k
  refine sd_inB T C hl hk (by omega) (fun _ => h) (fun i hi e => ?_)
  have := sd_S_lt (f := sd_le ky (Bf k) i) hi (fun j _ => sd_le1 _ i j) (by unfold sd_le; rw [decide_eq_false (by omega)]; rfl)
  omega
theorem sd_w62 {post : Int32 → Prop} {J9 : Int32 → Int32 → Int32 → Prop} {x1 x3 z0 : Int32} {K : Nat → Bool} {V : Nat → Int32} {Bf : Nat → Nat} {k : Nat} (T : sd_T D dir us dp Bf bc) (C : sd_C K V dp ld ky vl Bf) (hl : ∀ k, ld (Bf k) ≤ 4) (hk : k < 256) (h : J9 x1 z0 (nI (k + 1))) :
    wL_whole_62 post J9 x1 x3 (nI k) (nI (dp (Bf k))) (nI (ld (Bf k))) z0 (nI D) (nI bc) (nI kc) (sd_i dir) (sd_i us) (sd_i dp) (sd_i ld) (sd_i ky) vl := by
  have hlk := hl k
  have hd := (T.2.2.1 k).2.2
  have hD := T.1
  have last : wL_whole_104 post J9 x1 z0 x3 (nI k) (nI (ld (Bf k))) (nI D) (nI bc) (nI kc) (sd_i dir) (sd_i us) (sd_i dp) (sd_i ld) (sd_i ky) vl := by
    unfold wL_whole_104
    exact sd_inOver T C hl hk (br_t rfl (nm_r (nI_1 k) h))
  unfold wL_whole_62
  refine br_f (nI_pos (by omega)) (pk_lt 6 (dp (Bf k)) (fun z => absurd z (by omega)) (fun _ => br_f (nI_pos (by omega)) (pk_lt 4 (ld (Bf k)) (fun z => absurd z (by omega)) (fun _ => pk_le (ld (Bf k)) 0 (fun _ => last) (fun z => ?_)))))
  have e : nI (ld (Bf k)) - 1 = nI (ld (Bf k) - 1) := by
    show nI (ld (Bf k)) - nI 1 = _
    exact pk_sub (by omega)
  rw [e]
  exact sd_inTop T C hl hk (by omega) (fun v hv => br_f (nI_pos (by omega)) last)
theorem sd_w130 {post : Int32 → Prop} {K : Nat → Bool} {Bf : Nat → Nat} {m : Nat} (T : sd_T D dir us dp Bf bc) (h40 : sd_c K 0 0 ≤ 40) (hm6 : m ≤ 6) (hm : ∀ k, k < 256 → dp (Bf k) ≤ m) (hm' : m = 0 ∨ ∃ k, k < 256 ∧ dp (Bf k) = m) (h : post 1) :
    ∃ n, wL_whole_130 post (nI (sd_c K 0 0)) (nI m) (nI D) (nI bc) (nI (sd_c K 0 0)) (sd_i dir) (sd_i us) (sd_i dp) (sd_i ld) (sd_i ky) vl n 0 0 0 := by
  have d6 : ∀ b, us b = 1 → dp b ≤ 6 := fun b hb => by
    obtain ⟨_, k, e⟩ := T.2.2.2.2.1 b hb
    have h1 := (T.2.2.1 k).2.2
    have h2 := T.1
    rw [e] at h1
    omega
  have d6' : ∀ b, b < 64 → us b = 0 ∨ dp b ≤ 6 := fun b _ => by
    have := T.2.2.2.1 b
    by_cases z : us b = 0
    · exact Or.inl z
    · exact Or.inr (d6 b (by omega))
  have hbc := sd_bc64 T
  have all7 : sd_S (fun d => sd_S (fun b => us b * (decide (dp b = d)).toNat) 64) 7 = bc := by
    have a := sd_byD (us := us) (dp := dp) (fun _ => 1) 64 d6'
    rw [sd_S_congr (f := fun b => us b * 1) (g := us) (fun b _ => Nat.mul_one _), T.2.2.2.2.2.2.1] at a
    rw [← a]
    exact sd_S_congr (fun d _ => (Nat.mul_one _).symm)
  have part7 : sd_S (fun d => sd_S (fun b => us b * (decide (dp b = d)).toNat) 64 * 2 ^ (6 - d)) 7 = 64 := by
    have a := sd_byD (us := us) (dp := dp) (fun d => 2 ^ (6 - d)) 64 d6'
    rw [T.2.2.2.2.2.2.2.1] at a
    exact a
  refine pk_loop (σ := Unit) (fun n i _ => wL_whole_130 post (nI (sd_c K 0 0)) (nI m) (nI D) (nI bc) (nI (sd_c K 0 0)) (sd_i dir) (sd_i us) (sd_i dp) (sd_i ld) (sd_i ky) vl n (nI (sd_S (fun d => sd_S (fun b => us b * (decide (dp b = d)).toNat) 64 * 2 ^ (6 - d)) i)) (nI (sd_S (fun d => sd_S (fun b => us b * (decide (dp b = d)).toNat) 64) i)) (nI i)) (fun _ _ => True) 7 0 () (by omega) trivial ?_ ?_
  · intro n _ _
    rw [all7, part7]
    unfold wL_whole_130
    refine pk_lt 6 7 (fun _ => ?_) (fun z => absurd z (by omega))
    refine br_t rfl (pk_lt 40 (sd_c K 0 0) (fun z => absurd z (by omega)) (fun _ => sd_deep T.2.2.2.1 d6 (fun m2 hm2 q1 q2 => br_t ?_ (br_t rfl (br_t rfl h)))))
    have e : m2 = m := by
      have a1 : m2 ≤ m := by
        rcases q2 with q2 | ⟨b, b1, b2, b3⟩
        · omega
        · obtain ⟨_, k, ek⟩ := T.2.2.2.2.1 b b2
          have t6 := (T.2.2.2.2.2.1 k (k % 2 ^ 6)).mpr (sd_mmod k (by rw [ek]; exact d6 b b2)).symm
          have a := hm (k % 2 ^ 6) (Nat.lt_of_lt_of_le (Nat.mod_lt k (Nat.two_pow_pos 6)) (by decide))
          rw [← t6, ek, b3] at a
          exact a
      have a2 : m ≤ m2 := by
        rcases hm' with z | ⟨k, hk, ek⟩
        · omega
        · have a := q1 (Bf k) (T.2.2.1 k).1 (T.2.2.1 k).2.1
          omega
      omega
    rw [e]
  · intro n i _ hi _ hw
    have hw' := hw () trivial
    rw [sd_S_succ _ i, sd_S_succ _ i] at hw'
    unfold wL_whole_130
    refine pk_lt 6 i (fun z => absurd z (by omega)) (fun _ => sd_ofD T.2.2.2.1 d6 (by omega) (nm_r (nI_add _ _) (nm_r ?_ (nm_r (nI_1 i) hw'))))
    rw [sd_64 i (by omega), pk_mul, nI_add]
theorem sd_whole {post : Int32 → Prop} {K : Nat → Bool} {V : Nat → Int32} {u : St1} (hI : sd_I K V bc u) (h40 : sd_c K 0 0 ≤ 40) (h : post 1) : wpL_whole post u := by
  have hI' := hI
  obtain ⟨D, dir, us, dp, ld, ky, vl, Bf, rfl, T, C, L, G⟩ := hI
  have hl := sd_lds C L
  have hD := T.1
  unfold wpL_whole
  dsimp only
  refine pk_loop (fun n i (m : Nat) => wL_whole_9 post 0 (nI D) (nI bc) (nI (sd_c K 0 0)) (sd_i dir) (sd_i us) (sd_i dp) (sd_i ld) (sd_i ky) vl n (nI (sd_S (fun l => (K l).toNat) i)) (nI m) (nI i)) (fun i m => m ≤ 6 ∧ (∀ k, k < i → dp (Bf k) ≤ m) ∧ (m = 0 ∨ ∃ k, k < i ∧ dp (Bf k) = m)) 256 0 0 (by omega) ⟨by omega, fun k hk => absurd hk (by omega), Or.inl rfl⟩ ?_ ?_
  · intro n m hm
    rw [sd_K0]
    exact pk_le 256 256 (fun _ => sd_w130 T h40 hm.1 hm.2.1 hm.2.2 h) (fun z => absurd z (by omega))
  · intro n i m hi hm hw
    obtain ⟨m1, m2, m3⟩ := hm
    have hd := (T.2.2.1 i).2.2
    have go : ∀ x1, x1 = nI (sd_S (fun l => (K l).toNat) (i + 1)) → wL_whole_49 post (wL_whole_9 post 0 (nI D) (nI bc) (nI (sd_c K 0 0)) (sd_i dir) (sd_i us) (sd_i dp) (sd_i ld) (sd_i ky) vl n) (nI m) 0 (nI i) (nI (dp (Bf i))) (nI (ld (Bf i))) x1 (nI D) (nI bc) (nI (sd_c K 0 0)) (sd_i dir) (sd_i us) (sd_i dp) (sd_i ld) (sd_i ky) vl := by
      intro x1 e1
      rw [e1]
      unfold wL_whole_49
      refine pk_le (dp (Bf i)) m (fun z => sd_w62 T C hl hi (hw m ⟨m1, lt_s m2 z, ?_⟩)) (fun z => sd_w62 T C hl hi (hw (dp (Bf i)) ⟨by omega, ?_, Or.inr ⟨i, by omega, rfl⟩⟩))
      · rcases m3 with m3 | ⟨k, k1, k2⟩
        · exact Or.inl m3
        · exact Or.inr ⟨k, by omega, k2⟩
      · exact lt_s (fun k hk => Nat.le_trans (m2 k hk) (by omega)) (Nat.le_refl _)
    rw [sd_S_succ] at go
    unfold wL_whole_9
    refine pk_le 256 i (fun z => absurd z (by omega)) (fun _ => sd_depthOf T hi (sd_loadOf T hi (sd_has hI' hi (fun e => br_t rfl (go _ ?_)) (fun e => br_f (by decide) (go _ ?_)))))
    · rw [e]; rfl
    · rw [e]; exact nI_1 _
end
end
section
theorem sd_first : sd_I (fun _ => false) (fun _ => 0) 1 (sd_st 0 1 0 (fun _ => 0) (sd_u (fun _ => 0) 0 1) (fun _ => 0) (fun _ => 0) (fun _ => 0) (fun _ => 0)) := by
  have c0 : ∀ d k, sd_c (fun _ => false) d k = 0 := fun d k => sd_S_zero (fun l _ => rfl)
  refine ⟨0, fun _ => 0, sd_u (fun _ => 0) 0 1, fun _ => 0, fun _ => 0, fun _ => 0, fun _ => 0, fun _ => 0, by rw [c0], ⟨by omega, fun _ => rfl, fun _ => ⟨Nat.zero_lt_succ 63, sd_us, Nat.le_refl 0⟩, fun b => ?_, fun b hb => ?_, fun k l => ⟨fun _ => sd_0 k l, fun _ => rfl⟩, by decide +kernel, by decide +kernel, by decide +kernel⟩, fun k => sd_H_0 (fun l _ z => absurd z.1 Bool.false_ne_true), fun k => ?_, fun k d hd => absurd hd (Nat.not_lt_zero d)⟩
  · by_cases z : b = 0
    · rw [z, sd_us]; omega
    · rw [sd_un z]; omega
  · by_cases z : b = 0
    · exact ⟨by omega, 0, z.symm⟩
    · rw [sd_un z] at hb
      exact absurd hb (by decide)
  · rw [c0]; omega
theorem sd_grow1 {post : Int32 → St1 → Prop} {K : Nat → Bool} {V : Nat → Int32} {u : St1} {key bc : Nat} (hI : sd_I K V bc u) (hk : key < 256)
    (h : ∀ (g : Int32) (V2 : Nat → Int32) (u2 : St1), sd_I K V2 bc u2 → (K key = true → g = 0) → (K key = false → ∃ (bc1 : Nat) (V1 : Nat → Int32) (u1 : St1), sd_I (sd_uK K key true) V1 bc1 u1 ∧ g = nI bc1 - nI bc) → post g u2) : wpX_growth post u (nI key) :=
  sd_grow hI hk (fun e => h 0 V u hI (fun _ => rfl) (fun e2 => by rw [e] at e2; exact absurd e2 (by decide)))
    (fun e bc' V' V'' u' u'' h1 h2 => h _ V'' u'' h2 (fun e2 => by rw [e] at e2; exact absurd e2 (by decide)) (fun _ => ⟨bc', V', u', h1, rfl⟩))
theorem sd_addsub (a b : Int32) : a = b + (a - b) := by
  rw [Int32.add_comm, Int32.sub_add_cancel]
/-- what the law keeps -/
def sd_X (u : St1) : Prop := ∃ (K : Nat → Bool) (V : Nat → Int32) (bc : Nat), sd_I K V bc u ∧ sd_c K 0 0 ≤ 40
section
variable {post : Int32 → Prop} {L : Nat} {xs : Nat → Int32} {J : Int32 → Int32 → Int32 → Int32 → (Nat → Int32) → (Nat → Int32) → (Nat → Int32) → (Nat → Int32) → (Nat → Int32) → (Nat → Int32) → Prop} {x2 x3 x4 : Int32} {mk ms key : Nat}
theorem sd_l178 {u : St1} (hk : key < 256) (hX : sd_X u) (hJ : ∀ u, sd_X u → J (x2 + 1) u.1 u.2.1 u.2.2.1 u.2.2.2.1 u.2.2.2.2.1 u.2.2.2.2.2.1 u.2.2.2.2.2.2.1 u.2.2.2.2.2.2.2.1 u.2.2.2.2.2.2.2.2) :
    wL_law_178 post L xs J x2 x4 (nI key) mk ms u.1 u.2.1 u.2.2.1 u.2.2.2.1 u.2.2.2.2.1 u.2.2.2.2.2.1 u.2.2.2.2.2.2.1 u.2.2.2.2.2.2.2.1 u.2.2.2.2.2.2.2.2 := by
  obtain ⟨K, V, bc, hI, h40⟩ := hX
  obtain ⟨j1, l1, e1⟩ := pk_andE (x4 >>> ((9 : Int32) &&& 31)) (m := 255) 8 (by decide)
  obtain ⟨j2, l2, e2⟩ := pk_andE (x4 >>> ((10 : Int32) &&& 31)) (m := 255) 8 (by decide)
  obtain ⟨j3, l3, e3⟩ := pk_andE (x4 >>> ((3 : Int32) &&& 31)) (m := 255) 8 (by decide)
  unfold wL_law_178
  rw [e1, e2, e3]
  exact sd_pair hI hk l1 (br_f (by decide) (sd_pair hI l2 l3 (br_f (by decide) (nm_e (hJ u ⟨K, V, bc, hI, h40⟩)))))
theorem sd_l55 {u : St1} (hk : key < 256) (hX : sd_X u) (hJ : ∀ u, sd_X u → J (x2 + 1) u.1 u.2.1 u.2.2.1 u.2.2.2.1 u.2.2.2.2.1 u.2.2.2.2.2.1 u.2.2.2.2.2.2.1 u.2.2.2.2.2.2.2.1 u.2.2.2.2.2.2.2.2) :
    wL_law_55 post L xs J x2 x3 x4 (nI key) mk ms u.1 u.2.1 u.2.2.1 u.2.2.2.1 u.2.2.2.2.1 u.2.2.2.2.2.1 u.2.2.2.2.2.2.1 u.2.2.2.2.2.2.2.1 u.2.2.2.2.2.2.2.2 := by
  obtain ⟨K, V, bc, hI, h40⟩ := hX
  have hI' := hI
  obtain ⟨D0, dir0, us0, dp0, ld0, ky0, vl0, Bf0, rfl, T0, _⟩ := hI
  have hbc := sd_bc64 T0
  unfold wL_law_55 wpX_buckets
  dsimp only
  refine sd_grow1 hI' hk (fun g V2 u2 hI2 g1 g0 => ?_)
  have hI2' := hI2
  obtain ⟨D, dir, us, dp, ld, ky, vl, Bf, rfl, T, _⟩ := hI2
  dsimp only
  refine br_c (fun _ => sd_rem hI2' hk (fun e => ?_) (fun e bc3 u3 hI3 => ?_)) (fun _ => sd_put hI2' hk (fun e u3 hI3 => ?_) (fun e hlt bc3 u3 hI3 => ?_) (fun e hge => ?_))
  · exact sd_l178 (u := sd_st D bc (sd_c K 0 0) dir us dp ld ky vl) hk ⟨K, V2, bc, hI2', h40⟩ hJ
  · have c := sd_c_out (K := K) hk e 0 0
    exact sd_l178 (u := u3) hk ⟨_, V2, bc3, hI3, by omega⟩ hJ
  · have ne : ¬ nI bc = -2 := fun z => nI_pos (n := bc) (by omega) (by rw [z]; decide)
    have hl := sd_l178 (post := post) (L := L) (xs := xs) (x4 := x4) (mk := mk) (ms := ms) (u := u3) hk ⟨K, _, bc, hI3, h40⟩ hJ
    have hb3 : u3.2.1 = nI bc := by
      obtain ⟨D, dir, us, dp, ld, ky, vl, Bf, rfl, T, _⟩ := hI3
      rfl
    refine br_f ne (br_t rfl (br_t ?_ (sd_get (u := u3) hI3 hk e (br_t pk_us ?_))))
    · rw [g1 e, Int32.add_zero]
    · exact br_t hb3 hl
  · have h3 : bc3 ≤ 64 ∧ u3.2.1 = nI bc3 := by
      obtain ⟨D, dir, us, dp, ld, ky, vl, Bf, rfl, T, _⟩ := hI3
      exact ⟨(sd_bc64 T).2, rfl⟩
    have ne : ¬ nI bc3 = -2 := fun z => nI_pos (n := bc3) (by omega) (by rw [z]; decide)
    have c := sd_c_in (K := K) hk e 0 0
    rw [if_pos (sd_0 key 0)] at c
    have hl := sd_l178 (post := post) (L := L) (xs := xs) (x4 := x4) (mk := mk) (ms := ms) (u := u3) hk ⟨_, _, bc3, hI3, by omega⟩ hJ
    refine br_f ne (br_t rfl (br_t ?_ (sd_get (u := u3) hI3 hk sd_uKs (br_t pk_us ?_))))
    · obtain ⟨bc1, V1, u1, hI1, eg⟩ := g0 e
      rw [eg, sd_one hI1 hI3]
      exact sd_addsub _ _
    · exact br_t h3.2 hl
  · have e40 : sd_c K 0 0 = 40 := by omega
    have hl := sd_l178 (post := post) (L := L) (xs := xs) (x4 := x4) (mk := mk) (ms := ms) (u := sd_st D bc (sd_c K 0 0) dir us dp ld ky vl) hk ⟨K, V2, bc, hI2', h40⟩ hJ
    refine br_t rfl (br_f (by decide) (br_t (by rw [e40]; rfl) (sd_has hI2' hk (fun _ => br_t rfl (br_t rfl hl)) (fun e1 => ?_))))
    rw [e] at e1
    exact absurd e1 (by decide)
end
theorem i_vc (xs : Nat → Int32) (L : Nat) (hL : L ≤ 260) : wpL_law (fun r => r = 1) L xs := by
  unfold wpL_law
  refine ⟨6, 909, by omega, by omega, ?_⟩
  unfold wpX_init
  dsimp only
  refine ⟨by omega, by omega, by omega, by omega, by omega, by omega, by omega, by omega, by omega, by omega, by omega, by omega, nm_r (sd_iu (fun _ => 0) 0 1) ?_⟩
  refine pk_loop (σ := St1) (fun n i u => wL_law_10 (fun r => r = 1) L xs (1 + 6) (9 + 909) n (nI i) u.1 u.2.1 u.2.2.1 u.2.2.2.1 u.2.2.2.2.1 u.2.2.2.2.2.1 u.2.2.2.2.2.2.1 u.2.2.2.2.2.2.2.1 u.2.2.2.2.2.2.2.2) (fun _ u => sd_X u) L 0
    (sd_st 0 1 0 (fun _ => 0) (sd_u (fun _ => 0) 0 1) (fun _ => 0) (fun _ => 0) (fun _ => 0) (fun _ => 0)) (by omega) ⟨_, _, _, sd_first, by decide +kernel⟩ ?_ ?_
  · intro n u hX
    obtain ⟨K, V, bc, hI, h40⟩ := hX
    unfold wL_law_10
    exact pk_le L L (fun _ => sd_whole (u := u) hI h40 rfl) (fun z => absurd z (by omega))
  · intro n i u hi hX hw
    have v1 : vp_in (nI i) L := vp_in_nI hi (by omega)
    have hJ : ∀ u, sd_X u → wL_law_10 (fun r => r = 1) L xs (1 + 6) (9 + 909) n (nI i + 1) u.1 u.2.1 u.2.2.1 u.2.2.2.1 u.2.2.2.2.1 u.2.2.2.2.2.1 u.2.2.2.2.2.2.1 u.2.2.2.2.2.2.2.1 u.2.2.2.2.2.2.2.2 := fun u hu => by
      rw [nI_1]
      exact hw u hu
    unfold wL_law_10
    refine pk_le L i (fun z => absurd z (by omega)) (fun _ => ⟨v1, nm_e ⟨v1, nm_e (br_c (fun _ => ?_) (fun _ => ?_))⟩⟩)
    · obtain ⟨j, lj, ej⟩ := pk_andE ((xs (nI i).toNatClampNeg >>> ((4 : Int32) &&& 31)) >>> ((1 : Int32) &&& 31)) (m := 255) 8 (by decide)
      rw [ej]
      exact sd_l55 lj hX hJ
    · obtain ⟨j, lj, ej⟩ := pk_andE ((xs (nI i).toNatClampNeg >>> ((4 : Int32) &&& 31)) >>> ((1 : Int32) &&& 31)) (m := 31) 5 (by decide)
      rw [ej]
      exact sd_l55 (by omega) hX hJ
end
