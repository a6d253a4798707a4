section
/-! the check value; entries put one behind another; sections; the journal's invariant; the picture -/
def il_chk (p0 p1 : Int32) : Int32 := ((p1 ^^^ 1431655765) * 1540483477) + (p0 * 668265263)
theorem il_chk_inj {p a b : Int32} (h : il_chk p a = il_chk p b) : a = b := by
  unfold il_chk at h
  have h1 := (Int32.add_left_inj _).mp h
  have h2 : (a ^^^ 1431655765) * 1540483477 * 3852147133 = (b ^^^ 1431655765) * 1540483477 * 3852147133 := by rw [h1]
  have e : (1540483477 : Int32) * 3852147133 = 1 := by decide
  rw [Int32.mul_assoc, Int32.mul_assoc, e, Int32.mul_one, Int32.mul_one] at h2
  exact (Int32.xor_left_inj _).mp h2
theorem il_not (r : Int32) : ¬ r ^^^ (-1) = r := by
  intro h
  have h2 : r ^^^ (-1) = r ^^^ 0 := by rw [h, Int32.xor_zero]
  exact absurd ((Int32.xor_right_inj r).mp h2) (by decide)
theorem il_b4 (q c : Nat) : nI q * 4 + nI c = nI (4 * q + c) := by
  show nI q * nI 4 + nI c = _
  rw [pk_mul, nI_add, Nat.mul_comm]
theorem il_b0 (q : Nat) : nI q * 4 = nI (4 * q) := by
  show nI q * nI 4 = _
  rw [pk_mul, Nat.mul_comm]
theorem il_and7 {n : Nat} (h : n < 2 ^ 31) : nI n &&& 7 = nI (n % 8) := pk_andN (by omega) 3 (by decide)
/-- a loop whose state is known at each count -/
theorem il_lp (W : Nat → Nat → Prop) (e : Nat) (hx : ∀ n, W (n + 1) e) (hs : ∀ n i, i < e → W n (i + 1) → W (n + 1) i) : ∃ n, W n 0 := by
  have key : ∀ d i, i + d = e → W (d + 1) i := by
    intro d
    induction d with
    | zero =>
      intro i hi
      have : i = e := by omega
      subst this
      exact hx 0
    | succ d ih =>
      intro i hi
      exact hs (d + 1) i (by omega) (ih (i + 1) (by omega))
  exact ⟨e + 1, key e 0 (by omega)⟩
/-- entries b, .., b + i - 1 (places t, contents f) put into a, one behind another -/
def il_ap (t f : Nat → Int32) (b : Nat) : Nat → (Nat → Int32) → (Nat → Int32)
  | 0, a => a
  | i + 1, a => upd (il_ap t f b i a) (t (b + i)).toNatClampNeg (f (b + i))
theorem il_ap_s (t f : Nat → Int32) (b i : Nat) (a : Nat → Int32) : il_ap t f b (i + 1) a = upd (il_ap t f b i a) (t (b + i)).toNatClampNeg (f (b + i)) := rfl
theorem il_ap_c {t f t' f' : Nat → Int32} {b b' n : Nat} {a : Nat → Int32} (h : ∀ i, i < n → t (b + i) = t' (b' + i) ∧ f (b + i) = f' (b' + i)) : il_ap t f b n a = il_ap t' f' b' n a := by
  induction n with
  | zero => rfl
  | succ n ih =>
    rw [il_ap_s, il_ap_s, ih (fun i hi => h i (by omega)), (h n (by omega)).1, (h n (by omega)).2]
theorem il_ap_add {t f : Nat → Int32} {b n : Nat} {a : Nat → Int32} (k : Nat) : il_ap t f b (n + k) a = il_ap t f (b + n) k (il_ap t f b n a) := by
  induction k with
  | zero => rfl
  | succ k ih =>
    rw [il_ap_s, ← ih, ← Nat.add_assoc, il_ap_s, Nat.add_assoc]
/-- sections h, .., h + j - 1 put into a -/
def il_aps (a4 t f : Nat → Int32) (h : Nat) : Nat → (Nat → Int32) → (Nat → Int32)
  | 0, a => a
  | j + 1, a => il_ap t f (4 * ((h + j) % 8)) (a4 ((h + j) % 8)).toNatClampNeg (il_aps a4 t f h j a)
theorem il_aps_s (a4 t f : Nat → Int32) (h j : Nat) (a : Nat → Int32) : il_aps a4 t f h (j + 1) a = il_ap t f (4 * ((h + j) % 8)) (a4 ((h + j) % 8)).toNatClampNeg (il_aps a4 t f h j a) := rfl
theorem il_aps_c {a4 t f b4 t' f' : Nat → Int32} {h n : Nat} {a : Nat → Int32} (g : ∀ j, j < n → b4 ((h + j) % 8) = a4 ((h + j) % 8) ∧ (a4 ((h + j) % 8)).toNatClampNeg ≤ 4 ∧ ∀ i, i < 4 → t' (4 * ((h + j) % 8) + i) = t (4 * ((h + j) % 8) + i) ∧ f' (4 * ((h + j) % 8) + i) = f (4 * ((h + j) % 8) + i)) : il_aps b4 t' f' h n a = il_aps a4 t f h n a := by
  induction n with
  | zero => rfl
  | succ n ih =>
    obtain ⟨g1, g2, g3⟩ := g n (by omega)
    rw [il_aps_s, il_aps_s, ih (fun j hj => g j (by omega)), g1]
    exact il_ap_c (fun i hi => g3 i (by omega))
/-- two journals agree at slot q -/
def il_ag (q : Nat) (a4 a6 a7 a8 b4 b6 b7 b8 : Nat → Int32) : Prop := b4 q = a4 q ∧ ∀ i, i < 4 → b6 (4 * q + i) = a6 (4 * q + i) ∧ b7 (4 * q + i) = a7 (4 * q + i) ∧ b8 (4 * q + i) = a8 (4 * q + i)
/-- slot q holds one to four entries with their right check values -/
def il_slot (a4 a6 a7 a8 : Nat → Int32) (q : Nat) : Prop := ∃ c, 1 ≤ c ∧ c ≤ 4 ∧ a4 q = nI c ∧ ∀ i, i < c → ∃ s, s < 12 ∧ a6 (4 * q + i) = nI s ∧ a8 (4 * q + i) = il_chk (nI s) (a7 (4 * q + i))
theorem il_slot_c {q : Nat} {a4 a6 a7 a8 b4 b6 b7 b8 : Nat → Int32} (g : il_ag q a4 a6 a7 a8 b4 b6 b7 b8) (h : il_slot a4 a6 a7 a8 q) : il_slot b4 b6 b7 b8 q := by
  obtain ⟨c, c1, c4, hc, he⟩ := h
  refine ⟨c, c1, c4, g.1.trans hc, fun i hi => ?_⟩
  obtain ⟨s, s1, s2, s3⟩ := he i hi
  obtain ⟨g1, g2, g3⟩ := g.2 i (by omega)
  exact ⟨s, s1, by rw [g1, s2], by rw [g3, g2, s3]⟩
theorem il_slot_n {q : Nat} {a4 a6 a7 a8 : Nat → Int32} (h : il_slot a4 a6 a7 a8 q) : (a4 q).toNatClampNeg ≤ 4 := by
  obtain ⟨c, c1, c4, hc, he⟩ := h
  rw [hc, nI_clamp (by omega)]
  exact c4
def il_sum (a3 a4 a6 a7 a8 : Nat → Int32) (q : Nat) : Nat → Int32
  | 0 => a3 q * 31 + a4 q
  | i + 1 => ((il_sum a3 a4 a6 a7 a8 q i * 31 + a6 (4 * q + i)) * 31 + a7 (4 * q + i)) * 31 + a8 (4 * q + i)
theorem il_sum_s (a3 a4 a6 a7 a8 : Nat → Int32) (q i : Nat) : il_sum a3 a4 a6 a7 a8 q (i + 1) = ((il_sum a3 a4 a6 a7 a8 q i * 31 + a6 (4 * q + i)) * 31 + a7 (4 * q + i)) * 31 + a8 (4 * q + i) := rfl
theorem il_sum_c {q n : Nat} {a3 a4 a6 a7 a8 b3 b4 b6 b7 b8 : Nat → Int32} (h3 : b3 q = a3 q) (g : il_ag q a4 a6 a7 a8 b4 b6 b7 b8) (hn : n ≤ 4) : il_sum b3 b4 b6 b7 b8 q n = il_sum a3 a4 a6 a7 a8 q n := by
  induction n with
  | zero =>
    show b3 q * 31 + b4 q = a3 q * 31 + a4 q
    rw [h3, g.1]
  | succ n ih =>
    obtain ⟨g1, g2, g3⟩ := g.2 n (by omega)
    rw [il_sum_s, il_sum_s, ih (by omega), g1, g2, g3]
/-- the sum over slot q -/
def il_sm (a3 a4 a6 a7 a8 : Nat → Int32) (q : Nat) : Int32 := il_sum a3 a4 a6 a7 a8 q (a4 q).toNatClampNeg
theorem il_sm_c {q : Nat} {a3 a4 a6 a7 a8 b3 b4 b6 b7 b8 : Nat → Int32} (h3 : b3 q = a3 q) (g : il_ag q a4 a6 a7 a8 b4 b6 b7 b8) (hn : (a4 q).toNatClampNeg ≤ 4) : il_sm b3 b4 b6 b7 b8 q = il_sm a3 a4 a6 a7 a8 q := by
  unfold il_sm
  rw [g.1]
  exact il_sum_c h3 g hn
/-- the journal: sections h, .., m - 1 are whole, the one numbered m isn't, none has a number above m -/
def il_J (h m : Nat) (a3 a4 a5 a6 a7 a8 : Nat → Int32) : Prop := h ≤ m ∧ m ≤ h + 7 ∧ (∀ k, h ≤ k → k < m → a3 (k % 8) = nI k ∧ il_slot a4 a6 a7 a8 (k % 8) ∧ a5 (k % 8) = il_sm a3 a4 a6 a7 a8 (k % 8)) ∧ (a3 (m % 8) = nI m → il_slot a4 a6 a7 a8 (m % 8) ∧ ¬ il_sm a3 a4 a6 a7 a8 (m % 8) = a5 (m % 8)) ∧ (∀ q, q < 8 → ∀ k, m < k → k < 2 ^ 31 → ¬ a3 q = nI k)
theorem il_J_home {h m : Nat} {a3 a4 a5 a6 a7 a8 : Nat → Int32} (j : il_J h m a3 a4 a5 a6 a7 a8) : il_J m m a3 a4 a5 a6 a7 a8 :=
  ⟨Nat.le_refl m, by omega, fun k h1 h2 => absurd h1 (by omega), j.2.2.2.1, j.2.2.2.2⟩
/-- slot m % 8 has been filled with c pending writes from fr on; the other slots are as they were -/
def il_fd (m c fr : Nat) (S W a3 a4 a6 a7 a8 b3 b4 b6 b7 b8 : Nat → Int32) : Prop := 1 ≤ c ∧ c ≤ 4 ∧ (∀ p, p < 8 → p ≠ m % 8 → b3 p = a3 p ∧ il_ag p a4 a6 a7 a8 b4 b6 b7 b8) ∧ b3 (m % 8) = nI m ∧ b4 (m % 8) = nI c ∧ ∀ i, i < c → b6 (4 * (m % 8) + i) = S (fr + i) ∧ b7 (4 * (m % 8) + i) = W (fr + i) ∧ b8 (4 * (m % 8) + i) = il_chk (S (fr + i)) (W (fr + i)) ∧ ∃ s, s < 12 ∧ S (fr + i) = nI s
theorem il_fd_slot {m c fr : Nat} {S W a3 a4 a6 a7 a8 b3 b4 b6 b7 b8 : Nat → Int32} (d : il_fd m c fr S W a3 a4 a6 a7 a8 b3 b4 b6 b7 b8) : il_slot b4 b6 b7 b8 (m % 8) := by
  obtain ⟨c1, c4, _, _, d4, d5⟩ := d
  refine ⟨c, c1, c4, d4, fun i hi => ?_⟩
  obtain ⟨e6, e7, e8, s, s1, s2⟩ := d5 i hi
  exact ⟨s, s1, e6.trans s2, by rw [e8, e7, s2]⟩
theorem il_mod_ne {h k m : Nat} (h1 : h ≤ k) (h2 : k < m) (h3 : m ≤ h + 7) : k % 8 ≠ m % 8 := by omega
/-- the views over live sections don't change -/
theorem il_fd_view {h m c fr : Nat} {S W a3 a4 a5 a6 a7 a8 b3 b4 b6 b7 b8 a : Nat → Int32} (j : il_J h m a3 a4 a5 a6 a7 a8) (d : il_fd m c fr S W a3 a4 a6 a7 a8 b3 b4 b6 b7 b8) : il_aps b4 b6 b7 h (m - h) a = il_aps a4 a6 a7 h (m - h) a ∧ il_aps b4 b6 b8 h (m - h) a = il_aps a4 a6 a8 h (m - h) a := by
  obtain ⟨j1, j2, j3, j4, j5⟩ := j
  obtain ⟨c1, c4, d2, d3, d4, d5⟩ := d
  constructor
  · refine il_aps_c (fun i hi => ?_)
    obtain ⟨e1, e2⟩ := d2 ((h + i) % 8) (by omega) (il_mod_ne (h := h) (by omega) (by omega) j2)
    obtain ⟨_, s1, _⟩ := j3 (h + i) (by omega) (by omega)
    exact ⟨e2.1, il_slot_n s1, fun i' hi' => ⟨(e2.2 i' hi').1, (e2.2 i' hi').2.1⟩⟩
  · refine il_aps_c (fun i hi => ?_)
    obtain ⟨e1, e2⟩ := d2 ((h + i) % 8) (by omega) (il_mod_ne (h := h) (by omega) (by omega) j2)
    obtain ⟨_, s1, _⟩ := j3 (h + i) (by omega) (by omega)
    exact ⟨e2.1, il_slot_n s1, fun i' hi' => ⟨(e2.2 i' hi').1, (e2.2 i' hi').2.2⟩⟩
theorem il_fd_live {h m c fr : Nat} {S W a3 a4 a5 a6 a7 a8 b3 b4 b5 b6 b7 b8 : Nat → Int32} (j : il_J h m a3 a4 a5 a6 a7 a8) (d : il_fd m c fr S W a3 a4 a6 a7 a8 b3 b4 b6 b7 b8) (h5 : ∀ p, p ≠ m % 8 → b5 p = a5 p) : ∀ k, h ≤ k → k < m → b3 (k % 8) = nI k ∧ il_slot b4 b6 b7 b8 (k % 8) ∧ b5 (k % 8) = il_sm b3 b4 b6 b7 b8 (k % 8) := by
  obtain ⟨j1, j2, j3, j4, j5⟩ := j
  obtain ⟨c1, c4, d2, d3, d4, d5⟩ := d
  intro k k1 k2
  have ne := il_mod_ne k1 k2 j2
  obtain ⟨e1, e2⟩ := d2 (k % 8) (by omega) ne
  obtain ⟨s0, s1, s2⟩ := j3 k k1 k2
  exact ⟨e1.trans s0, il_slot_c e2 s1, by rw [h5 _ ne, s2, il_sm_c e1 e2 (il_slot_n s1)]⟩
theorem il_push {h m c fr : Nat} {S W a1 a2 a3 a4 a5 a6 a7 a8 b3 b4 b5 b6 b7 b8 : Nat → Int32} (j : il_J h m a3 a4 a5 a6 a7 a8) (hm : m ≤ h + 6) (hm2 : m < 2 ^ 30) (d : il_fd m c fr S W a3 a4 a6 a7 a8 b3 b4 b6 b7 b8) (h5 : ∀ p, p ≠ m % 8 → b5 p = a5 p) (h6 : b5 (m % 8) = il_sm b3 b4 b6 b7 b8 (m % 8)) :
    il_J h (m + 1) b3 b4 b5 b6 b7 b8 ∧ il_aps b4 b6 b7 h (m + 1 - h) a1 = il_ap S W fr c (il_aps a4 a6 a7 h (m - h) a1) ∧ il_aps b4 b6 b8 h (m + 1 - h) a2 = il_ap S (fun i => il_chk (S i) (W i)) fr c (il_aps a4 a6 a8 h (m - h) a2) := by
  have live := il_fd_live (b5 := b5) j d h5
  have sl := il_fd_slot d
  have v1 := (il_fd_view (a := a1) j d).1
  have v2 := (il_fd_view (a := a2) j d).2
  obtain ⟨j1, j2, j3, j4, j5⟩ := j
  obtain ⟨c1, c4, d2, d3, d4, d5⟩ := d
  refine ⟨⟨by omega, by omega, fun k k1 k2 => ?_, fun e => ?_, fun q hq k k1 k2 e => ?_⟩, ?_, ?_⟩
  · by_cases ek : k = m
    · subst ek
      exact ⟨d3, sl, h6⟩
    · exact live k k1 (by omega)
  · have e1 := (d2 ((m + 1) % 8) (by omega) (by omega)).1
    rw [e1] at e
    exact absurd e (j5 _ (by omega) (m + 1) (by omega) (by omega))
  · by_cases eq : q = m % 8
    · rw [eq, d3] at e
      have := (nI_eq (by omega) k2).mp e
      omega
    · rw [(d2 q hq eq).1] at e
      exact j5 q hq k (by omega) k2 e
  · rw [show m + 1 - h = (m - h) + 1 by omega, il_aps_s, v1, show h + (m - h) = m by omega, d4, nI_clamp (by omega)]
    exact il_ap_c (fun i hi => ⟨(d5 i hi).1, (d5 i hi).2.1⟩)
  · rw [show m + 1 - h = (m - h) + 1 by omega, il_aps_s, v2, show h + (m - h) = m by omega, d4, nI_clamp (by omega)]
    exact il_ap_c (fun i hi => ⟨(d5 i hi).1, (d5 i hi).2.2.1⟩)
theorem il_torn {h m c fr : Nat} {S W a3 a4 a5 a6 a7 a8 b3 b4 b5 b6 b7 b8 : Nat → Int32} (j : il_J h m a3 a4 a5 a6 a7 a8) (hm2 : m < 2 ^ 30) (d : il_fd m c fr S W a3 a4 a6 a7 a8 b3 b4 b6 b7 b8) (h5 : ∀ p, p ≠ m % 8 → b5 p = a5 p) (h6 : ¬ il_sm b3 b4 b6 b7 b8 (m % 8) = b5 (m % 8)) :
    il_J h m b3 b4 b5 b6 b7 b8 := by
  have live := il_fd_live (b5 := b5) j d h5
  have sl := il_fd_slot d
  obtain ⟨j1, j2, j3, j4, j5⟩ := j
  obtain ⟨c1, c4, d2, d3, d4, d5⟩ := d
  refine ⟨j1, j2, live, fun _ => ⟨sl, h6⟩, fun q hq k k1 k2 e => ?_⟩
  by_cases eq : q = m % 8
  · rw [eq, d3] at e
    have := (nI_eq (by omega) k2).mp e
    omega
  · rw [(d2 q hq eq).1] at e
    exact j5 q hq k k1 k2 e
/-- places b, .., b + i - 1 of f overwritten by g from fr on -/
def il_fl (f g : Nat → Int32) (b fr : Nat) : Nat → (Nat → Int32)
  | 0 => f
  | i + 1 => upd (il_fl f g b fr i) (b + i) (g (fr + i))
theorem il_fl_s (f g : Nat → Int32) (b fr i : Nat) : il_fl f g b fr (i + 1) = upd (il_fl f g b fr i) (b + i) (g (fr + i)) := rfl
theorem il_fl_in {f g : Nat → Int32} {b fr n i : Nat} (h : i < n) : il_fl f g b fr n (b + i) = g (fr + i) := by
  induction n with
  | zero => omega
  | succ n ih =>
    rw [il_fl_s]
    by_cases e : i = n
    · rw [e, pk_us]
    · rw [pk_un (by omega)]
      exact ih (by omega)
theorem il_fl_out {f g : Nat → Int32} {b fr n j : Nat} (h : j < b ∨ b + n ≤ j) : il_fl f g b fr n j = f j := by
  induction n with
  | zero => rfl
  | succ n ih =>
    rw [il_fl_s, pk_un (by omega)]
    exact ih (by omega)
/-- the pending writes -/
def il_pend (w : Nat) (S W a9 a10 : Nat → Int32) : Prop := w ≤ 20 ∧ ∀ j, j < w → a9 j = S j ∧ a10 j = W j ∧ ∃ s, s < 12 ∧ S j = nI s
theorem il_filled {m c fr w : Nat} {S W a3 a4 a6 a7 a8 a9 a10 : Nat → Int32} (c1 : 1 ≤ c) (c4 : c ≤ 4) (hw : fr + c ≤ w) (p : il_pend w S W a9 a10) : il_fd m c fr S W a3 a4 a6 a7 a8 (upd a3 (m % 8) (nI m)) (upd a4 (m % 8) (nI c)) (il_fl a6 a9 (4 * (m % 8)) fr c) (il_fl a7 a10 (4 * (m % 8)) fr c) (il_fl a8 (fun j => il_chk (a9 j) (a10 j)) (4 * (m % 8)) fr c) := by
  refine ⟨c1, c4, fun q hq ne => ⟨pk_un ne, pk_un ne, fun i hi => ⟨il_fl_out (by omega), il_fl_out (by omega), il_fl_out (by omega)⟩⟩, pk_us, pk_us, fun i hi => ?_⟩
  obtain ⟨e9, e10, es⟩ := p.2 (fr + i) (by omega)
  refine ⟨by rw [il_fl_in hi, e9], by rw [il_fl_in hi, e10], ?_, es⟩
  rw [il_fl_in hi]
  show il_chk (a9 (fr + i)) (a10 (fr + i)) = _
  rw [e9, e10]
/-- a state matches the picture: durable values V, check values C, w pending writes S, W; mk writes made; at most B sections -/
def il_Q (V C : Nat → Int32) (w : Nat) (S W : Nat → Int32) (mk : Int32) (B : Nat) : St1 → Prop
  | (f0, f1, f2, f3, a1, a2, a3, a4, a5, a6, a7, a8, a9, a10) => ∃ h m, f0 = nI h ∧ f1 = nI m ∧ f2 = nI w ∧ f3 = mk ∧ m ≤ B ∧ B < 2 ^ 29 ∧ il_J h m a3 a4 a5 a6 a7 a8 ∧ il_aps a4 a6 a7 h (m - h) a1 = V ∧ il_aps a4 a6 a8 h (m - h) a2 = C ∧ il_pend w S W a9 a10
end
section
section
variable {f0 f1 f2 f3 : Int32} {a1 a2 a3 a4 a5 a6 a7 a8 a9 a10 : Nat → Int32}
theorem il_applySlot {post : St1 → Prop} {q : Nat} (hq : q < 8) (hs : il_slot a4 a6 a7 a8 q) (H : post (f0, f1, f2, f3, il_ap a6 a7 (4 * q) (a4 q).toNatClampNeg a1, il_ap a6 a8 (4 * q) (a4 q).toNatClampNeg a2, a3, a4, a5, a6, a7, a8, a9, a10)) : wpX_applySlot post (f0, f1, f2, f3, a1, a2, a3, a4, a5, a6, a7, a8, a9, a10) (nI q) := by
  obtain ⟨c, c1, c4, hc, he⟩ := hs
  rw [show (a4 q).toNatClampNeg = c by rw [hc]; exact nI_clamp (by omega)] at H
  have hle : nI q * 4 + a4 (nI q).toNatClampNeg = nI (4 * q + c) := by rw [nI_clamp (by omega), hc]; exact il_b4 q c
  unfold wpX_applySlot
  refine nm_r (il_b0 q) ?_
  refine il_lp (fun n i => wX_applySlot_4 post (nI q) f0 f1 f2 f3 n (nI (4 * q + i)) (il_ap a6 a7 (4 * q) i a1) (il_ap a6 a8 (4 * q) i a2) a3 a4 a5 a6 a7 a8 a9 a10) c ?_ ?_
  · intro n
    exact And.intro (pk_in q 8 hq) (pk_le (4 * q + c) (4 * q + c) (fun _ => H) (fun z => absurd z (by omega)) hle)
  · intro n i hi hw
    refine And.intro (pk_in q 8 hq) (pk_le (4 * q + c) (4 * q + i) (fun z => absurd z (by omega)) (fun _ => ?_) hle)
    rw [nI_clamp (show 4 * q + i < 2 ^ 31 by omega)]
    obtain ⟨s, hs, h6, h8⟩ := he i hi
    have hin : vp_in (a6 (4 * q + i)) 12 := by rw [h6]; exact pk_in s 12 hs
    have h32 : vp_in (nI (4 * q + i)) 32 := pk_in (4 * q + i) 32 (by omega)
    exact ⟨h32, h32, hin, nm_e ⟨h32, h32, hin, nm_e (nm_r (nI_1 _) hw)⟩⟩
theorem il_copyHome {post : St1 → Prop} {h m : Nat} (j : il_J h m a3 a4 a5 a6 a7 a8) (hm : m < 2 ^ 30) (H : post (nI m, nI m, f2, f3, il_aps a4 a6 a7 h (m - h) a1, il_aps a4 a6 a8 h (m - h) a2, a3, a4, a5, a6, a7, a8, a9, a10)) : wpX_copyHome post (nI h, nI m, f2, f3, a1, a2, a3, a4, a5, a6, a7, a8, a9, a10) := by
  obtain ⟨j1, j2, j3, j4, j5⟩ := j
  unfold wpX_copyHome
  refine il_lp (fun n i => wX_copyHome_5 post n (nI (h + i)) (nI h) (nI m) f2 f3 (il_aps a4 a6 a7 h i a1) (il_aps a4 a6 a8 h i a2) a3 a4 a5 a6 a7 a8 a9 a10) (m - h) ?_ ?_
  · intro n
    exact pk_le m (h + (m - h)) (fun _ => H) (fun z => absurd z (by omega))
  · intro n i hi hw
    refine pk_le m (h + i) (fun z => absurd z (by omega)) (fun _ => ?_)
    rw [il_and7 (show h + i < 2 ^ 31 by omega)]
    exact il_applySlot (by omega) (j3 (h + i) (by omega) (by omega)).2.1 (nm_r (nI_1 _) hw)
theorem il_sumOf {post : Int32 → Prop} {q c : Nat} (hq : q < 8) (hc : a4 q = nI c) (c4 : c ≤ 4) (H : post (il_sm a3 a4 a6 a7 a8 q)) : wpX_sumOf post (f0, f1, f2, f3, a1, a2, a3, a4, a5, a6, a7, a8, a9, a10) (nI q) := by
  unfold il_sm at H
  rw [show (a4 q).toNatClampNeg = c by rw [hc]; exact nI_clamp (by omega)] at H
  have hle : nI q * 4 + a4 (nI q).toNatClampNeg = nI (4 * q + c) := by rw [nI_clamp (by omega), hc]; exact il_b4 q c
  unfold wpX_sumOf
  refine ⟨pk_in q 8 hq, pk_in q 8 hq, ?_⟩
  refine nm_r (e' := a3 q * 31 + a4 q) (by rw [nI_clamp (by omega)]) (nm_r (il_b0 q) ?_)
  refine il_lp (fun n i => wX_sumOf_21 post (nI q) f0 f1 f2 f3 a1 a2 a3 a4 a5 a6 a7 a8 a9 a10 n (il_sum a3 a4 a6 a7 a8 q i) (nI (4 * q + i))) c ?_ ?_
  · intro n
    exact And.intro (pk_in q 8 hq) (pk_le (4 * q + c) (4 * q + c) (fun _ => H) (fun z => absurd z (by omega)) hle)
  · intro n i hi hw
    refine And.intro (pk_in q 8 hq) (pk_le (4 * q + c) (4 * q + i) (fun z => absurd z (by omega)) (fun _ => ?_) hle)
    rw [nI_clamp (show 4 * q + i < 2 ^ 31 by omega)]
    have h32 : vp_in (nI (4 * q + i)) 32 := pk_in (4 * q + i) 32 (by omega)
    exact ⟨h32, nm_e ⟨h32, nm_e ⟨h32, nm_e (nm_r (nI_1 _) hw)⟩⟩⟩
theorem il_fill18 {post : Int32 → St1 → Prop} {fr c m w : Nat} {S W : Nat → Int32} (hm : m < 2 ^ 30) (c1 : 1 ≤ c) (c4 : c ≤ 4) (hw : fr + c ≤ w) (p : il_pend w S W a9 a10)
    (H : ∀ b3 b4 b6 b7 b8, il_fd m c fr S W a3 a4 a6 a7 a8 b3 b4 b6 b7 b8 → post (nI (m % 8)) (f0, nI m, f2, f3, a1, a2, b3, b4, a5, b6, b7, b8, a9, a10)) :
    wX_fillSlot_18 post (nI fr) (nI c) f0 (nI m) f2 f3 a1 a2 a3 a4 a5 a6 a7 a8 a9 a10 := by
  have hw20 := p.1
  unfold wX_fillSlot_18
  refine nm_r (il_and7 (show m < 2 ^ 31 by omega)) ?_
  have hq : m % 8 < 8 := by omega
  have hP := H _ _ _ _ _ (il_filled (m := m) (a3 := a3) (a4 := a4) (a6 := a6) (a7 := a7) (a8 := a8) c1 c4 hw p)
  generalize m % 8 = q at hq hP
  rw [nI_clamp (show q < 2 ^ 31 by omega)]
  refine ⟨pk_in q 8 hq, nm_e ⟨pk_in q 8 hq, nm_e ?_⟩⟩
  refine il_lp (fun n i => wX_fillSlot_46 post (nI fr) (nI c) (nI q) f0 (nI m) f2 f3 n (nI i) a1 a2 (upd a3 q (nI m)) (upd a4 q (nI c)) a5 (il_fl a6 a9 (4 * q) fr i) (il_fl a7 a10 (4 * q) fr i) (il_fl a8 (fun j => il_chk (a9 j) (a10 j)) (4 * q) fr i) a9 a10) c ?_ ?_
  · intro n
    exact pk_le c c (fun _ => hP) (fun z => absurd z (by omega))
  · intro n i hi hw'
    refine pk_le c i (fun z => absurd z (by omega)) (fun _ => nm_r (il_b4 q i) ?_)
    rw [nI_add, nI_clamp (show fr + i < 2 ^ 31 by omega), nI_clamp (show 4 * q + i < 2 ^ 31 by omega)]
    have h20 : vp_in (nI (fr + i)) 20 := pk_in (fr + i) 20 (by omega)
    have h32 : vp_in (nI (4 * q + i)) 32 := pk_in (4 * q + i) 32 (by omega)
    exact ⟨h20, h32, nm_e ⟨h20, h32, nm_e ⟨h20, h20, And.intro h32 (nm_e (nm_r (nI_1 i) hw'))⟩⟩⟩
/-- fillSlot: there is room behind it; the picture of what is durable is as before -/
theorem il_fillSlot {post : Int32 → St1 → Prop} {fr c h m w : Nat} {S W : Nat → Int32} (j : il_J h m a3 a4 a5 a6 a7 a8) (hm : m < 2 ^ 30) (c1 : 1 ≤ c) (c4 : c ≤ 4) (hw : fr + c ≤ w) (p : il_pend w S W a9 a10)
    (H : ∀ g b1 b2 b3 b4 b6 b7 b8, il_J g m a3 a4 a5 a6 a7 a8 → m ≤ g + 6 → il_aps a4 a6 a7 g (m - g) b1 = il_aps a4 a6 a7 h (m - h) a1 → il_aps a4 a6 a8 g (m - g) b2 = il_aps a4 a6 a8 h (m - h) a2 → il_fd m c fr S W a3 a4 a6 a7 a8 b3 b4 b6 b7 b8 → post (nI (m % 8)) (nI g, nI m, f2, f3, b1, b2, b3, b4, a5, b6, b7, b8, a9, a10)) :
    wpX_fillSlot post (nI h, nI m, f2, f3, a1, a2, a3, a4, a5, a6, a7, a8, a9, a10) (nI fr) (nI c) := by
  have j1 := j.1
  unfold wpX_fillSlot
  refine pk_lt (m - h) 7 (fun z => ?_) (fun z => ?_) (pk_sub j.1) rfl
  · exact il_fill18 hm c1 c4 hw p (fun b3 b4 b6 b7 b8 d => H h a1 a2 b3 b4 b6 b7 b8 j (by omega) rfl rfl d)
  · refine il_copyHome j hm ?_
    exact il_fill18 hm c1 c4 hw p (fun b3 b4 b6 b7 b8 d => H m _ _ b3 b4 b6 b7 b8 (il_J_home j) (by omega) (by rw [Nat.sub_self]; rfl) (by rw [Nat.sub_self]; rfl) d)
theorem il_whole1 {post : Int32 → Prop} {q k : Nat} (hq : q < 8) (h3 : a3 q = nI k) (hs : il_slot a4 a6 a7 a8 q) (h5 : a5 q = il_sm a3 a4 a6 a7 a8 q) (H : post 1) : wpX_whole post (f0, f1, f2, f3, a1, a2, a3, a4, a5, a6, a7, a8, a9, a10) (nI q) (nI k) := by
  obtain ⟨c, c1, c4, hc, he⟩ := hs
  unfold wpX_whole
  rw [nI_clamp (show q < 2 ^ 31 by omega)]
  have h8 : vp_in (nI q) 8 := pk_in q 8 hq
  exact ⟨h8, br_t h3 ⟨h8, pk_lt c 1 (fun z => absurd z (by omega)) (fun _ => ⟨h8, pk_le c 4 (fun _ => il_sumOf hq hc c4 ⟨h8, br_t h5.symm H⟩) (fun z => absurd z (by omega)) hc rfl⟩) hc rfl⟩⟩
theorem il_whole0 {post : Int32 → Prop} {q k : Nat} (hq : q < 8) (h : a3 q = nI k → il_slot a4 a6 a7 a8 q ∧ ¬ il_sm a3 a4 a6 a7 a8 q = a5 q) (H : post 0) : wpX_whole post (f0, f1, f2, f3, a1, a2, a3, a4, a5, a6, a7, a8, a9, a10) (nI q) (nI k) := by
  unfold wpX_whole
  rw [nI_clamp (show q < 2 ^ 31 by omega)]
  have h8 : vp_in (nI q) 8 := pk_in q 8 hq
  refine ⟨h8, br_c (fun e => ?_) (fun _ => H)⟩
  obtain ⟨⟨c, c1, c4, hc, he⟩, h5⟩ := h e
  exact ⟨h8, pk_lt c 1 (fun z => absurd z (by omega)) (fun _ => ⟨h8, pk_le c 4 (fun _ => il_sumOf hq hc c4 ⟨h8, br_f h5 H⟩) (fun z => absurd z (by omega)) hc rfl⟩) hc rfl⟩
theorem il_replay {post : St1 → Prop} {h m : Nat} (j : il_J h m a3 a4 a5 a6 a7 a8) (hm : m < 2 ^ 30) (H : post (nI m, nI m, f2, f3, il_aps a4 a6 a7 h (m - h) a1, il_aps a4 a6 a8 h (m - h) a2, a3, a4, a5, a6, a7, a8, a9, a10)) : wpX_replay post (nI h, f1, f2, f3, a1, a2, a3, a4, a5, a6, a7, a8, a9, a10) := by
  obtain ⟨j1, j2, j3, j4, j5⟩ := j
  unfold wpX_replay
  have key : ∀ d i, i + d = m - h → wX_replay_9 post (d + 2) (nI (h + i)) 1 (nI i) (nI h) f1 f2 f3 (il_aps a4 a6 a7 h i a1) (il_aps a4 a6 a8 h i a2) a3 a4 a5 a6 a7 a8 a9 a10 := by
    intro d
    induction d with
    | zero =>
      intro i hi
      have e : h + i = m := by omega
      have hi' : i = m - h := by omega
      refine pk_le 8 i (fun z => absurd z (by omega)) (fun _ => br_f (by decide) ?_)
      rw [e, il_and7 (show m < 2 ^ 31 by omega)]
      refine il_whole0 (by omega) j4 (br_t rfl (nm_r (nI_1 i) ?_))
      refine pk_le 8 (i + 1) (fun _ => ?_) (fun _ => br_t rfl ?_)
      · rw [hi']; exact H
      · rw [hi']; exact H
    | succ d ih =>
      intro i hi
      refine pk_le 8 i (fun z => absurd z (by omega)) (fun _ => br_f (by decide) ?_)
      obtain ⟨s1, s2, s3⟩ := j3 (h + i) (by omega) (by omega)
      rw [il_and7 (show h + i < 2 ^ 31 by omega)]
      refine il_whole1 (by omega) s1 s2 s3 (br_f (by decide) ?_)
      exact il_applySlot (by omega) s2 (nm_r (nI_1 _) (nm_r (nI_1 i) (ih (i + 1) (by omega))))
  exact ⟨m - h + 2, key (m - h) 0 (by omega)⟩
end
end
section
section
variable {f0 f1 f2 f3 : Int32} {a1 a2 a3 a4 a5 a6 a7 a8 a9 a10 : Nat → Int32} {V C S W : Nat → Int32} {w B : Nat} {mk : Int32}
theorem il_mono {B' : Nat} {u : St1} (q : il_Q V C w S W mk B u) (h1 : B ≤ B') (h2 : B' < 2 ^ 29) : il_Q V C w S W mk B' u := by
  obtain ⟨f0, f1, f2, f3, a1, a2, a3, a4, a5, a6, a7, a8, a9, a10⟩ := u
  obtain ⟨h, m, e0, e1, e2, e3, hmB, hB, j, v1, v2, p⟩ := q
  exact ⟨h, m, e0, e1, e2, e3, by omega, h2, j, v1, v2, p⟩
theorem il_commit_lp {post : St1 → Prop} {k : Nat} (hk : k ≤ w) (hB : B + k < 2 ^ 29)
    (H : ∀ u, il_Q (il_ap S W 0 k V) (il_ap S (fun i => il_chk (S i) (W i)) 0 k C) w S W (mk + nI k) (B + k) u → post u) :
    ∀ (n fr : Nat) (f0 f1 f2 f3 : Int32) (a1 a2 a3 a4 a5 a6 a7 a8 a9 a10 : Nat → Int32), 1 ≤ n → k < fr + n → fr ≤ k + 3 → il_Q (il_ap S W 0 (min fr k) V) (il_ap S (fun i => il_chk (S i) (W i)) 0 (min fr k) C) w S W mk (B + min fr k) (f0, f1, f2, f3, a1, a2, a3, a4, a5, a6, a7, a8, a9, a10) → wX_commit_2 post (nI k) n (nI fr) f0 f1 f2 f3 a1 a2 a3 a4 a5 a6 a7 a8 a9 a10 := by
  intro n
  induction n with
  | zero => intro fr _ _ _ _ _ _ _ _ _ _ _ _ _ _ h1; omega
  | succ n ih =>
    intro fr f0 f1 f2 f3 a1 a2 a3 a4 a5 a6 a7 a8 a9 a10 _ hn hf3 q
    obtain ⟨h, m, e0, e1, e2, e3, hmB, hB', j, v1, v2, p⟩ := q
    subst e0 e1 e2 e3
    have hw := p.1
    by_cases hlt : k ≤ fr
    · rw [show min fr k = k by omega] at v1 v2 hmB hB'
      exact br_t (nI_le hlt (by omega)) (nm_e (H _ ⟨h, m, rfl, rfl, rfl, rfl, hmB, hB', j, v1, v2, p⟩))
    · have hfr : min fr k = fr := by omega
      rw [hfr] at v1 v2 hmB hB'
      have step : ∀ c, 1 ≤ c → c ≤ 4 → fr + c ≤ k → min (fr + 4) k = fr + c → wX_commit_21 post (wX_commit_2 post (nI k) n) (nI k) (nI fr) (nI c) (nI h) (nI m) (nI w) f3 a1 a2 a3 a4 a5 a6 a7 a8 a9 a10 := by
        intro c c1 c4 hc hmin
        unfold wX_commit_21
        refine il_fillSlot j (by omega) c1 c4 (by omega) p (fun g b1 b2 b3 b4 b6 b7 b8 jg hg w1 w2 d => ?_)
        refine il_sumOf (c := c) (by omega) d.2.2.2.2.1 c4 ?_
        rw [nI_clamp (show m % 8 < 2 ^ 31 by omega)]
        refine ⟨pk_in (m % 8) 8 (by omega), nm_e (nm_r (nI_1 m) (nm_r (nI_add fr 4) ?_))⟩
        obtain ⟨J', x1, x2⟩ := il_push (a1 := b1) (a2 := b2) (b5 := upd a5 (m % 8) (il_sm b3 b4 b6 b7 b8 (m % 8))) jg hg (by omega) d (fun p hp => pk_un hp) pk_us
        refine ih (fr + 4) _ _ _ _ _ _ _ _ _ _ _ _ _ _ (by omega) (by omega) (by omega) ?_
        rw [hmin]
        refine ⟨g, m + 1, rfl, rfl, rfl, rfl, by omega, by omega, J', ?_, ?_, p⟩
        · rw [x1, w1, v1, il_ap_add, Nat.zero_add]
        · rw [x2, w2, v2, il_ap_add, Nat.zero_add]
      have hs : nI k - nI fr = nI (k - fr) := pk_sub (by omega)
      refine br_f (nI_ge (by omega) (by omega)) (pk_le 4 (k - fr) (fun z => step 4 (by omega) (by omega) (by omega) (by omega)) (fun z => ?_) rfl hs)
      rw [hs]
      exact step (k - fr) (by omega) (by omega) (by omega) (by omega)
theorem il_commit {post : St1 → Prop} {k : Nat} {u : St1} (q : il_Q V C w S W mk B u) (hk : k ≤ w) (hB : B + k < 2 ^ 29)
    (H : ∀ u, il_Q (il_ap S W 0 k V) (il_ap S (fun i => il_chk (S i) (W i)) 0 k C) w S W (mk + nI k) (B + k) u → post u) : wpX_commit post u (nI k) := by
  obtain ⟨f0, f1, f2, f3, a1, a2, a3, a4, a5, a6, a7, a8, a9, a10⟩ := u
  unfold wpX_commit
  refine ⟨k + 1, il_commit_lp hk hB H (k + 1) 0 _ _ _ _ _ _ _ _ _ _ _ _ _ _ (by omega) (by omega) (by omega) ?_⟩
  rw [show min 0 k = 0 by omega]
  exact q
theorem il_tear {post : St1 → Prop} {fr lf : Nat} {u : St1} (q : il_Q V C w S W mk B u) (hl : fr + lf ≤ w) (l1 : 1 ≤ lf) (H : ∀ u, il_Q V C w S W mk B u → post u) : wpX_tear post u (nI fr) (nI lf) := by
  obtain ⟨f0, f1, f2, f3, a1, a2, a3, a4, a5, a6, a7, a8, a9, a10⟩ := u
  obtain ⟨h, m, e0, e1, e2, e3, hmB, hB, j, v1, v2, p⟩ := q
  subst e0 e1 e2 e3
  have hw := p.1
  have step : ∀ c, 1 ≤ c → c ≤ 4 → fr + c ≤ w → wX_tear_10 post (nI fr) (nI c) (nI h) (nI m) (nI w) f3 a1 a2 a3 a4 a5 a6 a7 a8 a9 a10 := by
    intro c c1 c4 hc
    unfold wX_tear_10
    refine il_fillSlot j (by omega) c1 c4 hc p (fun g b1 b2 b3 b4 b6 b7 b8 jg hg w1 w2 d => ?_)
    refine il_sumOf (c := c) (by omega) d.2.2.2.2.1 c4 ?_
    rw [nI_clamp (show m % 8 < 2 ^ 31 by omega)]
    refine ⟨pk_in (m % 8) 8 (by omega), nm_e (H _ ⟨g, m, rfl, rfl, rfl, rfl, hmB, hB, il_torn jg (by omega) d (fun p hp => pk_un hp) ?_, ?_, ?_, p⟩)⟩
    · rw [pk_us]
      exact fun e => il_not _ e.symm
    · rw [(il_fd_view jg d).1, w1, v1]
    · rw [(il_fd_view jg d).2, w2, v2]
  unfold wpX_tear
  exact pk_le 4 lf (fun z => step 4 (by omega) (by omega) (by omega)) (fun z => step lf (by omega) (by omega) (by omega))
theorem il_clamp {post : Int32 → Prop} {k : Nat} (hk : k < 2 ^ 31) (hw : w < 2 ^ 31) (H : post (nI (min k w))) : wpX_clampWaiting post (f0, f1, nI w, f3, a1, a2, a3, a4, a5, a6, a7, a8, a9, a10) (nI k) := by
  unfold wpX_clampWaiting
  refine pk_le 0 k (fun _ => pk_le k w (fun z => ?_) (fun z => ?_)) (fun z => absurd z (by omega))
  · rw [show min k w = k by omega] at H
    exact H
  · rw [show min k w = w by omega] at H
    exact H
theorem il_crash28 {post : Int32 → St1 → Prop} {x3 : Int32} (q : il_Q V C w S W mk B (f0, f1, f2, f3, a1, a2, a3, a4, a5, a6, a7, a8, a9, a10)) (H : ∀ u, il_Q V C 0 S W mk B u → post x3 u) : wX_crash_28 post x3 f0 f1 f2 f3 a1 a2 a3 a4 a5 a6 a7 a8 a9 a10 := by
  obtain ⟨h, m, e0, e1, e2, e3, hmB, hB, j, v1, v2, p⟩ := q
  subst e0 e1 e2 e3
  unfold wX_crash_28
  refine il_replay j (by omega) ?_
  exact H _ ⟨m, m, rfl, rfl, rfl, rfl, hmB, hB, il_J_home j, by rw [Nat.sub_self]; exact v1, by rw [Nat.sub_self]; exact v2, ⟨by omega, fun j hj => absurd hj (by omega)⟩⟩
theorem il_crash {post : Int32 → St1 → Prop} {k : Nat} {u : St1} (q : il_Q V C w S W mk B u) (hk : k < 2 ^ 31) (hB : B + 20 < 2 ^ 29)
    (H : ∀ u, il_Q (il_ap S W 0 (min k w) V) (il_ap S (fun i => il_chk (S i) (W i)) 0 (min k w) C) 0 S W (mk + nI (min k w)) (B + min k w) u → post (nI (w - min k w)) u) : wpX_crash post u (nI k) := by
  obtain ⟨f0, f1, f2, f3, a1, a2, a3, a4, a5, a6, a7, a8, a9, a10⟩ := u
  have q' := q
  obtain ⟨_, _, _, _, e2, _, _, _, _, _, _, p⟩ := q'
  have hw := p.1
  subst e2
  unfold wpX_crash
  refine il_clamp hk (by omega) ?_
  refine il_commit q (by omega) (by omega) (fun u q2 => ?_)
  obtain ⟨g0, g1, g2, g3, b1, b2, b3, b4, b5, b6, b7, b8, b9, b10⟩ := u
  have q' := q2
  obtain ⟨_, _, _, _, e2, _, _, _, _, _, _, _⟩ := q'
  subst e2
  refine nm_r (pk_sub (show min k w ≤ w by omega)) (pk_le (w - min k w) 0 (fun z => il_crash28 q2 H) (fun z => ?_))
  refine il_tear q2 (by omega) (by omega) (fun u q3 => ?_)
  obtain ⟨g0, g1, g2, g3, b1, b2, b3, b4, b5, b6, b7, b8, b9, b10⟩ := u
  exact il_crash28 q3 H
/-- the first i places hold what stood k places on -/
def il_sh (a : Nat → Int32) (k : Nat) : Nat → (Nat → Int32)
  | 0 => a
  | i + 1 => upd (il_sh a k i) i (il_sh a k i (i + k))
theorem il_sh_v (a : Nat → Int32) (k i : Nat) : ∀ j, il_sh a k i j = if j < i then a (j + k) else a j := by
  induction i with
  | zero => intro j; rfl
  | succ i ih =>
    intro j
    show upd (il_sh a k i) i (il_sh a k i (i + k)) j = _
    by_cases e : j = i
    · rw [e, pk_us, ih, if_neg (by omega), if_pos (by omega)]
    · rw [pk_un e, ih]
      by_cases h : j < i
      · rw [if_pos h, if_pos (by omega)]
      · rw [if_neg h, if_neg (by omega)]
theorem il_drop {post : St1 → Prop} {k : Nat} {u : St1} (q : il_Q V C w S W mk B u) (hk : k ≤ w) (H : ∀ u, il_Q V C (w - k) (fun j => S (j + k)) (fun j => W (j + k)) mk B u → post u) : wpX_dropWaiting post u (nI k) := by
  obtain ⟨f0, f1, f2, f3, a1, a2, a3, a4, a5, a6, a7, a8, a9, a10⟩ := u
  obtain ⟨h, m, e0, e1, e2, e3, hmB, hB, j, v1, v2, p⟩ := q
  subst e0 e1 e2 e3
  have hw := p.1
  unfold wpX_dropWaiting
  refine nm_r (pk_sub hk) ?_
  refine il_lp (fun n i => wX_dropWaiting_12 post (nI k) (nI h) (nI m) (nI (w - k)) f3 n (nI i) a1 a2 a3 a4 a5 a6 a7 a8 (il_sh a9 k i) (il_sh a10 k i)) (w - k) ?_ ?_
  · intro n
    refine pk_le (w - k) (w - k) (fun _ => H _ ⟨h, m, rfl, rfl, rfl, rfl, hmB, hB, j, v1, v2, by omega, fun i hi => ?_⟩) (fun z => absurd z (by omega))
    rw [il_sh_v, il_sh_v, if_pos hi, if_pos hi]
    exact p.2 (i + k) (by omega)
  · intro n i hi hw'
    refine pk_le (w - k) i (fun z => absurd z (by omega)) (fun _ => ?_)
    rw [nI_add, nI_clamp (show i + k < 2 ^ 31 by omega), nI_clamp (show i < 2 ^ 31 by omega)]
    have h1 : vp_in (nI (i + k)) 20 := pk_in (i + k) 20 (by omega)
    have h2 : vp_in (nI i) 20 := pk_in i 20 (by omega)
    exact ⟨h1, h2, nm_e ⟨h1, h2, nm_e (nm_r (nI_1 i) hw')⟩⟩
theorem il_flush {post : Int32 → St1 → Prop} {u : St1} (q : il_Q V C w S W mk B u) (hB : B + 20 < 2 ^ 29)
    (H : ∀ u, il_Q (il_ap S W 0 w V) (il_ap S (fun i => il_chk (S i) (W i)) 0 w C) (w - w) (fun j => S (j + w)) (fun j => W (j + w)) (mk + nI w) (B + w) u → post (nI w) u) : wpX_flush post u := by
  obtain ⟨f0, f1, f2, f3, a1, a2, a3, a4, a5, a6, a7, a8, a9, a10⟩ := u
  have q' := q
  obtain ⟨_, _, _, _, e2, _, _, _, _, _, _, p⟩ := q'
  have hw := p.1
  subst e2
  unfold wpX_flush
  refine il_commit q (Nat.le_refl w) (by omega) (fun u q2 => ?_)
  obtain ⟨g0, g1, g2, g3, b1, b2, b3, b4, b5, b6, b7, b8, b9, b10⟩ := u
  refine il_drop q2 (Nat.le_refl w) (fun u q3 => ?_)
  obtain ⟨g0, g1, g2, g3, b1, b2, b3, b4, b5, b6, b7, b8, b9, b10⟩ := u
  exact H _ q3
theorem il_flushSome {post : Int32 → St1 → Prop} {k : Nat} {u : St1} (q : il_Q V C w S W mk B u) (hk : k < 2 ^ 31) (hB : B + 20 < 2 ^ 29)
    (H : ∀ u, il_Q (il_ap S W 0 (min k w) V) (il_ap S (fun i => il_chk (S i) (W i)) 0 (min k w) C) (w - min k w) (fun j => S (j + min k w)) (fun j => W (j + min k w)) (mk + nI (min k w)) (B + min k w) u → post (nI (min k w)) u) : wpX_flushSome post u (nI k) := by
  obtain ⟨f0, f1, f2, f3, a1, a2, a3, a4, a5, a6, a7, a8, a9, a10⟩ := u
  have q' := q
  obtain ⟨_, _, _, _, e2, _, _, _, _, _, _, p⟩ := q'
  have hw := p.1
  subst e2
  unfold wpX_flushSome
  refine il_clamp hk (by omega) ?_
  refine il_commit q (by omega) (by omega) (fun u q2 => ?_)
  obtain ⟨g0, g1, g2, g3, b1, b2, b3, b4, b5, b6, b7, b8, b9, b10⟩ := u
  refine il_drop q2 (by omega) (fun u q3 => ?_)
  obtain ⟨g0, g1, g2, g3, b1, b2, b3, b4, b5, b6, b7, b8, b9, b10⟩ := u
  exact H _ q3
theorem il_bad {post : Int32 → Prop} {s : Nat} (hs : s < 12) (H : post 0) : wpX_bad post () (nI s) :=
  pk_lt s 0 (fun z => absurd z (by omega)) (fun _ => pk_lt s 12 (fun _ => H) (fun z => absurd z (by omega)))
theorem il_isDam {post : Int32 → Prop} {s : Nat} (hs : s < 12) (H : post (if a2 s = il_chk (nI s) (a1 s) then 0 else 1)) : wpX_isDamaged post (f0, f1, f2, f3, a1, a2, a3, a4, a5, a6, a7, a8, a9, a10) (nI s) := by
  unfold wpX_isDamaged
  rw [nI_clamp (show s < 2 ^ 31 by omega)]
  have h12 : vp_in (nI s) 12 := pk_in s 12 hs
  by_cases e : a2 s = il_chk (nI s) (a1 s)
  · rw [if_pos e] at H
    exact ⟨h12, And.intro h12 (br_t e H)⟩
  · rw [if_neg e] at H
    exact ⟨h12, And.intro h12 (br_f e H)⟩
theorem il_damage {post : Int32 → St1 → Prop} {s : Nat} {v : Int32} {u : St1} (q : il_Q V C w S W mk B u) (hs : s < 12)
    (H : ∀ u, il_Q (if C s = il_chk (nI s) (V s) then upd V s (V s ^^^ v) else V) C w S W mk B u → post (if C s = il_chk (nI s) (V s) ∧ v = 0 then 0 else 1) u) : wpX_damage post u (nI s) v := by
  obtain ⟨f0, f1, f2, f3, a1, a2, a3, a4, a5, a6, a7, a8, a9, a10⟩ := u
  obtain ⟨h, m, e0, e1, e2, e3, hmB, hB, j, v1, v2, p⟩ := q
  subst e0 e1 e2 e3
  unfold wpX_damage
  refine il_bad hs (br_t rfl ?_)
  refine il_copyHome j (by omega) ?_
  rw [v1, v2]
  refine il_isDam hs ?_
  have h12 : vp_in (nI s) 12 := pk_in s 12 hs
  by_cases e : C s = il_chk (nI s) (V s)
  · rw [if_pos e] at H ⊢
    refine br_t rfl ⟨h12, h12, ?_⟩
    rw [nI_clamp (show s < 2 ^ 31 by omega)]
    refine nm_e ?_
    have hq : il_Q (upd V s (V s ^^^ v)) C w S W f3 B (nI m, nI m, nI w, f3, upd V s (V s ^^^ v), C, a3, a4, a5, a6, a7, a8, a9, a10) := ⟨m, m, rfl, rfl, rfl, rfl, hmB, hB, il_J_home j, by rw [Nat.sub_self]; rfl, by rw [Nat.sub_self]; rfl, p⟩
    by_cases hv : v = 0
    · have t := H _ hq
      rw [if_pos ⟨e, hv⟩] at t
      exact br_t rfl (br_t hv t)
    · have t := H _ hq
      rw [if_neg (fun z => hv z.2)] at t
      exact br_t rfl (br_f hv t)
  · rw [if_neg e] at H ⊢
    have hq : il_Q V C w S W f3 B (nI m, nI m, nI w, f3, V, C, a3, a4, a5, a6, a7, a8, a9, a10) := ⟨m, m, rfl, rfl, rfl, rfl, hmB, hB, il_J_home j, by rw [Nat.sub_self]; rfl, by rw [Nat.sub_self]; rfl, p⟩
    have t := H _ hq
    rw [if_neg (fun z => e z.1)] at t
    exact br_f (by decide) (br_f (by decide) t)
/-- how many of the first sectors are damaged -/
def il_ct (V C : Nat → Int32) : Nat → Int32
  | 0 => 0
  | s + 1 => if C s = il_chk (nI s) (V s) then il_ct V C s else il_ct V C s + 1
theorem il_scrub {post : Int32 → St1 → Prop} {u : St1} (q : il_Q V C w S W mk B u) (H : ∀ u, il_Q V C w S W mk B u → post (il_ct V C 12) u) : wpX_scrub post u := by
  obtain ⟨f0, f1, f2, f3, a1, a2, a3, a4, a5, a6, a7, a8, a9, a10⟩ := u
  obtain ⟨h, m, e0, e1, e2, e3, hmB, hB, j, v1, v2, p⟩ := q
  subst e0 e1 e2 e3
  unfold wpX_scrub
  refine il_copyHome j (by omega) ?_
  rw [v1, v2]
  refine il_lp (fun n i => wX_scrub_8 post (nI m) (nI m) (nI w) f3 V C a3 a4 a5 a6 a7 a8 a9 a10 n (il_ct V C i) (nI i)) 12 ?_ ?_
  · intro n
    exact pk_le 12 12 (fun _ => H _ ⟨m, m, rfl, rfl, rfl, rfl, hmB, hB, il_J_home j, by rw [Nat.sub_self]; rfl, by rw [Nat.sub_self]; rfl, p⟩) (fun z => absurd z (by omega))
  · intro n i hi hw
    refine pk_le 12 i (fun z => absurd z (by omega)) (fun _ => il_isDam hi ?_)
    have e' : il_ct V C (i + 1) = if C i = il_chk (nI i) (V i) then il_ct V C i else il_ct V C i + 1 := rfl
    by_cases e : C i = il_chk (nI i) (V i)
    · rw [if_pos e] at e' ⊢
      exact br_t rfl (nm_r (nI_1 i) (by rw [← e']; exact hw))
    · rw [if_neg e] at e' ⊢
      exact br_f (by decide) (nm_r e'.symm (nm_r (nI_1 i) hw))
theorem il_write {post : Int32 → St1 → Prop} {s : Nat} {v : Int32} {u : St1} (q : il_Q V C w S W mk B u) (hs : s < 12) (H1 : w = 20 → post (-2) u) (H2 : w < 20 → ∀ u, il_Q V C (w + 1) (upd S w (nI s)) (upd W w v) mk B u → post (nI (w + 1)) u) : wpX_write post u (nI s) v := by
  obtain ⟨f0, f1, f2, f3, a1, a2, a3, a4, a5, a6, a7, a8, a9, a10⟩ := u
  obtain ⟨h, m, e0, e1, e2, e3, hmB, hB, j, v1, v2, p⟩ := q
  subst e0 e1 e2 e3
  have hw := p.1
  unfold wpX_write
  refine il_bad hs (br_t rfl (pk_lt w 20 (fun z => ?_) (fun z => H1 (by omega))))
  rw [nI_clamp (show w < 2 ^ 31 by omega)]
  refine ⟨pk_in w 20 z, nm_e ⟨pk_in w 20 z, nm_e (nm_r (nI_1 w) (H2 z _ ⟨h, m, rfl, rfl, rfl, rfl, hmB, hB, j, v1, v2, by omega, fun i hi => ?_⟩))⟩⟩
  by_cases e : i = w
  · subst e
    rw [pk_us, pk_us, pk_us, pk_us]
    exact ⟨rfl, rfl, s, hs, rfl⟩
  · rw [pk_un e, pk_un e, pk_un e, pk_un e]
    exact p.2 i (by omega)
end
end
section
section
variable {f0 f1 f2 f3 g0 g1 g2 g3 : Int32} {a1 a2 a3 a4 a5 a6 a7 a8 a9 a10 b1 b2 b3 b4 b5 b6 b7 b8 b9 b10 : Nat → Int32} {V C S W : Nat → Int32} {w B : Nat} {mk : Int32}
/-- the newest of the first i places that holds x; -1 if there is none -/
def il_nw (a : Nat → Int32) (x : Int32) : Nat → Int32
  | 0 => -1
  | i + 1 => if a i = x then nI i else il_nw a x i
theorem il_nw_s (a : Nat → Int32) (x : Int32) (i : Nat) : il_nw a x (i + 1) = if a i = x then nI i else il_nw a x i := rfl
theorem il_nw_c {a S : Nat → Int32} {x : Int32} {n : Nat} (h : ∀ j, j < n → a j = S j) : il_nw a x n = il_nw S x n := by
  induction n with
  | zero => rfl
  | succ n ih => rw [il_nw_s, il_nw_s, h n (by omega), ih (fun j hj => h j (by omega))]
theorem il_nw_or (a : Nat → Int32) (x : Int32) (n : Nat) : il_nw a x n = -1 ∨ ∃ j, j < n ∧ il_nw a x n = nI j := by
  induction n with
  | zero => exact Or.inl rfl
  | succ n ih =>
    rw [il_nw_s]
    by_cases e : a n = x
    · exact Or.inr ⟨n, by omega, if_pos e⟩
    · rw [if_neg e]
      rcases ih with h | ⟨j, hj, h⟩
      · exact Or.inl h
      · exact Or.inr ⟨j, by omega, h⟩
theorem il_newW {post : Int32 → Prop} {x : Int32} (hw : w ≤ 20) (H : post (il_nw a9 x w)) : wpX_newestWaiting post (f0, f1, nI w, f3, a1, a2, a3, a4, a5, a6, a7, a8, a9, a10) x := by
  have key : ∀ i, i ≤ 20 → post (il_nw a9 x i) → wX_newestWaiting_7 post x f0 f1 (nI w) f3 a1 a2 a3 a4 a5 a6 a7 a8 a9 a10 (i + 1) (nI i - 1) := by
    intro i
    induction i with
    | zero =>
      intro _ h
      rw [show nI 0 - 1 = -1 by decide]
      exact br_t (by decide) h
    | succ i ih =>
      intro hi h
      rw [nI_pred]
      refine br_f (nI_pos (by omega)) ⟨pk_in i 20 (by omega), ?_⟩
      rw [nI_clamp (show i < 2 ^ 31 by omega)]
      rw [il_nw_s] at h
      by_cases e : a9 i = x
      · rw [if_pos e] at h
        exact br_t e h
      · rw [if_neg e] at h
        exact br_f e (nm_r (Int32.sub_eq_add_neg (nI i) 1).symm (ih (by omega) h))
  unfold wpX_newestWaiting
  exact nm_e ⟨w + 1, key w hw H⟩
/-- what newestJournaled has found, and what the journal so far makes of the sector: v, its check value c -/
def il_fnd (s : Nat) (a7 : Nat → Int32) (h0 c0 r v c : Int32) : Prop := (r = -1 ∧ v = h0 ∧ c = c0) ∨ ∃ p, p < 32 ∧ r = nI p ∧ v = a7 p ∧ c = il_chk (nI s) (a7 p)
theorem il_nj27 {post : Int32 → Prop} {J7 : Int32 → Int32 → Prop} {s q k : Nat} {h0 c0 r : Int32} {X Y : Nat → Int32} (hq : q < 8) (hs : il_slot a4 a6 a7 a8 q) (h12 : s < 12)
    (hr : il_fnd s a7 h0 c0 r (X s) (Y s)) (H : ∀ r, il_fnd s a7 h0 c0 r (il_ap a6 a7 (4 * q) (a4 q).toNatClampNeg X s) (il_ap a6 a8 (4 * q) (a4 q).toNatClampNeg Y s) → J7 r (nI (k + 1))) :
    ∃ n, wX_newestJournaled_27 post J7 (nI s) (nI k) (nI q) f0 f1 f2 f3 a1 a2 a3 a4 a5 a6 a7 a8 a9 a10 n r (nI (4 * q)) := by
  obtain ⟨c, c1, c4, hc, he⟩ := hs
  rw [show (a4 q).toNatClampNeg = c by rw [hc]; exact nI_clamp (by omega)] at H
  have hle : nI q * 4 + a4 (nI q).toNatClampNeg = nI (4 * q + c) := by rw [nI_clamp (by omega), hc]; exact il_b4 q c
  refine loop_0 (fun n i r => wX_newestJournaled_27 post J7 (nI s) (nI k) (nI q) f0 f1 f2 f3 a1 a2 a3 a4 a5 a6 a7 a8 a9 a10 n r (nI (4 * q + i))) (fun i r => il_fnd s a7 h0 c0 r (il_ap a6 a7 (4 * q) i X s) (il_ap a6 a8 (4 * q) i Y s)) c r hr ?_ ?_
  · intro n r hr
    exact And.intro (pk_in q 8 hq) (pk_le (4 * q + c) (4 * q + c) (fun _ => nm_r (nI_1 k) (H r hr)) (fun z => absurd z (by omega)) hle)
  · intro n i r hi hr hw
    refine And.intro (pk_in q 8 hq) (pk_le (4 * q + c) (4 * q + i) (fun z => absurd z (by omega)) (fun _ => ⟨pk_in (4 * q + i) 32 (by omega), ?_⟩) hle)
    rw [nI_clamp (show 4 * q + i < 2 ^ 31 by omega)]
    obtain ⟨t, ht, h6, h8⟩ := he i hi
    by_cases e : t = s
    · subst e
      refine br_t h6 (nm_r (nI_1 _) (hw (nI (4 * q + i)) (Or.inr ⟨4 * q + i, by omega, rfl, ?_, ?_⟩)))
      · rw [il_ap_s, h6, nI_clamp (by omega), pk_us]
      · rw [il_ap_s, h6, nI_clamp (by omega), pk_us, h8]
    · refine br_f (fun z => e ((nI_eq (by omega) (by omega)).mp (h6.symm.trans z))) (nm_r (nI_1 _) (hw r ?_))
      rw [il_ap_s, il_ap_s, h6, nI_clamp (by omega), pk_un (fun z => e z.symm), pk_un (fun z => e z.symm)]
      exact hr
theorem il_newJ {post : Int32 → Prop} {h m s : Nat} (j : il_J h m a3 a4 a5 a6 a7 a8) (hm : m < 2 ^ 30) (h12 : s < 12)
    (H : ∀ r, il_fnd s a7 (a1 s) (a2 s) r (il_aps a4 a6 a7 h (m - h) a1 s) (il_aps a4 a6 a8 h (m - h) a2 s) → post r) : wpX_newestJournaled post (nI h, nI m, f2, f3, a1, a2, a3, a4, a5, a6, a7, a8, a9, a10) (nI s) := by
  obtain ⟨j1, j2, j3, j4, j5⟩ := j
  unfold wpX_newestJournaled
  refine loop_0 (fun n i r => wX_newestJournaled_7 post (nI s) (nI h) (nI m) f2 f3 a1 a2 a3 a4 a5 a6 a7 a8 a9 a10 n r (nI (h + i))) (fun i r => il_fnd s a7 (a1 s) (a2 s) r (il_aps a4 a6 a7 h i a1 s) (il_aps a4 a6 a8 h i a2 s)) (m - h) (-1) (Or.inl ⟨rfl, rfl, rfl⟩) ?_ ?_
  · intro n r hr
    exact pk_le m (h + (m - h)) (fun _ => H r hr) (fun z => absurd z (by omega))
  · intro n i r hi hr hw
    refine pk_le m (h + i) (fun z => absurd z (by omega)) (fun _ => nm_r (il_and7 (by omega)) (nm_r (il_b0 _) ?_))
    exact il_nj27 (by omega) (j3 (h + i) (by omega) (by omega)).2.1 h12 hr (fun r hr => hw r hr)
theorem il_durG {post : Int32 → Prop} {s : Nat} {u : St1} (q : il_Q V C w S W mk B u) (h12 : s < 12) (H : post (if C s = il_chk (nI s) (V s) then 1 else 0)) : wpX_durableGood post u (nI s) := by
  obtain ⟨f0, f1, f2, f3, a1, a2, a3, a4, a5, a6, a7, a8, a9, a10⟩ := u
  obtain ⟨h, m, e0, e1, e2, e3, hmB, hB, j, v1, v2, p⟩ := q
  subst e0 e1 e2 e3
  unfold wpX_durableGood
  refine il_newJ j (by omega) h12 (fun r hr => ?_)
  rw [v1, v2] at hr
  rcases hr with ⟨rfl, e1, e2⟩ | ⟨p, hp, rfl, e1, e2⟩
  · refine br_t (by decide) (il_isDam h12 ?_)
    rw [← e1, ← e2]
    by_cases e : C s = il_chk (nI s) (V s)
    · rw [if_pos e] at H ⊢
      exact br_t rfl H
    · rw [if_neg e] at H ⊢
      exact br_f (by decide) H
  · rw [if_pos (by rw [e2, e1])] at H
    exact br_f (nI_pos (by omega)) H
theorem il_durV {post : Int32 → Prop} {s : Nat} {u : St1} (q : il_Q V C w S W mk B u) (h12 : s < 12) (H : post (V s)) : wpX_durableValue post u (nI s) := by
  obtain ⟨f0, f1, f2, f3, a1, a2, a3, a4, a5, a6, a7, a8, a9, a10⟩ := u
  obtain ⟨h, m, e0, e1, e2, e3, hmB, hB, j, v1, v2, p⟩ := q
  subst e0 e1 e2 e3
  unfold wpX_durableValue
  refine il_newJ j (by omega) h12 (fun r hr => ?_)
  rw [v1, v2] at hr
  rcases hr with ⟨rfl, e1, e2⟩ | ⟨p, hp, rfl, e1, e2⟩
  · refine br_t (by decide) ⟨pk_in s 12 h12, ?_⟩
    rw [nI_clamp (by omega), ← e1]
    exact H
  · refine br_f (nI_pos (by omega)) ⟨pk_in p 32 hp, ?_⟩
    rw [nI_clamp (by omega), ← e1]
    exact H
def il_rd (V C : Nat → Int32) (w : Nat) (S W : Nat → Int32) (s : Nat) : Int32 := if il_nw S (nI s) w < 0 then (if C s = il_chk (nI s) (V s) then V s else 0) else W (il_nw S (nI s) w).toNatClampNeg
def il_rb (V C : Nat → Int32) (w : Nat) (S : Nat → Int32) (s : Nat) : Int32 := if 0 ≤ il_nw S (nI s) w then 1 else (if C s = il_chk (nI s) (V s) then 1 else 0)
theorem il_read {post : Int32 → Prop} {s : Nat} {u : St1} (q : il_Q V C w S W mk B u) (h12 : s < 12) (H : post (il_rd V C w S W s)) : wpX_read post u (nI s) := by
  obtain ⟨f0, f1, f2, f3, a1, a2, a3, a4, a5, a6, a7, a8, a9, a10⟩ := u
  have q' := q
  obtain ⟨_, _, _, _, e2, _, _, _, _, _, _, p⟩ := q'
  subst e2
  unfold wpX_read
  refine il_bad h12 (br_t rfl (il_newW p.1 ?_))
  rw [il_nw_c (fun j hj => (p.2 j hj).1)]
  unfold il_rd at H
  rcases il_nw_or S (nI s) w with e | ⟨j, hj, e⟩
  · rw [e] at H ⊢
    rw [if_pos (by decide)] at H
    refine br_t (by decide) (il_durG q h12 ?_)
    by_cases e : C s = il_chk (nI s) (V s)
    · rw [if_pos e] at H ⊢
      exact br_f (by decide) (il_durV q h12 H)
    · rw [if_neg e] at H ⊢
      exact br_t rfl H
  · have hw := p.1
    have hn : ¬ nI j < 0 := nI_pos (by omega)
    rw [e] at H ⊢
    rw [if_neg hn, nI_clamp (by omega)] at H
    refine br_f hn ⟨pk_in j 20 (by omega), ?_⟩
    rw [nI_clamp (by omega), (p.2 j hj).2.1]
    exact H
theorem il_readable {post : Int32 → Prop} {s : Nat} {u : St1} (q : il_Q V C w S W mk B u) (h12 : s < 12) (H : post (il_rb V C w S s)) : wpX_readable post u (nI s) := by
  obtain ⟨f0, f1, f2, f3, a1, a2, a3, a4, a5, a6, a7, a8, a9, a10⟩ := u
  have q' := q
  obtain ⟨_, _, _, _, e2, _, _, _, _, _, _, p⟩ := q'
  subst e2
  unfold wpX_readable
  refine il_bad h12 (br_t rfl (il_newW p.1 ?_))
  rw [il_nw_c (fun j hj => (p.2 j hj).1)]
  unfold il_rb at H
  by_cases e : 0 ≤ il_nw S (nI s) w
  · rw [if_pos e] at H
    exact br_t e H
  · rw [if_neg e] at H
    refine br_f e (il_durG q h12 ?_)
    by_cases e : C s = il_chk (nI s) (V s)
    · rw [if_pos e] at H ⊢
      exact br_f (by decide) H
    · rw [if_neg e] at H ⊢
      exact br_t rfl H
theorem il_pending {post : Int32 → Prop} (H : post f2) : wpX_pending post (f0, f1, f2, f3, a1, a2, a3, a4, a5, a6, a7, a8, a9, a10) := H
theorem il_durable {post : Int32 → Prop} (H : post f3) : wpX_durable post (f0, f1, f2, f3, a1, a2, a3, a4, a5, a6, a7, a8, a9, a10) := H
theorem il_same {post : Int32 → St3 → Prop} (qx : il_Q V C w S W mk B (f0, f1, f2, f3, a1, a2, a3, a4, a5, a6, a7, a8, a9, a10)) (qy : il_Q V C w S W mk B (g0, g1, g2, g3, b1, b2, b3, b4, b5, b6, b7, b8, b9, b10))
    (H : ∀ (f0 f1 f2 f3 g0 g1 g2 g3 : Int32) (a1 a2 a3 a4 a5 a6 a7 a8 a9 a10 b1 b2 b3 b4 b5 b6 b7 b8 b9 b10 : Nat → Int32), il_Q V C w S W mk B (f0, f1, f2, f3, a1, a2, a3, a4, a5, a6, a7, a8, a9, a10) → il_Q V C w S W mk B (g0, g1, g2, g3, b1, b2, b3, b4, b5, b6, b7, b8, b9, b10) → post 1 (f0, f1, f2, f3, a1, a2, a3, a4, a5, a6, a7, a8, a9, a10, g0, g1, g2, g3, b1, b2, b3, b4, b5, b6, b7, b8, b9, b10)) : wpL_same post (f0, f1, f2, f3, a1, a2, a3, a4, a5, a6, a7, a8, a9, a10, g0, g1, g2, g3, b1, b2, b3, b4, b5, b6, b7, b8, b9, b10) := by
  have qx' := qx
  have qy' := qy
  obtain ⟨_, _, _, _, x2, x3, _⟩ := qx'
  obtain ⟨_, _, _, _, y2, y3, _⟩ := qy'
  unfold wpL_same
  refine il_lp (fun n i => wL_same_2 post f0 f1 f2 f3 a1 a2 a3 a4 a5 a6 a7 a8 a9 a10 g0 g1 g2 g3 b1 b2 b3 b4 b5 b6 b7 b8 b9 b10 n (nI i)) 12 ?_ ?_
  · intro n
    refine pk_le 12 12 (fun _ => ?_) (fun z => absurd z (by omega))
    refine il_pending (il_pending (br_t (x2.trans y2.symm) (il_durable (il_durable (br_t (x3.trans y3.symm) ?_)))))
    refine il_scrub qx (fun u qx => ?_)
    obtain ⟨f0, f1, f2, f3, a1, a2, a3, a4, a5, a6, a7, a8, a9, a10⟩ := u
    refine il_scrub qy (fun u qy => ?_)
    obtain ⟨g0, g1, g2, g3, b1, b2, b3, b4, b5, b6, b7, b8, b9, b10⟩ := u
    exact br_t rfl (H _ _ _ _ _ _ _ _ _ _ _ _ _ _ _ _ _ _ _ _ _ _ _ _ _ _ _ _ qx qy)
  · intro n i hi hw
    refine pk_le 12 i (fun z => absurd z (by omega)) (fun _ => ?_)
    exact il_read qx hi (il_read qy hi (br_t rfl (il_readable qx hi (il_readable qy hi (br_t rfl (nm_r (nI_1 i) hw))))))
end
end
section
/-! Int32 and Int64 by their bits (began as rows of BITS.to-paste) -/
def il_bt (x : Int32) (i : Nat) : Bool := x.toBitVec.getLsbD i
theorem il_bt_ext {x y : Int32} (h : ∀ i, i < 32 → il_bt x i = il_bt y i) : x = y := Int32.toBitVec_inj.mp (BitVec.eq_of_getLsbD_eq (fun i hi => h i hi))
theorem il_bt_or (x y : Int32) (i : Nat) : il_bt (x ||| y) i = (il_bt x i || il_bt y i) := by unfold il_bt; rw [Int32.toBitVec_or, BitVec.getLsbD_or]
theorem il_bt_and (x y : Int32) (i : Nat) : il_bt (x &&& y) i = (il_bt x i && il_bt y i) := by unfold il_bt; rw [Int32.toBitVec_and, BitVec.getLsbD_and]
theorem il_bt_xor (x y : Int32) (i : Nat) : il_bt (x ^^^ y) i = (il_bt x i ^^ il_bt y i) := by unfold il_bt; rw [Int32.toBitVec_xor, BitVec.getLsbD_xor]
theorem il_bt_0 (i : Nat) : il_bt 0 i = false := BitVec.getLsbD_zero
theorem il_bt_m1 : ∀ i, i < 32 → il_bt (-1) i = true := by decide +kernel
theorem il_bt_1 : ∀ i, i < 32 → il_bt 1 i = decide (i = 0) := by decide +kernel
theorem il_bt_sh : ∀ t, t < 32 → ∀ s, s < 32 → il_bt ((1 : Int32) <<< (nI t &&& 31)) s = decide (t = s) := by decide +kernel
theorem il_bt_nI (t : Nat) {i : Nat} (hi : i < 32) : il_bt (nI t) i = t.testBit i := by
  show (BitVec.ofNat 32 t).getLsbD i = _
  rw [BitVec.getLsbD_ofNat, decide_eq_true hi, Bool.true_and]
theorem il_sl : ∀ n, n < 32 → ((nI n &&& 31).toBitVec.smod 32).toNat = n := by decide +kernel
theorem il_bt_sshr (n : Nat) (hn : n < 32) (x : Int32) {i : Nat} (hi : i < 32) : il_bt (x >>> (nI n &&& 31)) i = if n + i < 32 then il_bt x (n + i) else il_bt x 31 := by
  unfold il_bt
  rw [Int32.toBitVec_shiftRight]
  show (x.toBitVec.sshiftRight ((nI n &&& 31).toBitVec.smod 32).toNat).getLsbD i = _
  rw [il_sl n hn, BitVec.getLsbD_sshiftRight, BitVec.msb_eq_getLsbD_last]
  simp [hi]
theorem il_bit0 (x : Int32) {i : Nat} (hi : i < 32) : ((x >>> (nI i &&& 31)) &&& 1) = 0 ↔ il_bt x i = false := by
  have e : il_bt (x >>> (nI i &&& 31)) 0 = il_bt x i := by
    rw [il_bt_sshr i hi x (by omega), if_pos (by omega), Nat.add_zero]
  constructor
  · intro h
    have t := congrArg (fun z => il_bt z 0) h
    rw [il_bt_and, e, il_bt_1 0 (by omega), il_bt_0] at t
    simpa using t
  · intro h
    apply il_bt_ext
    intro j hj
    rw [il_bt_and, il_bt_0, il_bt_1 j hj]
    by_cases z : j = 0
    · subst z
      rw [e, h]
      rfl
    · simp [z]
/-- the set of the first sectors -/
def il_cv (S : Nat → Int32) : Nat → Int32
  | 0 => 0
  | j + 1 => il_cv S j ||| ((1 : Int32) <<< (S j &&& 31))
theorem il_cv_s (S : Nat → Int32) (j : Nat) : il_cv S (j + 1) = il_cv S j ||| ((1 : Int32) <<< (S j &&& 31)) := rfl
theorem il_cv_bt {S : Nat → Int32} {w s : Nat} (hs : s < 12) (hw : w ≤ 20) (h : ∀ j, j < w → ∃ t, t < 12 ∧ S j = nI t) : il_bt (il_cv S w) s = decide (0 ≤ il_nw S (nI s) w) := by
  induction w with
  | zero =>
    show il_bt 0 s = decide ((0 : Int32) ≤ -1)
    rw [il_bt_0]
    rfl
  | succ w ih =>
    obtain ⟨t, ht, e⟩ := h w (by omega)
    rw [il_cv_s, il_bt_or, ih (by omega) (fun j hj => h j (by omega)), il_nw_s, e, il_bt_sh t (by omega) s (by omega)]
    by_cases z : t = s
    · subst z
      rw [if_pos rfl, decide_eq_true (nI_pos' (show w < 2 ^ 31 by omega)), decide_eq_true rfl, Bool.or_true]
    · rw [if_neg (fun k => z ((nI_eq (by omega) (by omega)).mp k)), decide_eq_false z, Bool.or_false]
/-- the damaged set without the first sectors -/
def il_dm (S : Nat → Int32) (d : Int32) : Nat → Int32
  | 0 => d
  | k + 1 => il_dm S d k &&& (((1 : Int32) <<< (S k &&& 31)) ^^^ (-1))
theorem il_dm_s (S : Nat → Int32) (d : Int32) (k : Nat) : il_dm S d (k + 1) = il_dm S d k &&& (((1 : Int32) <<< (S k &&& 31)) ^^^ (-1)) := rfl
theorem il_dm_bt {V C S W : Nat → Int32} {d : Int32} {k s : Nat} (hs : s < 12) (h : ∀ j, j < k → ∃ t, t < 12 ∧ S j = nI t) (h0 : il_bt d s = !decide (C s = il_chk (nI s) (V s))) : il_bt (il_dm S d k) s = !decide (il_ap S (fun i => il_chk (S i) (W i)) 0 k C s = il_chk (nI s) (il_ap S W 0 k V s)) := by
  induction k with
  | zero => exact h0
  | succ k ih =>
    obtain ⟨t, ht, e⟩ := h k (by omega)
    rw [il_dm_s, il_bt_and, il_bt_xor, ih (fun j hj => h j (by omega)), il_ap_s, il_ap_s, Nat.zero_add, e, il_bt_sh t (by omega) s (by omega), il_bt_m1 s (by omega), nI_clamp (by omega)]
    by_cases z : t = s
    · subst z
      rw [pk_us, pk_us, decide_eq_true rfl, decide_eq_true rfl]
      simp
    · rw [pk_un (fun k => z k.symm), pk_un (fun k => z k.symm), decide_eq_false z]
      simp
def il_lb (x : Int64) (i : Nat) : Bool := x.toBitVec.getLsbD i
theorem il_lb_or (x y : Int64) (i : Nat) : il_lb (x ||| y) i = (il_lb x i || il_lb y i) := by unfold il_lb; rw [Int64.toBitVec_or, BitVec.getLsbD_or]
theorem il_lb_and (x y : Int64) (i : Nat) : il_lb (x &&& y) i = (il_lb x i && il_lb y i) := by unfold il_lb; rw [Int64.toBitVec_and, BitVec.getLsbD_and]
theorem il_lb_xor (x y : Int64) (i : Nat) : il_lb (x ^^^ y) i = (il_lb x i ^^ il_lb y i) := by unfold il_lb; rw [Int64.toBitVec_xor, BitVec.getLsbD_xor]
theorem il_lb_ext {x y : Int64} (h : ∀ i, i < 64 → il_lb x i = il_lb y i) : x = y := Int64.toBitVec_inj.mp (BitVec.eq_of_getLsbD_eq (fun i hi => h i hi))
theorem il_lb_m1 : ∀ i, i < 64 → il_lb (-1) i = true := by decide +kernel
theorem il_lb_15 : ∀ i, i < 64 → il_lb 15 i = decide (i < 4) := by decide +kernel
theorem il_lb_lN (t : Nat) {i : Nat} (hi : i < 64) : il_lb (lN t) i = t.testBit i := by
  show (BitVec.ofNat 64 t).getLsbD i = _
  rw [BitVec.getLsbD_ofNat, decide_eq_true hi, Bool.true_and]
theorem il_ls : ∀ n, n < 64 → (((nI n).toInt64 &&& 63).toBitVec.smod 64).toNat = n := by decide +kernel
theorem il_lu : ∀ n, n < 64 → (((nI n).toInt64.toUInt64 &&& Int64.toUInt64 63).toBitVec % 64).toNat = n := by decide +kernel
theorem il_lshl {n : Nat} (hn : n < 64) (x : Int64) {i : Nat} (hi : i < 64) : il_lb (x <<< ((nI n).toInt64 &&& 63)) i = (decide (n ≤ i) && il_lb x (i - n)) := by
  unfold il_lb
  rw [Int64.toBitVec_shiftLeft]
  show (x.toBitVec <<< (((nI n).toInt64 &&& 63).toBitVec.smod 64).toNat).getLsbD i = _
  rw [il_ls n hn, BitVec.getLsbD_shiftLeft]
  rcases Nat.lt_or_ge i n with h | h
  · simp [h, Nat.not_le.mpr h]
  · simp [hi, h, Nat.not_lt.mpr h]
theorem il_lushr {n : Nat} (hn : n < 64) (x : Int64) (i : Nat) : il_lb ((x.toUInt64 >>> ((nI n).toInt64.toUInt64 &&& Int64.toUInt64 63)).toInt64) i = il_lb x (n + i) := by
  show (x.toUInt64 >>> ((nI n).toInt64.toUInt64 &&& Int64.toUInt64 63)).toBitVec.getLsbD i = x.toUInt64.toBitVec.getLsbD (n + i)
  rw [UInt64.toBitVec_shiftRight]
  show (x.toUInt64.toBitVec >>> (((nI n).toInt64.toUInt64 &&& Int64.toUInt64 63).toBitVec % 64).toNat).getLsbD i = _
  rw [il_lu n hn, BitVec.getLsbD_ushiftRight]
theorem il_lsshr {n : Nat} (hn : n < 64) (x : Int64) {i : Nat} (hi : n + i < 64) : il_lb (x >>> ((nI n).toInt64 &&& 63)) i = il_lb x (n + i) := by
  unfold il_lb
  rw [Int64.toBitVec_shiftRight]
  show (x.toBitVec.sshiftRight (((nI n).toInt64 &&& 63).toBitVec.smod 64).toNat).getLsbD i = _
  rw [il_ls n hn, BitVec.getLsbD_sshiftRight]
  simp [hi, show ¬ 64 ≤ i by omega]
theorem il_tb {t i : Nat} (ht : t < 16) (hi : 4 ≤ i) : t.testBit i = false := by
  apply Nat.testBit_lt_two_pow
  exact Nat.lt_of_lt_of_le ht (Nat.pow_le_pow_right (n := 2) (i := 4) (by omega) hi)
theorem il_nib {x : Int64} {t : Nat} (ht : t < 16) (h : ∀ b, b < 4 → il_lb x b = il_bt (nI t) b) : (x &&& 15).toInt32 = nI t := by
  have e : x &&& 15 = lN t := by
    apply il_lb_ext
    intro i hi
    rw [il_lb_and, il_lb_15 i hi, il_lb_lN t hi]
    by_cases z : i < 4
    · rw [h i z, il_bt_nI t (by omega), decide_eq_true z, Bool.and_true]
    · rw [decide_eq_false z, Bool.and_false, il_tb ht (by omega)]
  rw [e, lN_i]
/-- bit i of the two longs side by side -/
def il_gb (f s : Int64) (i : Nat) : Bool := if i < 64 then il_lb f i else il_lb s (i - 64)
theorem il_gb_lo {f s : Int64} {i : Nat} (h : i < 64) : il_gb f s i = il_lb f i := if_pos h
theorem il_gb_hi {f s : Int64} {i : Nat} (h : 64 ≤ i) : il_gb f s i = il_lb s (i - 64) := if_neg (by omega)
/-- the two longs hold the pending sectors, four bits each -/
def il_nb (f s : Int64) (w : Nat) (S : Nat → Int32) : Prop := ∀ j, j < w → ∀ b, b < 4 → il_gb f s (4 * j + b) = il_bt (S j) b
theorem il_gb_sh {f s : Int64} {i : Nat} (hi : i < 124) : il_gb (((f.toUInt64 >>> ((4 : Int32).toInt64.toUInt64 &&& Int64.toUInt64 63)).toInt64) ||| (s <<< ((60 : Int32).toInt64 &&& 63))) ((s.toUInt64 >>> ((4 : Int32).toInt64.toUInt64 &&& Int64.toUInt64 63)).toInt64) i = il_gb f s (i + 4) := by
  have u4 : ∀ (x : Int64) (k : Nat), il_lb ((x.toUInt64 >>> ((4 : Int32).toInt64.toUInt64 &&& Int64.toUInt64 63)).toInt64) k = il_lb x (4 + k) := fun x k => il_lushr (n := 4) (by omega) x k
  have s60 : ∀ (x : Int64) (k : Nat), k < 64 → il_lb (x <<< ((60 : Int32).toInt64 &&& 63)) k = (decide (60 ≤ k) && il_lb x (k - 60)) := fun x k hk => il_lshl (n := 60) (by omega) x hk
  by_cases h : i < 64
  · rw [il_gb_lo h, il_lb_or, u4, s60 s i h]
    by_cases h2 : i < 60
    · rw [il_gb_lo (by omega), decide_eq_false (by omega), Bool.false_and, Bool.or_false, Nat.add_comm]
    · have e : il_lb f (4 + i) = false := BitVec.getLsbD_of_ge _ _ (by omega)
      rw [il_gb_hi (by omega), e, decide_eq_true (by omega), Bool.true_and, Bool.false_or]
      congr 1
  · rw [il_gb_hi (by omega), il_gb_hi (by omega), u4]
    congr 1
    omega
theorem il_nb_sh {f s : Int64} {w : Nat} {S : Nat → Int32} (h : il_nb f s (w + 1) S) (hw : w < 20) : il_nb (((f.toUInt64 >>> ((4 : Int32).toInt64.toUInt64 &&& Int64.toUInt64 63)).toInt64) ||| (s <<< ((60 : Int32).toInt64 &&& 63))) ((s.toUInt64 >>> ((4 : Int32).toInt64.toUInt64 &&& Int64.toUInt64 63)).toInt64) w (fun j => S (j + 1)) := by
  intro j hj b hb
  rw [il_gb_sh (by omega), show 4 * j + b + 4 = 4 * (j + 1) + b by omega]
  exact h (j + 1) (by omega) b hb
theorem il_nb_0 {f s : Int64} {w t : Nat} {S : Nat → Int32} (h : il_nb f s w S) (hw : 0 < w) (ht : t < 12) (e : S 0 = nI t) : (f &&& 15).toInt32 = nI t := by
  refine il_nib (by omega) (fun b hb => ?_)
  have t := h 0 hw b hb
  rw [il_gb_lo (by omega), show 4 * 0 + b = b by omega, e] at t
  exact t
theorem il_m4 (n : Nat) : (4 : Int32) * nI n = nI (4 * n) := pk_mul 4 n
theorem il_nb_f {f s : Int64} {w k t : Nat} {S : Nat → Int32} (h : il_nb f s w S) (hk : k < w) (h16 : k < 16) (ht : t < 12) (e : S k = nI t) : ((f >>> ((4 * nI k).toInt64 &&& 63)) &&& 15).toInt32 = nI t := by
  rw [il_m4]
  refine il_nib (by omega) (fun b hb => ?_)
  have t := h k hk b hb
  rw [il_gb_lo (by omega), e] at t
  rw [il_lsshr (by omega) f (by omega)]
  exact t
theorem il_nb_g {f s : Int64} {w k t : Nat} {S : Nat → Int32} (h : il_nb f s w S) (hk : k < w) (h16 : 16 ≤ k) (h20 : k < 20) (ht : t < 12) (e : S k = nI t) : ((s >>> ((4 * (nI k - 16)).toInt64 &&& 63)) &&& 15).toInt32 = nI t := by
  have e1 : (4 : Int32) * (nI k - 16) = nI (4 * (k - 16)) := by
    rw [show nI k - 16 = nI (k - 16) from pk_sub (b := 16) h16]
    exact il_m4 _
  rw [e1]
  refine il_nib (by omega) (fun b hb => ?_)
  have t := h k hk b hb
  rw [il_gb_hi (by omega), e] at t
  rw [il_lsshr (by omega) s (by omega), ← t]
  congr 1
  omega
/-- a sector put at bit e of a long -/
theorem il_put {f : Int64} {e t : Nat} (he : e + 4 ≤ 64) (ht : t < 12) {i : Nat} (hi : i < 64) : il_lb ((f &&& (((15 : Int64) <<< ((nI e).toInt64 &&& 63)) ^^^ (-1))) ||| ((nI t).toInt64 <<< ((nI e).toInt64 &&& 63))) i = if e ≤ i ∧ i < e + 4 then il_bt (nI t) (i - e) else il_lb f i := by
  rw [il_lb_or, il_lb_and, il_lb_xor, il_lb_m1 i hi, il_lshl (by omega) _ hi, il_lshl (by omega) _ hi, nI_l (by omega), il_lb_lN t (show i - e < 64 by omega), il_lb_15 (i - e) (by omega)]
  by_cases h1 : e ≤ i
  · by_cases h2 : i < e + 4
    · rw [if_pos ⟨h1, h2⟩, il_bt_nI t (by omega), decide_eq_true h1, decide_eq_true (show i - e < 4 by omega)]
      simp
    · rw [if_neg (fun z => h2 z.2), decide_eq_true h1, decide_eq_false (show ¬ i - e < 4 by omega), il_tb (by omega) (show 4 ≤ i - e by omega)]
      simp
  · rw [if_neg (fun z => h1 z.1), decide_eq_false h1]
    simp
theorem il_nb_wf {f s : Int64} {n t : Nat} {S : Nat → Int32} (h : il_nb f s n S) (hn : n < 16) (ht : t < 12) : il_nb ((f &&& (((15 : Int64) <<< ((4 * nI n).toInt64 &&& 63)) ^^^ (-1))) ||| ((nI t).toInt64 <<< ((4 * nI n).toInt64 &&& 63))) s (n + 1) (upd S n (nI t)) := by
  rw [il_m4]
  intro j hj b hb
  rw [il_gb_lo (by omega), il_put (by omega) ht (by omega)]
  by_cases e : j = n
  · subst e
    rw [pk_us, if_pos ⟨by omega, by omega⟩]
    congr 1
    omega
  · rw [pk_un e, if_neg (by omega), ← h j (by omega) b hb, il_gb_lo (by omega)]
theorem il_nb_ws {f s : Int64} {n t : Nat} {S : Nat → Int32} (h : il_nb f s n S) (hn : 16 ≤ n) (h20 : n < 20) (ht : t < 12) : il_nb f ((s &&& (((15 : Int64) <<< ((4 * nI n - 64).toInt64 &&& 63)) ^^^ (-1))) ||| ((nI t).toInt64 <<< ((4 * nI n - 64).toInt64 &&& 63))) (n + 1) (upd S n (nI t)) := by
  have e1 : (4 : Int32) * nI n - 64 = nI (4 * n - 64) := by
    rw [il_m4]
    exact pk_sub (b := 64) (by omega)
  rw [e1]
  intro j hj b hb
  by_cases e : j = n
  · subst e
    rw [pk_us, il_gb_hi (by omega), il_put (by omega) ht (by omega), if_pos ⟨by omega, by omega⟩]
    congr 1
    omega
  · rw [pk_un e, ← h j (by omega) b hb]
    by_cases h64 : 4 * j + b < 64
    · rw [il_gb_lo h64, il_gb_lo h64]
    · rw [il_gb_hi (by omega), il_gb_hi (by omega), il_put (by omega) ht (by omega), if_neg (by omega)]
end
section
section
variable {f0 f1 f2 f3 g0 g1 g2 g3 : Int32} {a1 a2 a3 a4 a5 a6 a7 a8 a9 a10 b1 b2 b3 b4 b5 b6 b7 b8 b9 b10 : Nat → Int32} {V C S W : Nat → Int32} {w B : Nat} {mk : Int32}
theorem il_covered {post : Int32 → Prop} {f s : Int64} (hn : il_nb f s w S) (hw : w ≤ 20) (hS : ∀ j, j < w → ∃ t, t < 12 ∧ S j = nI t) (H : post (il_cv S w)) : wpL_covered post () f s (nI w) := by
  unfold wpL_covered
  refine il_lp (fun n k => wL_covered_6 post f s (nI w) n (il_cv S k) (nI k)) w ?_ ?_
  · intro n
    exact pk_le w w (fun _ => H) (fun z => absurd z (by omega))
  · intro n k hk hw'
    obtain ⟨t, ht, e⟩ := hS k hk
    refine pk_le w k (fun z => absurd z (by omega)) (fun _ => pk_le 16 k (fun z => ?_) (fun z => ?_))
    · unfold wL_covered_38
      exact nm_r (e' := il_cv S (k + 1)) (by rw [il_nb_g hn hk z (by omega) ht e, il_cv_s, e]) (nm_r (nI_1 k) hw')
    · unfold wL_covered_38
      exact nm_r (e' := il_cv S (k + 1)) (by rw [il_nb_f hn hk z ht e, il_cv_s, e]) (nm_r (nI_1 k) hw')
theorem il_fails {post : Int32 → Prop} {d cv : Int32} (q : il_Q V C w S W mk B (f0, f1, f2, f3, a1, a2, a3, a4, a5, a6, a7, a8, a9, a10)) (h : ∀ t, t < 12 → il_rb V C w S t = if il_bt d t = true ∧ il_bt cv t = false then 0 else 1) (H : post 1) : wpL_fails post (f0, f1, f2, f3, a1, a2, a3, a4, a5, a6, a7, a8, a9, a10) d cv := by
  unfold wpL_fails
  refine il_lp (fun n i => wL_fails_2 post d cv f0 f1 f2 f3 a1 a2 a3 a4 a5 a6 a7 a8 a9 a10 n (nI i)) 12 ?_ ?_
  · intro n
    exact pk_le 12 12 (fun _ => H) (fun z => absurd z (by omega))
  · intro n i hi hw
    have t := h i hi
    refine pk_le 12 i (fun z => absurd z (by omega)) (fun _ => ek_if (il_bit0 d (by omega)) (fun z => ?_) (fun z => ek_if (il_bit0 cv (by omega)) (fun y => ?_) (fun y => ?_)))
    · unfold wL_fails_28 wL_fails_29
      refine il_readable q hi ?_
      rw [t, if_neg (fun k => absurd (k.1.symm.trans z) (by decide))]
      exact br_f (by decide) (nm_r (nI_1 i) hw)
    · unfold wL_fails_29
      refine il_readable q hi ?_
      rw [t, if_pos ⟨by simpa using z, y⟩]
      exact br_f (by decide) (nm_r (nI_1 i) hw)
    · unfold wL_fails_28 wL_fails_29
      refine il_readable q hi ?_
      rw [t, if_neg (fun k => y k.2)]
      exact br_f (by decide) (nm_r (nI_1 i) hw)
/-- the law's damaged set says what the picture says -/
def il_D (V C : Nat → Int32) (d : Int32) : Prop := ∀ t, t < 12 → il_bt d t = !decide (C t = il_chk (nI t) (V t))
theorem il_rb_ok {d : Int32} (hd : il_D V C d) (hw : w ≤ 20) (hS : ∀ j, j < w → ∃ t, t < 12 ∧ S j = nI t) : ∀ t, t < 12 → il_rb V C w S t = if il_bt d t = true ∧ il_bt (il_cv S w) t = false then 0 else 1 := by
  intro t ht
  rw [il_cv_bt ht hw hS, hd t ht]
  unfold il_rb
  by_cases e : 0 ≤ il_nw S (nI t) w
  · rw [if_pos e, if_neg]
    intro k
    rw [decide_eq_true e] at k
    exact absurd k.2 (by decide)
  · rw [if_neg e, decide_eq_false e]
    by_cases c : C t = il_chk (nI t) (V t)
    · rw [if_pos c, decide_eq_true c]
      rfl
    · rw [if_neg c, decide_eq_false c]
      rfl
/-- the law's loop: both objects match one picture, and so do the law's own variables -/
def il_I (B : Nat) (f s : Int64) (x7 d : Int32) (u v : St1) : Prop := ∃ V C w S W mk, il_Q V C w S W mk B u ∧ il_Q V C w S W mk B v ∧ x7 = nI w ∧ il_D V C d ∧ il_nb f s w S
def il_K (J30 : Int64 → Int64 → Int32 → Int32 → Int32 → Int32 → Int32 → Int32 → Int32 → (Nat → Int32) → (Nat → Int32) → (Nat → Int32) → (Nat → Int32) → (Nat → Int32) → (Nat → Int32) → (Nat → Int32) → (Nat → Int32) → (Nat → Int32) → (Nat → Int32) → Int32 → Int32 → Int32 → Int32 → (Nat → Int32) → (Nat → Int32) → (Nat → Int32) → (Nat → Int32) → (Nat → Int32) → (Nat → Int32) → (Nat → Int32) → (Nat → Int32) → (Nat → Int32) → (Nat → Int32) → Prop) (B : Nat) (x9 : Int32) : Prop := ∀ (f s : Int64) (x7 d : Int32) (f0 f1 f2 f3 g0 g1 g2 g3 : Int32) (a1 a2 a3 a4 a5 a6 a7 a8 a9 a10 b1 b2 b3 b4 b5 b6 b7 b8 b9 b10 : Nat → Int32), il_I B f s x7 d (f0, f1, f2, f3, a1, a2, a3, a4, a5, a6, a7, a8, a9, a10) (g0, g1, g2, g3, b1, b2, b3, b4, b5, b6, b7, b8, b9, b10) → J30 f s x7 d x9 f0 f1 f2 f3 a1 a2 a3 a4 a5 a6 a7 a8 a9 a10 g0 g1 g2 g3 b1 b2 b3 b4 b5 b6 b7 b8 b9 b10
theorem il_pS {u : St1} (q : il_Q V C w S W mk B u) : w ≤ 20 ∧ B < 2 ^ 29 ∧ ∀ j, j < w → ∃ t, t < 12 ∧ S j = nI t := by
  obtain ⟨f0, f1, f2, f3, a1, a2, a3, a4, a5, a6, a7, a8, a9, a10⟩ := u
  obtain ⟨_, _, _, _, _, _, _, hB, _, _, _, p⟩ := q
  exact ⟨p.1, hB, fun j hj => (p.2 j hj).2.2⟩
theorem il_479 {post : Int32 → Prop} {L : Nat} {xs : Nat → Int32} {J30 : Int64 → Int64 → Int32 → Int32 → Int32 → Int32 → Int32 → Int32 → Int32 → (Nat → Int32) → (Nat → Int32) → (Nat → Int32) → (Nat → Int32) → (Nat → Int32) → (Nat → Int32) → (Nat → Int32) → (Nat → Int32) → (Nat → Int32) → (Nat → Int32) → Int32 → Int32 → Int32 → Int32 → (Nat → Int32) → (Nat → Int32) → (Nat → Int32) → (Nat → Int32) → (Nat → Int32) → (Nat → Int32) → (Nat → Int32) → (Nat → Int32) → (Nat → Int32) → (Nat → Int32) → Prop} {kc ks : Nat} {f s : Int64} {d x9 : Int32} (qx : il_Q V C w S W mk B (f0, f1, f2, f3, a1, a2, a3, a4, a5, a6, a7, a8, a9, a10)) (qy : il_Q V C w S W mk B (g0, g1, g2, g3, b1, b2, b3, b4, b5, b6, b7, b8, b9, b10)) (hd : il_D V C d) (hn : il_nb f s w S) (K : il_K J30 B (x9 + 3)) : wL_law_479 post L xs J30 f s d x9 (nI w) kc ks f0 f1 f2 f3 a1 a2 a3 a4 a5 a6 a7 a8 a9 a10 g0 g1 g2 g3 b1 b2 b3 b4 b5 b6 b7 b8 b9 b10 := by
  obtain ⟨hw, hB, hS⟩ := il_pS qx
  unfold wL_law_479
  refine il_covered hn hw hS ?_
  refine il_same qx qy (fun f0 f1 f2 f3 g0 g1 g2 g3 a1 a2 a3 a4 a5 a6 a7 a8 a9 a10 b1 b2 b3 b4 b5 b6 b7 b8 b9 b10 qx qy => ?_)
  refine il_fails qx (il_rb_ok hd hw hS) ?_
  exact br_f (by decide) (br_f (by decide) (nm_e (K _ _ _ _ _ _ _ _ _ _ _ _ _ _ _ _ _ _ _ _ _ _ _ _ _ _ _ _ _ _ _ _ ⟨V, C, w, S, W, mk, qx, qy, rfl, hd, hn⟩)))
/-- the law takes the sectors that became durable out of its damaged set and out of its two longs -/
theorem il_419 {post : Int32 → Prop} {L : Nat} {xs : Nat → Int32} {J30 : Int64 → Int64 → Int32 → Int32 → Int32 → Int32 → Int32 → Int32 → Int32 → (Nat → Int32) → (Nat → Int32) → (Nat → Int32) → (Nat → Int32) → (Nat → Int32) → (Nat → Int32) → (Nat → Int32) → (Nat → Int32) → (Nat → Int32) → (Nat → Int32) → Int32 → Int32 → Int32 → Int32 → (Nat → Int32) → (Nat → Int32) → (Nat → Int32) → (Nat → Int32) → (Nat → Int32) → (Nat → Int32) → (Nat → Int32) → (Nat → Int32) → (Nat → Int32) → (Nat → Int32) → Prop} {kc ks : Nat} {f s : Int64} {d x9 x10 : Int32} {w' k : Nat} {S' W' : Nat → Int32}
    (qx : il_Q (il_ap S W 0 k V) (il_ap S (fun i => il_chk (S i) (W i)) 0 k C) w' S' W' mk B (f0, f1, f2, f3, a1, a2, a3, a4, a5, a6, a7, a8, a9, a10)) (qy : il_Q (il_ap S W 0 k V) (il_ap S (fun i => il_chk (S i) (W i)) 0 k C) w' S' W' mk B (g0, g1, g2, g3, b1, b2, b3, b4, b5, b6, b7, b8, b9, b10))
    (hd : il_D V C d) (hn : il_nb f s w S) (hw : w ≤ 20) (hk : k ≤ w) (hS : ∀ j, j < w → ∃ t, t < 12 ∧ S j = nI t)
    (h7 : (x10 = 7 ∧ w' = 0) ∨ (¬ x10 = 7 ∧ w' = w - k ∧ ∀ j, j < w' → S' j = S (j + k))) (K : il_K J30 B (x9 + 3)) :
    ∃ n, wL_law_419 post L xs J30 (nI w) x9 x10 (nI k) kc ks f0 f1 f2 f3 a1 a2 a3 a4 a5 a6 a7 a8 a9 a10 g0 g1 g2 g3 b1 b2 b3 b4 b5 b6 b7 b8 b9 b10 n f s d 0 := by
  refine loop_0 (fun n i (p : Int64 × Int64) => wL_law_419 post L xs J30 (nI w) x9 x10 (nI k) kc ks f0 f1 f2 f3 a1 a2 a3 a4 a5 a6 a7 a8 a9 a10 g0 g1 g2 g3 b1 b2 b3 b4 b5 b6 b7 b8 b9 b10 n p.1 p.2 (il_dm S d i) (nI i)) (fun i p => il_nb p.1 p.2 (w - i) (fun j => S (j + i))) k (f, s) hn ?_ ?_
  · intro n p hp
    have hd' : il_D (il_ap S W 0 k V) (il_ap S (fun i => il_chk (S i) (W i)) 0 k C) (il_dm S d k) := fun t ht => il_dm_bt ht (fun j hj => hS j (by omega)) (hd t ht)
    refine pk_le k k (fun _ => ?_) (fun z => absurd z (by omega))
    rcases h7 with ⟨h7, e⟩ | ⟨h7, e, hS'⟩
    · subst e
      exact br_t h7 (il_479 qx qy hd' (fun j hj => absurd hj (Nat.not_lt_zero j)) K)
    · refine br_f h7 ?_
      rw [pk_sub hk, ← e]
      refine il_479 qx qy hd' (fun j hj b hb => ?_) K
      rw [hS' j hj]
      exact hp j (by omega) b hb
  · intro n i p hi hp hw'
    obtain ⟨t, ht, e⟩ := hS i (by omega)
    refine pk_le k i (fun z => absurd z (by omega)) (fun _ => ?_)
    have e0 : (p.1 &&& 15).toInt32 = nI t := il_nb_0 hp (by omega) ht (by rw [Nat.zero_add]; exact e)
    refine nm_r (e' := il_dm S d (i + 1)) (by rw [e0, il_dm_s, e]) (nm_e (nm_e (nm_r (nI_1 i) (hw' (_, _) ?_))))
    have hp' : il_nb p.1 p.2 ((w - (i + 1)) + 1) (fun j => S (j + i)) := by
      rw [show w - (i + 1) + 1 = w - i by omega]
      exact hp
    have t2 := il_nb_sh hp' (by omega)
    intro j hj b hb
    have t3 := t2 j hj b hb
    dsimp only at t3
    rw [show j + 1 + i = j + (i + 1) by omega] at t3
    exact t3
end
end
section
section
variable {f0 f1 f2 f3 g0 g1 g2 g3 : Int32} {a1 a2 a3 a4 a5 a6 a7 a8 a9 a10 b1 b2 b3 b4 b5 b6 b7 b8 b9 b10 : Nat → Int32} {V C S W : Nat → Int32} {w B : Nat} {mk : Int32}
variable {post : Int32 → Prop} {L : Nat} {xs : Nat → Int32} {J30 : Int64 → Int64 → Int32 → Int32 → Int32 → Int32 → Int32 → Int32 → Int32 → (Nat → Int32) → (Nat → Int32) → (Nat → Int32) → (Nat → Int32) → (Nat → Int32) → (Nat → Int32) → (Nat → Int32) → (Nat → Int32) → (Nat → Int32) → (Nat → Int32) → Int32 → Int32 → Int32 → Int32 → (Nat → Int32) → (Nat → Int32) → (Nat → Int32) → (Nat → Int32) → (Nat → Int32) → (Nat → Int32) → (Nat → Int32) → (Nat → Int32) → (Nat → Int32) → (Nat → Int32) → Prop} {kc ks : Nat} {f s : Int64} {d x9 x10 : Int32}
theorem il_Q0 {S' W' : Nat → Int32} {u : St1} (q : il_Q V C 0 S W mk B u) : il_Q V C 0 S' W' mk B u := by
  obtain ⟨f0, f1, f2, f3, a1, a2, a3, a4, a5, a6, a7, a8, a9, a10⟩ := u
  obtain ⟨h, m, e0, e1, e2, e3, hmB, hB, j, v1, v2, p⟩ := q
  exact ⟨h, m, e0, e1, e2, e3, hmB, hB, j, v1, v2, by omega, fun j hj => absurd hj (Nat.not_lt_zero j)⟩
theorem il_322 {k : Nat} (qx : il_Q V C w S W mk B (f0, f1, f2, f3, a1, a2, a3, a4, a5, a6, a7, a8, a9, a10)) (qy : il_Q V C w S W mk B (g0, g1, g2, g3, b1, b2, b3, b4, b5, b6, b7, b8, b9, b10)) (hd : il_D V C d) (hn : il_nb f s w S) (hk : k < 16) (h10 : ¬ x10 = 7) (hB : B + 40 < 2 ^ 29) (K : il_K J30 (B + 20) (x9 + 3)) :
    wL_law_322 post L xs J30 f s (nI w) d x9 x10 (nI k) (nI (min k w)) kc ks f0 f1 f2 f3 a1 a2 a3 a4 a5 a6 a7 a8 a9 a10 g0 g1 g2 g3 b1 b2 b3 b4 b5 b6 b7 b8 b9 b10 := by
  obtain ⟨hw, _, hS⟩ := il_pS qx
  unfold wL_law_322
  refine il_flushSome qx (by omega) (by omega) (fun u qx => ?_)
  obtain ⟨f0, f1, f2, f3, a1, a2, a3, a4, a5, a6, a7, a8, a9, a10⟩ := u
  refine br_t rfl ?_
  refine il_flushSome qy (by omega) (by omega) (fun u qy => ?_)
  obtain ⟨g0, g1, g2, g3, b1, b2, b3, b4, b5, b6, b7, b8, b9, b10⟩ := u
  refine br_t rfl ?_
  exact il_419 (il_mono qx (by omega) (by omega)) (il_mono qy (by omega) (by omega)) hd hn hw (by omega) hS (Or.inr ⟨h10, rfl, fun j _ => rfl⟩) K
theorem il_372 {k : Nat} (qx : il_Q V C w S W mk B (f0, f1, f2, f3, a1, a2, a3, a4, a5, a6, a7, a8, a9, a10)) (qy : il_Q V C w S W mk B (g0, g1, g2, g3, b1, b2, b3, b4, b5, b6, b7, b8, b9, b10)) (hd : il_D V C d) (hn : il_nb f s w S) (hk : k < 16) (h10 : x10 = 7) (hB : B + 40 < 2 ^ 29) (K : il_K J30 (B + 20) (x9 + 3)) :
    wL_law_372 post L xs J30 f s (nI w) d x9 x10 (nI k) (nI (min k w)) kc ks f0 f1 f2 f3 a1 a2 a3 a4 a5 a6 a7 a8 a9 a10 g0 g1 g2 g3 b1 b2 b3 b4 b5 b6 b7 b8 b9 b10 := by
  obtain ⟨hw, _, hS⟩ := il_pS qx
  have hsub : nI w - nI (min k w) = nI (w - min k w) := pk_sub (by omega)
  unfold wL_law_372
  refine il_crash qx (by omega) (by omega) (fun u qx => ?_)
  obtain ⟨f0, f1, f2, f3, a1, a2, a3, a4, a5, a6, a7, a8, a9, a10⟩ := u
  refine br_t hsub.symm ?_
  refine il_flushSome qy (by omega) (by omega) (fun u qy => ?_)
  obtain ⟨g0, g1, g2, g3, b1, b2, b3, b4, b5, b6, b7, b8, b9, b10⟩ := u
  refine br_t rfl ?_
  refine il_crash (k := 0) qy (by omega) (by omega) (fun u qy => ?_)
  obtain ⟨g0, g1, g2, g3, b1, b2, b3, b4, b5, b6, b7, b8, b9, b10⟩ := u
  rw [Nat.zero_min, nI_0, Int32.add_zero] at qy
  refine br_t (by rw [hsub, Nat.zero_min, Nat.sub_zero]) ?_
  exact il_419 (il_mono qx (by omega) (by omega)) (il_mono (il_Q0 qy) (by omega) (by omega)) hd hn hw (by omega) hS (Or.inl ⟨h10, rfl⟩) K
theorem il_96a {t : Nat} {v : Int32} (qx : il_Q V C w S W mk B (f0, f1, f2, f3, a1, a2, a3, a4, a5, a6, a7, a8, a9, a10)) (qy : il_Q V C w S W mk B (g0, g1, g2, g3, b1, b2, b3, b4, b5, b6, b7, b8, b9, b10)) (hd : il_D V C d) (hn : il_nb f s w S) (ht : t < 12) (e : w = 20) (h10 : ¬ x10 = 7) (hB : B + 40 < 2 ^ 29) (K : il_K J30 (B + 20) (x9 + 3)) :
    wL_law_96 post L xs J30 f s (nI w) d x9 x10 (nI t) v 0 (-2) kc ks f0 f1 f2 f3 a1 a2 a3 a4 a5 a6 a7 a8 a9 a10 g0 g1 g2 g3 b1 b2 b3 b4 b5 b6 b7 b8 b9 b10 := by
  obtain ⟨hw, _, hS⟩ := il_pS qx
  unfold wL_law_96
  refine il_write qx ht (fun _ => ?_) (fun z => absurd z (by omega))
  refine br_t rfl ?_
  refine il_write qy ht (fun _ => ?_) (fun z => absurd z (by omega))
  refine br_t rfl (br_t (nI_le (a := 16) (by omega) (by omega)) (br_t (nI_le (a := 20) (by omega) (by omega)) ?_))
  unfold wL_law_199
  refine br_t (nI_le (a := 20) (by omega) (by omega)) ?_
  exact il_419 (k := 0) (S := S) (W := W) (il_mono qx (by omega) (by omega)) (il_mono qy (by omega) (by omega)) hd hn hw (by omega) hS (Or.inr ⟨h10, rfl, fun j _ => rfl⟩) K
theorem il_96b {t : Nat} {v : Int32} (qx : il_Q V C w S W mk B (f0, f1, f2, f3, a1, a2, a3, a4, a5, a6, a7, a8, a9, a10)) (qy : il_Q V C w S W mk B (g0, g1, g2, g3, b1, b2, b3, b4, b5, b6, b7, b8, b9, b10)) (hd : il_D V C d) (hn : il_nb f s w S) (ht : t < 12) (e : w < 20) (h10 : ¬ x10 = 7) (hB : B + 40 < 2 ^ 29) (K : il_K J30 (B + 20) (x9 + 3)) :
    wL_law_96 post L xs J30 f s (nI w) d x9 x10 (nI t) v 0 (nI w + 1) kc ks f0 f1 f2 f3 a1 a2 a3 a4 a5 a6 a7 a8 a9 a10 g0 g1 g2 g3 b1 b2 b3 b4 b5 b6 b7 b8 b9 b10 := by
  unfold wL_law_96
  refine il_write qx ht (fun z => absurd z (by omega)) (fun _ u qx => ?_)
  obtain ⟨f0, f1, f2, f3, a1, a2, a3, a4, a5, a6, a7, a8, a9, a10⟩ := u
  refine br_t (nI_1 w).symm ?_
  refine il_write qy ht (fun z => absurd z (by omega)) (fun _ u qy => ?_)
  obtain ⟨g0, g1, g2, g3, b1, b2, b3, b4, b5, b6, b7, b8, b9, b10⟩ := u
  refine br_t (nI_1 w).symm ?_
  obtain ⟨hw, _, hS⟩ := il_pS qx
  have h20 : ¬ (20 : Int32) ≤ nI w := nI_ge (b := 20) e (by omega)
  refine pk_le 16 w (fun z => br_f h20 (nm_e ?_)) (fun z => nm_e ?_)
  · unfold wL_law_199
    refine br_f h20 (nm_r (nI_1 w) ?_)
    exact il_419 (k := 0) (w := w + 1) (S := upd S w (nI t)) (W := upd W w v) (il_mono qx (by omega) (by omega)) (il_mono qy (by omega) (by omega)) hd (il_nb_ws hn z e ht) hw (by omega) hS (Or.inr ⟨h10, rfl, fun j _ => rfl⟩) K
  · unfold wL_law_199
    refine br_f h20 (nm_r (nI_1 w) ?_)
    exact il_419 (k := 0) (w := w + 1) (S := upd S w (nI t)) (W := upd W w v) (il_mono qx (by omega) (by omega)) (il_mono qy (by omega) (by omega)) hd (il_nb_wf hn z ht) hw (by omega) hS (Or.inr ⟨h10, rfl, fun j _ => rfl⟩) K
theorem il_D_0 {t : Nat} {v : Int32} (hd : il_D V C d) (ht : t < 12) (hv : v = 0) : il_D (if C t = il_chk (nI t) (V t) then upd V t (V t ^^^ v) else V) C d := by
  have e : (if C t = il_chk (nI t) (V t) then upd V t (V t ^^^ v) else V) = V := by
    by_cases c : C t = il_chk (nI t) (V t)
    · rw [if_pos c, hv, Int32.xor_zero]
      funext j
      by_cases z : j = t
      · rw [z, pk_us]
      · rw [pk_un z]
    · rw [if_neg c]
  rw [e]
  exact hd
theorem il_D_1 {t : Nat} {v : Int32} (hd : il_D V C d) (ht : t < 12) (hv : ¬ v = 0) : il_D (if C t = il_chk (nI t) (V t) then upd V t (V t ^^^ v) else V) C (d ||| ((1 : Int32) <<< (nI t &&& 31))) := by
  intro j hj
  rw [il_bt_or, il_bt_sh t (by omega) j (by omega), hd j hj]
  by_cases z : t = j
  · subst z
    rw [decide_eq_true (rfl : t = t), Bool.or_true]
    by_cases c : C t = il_chk (nI t) (V t)
    · rw [if_pos c, pk_us, decide_eq_false]
      · rfl
      · intro k
        have e := il_chk_inj (c.symm.trans k)
        have e2 : V t ^^^ 0 = V t ^^^ v := by rw [Int32.xor_zero]; exact e
        exact hv ((Int32.xor_right_inj _).mp e2).symm
    · rw [if_neg c, decide_eq_false c]
      rfl
  · rw [decide_eq_false z, Bool.or_false]
    by_cases c : C t = il_chk (nI t) (V t)
    · rw [if_pos c, pk_un (fun k => z k.symm)]
    · rw [if_neg c]
theorem il_lt3 {L i : Nat} (hL : L < 2 ^ 30) (hi : i < 2 ^ 30) : nI L - 3 < nI i ↔ L < i + 3 := by
  have h : (nI L - 3).toInt = (L : Int) - (3 : Nat) := pk_sub_toInt (b := 3) hL (by omega)
  rw [Int32.lt_iff_toInt_lt, h, nI_toInt (by omega)]
  omega
end
end
section
theorem il_main {L : Nat} {xs : Nat → Int32} {kc ks : Nat} (hL : L ≤ 260) : ∀ (n i : Nat) (f s : Int64) (x7 d : Int32) (f0 f1 f2 f3 g0 g1 g2 g3 : Int32) (a1 a2 a3 a4 a5 a6 a7 a8 a9 a10 b1 b2 b3 b4 b5 b6 b7 b8 b9 b10 : Nat → Int32), 1 ≤ n → L < i + n → i ≤ 263 → il_I (20 * i) f s x7 d (f0, f1, f2, f3, a1, a2, a3, a4, a5, a6, a7, a8, a9, a10) (g0, g1, g2, g3, b1, b2, b3, b4, b5, b6, b7, b8, b9, b10) → wL_law_30 (fun r => r = 1) L xs kc ks n f s x7 d (nI i) f0 f1 f2 f3 a1 a2 a3 a4 a5 a6 a7 a8 a9 a10 g0 g1 g2 g3 b1 b2 b3 b4 b5 b6 b7 b8 b9 b10 := by
  intro n
  induction n with
  | zero =>
    intro i f s x7 d f0 f1 f2 f3 g0 g1 g2 g3 a1 a2 a3 a4 a5 a6 a7 a8 a9 a10 b1 b2 b3 b4 b5 b6 b7 b8 b9 b10 h
    omega
  | succ n ih =>
    intro i f s x7 d f0 f1 f2 f3 g0 g1 g2 g3 a1 a2 a3 a4 a5 a6 a7 a8 a9 a10 b1 b2 b3 b4 b5 b6 b7 b8 b9 b10 _ hn hi I
    obtain ⟨V, C, w, S, W, mk, qx, qy, e7, hd, hnb⟩ := I
    subst e7
    obtain ⟨hw, hB, hS⟩ := il_pS qx
    by_cases hlt : L < i + 3
    · exact br_t ((il_lt3 (by omega) (by omega)).mpr hlt) rfl
    · have K : il_K (wL_law_30 (fun r => r = 1) L xs kc ks n) (20 * i + 20) (nI i + 3) := by
        intro f s x7 d f0 f1 f2 f3 g0 g1 g2 g3 a1 a2 a3 a4 a5 a6 a7 a8 a9 a10 b1 b2 b3 b4 b5 b6 b7 b8 b9 b10 I
        rw [show nI i + 3 = nI (i + 3) from nI_add i 3]
        refine ih (i + 3) _ _ _ _ _ _ _ _ _ _ _ _ _ _ _ _ _ _ _ _ _ _ _ _ _ _ _ _ _ _ _ _ (by omega) (by omega) (by omega) ?_
        obtain ⟨V, C, w, S, W, mk, qx, qy, r⟩ := I
        exact ⟨V, C, w, S, W, mk, il_mono qx (by omega) (by omega), il_mono qy (by omega) (by omega), r⟩
      refine br_f (fun z => hlt ((il_lt3 (by omega) (by omega)).mp z)) ?_
      obtain ⟨o, ho, e10⟩ := pk_andE (xs i) (m := 7) 3 (by decide)
      obtain ⟨a, ha, e11⟩ := pk_andE (xs (i + 1)) (m := 255) 8 (by decide)
      rw [show nI i + 1 = nI (i + 1) from nI_1 i, show nI i + 2 = nI (i + 2) from nI_add i 2, nI_clamp (show i < 2 ^ 31 by omega), nI_clamp (show i + 1 < 2 ^ 31 by omega), nI_clamp (show i + 2 < 2 ^ 31 by omega), e10, e11]
      refine ⟨pk_in i L (by omega), nm_e ⟨pk_in (i + 1) L (by omega), by decide, nm_r (e' := nI (a % 12)) (pk_rem (a := a) (d := 12) (by omega) (by omega) (by omega)) ⟨pk_in (i + 2) L (by omega), nm_e ?_⟩⟩⟩
      have ht : a % 12 < 12 := by omega
      generalize a % 12 = t at ht
      generalize xs (i + 2) = v
      have ho8 : o < 8 := ho
      have n7 : o ≠ 7 → ¬ nI o = 7 := fun z k => z ((nI_eq (b := 7) (by omega) (by omega)).mp k)
      refine pk_lt 3 o (fun z => pk_eq o 4 (fun z4 => ?_) (fun z4 => pk_eq o 5 (fun z5 => ?_) (fun z5 => pk_eq o 6 (fun z6 => ?_) (fun z6 => ?_)))) (fun z => ?_)
      · refine il_damage qx ht (fun u qx => ?_)
        obtain ⟨f0, f1, f2, f3, a1, a2, a3, a4, a5, a6, a7, a8, a9, a10⟩ := u
        refine il_damage qy ht (fun u qy => ?_)
        obtain ⟨g0, g1, g2, g3, b1, b2, b3, b4, b5, b6, b7, b8, b9, b10⟩ := u
        refine br_t rfl ?_
        by_cases hv : v = 0
        · exact br_t hv (il_419 (k := 0) (S := S) (W := W) (C := C) (il_mono qx (by omega) (by omega)) (il_mono qy (by omega) (by omega)) (il_D_0 hd ht hv) hnb hw (by omega) hS (Or.inr ⟨n7 (by omega), rfl, fun j _ => rfl⟩) K)
        · exact br_f hv (nm_e (il_419 (k := 0) (S := S) (W := W) (C := C) (il_mono qx (by omega) (by omega)) (il_mono qy (by omega) (by omega)) (il_D_1 hd ht hv) hnb hw (by omega) hS (Or.inr ⟨n7 (by omega), rfl, fun j _ => rfl⟩) K))
      · refine il_flush qx (by omega) (fun u qx => ?_)
        obtain ⟨f0, f1, f2, f3, a1, a2, a3, a4, a5, a6, a7, a8, a9, a10⟩ := u
        refine br_t rfl ?_
        refine il_flush qy (by omega) (fun u qy => ?_)
        obtain ⟨g0, g1, g2, g3, b1, b2, b3, b4, b5, b6, b7, b8, b9, b10⟩ := u
        refine br_t rfl ?_
        rw [Nat.sub_self] at qx qy
        refine il_crash (k := 0) qx (by omega) (by omega) (fun u qx => ?_)
        obtain ⟨f0, f1, f2, f3, a1, a2, a3, a4, a5, a6, a7, a8, a9, a10⟩ := u
        rw [Nat.zero_min, nI_0, Int32.add_zero] at qx
        refine br_t rfl ?_
        exact il_419 (S := S) (W := W) (il_mono qx (by omega) (by omega)) (il_mono qy (by omega) (by omega)) hd hnb hw (Nat.le_refl w) hS (Or.inr ⟨n7 (by omega), (Nat.sub_self w).symm, fun j hj => absurd hj (Nat.not_lt_zero j)⟩) K
      · obtain ⟨k, hk, ek⟩ := pk_andE v (m := 15) 4 (by decide)
        rw [ek]
        have hk16 : k < 16 := hk
        have t := il_322 (post := fun r => r = 1) (L := L) (xs := xs) (kc := kc) (ks := ks) qx qy hd hnb hk16 (n7 (by omega)) (by omega) K
        refine nm_e (pk_le w k (fun y => ?_) (fun y => ?_))
        · rw [show min k w = w by omega] at t
          exact t
        · rw [show min k w = k by omega] at t
          exact t
      · obtain ⟨k, hk, ek⟩ := pk_andE v (m := 15) 4 (by decide)
        rw [ek]
        have hk16 : k < 16 := hk
        have e7 : o = 7 := by omega
        have t := il_372 (post := fun r => r = 1) (L := L) (xs := xs) (kc := kc) (ks := ks) (x10 := nI o) qx qy hd hnb hk16 (by rw [e7]; rfl) (by omega) K
        refine nm_e (pk_le w k (fun y => ?_) (fun y => ?_))
        · rw [show min k w = w by omega] at t
          exact t
        · rw [show min k w = k by omega] at t
          exact t
      · exact pk_eq w 20 (fun e => il_96a qx qy hd hnb ht e (n7 (by omega)) (by omega) K) (fun e => il_96b qx qy hd hnb ht (by omega) (n7 (by omega)) (by omega) K)
/-- the arrays as the constructor leaves them -/
def il_c0 : Nat → (Nat → Int32)
  | 0 => fun _ => 0
  | i + 1 => upd (il_c0 i) i (il_chk (nI i) 0)
def il_n0 : Nat → (Nat → Int32)
  | 0 => fun _ => 0
  | i + 1 => upd (il_n0 i) i (-1)
theorem il_c0_v {n j : Nat} (h : j < n) : il_c0 n j = il_chk (nI j) 0 := by
  induction n with
  | zero => omega
  | succ n ih =>
    show upd (il_c0 n) n (il_chk (nI n) 0) j = _
    by_cases e : j = n
    · rw [e, pk_us]
    · rw [pk_un e]
      exact ih (by omega)
theorem il_n0_v {n j : Nat} (h : j < n) : il_n0 n j = -1 := by
  induction n with
  | zero => omega
  | succ n ih =>
    show upd (il_n0 n) n (-1) j = _
    by_cases e : j = n
    · rw [e, pk_us]
    · rw [pk_un e]
      exact ih (by omega)
theorem il_neg {k : Nat} (h : k < 2 ^ 31) : ¬ (-1 : Int32) = nI k := by
  intro e
  exact absurd (show nI k < 0 by rw [← e]; decide) (nI_pos h)
theorem il_init {post : St1 → Prop} {mc ms : Nat} (h1 : 10 ≤ mc) (h2 : 184 ≤ ms) (H : ∀ u, il_Q (fun _ => 0) (il_c0 12) 0 (fun _ => 0) (fun _ => 0) 0 0 u → post u) : wpX_init post mc ms (0, 0, 0, 0) := by
  unfold wpX_init
  refine ⟨by omega, by omega, by omega, by omega, by omega, by omega, by omega, by omega, by omega, by omega, by omega, by omega, by omega, by omega, by omega, by omega, by omega, by omega, by omega, by omega, ?_⟩
  refine il_lp (fun n i => wX_init_86 post mc ms 10 184 0 0 0 0 n (nI i) (fun _ => 0) (il_c0 i) (fun _ => 0) (fun _ => 0) (fun _ => 0) (fun _ => 0) (fun _ => 0) (fun _ => 0) (fun _ => 0) (fun _ => 0)) 12 ?_ ?_
  · intro n
    refine pk_le 12 12 (fun _ => ?_) (fun z => absurd z (by omega))
    refine il_lp (fun n i => wX_init_111 post mc ms 10 184 0 0 0 0 n (nI i) (fun _ => 0) (il_c0 12) (il_n0 i) (fun _ => 0) (fun _ => 0) (fun _ => 0) (fun _ => 0) (fun _ => 0) (fun _ => 0) (fun _ => 0)) 8 ?_ ?_
    · intro n
      refine pk_le 8 8 (fun _ => H _ ⟨0, 0, rfl, rfl, rfl, rfl, by omega, by omega, ⟨by omega, by omega, fun k h1 h2 => absurd h2 (Nat.not_lt_zero k), fun e => ?_, fun q hq k h1 h2 e => ?_⟩, rfl, rfl, by omega, fun j hj => absurd hj (Nat.not_lt_zero j)⟩) (fun z => absurd z (by omega))
      · rw [il_n0_v (by omega)] at e
        exact absurd e (il_neg (by omega))
      · rw [il_n0_v hq] at e
        exact il_neg h2 e
    · intro n i hi hw
      refine pk_le 8 i (fun z => absurd z (by omega)) (fun _ => ⟨pk_in i 8 hi, ?_⟩)
      rw [nI_clamp (show i < 2 ^ 31 by omega)]
      exact nm_e (nm_r (nI_1 i) hw)
  · intro n i hi hw
    refine pk_le 12 i (fun z => absurd z (by omega)) (fun _ => And.intro (pk_in i 12 hi) ?_)
    rw [nI_clamp (show i < 2 ^ 31 by omega)]
    exact nm_e (nm_r (nI_1 i) hw)
theorem i_vc (xs : Nat → Int32) (L : Nat) (hL : L ≤ 260) : wpL_law (fun r => r = 1) L xs := by
  unfold wpL_law
  refine ⟨10, 184, by omega, by omega, ?_⟩
  refine il_init (by omega) (by omega) (fun u qx => ?_)
  obtain ⟨f0, f1, f2, f3, a1, a2, a3, a4, a5, a6, a7, a8, a9, a10⟩ := u
  refine ⟨by omega, by omega, 10, 184, by omega, by omega, ?_⟩
  refine il_init (by omega) (by omega) (fun u qy => ?_)
  obtain ⟨g0, g1, g2, g3, b1, b2, b3, b4, b5, b6, b7, b8, b9, b10⟩ := u
  refine ⟨L + 1, il_main hL (L + 1) 0 _ _ _ _ _ _ _ _ _ _ _ _ _ _ _ _ _ _ _ _ _ _ _ _ _ _ _ _ _ _ _ _ (by omega) (by omega) (by omega) ⟨_, _, 0, _, _, _, qx, qy, rfl, fun t ht => ?_, fun j hj => absurd hj (Nat.not_lt_zero j)⟩⟩
  rw [il_bt_0, il_c0_v ht, decide_eq_true rfl]
  rfl
end
