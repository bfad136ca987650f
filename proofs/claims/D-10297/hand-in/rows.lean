section
/-- an array of naturals, as ints -/
def mr_cv (K : Nat → Nat) : Nat → Int32 := fun i => nI (K i)
/-- a store into it -/
def mr_un (K : Nat → Nat) (j v : Nat) : Nat → Nat := fun i => if i = j then v else K i
theorem mr_us {K : Nat → Nat} {j v : Nat} : mr_un K j v j = v := if_pos rfl
theorem mr_ne {K : Nat → Nat} {j v i : Nat} (h : i ≠ j) : mr_un K j v i = K i := if_neg h
theorem mr_b : ∀ v, v < 128 → (nI v).toInt8.toInt32 = nI v := by decide +kernel
theorem mr_nb {v : Nat} (h : v < 128) : vp_nar .byte (nI v) = nI v := by
  rw [vp_nar_byte]
  exact mr_b v h
theorem mr_upd (K : Nat → Nat) (j v : Nat) : upd (mr_cv K) j (nI v) = mr_cv (mr_un K j v) := by
  funext i
  unfold upd mr_cv mr_un
  by_cases e : i = j
  · rw [if_pos e, if_pos e]
  · rw [if_neg e, if_neg e]
/-- a place read -/
theorem mr_rd {K : Nat → Nat} {x : Int32} (j : Nat) (hx : x = nI j := by rfl) (hj : j < 2 ^ 31 := by omega) : mr_cv K x.toNatClampNeg = nI (K j) := by
  subst hx
  rw [nI_clamp hj]
  rfl
/-- a place of an array of ints read -/
theorem mr_ri {K : Nat → Int32} {x : Int32} (j : Nat) (hx : x = nI j := by rfl) (hj : j < 2 ^ 31 := by omega) : K x.toNatClampNeg = K j := by
  subst hx
  rw [nI_clamp hj]
/-- a place written -/
theorem mr_up {K : Nat → Nat} {x w : Int32} (j v : Nat) (hw : w = nI v) (hx : x = nI j := by rfl) (hj : j < 2 ^ 31 := by omega) : upd (mr_cv K) x.toNatClampNeg w = mr_cv (mr_un K j v) := by
  subst hx hw
  rw [nI_clamp hj]
  exact mr_upd K j v
theorem mr_ui {K : Nat → Int32} {x w : Int32} (j : Nat) (v : Int32) (hw : w = v) (hx : x = nI j := by rfl) (hj : j < 2 ^ 31 := by omega) : upd K x.toNatClampNeg w = upd K j v := by
  subst hx hw
  rw [nI_clamp hj]
/-- .. through a narrowing -/
theorem mr_un8 {w : Int32} {v : Nat} (hw : w = nI v) (hv : v < 128) : vp_nar .byte w = nI v := by
  subst hw
  exact mr_nb hv
theorem mr_i8 {w : Int32} {v : Nat} (hw : w = nI v) (hv : v < 128) : w.toInt8.toInt32 = nI v := by
  subst hw
  exact mr_b v hv
theorem mr_5 (i p : Nat) : (5 : Int32) * nI i + nI p = nI (5 * i + p) := by
  rw [show (5 : Int32) = nI 5 from rfl, pk_mul, nI_add]
theorem mr_16 (i p : Nat) : (16 : Int32) * nI i + nI p = nI (16 * i + p) := by
  rw [show (16 : Int32) = nI 16 from rfl, pk_mul, nI_add]
/-- a counter that runs down to -1: one more than it holds -/
def mr_dn : Nat → Int32 | 0 => -1 | d + 1 => nI d
theorem mr_dn1 (d : Nat) : nI d + (-1) = mr_dn d := by
  cases d with
  | zero => rfl
  | succ d => exact pk_m1 d
-- how two values are put together
def mr_cb (rd : Nat) (a b : Int32) : Int32 := if rd = 1 then (if a ≤ b then b else a) else if rd = 2 then (if b ≤ a then b else a) else a + b
theorem mr_max (a b c : Int32) : (if (if a ≤ b then b else a) ≤ c then c else (if a ≤ b then b else a)) = (if a ≤ (if b ≤ c then c else b) then (if b ≤ c then c else b) else a) := by
  by_cases h1 : a ≤ b <;> by_cases h2 : b ≤ c <;> by_cases h3 : a ≤ c <;> simp only [h1, h2, h3, if_true, if_false] <;> (rw [Int32.le_iff_toInt_le] at h1 h2 h3; omega)
theorem mr_min (a b c : Int32) : (if c ≤ (if b ≤ a then b else a) then c else (if b ≤ a then b else a)) = (if (if c ≤ b then c else b) ≤ a then (if c ≤ b then c else b) else a) := by
  by_cases h1 : b ≤ a <;> by_cases h2 : c ≤ b <;> by_cases h3 : c ≤ a <;> simp only [h1, h2, h3, if_true, if_false] <;> (rw [Int32.le_iff_toInt_le] at h1 h2 h3; omega)
theorem mr_cb1 {rd : Nat} (h : rd = 1) (a b : Int32) : mr_cb rd a b = if a ≤ b then b else a := if_pos h
theorem mr_cb2 {rd : Nat} (h1 : rd ≠ 1) (h : rd = 2) (a b : Int32) : mr_cb rd a b = if b ≤ a then b else a := (if_neg h1).trans (if_pos h)
theorem mr_cb3 {rd : Nat} (h1 : rd ≠ 1) (h : rd ≠ 2) (a b : Int32) : mr_cb rd a b = a + b := (if_neg h1).trans (if_neg h)
theorem mr_assoc (rd : Nat) (a b c : Int32) : mr_cb rd (mr_cb rd a b) c = mr_cb rd a (mr_cb rd b c) := by
  by_cases h1 : rd = 1
  · rw [mr_cb1 h1, mr_cb1 h1, mr_cb1 h1, mr_cb1 h1]
    exact mr_max a b c
  · by_cases h2 : rd = 2
    · rw [mr_cb2 h1 h2, mr_cb2 h1 h2, mr_cb2 h1 h2, mr_cb2 h1 h2]
      exact mr_min a b c
    · rw [mr_cb3 h1 h2, mr_cb3 h1 h2, mr_cb3 h1 h2, mr_cb3 h1 h2]
      exact Int32.add_assoc a b c
/-- a group's result, and whether it has begun -/
def mr_ro (rd : Nat) : Option Int32 → Int32 | none => (if rd = 4 then 7 else 0) | some r => r
def mr_bo : Option Int32 → Int32 | none => 0 | some _ => 1
/-- one more value of a group -/
def mr_sx (rd : Nat) : Option Int32 → Int32 → Option Int32
  | none, w => some (if rd = 4 then 31 * 7 + w else w)
  | some r, w => some (if rd = 4 then 31 * r + w else mr_cb rd r w)
theorem mr_sx4 {rd : Nat} (h : rd = 4) (acc : Option Int32) (w : Int32) : mr_ro rd (mr_sx rd acc w) = 31 * mr_ro rd acc + w := by
  subst h
  cases acc <;> rfl
theorem mr_sx0 {rd : Nat} (h : rd ≠ 4) (w : Int32) : mr_ro rd (mr_sx rd none w) = w := by
  simp only [mr_sx, mr_ro, h, if_false]
theorem mr_sxs {rd : Nat} (h : rd ≠ 4) (r w : Int32) : mr_ro rd (mr_sx rd (some r) w) = mr_cb rd r w := by
  simp only [mr_sx, mr_ro, h, if_false]
theorem mr_sxb {rd : Nat} (acc : Option Int32) (w : Int32) : mr_bo (mr_sx rd acc w) = 1 := by
  cases acc <;> rfl
theorem mr_sxi {rd : Nat} (acc : Option Int32) (w : Int32) : (mr_sx rd acc w).isSome = true := by
  cases acc <;> rfl
theorem mr_sx2 {rd : Nat} (h : rd ≠ 4) (acc : Option Int32) (a b : Int32) : mr_sx rd (mr_sx rd acc a) b = mr_sx rd acc (mr_cb rd a b) := by
  cases acc with
  | none => simp only [mr_sx, h, if_false]
  | some r => simp only [mr_sx, h, if_false, mr_assoc]
/-- a pair comes by: group k takes it if it is its own -/
def mr_s1 (rd k k' : Nat) (w : Int32) (acc : Option Int32) : Option Int32 := if k' = k then mr_sx rd acc w else acc
theorem mr_s1_t {rd k k' : Nat} {w : Int32} {acc : Option Int32} (h : k' = k) : mr_s1 rd k k' w acc = mr_sx rd acc w := if_pos h
theorem mr_s1_f {rd k k' : Nat} {w : Int32} {acc : Option Int32} (h : k' ≠ k) : mr_s1 rd k k' w acc = acc := if_neg h
/-- group k over the n pairs from place lo on -/
def mr_f1 (rd k : Nat) (K : Nat → Nat) (v : Nat → Int32) (acc : Option Int32) (lo : Nat) : Nat → Option Int32
  | 0 => acc
  | n + 1 => mr_s1 rd k (K (lo + n)) (v (lo + n)) (mr_f1 rd k K v acc lo n)
theorem mr_f1_add {rd k : Nat} {K : Nat → Nat} {v : Nat → Int32} (acc : Option Int32) (lo m n : Nat) : mr_f1 rd k K v acc lo (m + n) = mr_f1 rd k K v (mr_f1 rd k K v acc lo m) (lo + m) n := by
  induction n with
  | zero => rfl
  | succ n ih =>
    show mr_s1 rd k (K (lo + (m + n))) (v (lo + (m + n))) (mr_f1 rd k K v acc lo (m + n)) = mr_s1 rd k (K (lo + m + n)) (v (lo + m + n)) (mr_f1 rd k K v (mr_f1 rd k K v acc lo m) (lo + m) n)
    rw [ih, Nat.add_assoc]
theorem mr_f1_cut {rd k : Nat} {K : Nat → Nat} {v : Nat → Int32} (acc : Option Int32) (a b c : Nat) (h1 : a ≤ b) (h2 : b ≤ c) : mr_f1 rd k K v acc a (c - a) = mr_f1 rd k K v (mr_f1 rd k K v acc a (b - a)) b (c - b) := by
  have e : c - a = (b - a) + (c - b) := by omega
  rw [e, mr_f1_add, show a + (b - a) = b by omega]
theorem mr_f1_congr {rd k : Nat} {K K' : Nat → Nat} {v v' : Nat → Int32} (acc : Option Int32) (lo lo' n : Nat) (h : ∀ j, j < n → K (lo + j) = K' (lo' + j) ∧ v (lo + j) = v' (lo' + j)) : mr_f1 rd k K v acc lo n = mr_f1 rd k K' v' acc lo' n := by
  induction n with
  | zero => rfl
  | succ n ih =>
    show mr_s1 rd k (K (lo + n)) (v (lo + n)) (mr_f1 rd k K v acc lo n) = mr_s1 rd k (K' (lo' + n)) (v' (lo' + n)) (mr_f1 rd k K' v' acc lo' n)
    rw [ih (fun j hj => h j (by omega)), (h n (by omega)).1, (h n (by omega)).2]
theorem mr_f1_skip {rd k : Nat} {K : Nat → Nat} {v : Nat → Int32} (acc : Option Int32) (lo n : Nat) (h : ∀ j, lo ≤ j → j < lo + n → K j ≠ k) : mr_f1 rd k K v acc lo n = acc := by
  induction n with
  | zero => rfl
  | succ n ih =>
    show mr_s1 rd k (K (lo + n)) (v (lo + n)) (mr_f1 rd k K v acc lo n) = acc
    rw [mr_s1_f (h (lo + n) (by omega) (by omega)), ih (fun j h1 h2 => h j h1 (by omega))]
/-- only a window of the run holds the key -/
theorem mr_f1_win {rd k : Nat} {K : Nat → Nat} {v : Nat → Int32} (acc : Option Int32) (a b c d : Nat) (h1 : a ≤ b) (h2 : b ≤ c) (h3 : c ≤ d) (hl : ∀ j, a ≤ j → j < b → K j ≠ k) (hr : ∀ j, c ≤ j → j < d → K j ≠ k) : mr_f1 rd k K v acc a (d - a) = mr_f1 rd k K v acc b (c - b) := by
  rw [mr_f1_cut acc a b d h1 (by omega), mr_f1_skip acc a (b - a) (fun j x y => hl j x (by omega)), mr_f1_cut acc b c d h2 h3, mr_f1_skip _ c (d - c) (fun j x y => hr j x (by omega))]
/-- a group is there if a pair has its key -/
theorem mr_f1_some {rd k : Nat} {K : Nat → Nat} {v : Nat → Int32} (acc : Option Int32) (lo n : Nat) : (mr_f1 rd k K v acc lo n).isSome = true ↔ (acc.isSome = true ∨ ∃ j, lo ≤ j ∧ j < lo + n ∧ K j = k) := by
  induction n with
  | zero => exact ⟨fun h => Or.inl h, fun h => h.elim id (fun ⟨j, a, b, _⟩ => absurd b (by omega))⟩
  | succ n ih =>
    show (mr_s1 rd k (K (lo + n)) (v (lo + n)) (mr_f1 rd k K v acc lo n)).isSome = true ↔ _
    by_cases e : K (lo + n) = k
    · rw [mr_s1_t e, mr_sxi]
      exact ⟨fun _ => Or.inr ⟨lo + n, by omega, by omega, e⟩, fun _ => rfl⟩
    · rw [mr_s1_f e, ih]
      refine ⟨fun h => h.elim Or.inl (fun ⟨j, a, b, c⟩ => Or.inr ⟨j, a, by omega, c⟩), fun h => h.elim Or.inl (fun ⟨j, a, b, c⟩ => Or.inr ⟨j, a, ?_, c⟩)⟩
      rcases Nat.lt_or_ge j (lo + n) with z | z
      · exact z
      · exact absurd (show K (lo + n) = k by rw [show lo + n = j by omega]; exact c) e
/-- two neighbours of different keys change places -/
theorem mr_s1_swap {rd k a b : Nat} {x y : Int32} (h : a ≠ b) (acc : Option Int32) : mr_s1 rd k a x (mr_s1 rd k b y acc) = mr_s1 rd k b y (mr_s1 rd k a x acc) := by
  by_cases ha : a = k
  · have hb : b ≠ k := fun e => h (ha.trans e.symm)
    rw [mr_s1_f hb, mr_s1_f hb]
  · rw [mr_s1_f ha, mr_s1_f ha]
theorem mr_f1_swap {rd k : Nat} {K K' : Nat → Nat} {v v' : Nat → Int32} (acc : Option Int32) (a n : Nat) (hn : a + 1 < n) (h1 : K' a = K (a + 1)) (h2 : K' (a + 1) = K a) (g1 : v' a = v (a + 1)) (g2 : v' (a + 1) = v a)
    (ho : ∀ j, j < n → j ≠ a → j ≠ a + 1 → K' j = K j ∧ v' j = v j) (hd : K a ≠ K (a + 1)) : mr_f1 rd k K' v' acc 0 n = mr_f1 rd k K v acc 0 n := by
  obtain ⟨r, rfl⟩ : ∃ r, n = (a + 2) + r := ⟨n - (a + 2), by omega⟩
  rw [mr_f1_add acc 0 (a + 2) r, mr_f1_add acc 0 (a + 2) r]
  have e : mr_f1 rd k K' v' acc 0 (a + 2) = mr_f1 rd k K v acc 0 (a + 2) := by
    show mr_s1 rd k (K' (0 + (a + 1))) (v' (0 + (a + 1))) (mr_s1 rd k (K' (0 + a)) (v' (0 + a)) (mr_f1 rd k K' v' acc 0 a)) = mr_s1 rd k (K (0 + (a + 1))) (v (0 + (a + 1))) (mr_s1 rd k (K (0 + a)) (v (0 + a)) (mr_f1 rd k K v acc 0 a))
    rw [Nat.zero_add, Nat.zero_add, h1, h2, g1, g2, mr_s1_swap hd, mr_f1_congr acc 0 0 a (fun j hj => ho (0 + j) (by omega) (by omega) (by omega))]
  rw [e]
  exact mr_f1_congr _ _ _ r (fun j hj => ho (0 + (a + 2) + j) (by omega) (by omega) (by omega))
end
section
-- the order of a spill: by part, then by key
def mr_od (pc k : Nat) : Nat := 16 * (k % pc) + k
theorem mr_od_ne {pc a b : Nat} (h : mr_od pc a < mr_od pc b) : b ≠ a := fun e => by
  rw [e] at h
  omega
theorem mr_od_part {pc a b : Nat} (h : mr_od pc a ≤ mr_od pc b) (hb : b < 16) : a % pc ≤ b % pc := by
  unfold mr_od at h
  omega
theorem mr_od_key {pc a b : Nat} (h : mr_od pc a ≤ mr_od pc b) (hp : a % pc = b % pc) : a ≤ b := by
  unfold mr_od at h
  omega
/-- the place at which the parts below q end, in a run sorted by f -/
def mr_bd (f : Nat → Nat) (q : Nat) : Nat → Nat
  | 0 => 0
  | n + 1 => mr_bd f q n + (if f n < q then 1 else 0)
theorem mr_bd_le (f : Nat → Nat) (q n : Nat) : mr_bd f q n ≤ n := by
  induction n with
  | zero => exact Nat.le_refl 0
  | succ n ih =>
    show mr_bd f q n + (if f n < q then 1 else 0) ≤ n + 1
    split <;> omega
theorem mr_bd_iff {f : Nat → Nat} {q n : Nat} (h : ∀ i j, i ≤ j → j < n → f i ≤ f j) : ∀ j, j < n → (f j < q ↔ j < mr_bd f q n) := by
  induction n with
  | zero => exact fun j hj => absurd hj (by omega)
  | succ n ih =>
    have ih' := ih (fun i j a b => h i j a (by omega))
    have hle := mr_bd_le f q n
    intro j hj
    show f j < q ↔ j < mr_bd f q n + (if f n < q then 1 else 0)
    by_cases e : f n < q
    · have all : mr_bd f q n = n := by
        rcases Nat.lt_or_ge (mr_bd f q n) n with z | z
        · have h1 := h (mr_bd f q n) n (by omega) (by omega)
          have h2 := (ih' (mr_bd f q n) z).mp (by omega)
          omega
        · omega
      have h3 := h j n (by omega) (by omega)
      rw [if_pos e, all]
      exact ⟨fun _ => hj, fun _ => by omega⟩
    · rw [if_neg e, Nat.add_zero]
      rcases Nat.lt_or_ge j n with z | z
      · exact ih' j z
      · have ej : j = n := by omega
        rw [ej]
        exact ⟨fun g => absurd g e, fun g => absurd g (by omega)⟩
theorem mr_bd_0 (f : Nat → Nat) (n : Nat) : mr_bd f 0 n = 0 := by
  induction n with
  | zero => rfl
  | succ n ih =>
    show mr_bd f 0 n + (if f n < 0 then 1 else 0) = 0
    rw [ih, if_neg (by omega)]
theorem mr_bd_all {f : Nat → Nat} {q n : Nat} (h : ∀ j, j < n → f j < q) : mr_bd f q n = n := by
  induction n with
  | zero => rfl
  | succ n ih =>
    show mr_bd f q n + (if f n < q then 1 else 0) = n + 1
    rw [ih (fun j hj => h j (by omega)), if_pos (h n (by omega))]
theorem mr_bd_mono (f : Nat → Nat) (q n : Nat) : mr_bd f q n ≤ mr_bd f (q + 1) n := by
  induction n with
  | zero => exact Nat.le_refl 0
  | succ n ih =>
    show mr_bd f q n + (if f n < q then 1 else 0) ≤ mr_bd f (q + 1) n + (if f n < q + 1 then 1 else 0)
    by_cases e : f n < q
    · rw [if_pos e, if_pos (by omega)]
      omega
    · rw [if_neg e]
      omega
/-- the spills: sc of them, se pairs in all; spill t lies from SB t to SB (t+1), its part q begins at PS (5 t + q) -/
def mr_sp (pc sc se : Nat) (SK PS SB : Nat → Nat) : Prop :=
  SB 0 = 0 ∧ SB sc = se ∧ (∀ t, t < sc → SB t ≤ SB (t + 1)) ∧
  (∀ t, t < sc → ∀ q, q ≤ 4 → SB t ≤ PS (5 * t + q) ∧ PS (5 * t + q) ≤ SB (t + 1)) ∧
  (∀ t, t < sc → ∀ q, q ≤ 4 → ∀ j, SB t ≤ j → j < SB (t + 1) → (SK j % pc < q ↔ j < PS (5 * t + q))) ∧
  (∀ t, t < sc → ∀ i j, SB t ≤ i → i ≤ j → j < SB (t + 1) → mr_od pc (SK i) ≤ mr_od pc (SK j)) ∧
  (∀ j, j < se → SK j < 16)
theorem mr_sp_up {SB : Nat → Nat} {sc : Nat} (h : ∀ t, t < sc → SB t ≤ SB (t + 1)) : ∀ d t, t + d ≤ sc → SB t ≤ SB (t + d) := by
  intro d
  induction d with
  | zero => exact fun t _ => Nat.le_refl _
  | succ d ih =>
    intro t ht
    exact Nat.le_trans (ih t (by omega)) (h (t + d) (by omega))
theorem mr_sp_le {pc sc se t : Nat} {SK PS SB : Nat → Nat} (h : mr_sp pc sc se SK PS SB) (ht : t ≤ sc) : SB t ≤ se := by
  have h1 := mr_sp_up h.2.2.1 (sc - t) t (by omega)
  rw [show t + (sc - t) = sc by omega, h.2.1] at h1
  exact h1
theorem mr_sp_ps {pc sc se : Nat} {SK PS SB : Nat → Nat} (h : mr_sp pc sc se SK PS SB) {j : Nat} (hj : j < 5 * sc) : PS j ≤ se := by
  have h1 := (h.2.2.2.1 (j / 5) (by omega) (j % 5) (by omega)).2
  rw [show 5 * (j / 5) + j % 5 = j by omega] at h1
  exact Nat.le_trans h1 (mr_sp_le h (by omega))
theorem mr_sp_mono {pc sc se t q : Nat} {SK PS SB : Nat → Nat} (h : mr_sp pc sc se SK PS SB) (ht : t < sc) (hq : q < 4) : PS (5 * t + q) ≤ PS (5 * t + q + 1) := by
  obtain ⟨_, _, _, h4, h5, _, _⟩ := h
  have a := h4 t ht q (by omega)
  have b := h4 t ht (q + 1) (by omega)
  rw [← Nat.add_assoc] at b
  rcases Nat.lt_or_ge (PS (5 * t + q + 1)) (PS (5 * t + q)) with z | z
  · have c := (h5 t ht q (by omega) (PS (5 * t + q + 1)) b.1 (by omega)).mpr z
    have d := (h5 t ht (q + 1) (by omega) (PS (5 * t + q + 1)) b.1 (by omega)).mp (by omega)
    rw [← Nat.add_assoc] at d
    omega
  · exact z
/-- the pairs of part p in spill t -/
theorem mr_sp_part {pc sc se t p j : Nat} {SK PS SB : Nat → Nat} (h : mr_sp pc sc se SK PS SB) (ht : t < sc) (hp : p < 4) (h1 : PS (5 * t + p) ≤ j) (h2 : j < PS (5 * t + p + 1)) : SK j % pc = p := by
  obtain ⟨_, _, _, h4, h5, _, _⟩ := h
  have a := h4 t ht p (by omega)
  have b := h4 t ht (p + 1) (by omega)
  have c := h5 t ht p (by omega) j (by omega) (by rw [← Nat.add_assoc] at b; omega)
  have d := (h5 t ht (p + 1) (by omega) j (by omega) (by rw [← Nat.add_assoc] at b; omega)).mpr (by rw [← Nat.add_assoc]; exact h2)
  omega
theorem mr_sp_out {pc sc se t p j : Nat} {SK PS SB : Nat → Nat} (h : mr_sp pc sc se SK PS SB) (ht : t < sc) (hp : p < 4) (h0 : SB t ≤ j) (h3 : j < SB (t + 1)) (hn : j < PS (5 * t + p) ∨ PS (5 * t + p + 1) ≤ j) : SK j % pc ≠ p := by
  obtain ⟨_, _, _, h4, h5, _, _⟩ := h
  have c := h5 t ht p (by omega) j h0 h3
  have d := h5 t ht (p + 1) (by omega) j h0 h3
  rw [← Nat.add_assoc] at d
  omega
theorem mr_sp_sort {pc sc se t p i j : Nat} {SK PS SB : Nat → Nat} (h : mr_sp pc sc se SK PS SB) (ht : t < sc) (hp : p < 4) (h1 : PS (5 * t + p) ≤ i) (hij : i ≤ j) (h2 : j < PS (5 * t + p + 1)) : SK i ≤ SK j := by
  have e1 := mr_sp_part h ht hp h1 (by omega)
  have e2 := mr_sp_part h ht hp (by omega) h2
  have a := h.2.2.2.1 t ht p (by omega)
  have b := h.2.2.2.1 t ht (p + 1) (by omega)
  rw [← Nat.add_assoc] at b
  exact mr_od_key (h.2.2.2.2.2.1 t ht i j (by omega) hij (by omega)) (by omega)
/-- a pair lies in some spill -/
theorem mr_sp_find {SB : Nat → Nat} : ∀ (n : Nat) (j : Nat), SB 0 ≤ j → j < SB n → ∃ t, t < n ∧ SB t ≤ j ∧ j < SB (t + 1) := by
  intro n
  induction n with
  | zero => exact fun j a b => absurd b (by omega)
  | succ n ih =>
    intro j a b
    rcases Nat.lt_or_ge j (SB n) with z | z
    · obtain ⟨t, h1, h2, h3⟩ := ih j a z
      exact ⟨t, by omega, h2, h3⟩
    · exact ⟨n, by omega, z, b⟩
/-- a pair of part p, seen in its spill's part -/
theorem mr_sp_at {pc sc se p j : Nat} {SK PS SB : Nat → Nat} (h : mr_sp pc sc se SK PS SB) (hp : p < 4) (hj : j < se) (hk : SK j % pc = p) : ∃ t, t < sc ∧ PS (5 * t + p) ≤ j ∧ j < PS (5 * t + p + 1) := by
  obtain ⟨t, h1, h2, h3⟩ := mr_sp_find (SB := SB) sc j (by rw [h.1]; omega) (by rw [h.2.1]; exact hj)
  refine ⟨t, h1, ?_, ?_⟩
  · rcases Nat.lt_or_ge j (PS (5 * t + p)) with z | z
    · exact absurd hk (mr_sp_out h h1 hp h2 h3 (Or.inl z))
    · exact z
  · rcases Nat.lt_or_ge j (PS (5 * t + p + 1)) with z | z
    · exact z
    · exact absurd hk (mr_sp_out h h1 hp h2 h3 (Or.inr z))
theorem mr_sp_in {pc sc se t p j : Nat} {SK PS SB : Nat → Nat} (h : mr_sp pc sc se SK PS SB) (ht : t < sc) (hp : p < 4) (h2 : j < PS (5 * t + p + 1)) : j < se := by
  have := mr_sp_ps h (j := 5 * t + p + 1) (by omega)
  omega
theorem mr_sp_congr {pc sc se : Nat} {SK PS SB SK' PS' : Nat → Nat} (h : mr_sp pc sc se SK PS SB) (h1 : ∀ j, j < se → SK' j = SK j) (h2 : ∀ j, j < 5 * sc → PS' j = PS j) : mr_sp pc sc se SK' PS' SB := by
  have hle : ∀ t, t < sc → SB (t + 1) ≤ se := fun t ht => mr_sp_le h (by omega)
  obtain ⟨a1, a2, a3, a4, a5, a6, a7⟩ := h
  refine ⟨a1, a2, a3, fun t ht q hq => ?_, fun t ht q hq j x y => ?_, fun t ht i j x y z => ?_, fun j hj => ?_⟩
  · rw [h2 _ (by omega)]
    exact a4 t ht q hq
  · have := hle t ht
    rw [h2 _ (by omega), h1 j (by omega)]
    exact a5 t ht q hq j x y
  · have := hle t ht
    rw [h1 i (by omega), h1 j (by omega)]
    exact a6 t ht i j x y z
  · rw [h1 j hj]
    exact a7 j hj
theorem mr_sp_0 (pc : Nat) (SK PS : Nat → Nat) : mr_sp pc 0 0 SK PS (fun _ => 0) :=
  ⟨rfl, rfl, fun t ht => absurd ht (by omega), fun t ht => absurd ht (by omega), fun t ht => absurd ht (by omega), fun t ht => absurd ht (by omega), fun j hj => absurd hj (by omega)⟩
/-- a spill behind the others: the sorted buffer BK, n pairs -/
theorem mr_sp_add {pc sc se n : Nat} {SK PS SB SK' PS' BK : Nat → Nat} (h : mr_sp pc sc se SK PS SB) (h1 : ∀ j, j < se → SK' j = SK j) (h2 : ∀ j, j < 5 * sc → PS' j = PS j)
    (hk : ∀ j, j < n → SK' (se + j) = BK j) (h16 : ∀ j, j < n → BK j < 16) (hs : ∀ i j, i ≤ j → j < n → mr_od pc (BK i) ≤ mr_od pc (BK j)) (hpc : 0 < pc) (hpc4 : pc ≤ 4)
    (hp : ∀ q, q ≤ 4 → PS' (5 * sc + q) = se + mr_bd (fun j => BK j % pc) q n) :
    mr_sp pc (sc + 1) (se + n) SK' PS' (mr_un SB (sc + 1) (se + n)) := by
  have hc := mr_sp_congr h h1 h2
  have hE := h.2.1
  have hm : ∀ i j, i ≤ j → j < n → BK i % pc ≤ BK j % pc := fun i j a b => mr_od_part (hs i j a b) (h16 j b)
  have e0 : ∀ t, t ≤ sc → mr_un SB (sc + 1) (se + n) t = SB t := fun t ht => mr_ne (by omega)
  have e1 : mr_un SB (sc + 1) (se + n) (sc + 1) = se + n := mr_us
  obtain ⟨a1, a2, a3, a4, a5, a6, a7⟩ := hc
  refine ⟨(e0 0 (by omega)).trans a1, e1, fun t ht => ?_, fun t ht q hq => ?_, fun t ht q hq j x y => ?_, fun t ht i j x y z => ?_, fun j hj => ?_⟩
  · rcases Nat.lt_or_ge t sc with z | z
    · rw [e0 t (by omega), e0 (t + 1) (by omega)]
      exact a3 t z
    · have et : t = sc := by omega
      rw [et, e0 sc (by omega), e1, hE]
      omega
  · rcases Nat.lt_or_ge t sc with z | z
    · rw [e0 t (by omega), e0 (t + 1) (by omega)]
      exact a4 t z q hq
    · have et : t = sc := by omega
      have := mr_bd_le (fun j => BK j % pc) q n
      rw [et, e0 sc (by omega), e1, hE, hp q hq]
      omega
  · rcases Nat.lt_or_ge t sc with z | z
    · rw [e0 t (by omega)] at x
      rw [e0 (t + 1) (by omega)] at y
      exact a5 t z q hq j x y
    · have et : t = sc := by omega
      rw [et, e0 sc (by omega), hE] at x
      rw [et, e1] at y
      obtain ⟨i, rfl⟩ : ∃ i, j = se + i := ⟨j - se, by omega⟩
      rw [et, hp q hq, hk i (by omega)]
      have := mr_bd_iff (f := fun j => BK j % pc) (q := q) hm i (by omega)
      omega
  · rcases Nat.lt_or_ge t sc with w | w
    · rw [e0 t (by omega)] at x
      rw [e0 (t + 1) (by omega)] at z
      exact a6 t w i j x y z
    · have et : t = sc := by omega
      rw [et, e0 sc (by omega), hE] at x
      rw [et, e1] at z
      obtain ⟨i', rfl⟩ : ∃ i', i = se + i' := ⟨i - se, by omega⟩
      obtain ⟨j', rfl⟩ : ∃ j', j = se + j' := ⟨j - se, by omega⟩
      rw [hk i' (by omega), hk j' (by omega)]
      exact hs i' j' (by omega) (by omega)
  · rcases Nat.lt_or_ge j se with z | z
    · exact a7 j z
    · obtain ⟨i, rfl⟩ : ∃ i, j = se + i := ⟨j - se, by omega⟩
      rw [hk i (by omega)]
      exact h16 i (by omega)
-- the output: by part, then by key
def mr_q (pc : Nat) (F : Nat → Option Int32) (p k : Nat) : Prop := k % pc = p ∧ (F k).isSome = true
def mr_cn (pc : Nat) (F : Nat → Option Int32) (p : Nat) : Nat → Nat
  | 0 => 0
  | c + 1 => mr_cn pc F p c + (if c % pc = p ∧ (F c).isSome = true then 1 else 0)
theorem mr_cn_t {pc : Nat} {F : Nat → Option Int32} {p c : Nat} (h : mr_q pc F p c) : mr_cn pc F p (c + 1) = mr_cn pc F p c + 1 := by
  show mr_cn pc F p c + (if c % pc = p ∧ (F c).isSome = true then 1 else 0) = _
  rw [if_pos (show c % pc = p ∧ (F c).isSome = true from h)]
theorem mr_cn_f {pc : Nat} {F : Nat → Option Int32} {p c : Nat} (h : ¬ mr_q pc F p c) : mr_cn pc F p (c + 1) = mr_cn pc F p c := by
  show mr_cn pc F p c + (if c % pc = p ∧ (F c).isSome = true then 1 else 0) = _
  rw [if_neg (show ¬ (c % pc = p ∧ (F c).isSome = true) from h), Nat.add_zero]
theorem mr_cn_le {pc : Nat} {F : Nat → Option Int32} {p : Nat} : ∀ d c, mr_cn pc F p c ≤ mr_cn pc F p (c + d) := by
  intro d
  induction d with
  | zero => exact fun c => Nat.le_refl _
  | succ d ih =>
    intro c
    refine Nat.le_trans (ih c) ?_
    show mr_cn pc F p (c + d) ≤ mr_cn pc F p (c + d) + _
    omega
theorem mr_cn_eq {pc : Nat} {F : Nat → Option Int32} {p c : Nat} : ∀ d, (∀ k, c ≤ k → k < c + d → ¬ mr_q pc F p k) → mr_cn pc F p (c + d) = mr_cn pc F p c := by
  intro d
  induction d with
  | zero => exact fun _ => rfl
  | succ d ih =>
    intro h
    rw [← Nat.add_assoc, mr_cn_f (h (c + d) (by omega) (by omega)), ih (fun k a b => h k a (by omega))]
theorem mr_cn_lt {pc : Nat} {F : Nat → Option Int32} {p k c : Nat} (h : mr_q pc F p k) (hk : k < c) : mr_cn pc F p k < mr_cn pc F p c := by
  have h1 := mr_cn_le (pc := pc) (F := F) (p := p) (c - (k + 1)) (k + 1)
  rw [show k + 1 + (c - (k + 1)) = c by omega, mr_cn_t h] at h1
  omega
/-- the key at place i of a part -/
theorem mr_cn_at {pc : Nat} {F : Nat → Option Int32} {p : Nat} : ∀ c i, i < mr_cn pc F p c → ∃ k, k < c ∧ mr_q pc F p k ∧ mr_cn pc F p k = i := by
  intro c
  induction c with
  | zero => exact fun i hi => absurd hi (by show ¬ i < 0; omega)
  | succ c ih =>
    intro i hi
    rcases Nat.lt_or_ge i (mr_cn pc F p c) with z | z
    · obtain ⟨k, h1, h2, h3⟩ := ih i z
      exact ⟨k, by omega, h2, h3⟩
    · rcases Classical.em (mr_q pc F p c) with g | g
      · rw [mr_cn_t g] at hi
        exact ⟨c, by omega, g, by omega⟩
      · rw [mr_cn_f g] at hi
        omega
/-- where part p of the output begins, if the keys below c alone are counted -/
def mr_sc (pc : Nat) (F : Nat → Option Int32) (c : Nat) : Nat → Nat
  | 0 => 0
  | p + 1 => mr_sc pc F c p + mr_cn pc F p c
theorem mr_sc_0 (pc : Nat) (F : Nat → Option Int32) (P : Nat) : mr_sc pc F 0 P = 0 := by
  induction P with
  | zero => rfl
  | succ P ih =>
    show mr_sc pc F 0 P + mr_cn pc F P 0 = 0
    rw [ih]
    rfl
theorem mr_sc_s (pc : Nat) (F : Nat → Option Int32) (c P : Nat) : mr_sc pc F (c + 1) P = mr_sc pc F c P + (if c % pc < P ∧ (F c).isSome = true then 1 else 0) := by
  induction P with
  | zero => rw [if_neg (show ¬ (c % pc < 0 ∧ (F c).isSome = true) from fun g => absurd g.1 (Nat.not_lt_zero _))]; rfl
  | succ P ih =>
    show mr_sc pc F (c + 1) P + (mr_cn pc F P c + (if c % pc = P ∧ (F c).isSome = true then 1 else 0)) = mr_sc pc F c P + mr_cn pc F P c + _
    rw [ih]
    by_cases e : (F c).isSome = true
    · by_cases h1 : c % pc < P
      · rw [if_pos (show c % pc < P ∧ (F c).isSome = true from ⟨h1, e⟩), if_neg (show ¬ (c % pc = P ∧ (F c).isSome = true) from fun g => by have := g.1; omega), if_pos (show c % pc < P + 1 ∧ (F c).isSome = true from ⟨by omega, e⟩)]
        omega
      · by_cases h2 : c % pc = P
        · rw [if_neg (show ¬ (c % pc < P ∧ (F c).isSome = true) from fun g => h1 g.1), if_pos (show c % pc = P ∧ (F c).isSome = true from ⟨h2, e⟩), if_pos (show c % pc < P + 1 ∧ (F c).isSome = true from ⟨by omega, e⟩)]
          omega
        · rw [if_neg (show ¬ (c % pc < P ∧ (F c).isSome = true) from fun g => h1 g.1), if_neg (show ¬ (c % pc = P ∧ (F c).isSome = true) from fun g => h2 g.1), if_neg (show ¬ (c % pc < P + 1 ∧ (F c).isSome = true) from fun g => by have := g.1; omega)]
          omega
    · rw [if_neg (show ¬ (c % pc < P ∧ (F c).isSome = true) from fun g => e g.2), if_neg (show ¬ (c % pc = P ∧ (F c).isSome = true) from fun g => e g.2), if_neg (show ¬ (c % pc < P + 1 ∧ (F c).isSome = true) from fun g => e g.2)]
      omega
theorem mr_sc_le (pc : Nat) (F : Nat → Option Int32) (c P : Nat) : mr_sc pc F c P ≤ c := by
  induction c with
  | zero => rw [mr_sc_0]; exact Nat.le_refl 0
  | succ c ih =>
    rw [mr_sc_s]
    split <;> omega
/-- where part p of the output begins -/
def mr_st (pc : Nat) (F : Nat → Option Int32) (p : Nat) : Nat := mr_sc pc F 16 p
theorem mr_st_s (pc : Nat) (F : Nat → Option Int32) (p : Nat) : mr_st pc F (p + 1) = mr_st pc F p + mr_cn pc F p 16 := rfl
theorem mr_st_le (pc : Nat) (F : Nat → Option Int32) (p : Nat) : mr_st pc F p ≤ 16 := mr_sc_le pc F 16 p
theorem mr_st_lt {pc : Nat} {F : Nat → Option Int32} {p k : Nat} (h : mr_q pc F p k) (hk : k < 16) : mr_st pc F p + mr_cn pc F p k < 16 := by
  have h1 := mr_cn_lt h hk
  have h2 := mr_st_le pc F (p + 1)
  rw [mr_st_s] at h2
  omega
theorem mr_st_up (pc : Nat) (F : Nat → Option Int32) (d p : Nat) : mr_st pc F p ≤ mr_st pc F (p + d) := by
  induction d with
  | zero => exact Nat.le_refl _
  | succ d ih =>
    rw [← Nat.add_assoc, mr_st_s]
    omega
/-- no part beyond the last -/
theorem mr_cn_none {pc : Nat} {F : Nat → Option Int32} {p : Nat} (hp : pc ≤ p) (h0 : 0 < pc) (c : Nat) : mr_cn pc F p c = 0 := by
  have h := mr_cn_eq (pc := pc) (F := F) (p := p) (c := 0) c (fun k _ _ g => by
    have := Nat.mod_lt k h0
    have := g.1
    omega)
  rw [Nat.zero_add] at h
  exact h
/-- parts below P of the output: keys and values -/
def mr_os (pc : Nat) (F : Nat → Option Int32) (P : Nat) (OK : Nat → Nat) (ov : Nat → Int32) : Prop :=
  ∀ q, q < P → ∀ k, k < 16 → mr_q pc F q k → OK (mr_st pc F q + mr_cn pc F q k) = k ∧ some (ov (mr_st pc F q + mr_cn pc F q k)) = F k
/-- part p of the output, the keys below c -/
def mr_op (pc : Nat) (F : Nat → Option Int32) (p c : Nat) (OK : Nat → Nat) (ov : Nat → Int32) : Prop :=
  ∀ k, k < c → mr_q pc F p k → OK (mr_st pc F p + mr_cn pc F p k) = k ∧ some (ov (mr_st pc F p + mr_cn pc F p k)) = F k
theorem mr_os_keep {pc : Nat} {F : Nat → Option Int32} {P : Nat} {OK OK' : Nat → Nat} {ov ov' : Nat → Int32} (h : mr_os pc F P OK ov) (hk : ∀ j, j < mr_st pc F P → OK' j = OK j ∧ ov' j = ov j) : mr_os pc F P OK' ov' := by
  intro q hq k hk16 hqk
  have h1 := mr_cn_lt hqk hk16
  have h2 := mr_st_up pc F (P - (q + 1)) (q + 1)
  rw [show q + 1 + (P - (q + 1)) = P by omega, mr_st_s] at h2
  have h3 := hk (mr_st pc F q + mr_cn pc F q k) (by omega)
  rw [h3.1, h3.2]
  exact h q hq k hk16 hqk
theorem mr_op_add {pc : Nat} {F : Nat → Option Int32} {p c : Nat} {OK : Nat → Nat} {ov : Nat → Int32} {w : Int32} (h : mr_op pc F p c OK ov) (hw : some w = F c) : mr_op pc F p (c + 1) (mr_un OK (mr_st pc F p + mr_cn pc F p c) c) (upd ov (mr_st pc F p + mr_cn pc F p c) w) := by
  intro k hk hq
  rcases Nat.lt_or_ge k c with z | z
  · have := mr_cn_lt hq z
    rw [mr_ne (by omega), pk_un (by omega)]
    exact h k z hq
  · have e : k = c := by omega
    rw [e, mr_us, pk_us]
    exact ⟨rfl, hw⟩
theorem mr_op_up {pc : Nat} {F : Nat → Option Int32} {p c c' : Nat} {OK : Nat → Nat} {ov : Nat → Int32} (h : mr_op pc F p c OK ov) (hn : ∀ k, c ≤ k → k < c' → ¬ mr_q pc F p k) : mr_op pc F p c' OK ov := by
  intro k hk hq
  rcases Nat.lt_or_ge k c with z | z
  · exact h k z hq
  · exact absurd hq (hn k z hk)
theorem mr_os_add {pc : Nat} {F : Nat → Option Int32} {p : Nat} {OK : Nat → Nat} {ov : Nat → Int32} (h : mr_os pc F p OK ov) (ho : mr_op pc F p 16 OK ov) : mr_os pc F (p + 1) OK ov := by
  intro q hq k hk hqk
  rcases Nat.lt_or_ge q p with z | z
  · exact h q z k hk hqk
  · have e : q = p := by omega
    rw [e] at hqk ⊢
    exact ho k hk hqk
/-- the whole output -/
def mr_out (pc : Nat) (F : Nat → Option Int32) (OS OK : Nat → Nat) (ov : Nat → Int32) : Prop :=
  (∀ q, q ≤ 4 → OS q = mr_st pc F q) ∧ mr_os pc F 4 OK ov
/-- what stands at place i of part p -/
theorem mr_out_at {pc : Nat} {F : Nat → Option Int32} {OS OK OS' OK' : Nat → Nat} {ov ov' : Nat → Int32} (h : mr_out pc F OS OK ov) (h' : mr_out pc F OS' OK' ov') {p i : Nat} (hp : p < 4) (hi : i < mr_cn pc F p 16) :
    OK (mr_st pc F p + i) = OK' (mr_st pc F p + i) ∧ ov (mr_st pc F p + i) = ov' (mr_st pc F p + i) ∧ OK (mr_st pc F p + i) < 16 := by
  obtain ⟨k, h1, h2, h3⟩ := mr_cn_at 16 i hi
  have a := h.2 p hp k h1 h2
  have b := h'.2 p hp k h1 h2
  rw [h3] at a b
  refine ⟨a.1.trans b.1.symm, Option.some.inj (a.2.trans b.2.symm), ?_⟩
  rw [a.1]
  exact h1
end
section
-- the small methods
def mr_ft (MF RF : Nat → Nat) : Nat → Nat
  | 0 => 0
  | n + 1 => mr_ft MF RF n + (MF n + RF n)
theorem mr_ftc {pc bs md rd bf mp sc se oe : Nat} {fa fo lw hg : Int32} {R MF RF BK SK PS HD LM OS OK : Nat → Nat} {rk rv bv sv ov : Nat → Int32} {post : Int32 → Prop} (H : post (nI (mr_ft MF RF 4))) : wpX_failuresToCome post (nI pc, nI bs, nI md, fa, fo, lw, hg, nI rd, nI bf, nI mp, nI sc, nI se, nI oe, mr_cv R, rk, rv, mr_cv MF, mr_cv RF, mr_cv BK, bv, mr_cv SK, sv, mr_cv PS, mr_cv HD, mr_cv LM, mr_cv OS, mr_cv OK, ov) :=
  pk_loop (fun n i s => wX_failuresToCome_4 post (nI pc) (nI bs) (nI md) fa fo lw hg (nI rd) (nI bf) (nI mp) (nI sc) (nI se) (nI oe) (mr_cv R) rk rv (mr_cv MF) (mr_cv RF) (mr_cv BK) bv (mr_cv SK) sv (mr_cv PS) (mr_cv HD) (mr_cv LM) (mr_cv OS) (mr_cv OK) ov n s (nI i)) (fun i s => s = nI (mr_ft MF RF i)) 4 0 (nI 0) (by omega) rfl
    (fun n s h => pk_le 4 4 (fun _ => h ▸ H) (fun z => absurd z (by omega)))
    (fun n i s hi h hw => pk_le 4 i (fun z => absurd z (by omega)) (fun _ => ⟨pk_in i 4 hi, pk_in i 4 hi, nm_e (nm_r (nI_1 i) (hw _ (by
      rw [h, mr_rd i, mr_rd i, nI_add, nI_add]
      rfl)))⟩))
theorem mr_open {pc bs md rd bf mp sc se oe : Nat} {fa fo lw hg : Int32} {R MF RF BK SK PS HD LM OS OK : Nat → Nat} {rk rv bv sv ov : Nat → Int32} {post : St2 → Prop} {p : Nat} (hsc : sc ≤ 32) (hp : p < 4) (hPS : ∀ j, j < 5 * sc → PS j < 128)
    (H : ∀ HD' LM' : Nat → Nat, (∀ t, t < sc → HD' t = PS (5 * t + p) ∧ LM' t = PS (5 * t + p + 1)) → post (nI pc, nI bs, nI md, fa, fo, lw, hg, nI rd, nI bf, nI mp, nI sc, nI se, nI oe, mr_cv R, rk, rv, mr_cv MF, mr_cv RF, mr_cv BK, bv, mr_cv SK, sv, mr_cv PS, mr_cv HD', mr_cv LM', mr_cv OS, mr_cv OK, ov)) : wpX_openSpills post (nI pc, nI bs, nI md, fa, fo, lw, hg, nI rd, nI bf, nI mp, nI sc, nI se, nI oe, mr_cv R, rk, rv, mr_cv MF, mr_cv RF, mr_cv BK, bv, mr_cv SK, sv, mr_cv PS, mr_cv HD, mr_cv LM, mr_cv OS, mr_cv OK, ov) (nI p) :=
  pk_loop (σ := (Nat → Nat) × (Nat → Nat)) (fun n i s => wX_openSpills_2 post (nI p) (nI pc) (nI bs) (nI md) fa fo lw hg (nI rd) (nI bf) (nI mp) (nI sc) (nI se) (nI oe) n (nI i) (mr_cv R) rk rv (mr_cv MF) (mr_cv RF) (mr_cv BK) bv (mr_cv SK) sv (mr_cv PS) (mr_cv s.1) (mr_cv s.2) (mr_cv OS) (mr_cv OK) ov) (fun i s => ∀ t, t < i → s.1 t = PS (5 * t + p) ∧ s.2 t = PS (5 * t + p + 1)) sc 0 (HD, LM) (by omega) (fun t ht => absurd ht (by omega))
    (fun n s h => pk_le sc sc (fun _ => H s.1 s.2 h) (fun z => absurd z (by omega)))
    (fun n i s hi h hw => pk_le sc i (fun z => absurd z (by omega)) (fun _ => by
      have e1 : (5 : Int32) * nI i + nI p = nI (5 * i + p) := mr_5 i p
      have e2 : (5 : Int32) * nI i + nI p + 1 = nI (5 * i + p + 1) := by rw [e1, nI_1]
      refine ⟨pk_in (5 * i + p) 160 (by omega) e1, pk_in i 32 (by omega), nm_r (mr_up i (PS (5 * i + p)) (mr_un8 (mr_rd (5 * i + p) e1) (hPS _ (by omega)))) ?_⟩
      refine ⟨pk_in (5 * i + p + 1) 160 (by omega) e2, pk_in i 32 (by omega), nm_r (mr_up i (PS (5 * i + p + 1)) (mr_un8 (mr_rd (5 * i + p + 1) e2) (hPS _ (by omega)))) (nm_r (nI_1 i) ?_)⟩
      refine hw (mr_un s.1 i (PS (5 * i + p)), mr_un s.2 i (PS (5 * i + p + 1))) (fun t ht => ?_)
      by_cases e : t = i
      · rw [e]
        exact ⟨mr_us, mr_us⟩
      · have h1 := h t (by omega)
        exact ⟨(mr_ne e).trans h1.1, (mr_ne e).trans h1.2⟩))
/-- the least head so far -/
def mr_lo : Option Nat → Int32 | none => -1 | some k => nI k
def mr_lh (SK HD LM : Nat → Nat) (n : Nat) (o : Option Nat) : Prop :=
  (o = none → ∀ t, t < n → HD t = LM t) ∧ ∀ k, o = some k → (∃ t, t < n ∧ HD t ≠ LM t ∧ SK (HD t) = k) ∧ ∀ t, t < n → HD t ≠ LM t → k ≤ SK (HD t)
theorem mr_lh_same {SK HD LM : Nat → Nat} {n : Nat} {o : Option Nat} (h : mr_lh SK HD LM n o) (e : HD n = LM n) : mr_lh SK HD LM (n + 1) o := by
  refine ⟨fun ho t ht => ?_, fun k hk => ⟨?_, fun t ht hne => ?_⟩⟩
  · rcases Nat.lt_or_ge t n with z | z
    · exact h.1 ho t z
    · rw [show t = n by omega]
      exact e
  · obtain ⟨⟨t, a, b, c⟩, _⟩ := h.2 k hk
    exact ⟨t, by omega, b, c⟩
  · rcases Nat.lt_or_ge t n with z | z
    · exact (h.2 k hk).2 t z hne
    · have et : t = n := by omega
      rw [et] at hne
      exact absurd e hne
theorem mr_lh_new {SK HD LM : Nat → Nat} {n : Nat} {o : Option Nat} (h : mr_lh SK HD LM n o) (e : HD n ≠ LM n) (hk : ∀ k, o = some k → SK (HD n) < k) : mr_lh SK HD LM (n + 1) (some (SK (HD n))) := by
  refine ⟨(fun ho => nomatch ho), fun k ek => ?_⟩
  have ek' : SK (HD n) = k := Option.some.inj ek
  refine ⟨⟨n, by omega, e, ek'⟩, fun t ht hne => ?_⟩
  rcases Nat.lt_or_ge t n with z | z
  · cases o with
    | none => exact absurd (h.1 rfl t z) hne
    | some k0 =>
      have h1 := (h.2 k0 rfl).2 t z hne
      have h2 := hk k0 rfl
      omega
  · rw [show t = n by omega]
    omega
theorem mr_lh_keep {SK HD LM : Nat → Nat} {n k0 : Nat} (h : mr_lh SK HD LM n (some k0)) (e : HD n ≠ LM n) (hk : k0 ≤ SK (HD n)) : mr_lh SK HD LM (n + 1) (some k0) := by
  refine ⟨(fun ho => nomatch ho), fun k ek => ?_⟩
  have ek' : k0 = k := Option.some.inj ek
  obtain ⟨⟨t, a, b, c⟩, h2⟩ := h.2 k0 rfl
  refine ⟨⟨t, by omega, b, by omega⟩, fun t ht hne => ?_⟩
  rcases Nat.lt_or_ge t n with z | z
  · have := h2 t z hne
    omega
  · rw [show t = n by omega]
    omega
theorem mr_least {pc bs md rd bf mp sc se oe : Nat} {fa fo lw hg : Int32} {R MF RF BK SK PS HD LM OS OK : Nat → Nat} {rk rv bv sv ov : Nat → Int32} {post : Int32 → Prop} (hsc : sc ≤ 32) (h1 : ∀ t, t < sc → HD t < 128 ∧ LM t < 128) (h2 : ∀ t, t < sc → HD t ≠ LM t → HD t < 64 ∧ SK (HD t) < 16)
    (H : ∀ o, mr_lh SK HD LM sc o → post (mr_lo o)) : wpX_leastHead post (nI pc, nI bs, nI md, fa, fo, lw, hg, nI rd, nI bf, nI mp, nI sc, nI se, nI oe, mr_cv R, rk, rv, mr_cv MF, mr_cv RF, mr_cv BK, bv, mr_cv SK, sv, mr_cv PS, mr_cv HD, mr_cv LM, mr_cv OS, mr_cv OK, ov) :=
  pk_loop (σ := Option Nat) (fun n i s => wX_leastHead_4 post (nI pc) (nI bs) (nI md) fa fo lw hg (nI rd) (nI bf) (nI mp) (nI sc) (nI se) (nI oe) (mr_cv R) rk rv (mr_cv MF) (mr_cv RF) (mr_cv BK) bv (mr_cv SK) sv (mr_cv PS) (mr_cv HD) (mr_cv LM) (mr_cv OS) (mr_cv OK) ov n (mr_lo s) (nI i)) (fun i s => mr_lh SK HD LM i s ∧ ∀ k, s = some k → k < 16) sc 0 none (by omega) ⟨⟨fun _ t ht => absurd ht (by omega), (fun k hk => nomatch hk)⟩, (fun k hk => nomatch hk)⟩
    (fun n s h => pk_le sc sc (fun _ => H s h.1) (fun z => absurd z (by omega)))
    (fun n i s hi h hw => pk_le sc i (fun z => absurd z (by omega)) (fun _ => by
      have b := h1 i hi
      refine ⟨pk_in i 32 (by omega), pk_in i 32 (by omega), pk_eq (HD i) (LM i) (fun e => nm_r (nI_1 i) (hw s ⟨mr_lh_same h.1 e, h.2⟩)) (fun e => ?_) (mr_rd i) (mr_rd i)⟩
      have b2 := h2 i hi e
      have hk : mr_cv SK (mr_cv HD (nI i).toNatClampNeg).toNatClampNeg = nI (SK (HD i)) := mr_rd (HD i) (mr_rd i)
      refine ⟨pk_in i 32 (by omega), pk_in (HD i) 64 b2.1 (mr_rd i), nm_r hk ?_⟩
      cases s with
      | none => exact br_t (show (-1 : Int32) < 0 by decide) (nm_r (nI_1 i) (hw (some (SK (HD i))) ⟨mr_lh_new h.1 e (fun k hk => nomatch hk), fun k hk => by have := Option.some.inj hk; omega⟩))
      | some k0 =>
        have hk0 := h.2 k0 rfl
        refine br_f (show ¬ nI k0 < 0 from nI_pos (by omega)) (pk_le k0 (SK (HD i)) (fun z => nm_r (nI_1 i) (hw (some k0) ⟨mr_lh_keep h.1 e z, fun k hk => by have := Option.some.inj hk; omega⟩)) (fun z => nm_r (nI_1 i) (hw (some (SK (HD i))) ⟨mr_lh_new h.1 e (fun k hk => by have := Option.some.inj hk; omega), fun k hk => by have := Option.some.inj hk; omega⟩)))))
theorem mr_comb {pc bs md rd bf mp sc se oe : Nat} {fa fo lw hg : Int32} {R MF RF BK SK PS HD LM OS OK : Nat → Nat} {rk rv bv sv ov : Nat → Int32} {post : Int32 → Prop} {a b : Int32} (hrd : rd < 5) (H : post (mr_cb rd a b)) : wpX_combined post (nI pc, nI bs, nI md, fa, fo, lw, hg, nI rd, nI bf, nI mp, nI sc, nI se, nI oe, mr_cv R, rk, rv, mr_cv MF, mr_cv RF, mr_cv BK, bv, mr_cv SK, sv, mr_cv PS, mr_cv HD, mr_cv LM, mr_cv OS, mr_cv OK, ov) a b := by
  unfold mr_cb at H
  refine pk_eq rd 1 (fun z => ?_) (fun z => pk_eq rd 2 (fun z2 => ?_) (fun z2 => ?_))
  · rw [if_pos z] at H
    exact br_c (fun g => by rw [if_pos g] at H; exact H) (fun g => by rw [if_neg g] at H; exact H)
  · rw [if_neg z, if_pos z2] at H
    exact br_c (fun g => by rw [if_pos g] at H; exact H) (fun g => by rw [if_neg g] at H; exact H)
  · rw [if_neg z, if_neg z2] at H
    exact H
theorem mr_after {pc bs md rd bf mp sc se oe : Nat} {fa fo lw hg : Int32} {R MF RF BK SK PS HD LM OS OK : Nat → Nat} {rk rv bv sv ov : Nat → Int32} {post : Int32 → Prop} {x y : Int32} (a b : Nat) (hx : x = nI a) (hy : y = nI b) (h0 : 0 < pc) (h4 : pc ≤ 4) (ha : a < 16) (hb : b < 16) (H1 : mr_od pc b < mr_od pc a → post 1) (H0 : mr_od pc a ≤ mr_od pc b → post 0) : wpX_comesAfter post (nI pc, nI bs, nI md, fa, fo, lw, hg, nI rd, nI bf, nI mp, nI sc, nI se, nI oe, mr_cv R, rk, rv, mr_cv MF, mr_cv RF, mr_cv BK, bv, mr_cv SK, sv, mr_cv PS, mr_cv HD, mr_cv LM, mr_cv OS, mr_cv OK, ov) x y := by
  subst hx hy
  unfold mr_od at H1 H0
  have ma := Nat.mod_lt a h0
  have mb := Nat.mod_lt b h0
  refine ⟨nI_ne0 h0 (by omega), nm_r (pk_rem (by omega) h0 (by omega)) ⟨nI_ne0 h0 (by omega), nm_r (pk_rem (by omega) h0 (by omega)) ?_⟩⟩
  exact pk_lt (b % pc) (a % pc) (fun z => H1 (by omega)) (fun z => pk_eq (a % pc) (b % pc) (fun z2 => pk_le a b (fun z3 => H0 (by omega)) (fun z3 => H1 (by omega))) (fun z2 => H0 (by omega)))
end
section
-- sorting and combining the buffer
theorem mr_sort87 {pc bs md rd bf mp sc se oe : Nat} {fa fo lw hg : Int32} {R MF RF BK SK PS HD LM OS OK : Nat → Nat} {rk rv bv sv ov : Nat → Int32} {post : St2 → Prop} {J : Int32 → (Nat → Int32) → (Nat → Int32) → (Nat → Int32) → (Nat → Int32) → (Nat → Int32) → (Nat → Int32) → (Nat → Int32) → (Nat → Int32) → (Nat → Int32) → (Nat → Int32) → (Nat → Int32) → (Nat → Int32) → (Nat → Int32) → (Nat → Int32) → (Nat → Int32) → Prop} {i ki c : Nat} {v : Int32} (hc : c < 8) (hk : ki < 16) (H : J (nI (i + 1)) (mr_cv R) rk rv (mr_cv MF) (mr_cv RF) (mr_cv (mr_un BK c ki)) (upd bv c v) (mr_cv SK) sv (mr_cv PS) (mr_cv HD) (mr_cv LM) (mr_cv OS) (mr_cv OK) ov) : wX_sortBuffer_87 post J (nI i) (nI ki) v (nI c) (nI pc) (nI bs) (nI md) fa fo lw hg (nI rd) (nI bf) (nI mp) (nI sc) (nI se) (nI oe) (mr_cv R) rk rv (mr_cv MF) (mr_cv RF) (mr_cv BK) bv (mr_cv SK) sv (mr_cv PS) (mr_cv HD) (mr_cv LM) (mr_cv OS) (mr_cv OK) ov :=
  ⟨pk_in c 8 hc, nm_r (mr_up c ki (mr_un8 rfl (by omega))) ⟨pk_in c 8 hc, nm_r (mr_ui c v rfl) (nm_r (nI_1 i) H)⟩⟩
/-- the buffer while one pair is on its way down: place c is free for it -/
def mr_si (pc bf i ki : Nat) (v : Int32) (BK : Nat → Nat) (bv : Nat → Int32) (c : Nat) (B : Nat → Nat) (w : Nat → Int32) : Prop :=
  c ≤ i ∧ (∀ j, j < bf → B j < 16) ∧ (∀ a b, a ≤ b → b ≤ i → a ≠ c → b ≠ c → mr_od pc (B a) ≤ mr_od pc (B b)) ∧ (∀ b, c < b → b ≤ i → mr_od pc ki ≤ mr_od pc (B b)) ∧
  ∀ r k acc, mr_f1 r k (mr_un B c ki) (upd w c v) acc 0 bf = mr_f1 r k BK bv acc 0 bf
theorem mr_si_0 {pc bf i : Nat} {BK : Nat → Nat} {bv : Nat → Int32} (h16 : ∀ j, j < bf → BK j < 16) (hs : ∀ a b, a ≤ b → b < i → mr_od pc (BK a) ≤ mr_od pc (BK b)) : mr_si pc bf i (BK i) (bv i) BK bv i BK bv := by
  refine ⟨Nat.le_refl i, h16, fun a b h1 h2 h3 h4 => hs a b h1 (by omega), fun b h1 h2 => absurd h1 (by omega), fun r k acc => ?_⟩
  refine mr_f1_congr acc 0 0 bf (fun j hj => ?_)
  by_cases e : 0 + j = i
  · rw [e, mr_us, pk_us]
    exact ⟨rfl, rfl⟩
  · rw [mr_ne e, pk_un e]
    exact ⟨rfl, rfl⟩
theorem mr_si_s {pc bf i ki c : Nat} {v : Int32} {BK B : Nat → Nat} {bv w : Nat → Int32} (hi : i < bf) (h : mr_si pc bf i ki v BK bv (c + 1) B w) (ha : mr_od pc ki < mr_od pc (B c)) : mr_si pc bf i ki v BK bv c (mr_un B (c + 1) (B c)) (upd w (c + 1) (w c)) := by
  obtain ⟨h1, h2, h3, h4, h5⟩ := h
  refine ⟨by omega, fun j hj => ?_, fun a b x y xa xb => ?_, fun b x y => ?_, fun r k acc => ?_⟩
  · by_cases e : j = c + 1
    · rw [e, mr_us]
      exact h2 c (by omega)
    · rw [mr_ne e]
      exact h2 j hj
  · by_cases ea : a = c + 1
    · by_cases eb : b = c + 1
      · rw [ea, eb]
        exact Nat.le_refl _
      · rw [ea, mr_us, mr_ne eb]
        exact h3 c b (by omega) y (by omega) eb
    · by_cases eb : b = c + 1
      · rw [eb, mr_us, mr_ne ea]
        exact h3 a c (by omega) (by omega) ea (by omega)
      · rw [mr_ne ea, mr_ne eb]
        exact h3 a b x y ea eb
  · by_cases eb : b = c + 1
    · rw [eb, mr_us]
      omega
    · rw [mr_ne eb]
      exact h4 b (by omega) y
  · rw [← h5 r k acc]
    refine mr_f1_swap acc c bf (by omega) ?_ ?_ ?_ ?_ (fun j hj n1 n2 => ?_) ?_
    · rw [mr_us, mr_us]
    · rw [mr_ne (show c + 1 ≠ c by omega), mr_us, mr_ne (show c ≠ c + 1 by omega)]
    · rw [pk_us, pk_us]
    · rw [pk_un (show c + 1 ≠ c by omega), pk_us, pk_un (show c ≠ c + 1 by omega)]
    · rw [mr_ne n1, mr_ne n2, mr_ne n2, pk_un n1, pk_un n2, pk_un n2]
      exact ⟨rfl, rfl⟩
    · rw [mr_ne (show c ≠ c + 1 by omega), mr_us]
      exact mr_od_ne ha
theorem mr_si_e {pc bf i ki c : Nat} {v : Int32} {BK B : Nat → Nat} {bv w : Nat → Int32} (hi : i < bf) (hk : ki < 16) (h : mr_si pc bf i ki v BK bv c B w) (he : c = 0 ∨ mr_od pc (B (c - 1)) ≤ mr_od pc ki) :
    (∀ j, j < bf → mr_un B c ki j < 16) ∧ (∀ a b, a ≤ b → b < i + 1 → mr_od pc (mr_un B c ki a) ≤ mr_od pc (mr_un B c ki b)) ∧ ∀ r k acc, mr_f1 r k (mr_un B c ki) (upd w c v) acc 0 bf = mr_f1 r k BK bv acc 0 bf := by
  obtain ⟨h1, h2, h3, h4, h5⟩ := h
  refine ⟨fun j hj => ?_, fun a b x y => ?_, h5⟩
  · by_cases e : j = c
    · rw [e, mr_us]
      exact hk
    · rw [mr_ne e]
      exact h2 j hj
  · by_cases ea : a = c
    · by_cases eb : b = c
      · rw [ea, eb]
        exact Nat.le_refl _
      · rw [ea, mr_us, mr_ne eb]
        exact h4 b (by omega) (by omega)
    · by_cases eb : b = c
      · rw [eb, mr_us, mr_ne ea]
        rcases he with z | z
        · omega
        · exact Nat.le_trans (h3 a (c - 1) (by omega) (by omega) ea (by omega)) z
      · rw [mr_ne ea, mr_ne eb]
        exact h3 a b x (by omega) ea eb
theorem mr_sort27 {pc bs md rd bf mp sc se oe : Nat} {fa fo lw hg : Int32} {R MF RF BK SK PS HD LM OS OK : Nat → Nat} {rk rv bv sv ov : Nat → Int32} {post : St2 → Prop} {J : Int32 → (Nat → Int32) → (Nat → Int32) → (Nat → Int32) → (Nat → Int32) → (Nat → Int32) → (Nat → Int32) → (Nat → Int32) → (Nat → Int32) → (Nat → Int32) → (Nat → Int32) → (Nat → Int32) → (Nat → Int32) → (Nat → Int32) → (Nat → Int32) → (Nat → Int32) → Prop} {i : Nat} (h0 : 0 < pc) (h4 : pc ≤ 4) (hi : i < bf) (hbf : bf ≤ 8) (h16 : ∀ j, j < bf → BK j < 16) (hs : ∀ a b, a ≤ b → b < i → mr_od pc (BK a) ≤ mr_od pc (BK b))
    (H : ∀ (B : Nat → Nat) (w : Nat → Int32), (∀ j, j < bf → B j < 16) → (∀ a b, a ≤ b → b < i + 1 → mr_od pc (B a) ≤ mr_od pc (B b)) → (∀ r k acc, mr_f1 r k B w acc 0 bf = mr_f1 r k BK bv acc 0 bf) → J (nI (i + 1)) (mr_cv R) rk rv (mr_cv MF) (mr_cv RF) (mr_cv B) w (mr_cv SK) sv (mr_cv PS) (mr_cv HD) (mr_cv LM) (mr_cv OS) (mr_cv OK) ov) :
    ∃ n, wX_sortBuffer_27 post J (nI i) (nI (BK i)) (bv i) (nI pc) (nI bs) (nI md) fa fo lw hg (nI rd) (nI bf) (nI mp) (nI sc) (nI se) (nI oe) n (nI i) (mr_cv R) rk rv (mr_cv MF) (mr_cv RF) (mr_cv BK) bv (mr_cv SK) sv (mr_cv PS) (mr_cv HD) (mr_cv LM) (mr_cv OS) (mr_cv OK) ov :=
  loop_m (σ := Nat × (Nat → Nat) × (Nat → Int32)) (fun n s => wX_sortBuffer_27 post J (nI i) (nI (BK i)) (bv i) (nI pc) (nI bs) (nI md) fa fo lw hg (nI rd) (nI bf) (nI mp) (nI sc) (nI se) (nI oe) n (nI s.1) (mr_cv R) rk rv (mr_cv MF) (mr_cv RF) (mr_cv s.2.1) s.2.2 (mr_cv SK) sv (mr_cv PS) (mr_cv HD) (mr_cv LM) (mr_cv OS) (mr_cv OK) ov) (fun s => mr_si pc bf i (BK i) (bv i) BK bv s.1 s.2.1 s.2.2) (fun s => s.1)
    (fun n s h hw => by
      obtain ⟨c, B, w⟩ := s
      have hk := h16 i hi
      have hc : c ≤ i := h.1
      have hB : ∀ j, j < bf → B j < 16 := h.2.1
      refine pk_le c 0 (fun z => ?_) (fun z => ?_)
      · have e := mr_si_e hi hk h (Or.inl (by omega))
        exact mr_sort87 (by omega) hk (H _ _ e.1 e.2.1 e.2.2)
      · obtain ⟨d, rfl⟩ : ∃ d, c = d + 1 := ⟨c - 1, by omega⟩
        have e0 : nI (d + 1) - 1 = nI d := nI_pred d
        have hd := hB d (by omega)
        refine ⟨pk_in d 8 (by omega) e0, mr_after (B d) (BK i) (mr_rd d e0) rfl h0 h4 hd hk (fun z2 => ?_) (fun z2 => ?_)⟩
        · refine br_f (by decide) ⟨pk_in d 8 (by omega) e0, pk_in (d + 1) 8 (by omega), nm_r (mr_up (d + 1) (B d) (mr_un8 (mr_rd d e0) (by omega))) ⟨pk_in d 8 (by omega) e0, pk_in (d + 1) 8 (by omega), nm_r (mr_ui (d + 1) (w d) (mr_ri d e0)) (nm_r (pk_m1 d) ?_)⟩⟩
          exact hw (d, mr_un B (d + 1) (B d), upd w (d + 1) (w d)) (mr_si_s hi h z2) (Nat.lt_succ_self d)
        · have e := mr_si_e hi hk h (Or.inr z2)
          exact br_t rfl (mr_sort87 (by omega) hk (H _ _ e.1 e.2.1 e.2.2)))
    (i, BK, bv) (mr_si_0 h16 hs)
theorem mr_sort {pc bs md rd bf mp sc se oe : Nat} {fa fo lw hg : Int32} {R MF RF BK SK PS HD LM OS OK : Nat → Nat} {rk rv bv sv ov : Nat → Int32} {post : St2 → Prop} (h0 : 0 < pc) (h4 : pc ≤ 4) (h1 : 1 ≤ bf) (hbf : bf ≤ 8) (h16 : ∀ j, j < bf → BK j < 16)
    (H : ∀ (B : Nat → Nat) (w : Nat → Int32), (∀ j, j < bf → B j < 16) → (∀ a b, a ≤ b → b < bf → mr_od pc (B a) ≤ mr_od pc (B b)) → (∀ r k acc, mr_f1 r k B w acc 0 bf = mr_f1 r k BK bv acc 0 bf) → post (nI pc, nI bs, nI md, fa, fo, lw, hg, nI rd, nI bf, nI mp, nI sc, nI se, nI oe, mr_cv R, rk, rv, mr_cv MF, mr_cv RF, mr_cv B, w, mr_cv SK, sv, mr_cv PS, mr_cv HD, mr_cv LM, mr_cv OS, mr_cv OK, ov)) :
    wpX_sortBuffer post (nI pc, nI bs, nI md, fa, fo, lw, hg, nI rd, nI bf, nI mp, nI sc, nI se, nI oe, mr_cv R, rk, rv, mr_cv MF, mr_cv RF, mr_cv BK, bv, mr_cv SK, sv, mr_cv PS, mr_cv HD, mr_cv LM, mr_cv OS, mr_cv OK, ov) :=
  pk_loop (σ := (Nat → Nat) × (Nat → Int32)) (fun n i s => wX_sortBuffer_2 post (nI pc) (nI bs) (nI md) fa fo lw hg (nI rd) (nI bf) (nI mp) (nI sc) (nI se) (nI oe) n (nI i) (mr_cv R) rk rv (mr_cv MF) (mr_cv RF) (mr_cv s.1) s.2 (mr_cv SK) sv (mr_cv PS) (mr_cv HD) (mr_cv LM) (mr_cv OS) (mr_cv OK) ov)
    (fun i s => (∀ j, j < bf → s.1 j < 16) ∧ (∀ a b, a ≤ b → b < i → mr_od pc (s.1 a) ≤ mr_od pc (s.1 b)) ∧ ∀ r k acc, mr_f1 r k s.1 s.2 acc 0 bf = mr_f1 r k BK bv acc 0 bf) bf 1 (BK, bv) h1
    ⟨h16, fun a b x y => (by
      have e : a = b := by omega
      rw [e]
      exact Nat.le_refl _), fun r k acc => rfl⟩
    (fun n s h => pk_le bf bf (fun _ => H s.1 s.2 h.1 h.2.1 h.2.2) (fun z => absurd z (by omega)))
    (fun n i s hi h hw => pk_le bf i (fun z => absurd z (by omega)) (fun _ => ⟨pk_in i 8 (by omega), nm_r (mr_rd i) ⟨pk_in i 8 (by omega), nm_r (mr_ri i) (mr_sort27 h0 h4 hi hbf h.1 h.2.1 (fun B w a b c => hw (B, w) ⟨a, b, fun r k acc => (c r k acc).trans (h.2.2 r k acc)⟩))⟩⟩))
theorem mr_s1_2 {rd k a : Nat} {x y : Int32} (h : rd ≠ 4) (acc : Option Int32) : mr_s1 rd k a y (mr_s1 rd k a x acc) = mr_s1 rd k a (mr_cb rd x y) acc := by
  by_cases e : a = k
  · rw [mr_s1_t e, mr_s1_t e, mr_s1_t e, mr_sx2 h]
  · rw [mr_s1_f e, mr_s1_f e, mr_s1_f e]
/-- the buffer while it is combined: i pairs are taken, they stand in places 0 .. c -/
def mr_ci (pc bf rd : Nat) (BK : Nat → Nat) (bv : Nat → Int32) (i c : Nat) (B : Nat → Nat) (w : Nat → Int32) : Prop :=
  c < i ∧ (∀ j, j < bf → B j < 16) ∧ (∀ j, i ≤ j → j < bf → B j = BK j ∧ w j = bv j) ∧ (∀ a b, a ≤ b → b ≤ c → mr_od pc (B a) ≤ mr_od pc (B b)) ∧ (∀ j, i ≤ j → j < bf → mr_od pc (B c) ≤ mr_od pc (BK j)) ∧
  ∀ k acc, mr_f1 rd k B w acc 0 (c + 1) = mr_f1 rd k BK bv acc 0 i
theorem mr_ci_t {pc bf rd i c : Nat} {BK B : Nat → Nat} {bv w : Nat → Int32} (h : mr_ci pc bf rd BK bv i c B w) (hi : i < bf) (hr : rd ≠ 4) (e : B i = B c) : mr_ci pc bf rd BK bv (i + 1) c B (upd w c (mr_cb rd (w c) (w i))) := by
  obtain ⟨h1, h2, h3, h4, h5, h6⟩ := h
  refine ⟨by omega, h2, fun j x y => ?_, h4, fun j x y => h5 j (by omega) y, fun k acc => ?_⟩
  · rw [pk_un (show j ≠ c by omega)]
    exact h3 j (by omega) y
  · have h7 := h6 k acc
    have h8 := h3 i (Nat.le_refl i) hi
    show mr_s1 rd k (B (0 + c)) (upd w c (mr_cb rd (w c) (w i)) (0 + c)) (mr_f1 rd k B (upd w c (mr_cb rd (w c) (w i))) acc 0 c) = mr_s1 rd k (BK (0 + i)) (bv (0 + i)) (mr_f1 rd k BK bv acc 0 i)
    rw [← h7]
    show _ = mr_s1 rd k (BK (0 + i)) (bv (0 + i)) (mr_s1 rd k (B (0 + c)) (w (0 + c)) (mr_f1 rd k B w acc 0 c))
    rw [Nat.zero_add, Nat.zero_add, ← h8.1, ← h8.2, e, mr_s1_2 hr, pk_us, mr_f1_congr (v' := w) (K' := B) acc 0 0 c (fun j hj => ⟨rfl, pk_un (by omega)⟩)]
theorem mr_ci_f {pc bf rd i c : Nat} {BK B : Nat → Nat} {bv w : Nat → Int32} (h : mr_ci pc bf rd BK bv i c B w) (hi : i < bf) (hs : ∀ a b, a ≤ b → b < bf → mr_od pc (BK a) ≤ mr_od pc (BK b)) : mr_ci pc bf rd BK bv (i + 1) (c + 1) (mr_un B (c + 1) (B i)) (upd w (c + 1) (w i)) := by
  obtain ⟨h1, h2, h3, h4, h5, h6⟩ := h
  have h8 := h3 i (Nat.le_refl i) hi
  refine ⟨by omega, fun j hj => ?_, fun j x y => ?_, fun a b x y => ?_, fun j x y => ?_, fun k acc => ?_⟩
  · by_cases e : j = c + 1
    · rw [e, mr_us]
      exact h2 i hi
    · rw [mr_ne e]
      exact h2 j hj
  · rw [mr_ne (show j ≠ c + 1 by omega), pk_un (show j ≠ c + 1 by omega)]
    exact h3 j (by omega) y
  · by_cases eb : b = c + 1
    · by_cases ea : a = c + 1
      · rw [ea, eb]
        exact Nat.le_refl _
      · rw [eb, mr_us, mr_ne ea, h8.1]
        exact Nat.le_trans (h4 a c (by omega) (Nat.le_refl c)) (h5 i (Nat.le_refl i) hi)
    · rw [mr_ne eb, mr_ne (show a ≠ c + 1 by omega)]
      exact h4 a b x (by omega)
  · rw [mr_us, h8.1]
    exact hs i j (by omega) y
  · show mr_s1 rd k (mr_un B (c + 1) (B i) (0 + (c + 1))) (upd w (c + 1) (w i) (0 + (c + 1))) (mr_f1 rd k (mr_un B (c + 1) (B i)) (upd w (c + 1) (w i)) acc 0 (c + 1)) = mr_s1 rd k (BK (0 + i)) (bv (0 + i)) (mr_f1 rd k BK bv acc 0 i)
    rw [← h6 k acc, Nat.zero_add, Nat.zero_add, mr_us, pk_us, h8.1, h8.2, mr_f1_congr (v' := w) (K' := B) acc 0 0 (c + 1) (fun j hj => ⟨mr_ne (by omega), pk_un (by omega)⟩)]
theorem mr_combine {pc bs md rd bf mp sc se oe : Nat} {fa fo lw hg : Int32} {R MF RF BK SK PS HD LM OS OK : Nat → Nat} {rk rv bv sv ov : Nat → Int32} {post : St2 → Prop} (hrd : rd < 5) (hr4 : rd ≠ 4) (h1 : 1 ≤ bf) (hbf : bf ≤ 8) (h16 : ∀ j, j < bf → BK j < 16) (hs : ∀ a b, a ≤ b → b < bf → mr_od pc (BK a) ≤ mr_od pc (BK b))
    (H : ∀ (b' : Nat) (B : Nat → Nat) (w : Nat → Int32), 1 ≤ b' → b' ≤ bf → (∀ j, j < b' → B j < 16) → (∀ a b, a ≤ b → b < b' → mr_od pc (B a) ≤ mr_od pc (B b)) → (∀ k acc, mr_f1 rd k B w acc 0 b' = mr_f1 rd k BK bv acc 0 bf) → post (nI pc, nI bs, nI md, fa, fo, lw, hg, nI rd, nI b', nI mp, nI sc, nI se, nI oe, mr_cv R, rk, rv, mr_cv MF, mr_cv RF, mr_cv B, w, mr_cv SK, sv, mr_cv PS, mr_cv HD, mr_cv LM, mr_cv OS, mr_cv OK, ov)) :
    wpX_combineBuffer post (nI pc, nI bs, nI md, fa, fo, lw, hg, nI rd, nI bf, nI mp, nI sc, nI se, nI oe, mr_cv R, rk, rv, mr_cv MF, mr_cv RF, mr_cv BK, bv, mr_cv SK, sv, mr_cv PS, mr_cv HD, mr_cv LM, mr_cv OS, mr_cv OK, ov) :=
  pk_loop (σ := Nat × (Nat → Nat) × (Nat → Int32)) (fun n i s => wX_combineBuffer_4 post (nI pc) (nI bs) (nI md) fa fo lw hg (nI rd) (nI bf) (nI mp) (nI sc) (nI se) (nI oe) n (nI s.1) (nI i) (mr_cv R) rk rv (mr_cv MF) (mr_cv RF) (mr_cv s.2.1) s.2.2 (mr_cv SK) sv (mr_cv PS) (mr_cv HD) (mr_cv LM) (mr_cv OS) (mr_cv OK) ov) (fun i s => mr_ci pc bf rd BK bv i s.1 s.2.1 s.2.2) bf 1 (0, BK, bv) h1
    ⟨by show 0 < 1; omega, h16, fun j x y => ⟨rfl, rfl⟩, fun a b x y => (by
      have e : a = b := by
        have y' : b ≤ 0 := y
        omega
      rw [e]
      exact Nat.le_refl _), fun j x y => hs 0 j (by omega) y, fun k acc => rfl⟩
    (fun n s h => pk_le bf bf (fun _ => nm_r (nI_1 s.1) (H (s.1 + 1) s.2.1 s.2.2 (by omega) h.1 (fun j hj => h.2.1 j (by have := h.1; omega)) (fun a b x y => h.2.2.2.1 a b x (by omega)) h.2.2.2.2.2)) (fun z => absurd z (by omega)))
    (fun n i s hi h hw => pk_le bf i (fun z => absurd z (by omega)) (fun _ => by
      obtain ⟨c, B, w⟩ := s
      have hc : c < i := h.1
      have hB : ∀ j, j < bf → B j < 16 := h.2.1
      have b1 := hB i hi
      have b2 := hB c (by omega)
      refine ⟨pk_in i 8 (by omega), pk_in c 8 (by omega), pk_eq (B i) (B c) (fun e => ?_) (fun e => ?_) (mr_rd i) (mr_rd c)⟩
      · refine ⟨pk_in c 8 (by omega), pk_in i 8 (by omega), mr_comb hrd ⟨pk_in c 8 (by omega), nm_r (mr_ui c (mr_cb rd (w c) (w i)) ?_) (nm_r (nI_1 i) (hw (c, B, upd w c (mr_cb rd (w c) (w i))) (mr_ci_t h hi hr4 e)))⟩⟩
        rw [nI_clamp (show c < 2 ^ 31 by omega), nI_clamp (show i < 2 ^ 31 by omega)]
      · exact nm_r (nI_1 c) ⟨pk_in i 8 (by omega), pk_in (c + 1) 8 (by omega), nm_r (mr_up (c + 1) (B i) (mr_un8 (mr_rd i) (by omega))) ⟨pk_in i 8 (by omega), pk_in (c + 1) 8 (by omega), nm_r (mr_ui (c + 1) (w i) (mr_ri i)) (nm_r (nI_1 i) (hw (c + 1, mr_un B (c + 1) (B i), upd w (c + 1) (w i)) (mr_ci_f h hi hs)))⟩⟩))
end
section
-- a spill: the sorted buffer goes behind the others
/-- the buffer's places below i stand behind the se old pairs, which stay -/
def mr_cp (se i : Nat) (BK SK : Nat → Nat) (bv sv : Nat → Int32) (K : Nat → Nat) (w : Nat → Int32) : Prop :=
  (∀ j, j < se → K j = SK j ∧ w j = sv j) ∧ (∀ j, j < i → K (se + j) = BK j ∧ w (se + j) = bv j)
theorem mr_cp_s {se i : Nat} {BK SK K : Nat → Nat} {bv sv w : Nat → Int32} (h : mr_cp se i BK SK bv sv K w) : mr_cp se (i + 1) BK SK bv sv (mr_un K (se + i) (BK i)) (upd w (se + i) (bv i)) := by
  refine ⟨fun j hj => ?_, fun j hj => ?_⟩
  · rw [mr_ne (show j ≠ se + i by omega), pk_un (show j ≠ se + i by omega)]
    exact h.1 j hj
  · by_cases e : j = i
    · rw [e, mr_us, pk_us]
      exact ⟨rfl, rfl⟩
    · rw [mr_ne (show se + j ≠ se + i by omega), pk_un (show se + j ≠ se + i by omega)]
      exact h.2 j (by omega)
theorem mr_rem {K : Nat → Nat} {pc i : Nat} (hi : i < 2 ^ 31) (hk : K i < 16) (h0 : 0 < pc) (h4 : pc ≤ 4) : mr_cv K (nI i).toNatClampNeg - mr_cv K (nI i).toNatClampNeg / nI pc * nI pc = nI (K i % pc) := by
  rw [mr_rd (K := K) i rfl hi]
  exact pk_rem (by omega) h0 (by omega)
theorem mr_spill43 {pc bs md rd bf mp sc se oe : Nat} {fa fo lw hg : Int32} {R MF RF BK SK PS HD LM OS OK : Nat → Nat} {rk rv bv sv ov : Nat → Int32} {post : St2 → Prop} {J : Int32 → Int32 → Int32 → (Nat → Int32) → (Nat → Int32) → (Nat → Int32) → (Nat → Int32) → (Nat → Int32) → (Nat → Int32) → (Nat → Int32) → (Nat → Int32) → (Nat → Int32) → (Nat → Int32) → (Nat → Int32) → (Nat → Int32) → (Nat → Int32) → (Nat → Int32) → (Nat → Int32) → Prop} {q t1 t2 : Nat} {K0 : Nat → Nat} {w0 : Nat → Int32} (h0 : 0 < pc) (h4 : pc ≤ 4) (hbf : bf ≤ 8) (hse : se + bf ≤ 64) (h16 : ∀ j, j < bf → BK j < 16)
    (hq : q < 4) (h1 : t1 ≤ t2) (h2 : t2 ≤ bf) (hin : ∀ j, t1 ≤ j → j < t2 → BK j % pc = q) (hout : t2 < bf → BK t2 % pc ≠ q) (hc : mr_cp se t1 BK K0 bv w0 SK sv)
    (H : ∀ (K : Nat → Nat) (w : Nat → Int32), mr_cp se t2 BK K0 bv w0 K w → J (nI t2) (nI (q + 1)) (nI (se + t2)) (mr_cv R) rk rv (mr_cv MF) (mr_cv RF) (mr_cv BK) bv (mr_cv K) w (mr_cv PS) (mr_cv HD) (mr_cv LM) (mr_cv OS) (mr_cv OK) ov) :
    ∃ n, wX_spill_43 post J (nI q) (nI pc) (nI bs) (nI md) fa fo lw hg (nI rd) (nI bf) (nI mp) (nI sc) (nI oe) n (nI t1) (nI (se + t1)) (mr_cv R) rk rv (mr_cv MF) (mr_cv RF) (mr_cv BK) bv (mr_cv SK) sv (mr_cv PS) (mr_cv HD) (mr_cv LM) (mr_cv OS) (mr_cv OK) ov :=
  pk_loop (σ := (Nat → Nat) × (Nat → Int32)) (fun n i s => wX_spill_43 post J (nI q) (nI pc) (nI bs) (nI md) fa fo lw hg (nI rd) (nI bf) (nI mp) (nI sc) (nI oe) n (nI i) (nI (se + i)) (mr_cv R) rk rv (mr_cv MF) (mr_cv RF) (mr_cv BK) bv (mr_cv s.1) s.2 (mr_cv PS) (mr_cv HD) (mr_cv LM) (mr_cv OS) (mr_cv OK) ov) (fun i s => mr_cp se i BK K0 bv w0 s.1 s.2 ∧ t1 ≤ i) t2 t1 (SK, sv) h1 ⟨hc, Nat.le_refl _⟩
    (fun n s h => pk_le bf t2 (fun z => nm_r (nI_1 q) (H s.1 s.2 h.1)) (fun z => by
      have b := h16 t2 z
      have m := Nat.mod_lt (BK t2) h0
      exact ⟨pk_in t2 8 (by omega), nI_ne0 h0 (by omega), pk_eq (BK t2 % pc) q (fun e => absurd e (hout z)) (fun _ => nm_r (nI_1 q) (H s.1 s.2 h.1)) (mr_rem (by omega) b h0 h4)⟩))
    (fun n i s hi h hw => pk_le bf i (fun z => absurd z (by omega)) (fun z => by
      have b := h16 i z
      have m := Nat.mod_lt (BK i) h0
      refine ⟨pk_in i 8 (by omega), nI_ne0 h0 (by omega), pk_eq (BK i % pc) q (fun _ => ?_) (fun e => absurd (hin i h.2 hi) e) (mr_rem (by omega) b h0 h4)⟩
      exact ⟨pk_in i 8 (by omega), pk_in (se + i) 64 (by omega), nm_r (mr_up (se + i) (BK i) (mr_un8 (mr_rd i) (by omega))) ⟨pk_in i 8 (by omega), pk_in (se + i) 64 (by omega), nm_r (mr_ui (se + i) (bv i) (mr_ri i)) (nm_r (nI_1 (se + i)) (nm_r (nI_1 i) (hw (mr_un s.1 (se + i) (BK i), upd s.2 (se + i) (bv i)) ⟨mr_cp_s h.1, by omega⟩)))⟩⟩))
/-- the places at which the parts begin -/
def mr_pp (pc sc se bf q : Nat) (BK PS P : Nat → Nat) : Prop :=
  (∀ j, j < 5 * sc → P j = PS j) ∧ (∀ r, r < q → P (5 * sc + r) = se + mr_bd (fun j => BK j % pc) r bf)
theorem mr_pp_s {pc sc se bf q : Nat} {BK PS P : Nat → Nat} (h : mr_pp pc sc se bf q BK PS P) : mr_pp pc sc se bf (q + 1) BK PS (mr_un P (5 * sc + q) (se + mr_bd (fun j => BK j % pc) q bf)) := by
  refine ⟨fun j hj => ?_, fun r hr => ?_⟩
  · rw [mr_ne (show j ≠ 5 * sc + q by omega)]
    exact h.1 j hj
  · by_cases e : r = q
    · rw [e, mr_us]
    · rw [mr_ne (show 5 * sc + r ≠ 5 * sc + q by omega)]
      exact h.2 r (by omega)
theorem mr_copy {pc bs md rd bf mp sc se oe : Nat} {fa fo lw hg : Int32} {R MF RF BK SK PS HD LM OS OK : Nat → Nat} {rk rv bv sv ov : Nat → Int32} {post : St2 → Prop} (h0 : 0 < pc) (h4 : pc ≤ 4) (hbf : bf ≤ 8) (hse : se + bf ≤ 64) (hsc : sc < 32) (h16 : ∀ j, j < bf → BK j < 16) (hs : ∀ a b, a ≤ b → b < bf → mr_od pc (BK a) ≤ mr_od pc (BK b))
    (H : ∀ (K P : Nat → Nat) (w : Nat → Int32), mr_cp se bf BK SK bv sv K w → mr_pp pc sc se bf 5 BK PS P → post (nI pc, nI bs, nI md, fa, fo, lw, hg, nI rd, nI 0, nI mp, nI (sc + 1), nI (se + bf), nI oe, mr_cv R, rk, rv, mr_cv MF, mr_cv RF, mr_cv BK, bv, mr_cv K, w, mr_cv P, mr_cv HD, mr_cv LM, mr_cv OS, mr_cv OK, ov)) :
    ∃ n, wX_spill_20 post (nI pc) (nI bs) (nI md) fa fo lw hg (nI rd) (nI bf) (nI mp) (nI sc) (nI oe) n 0 0 (nI se) (mr_cv R) rk rv (mr_cv MF) (mr_cv RF) (mr_cv BK) bv (mr_cv SK) sv (mr_cv PS) (mr_cv HD) (mr_cv LM) (mr_cv OS) (mr_cv OK) ov := by
  have hT0 : mr_bd (fun j => BK j % pc) 0 bf = 0 := mr_bd_0 _ _
  have hT4 : mr_bd (fun j => BK j % pc) 4 bf = bf := mr_bd_all (fun j hj => by
    have := Nat.mod_lt (BK j) h0
    show BK j % pc < 4
    omega)
  have hm : ∀ i j, i ≤ j → j < bf → (fun j => BK j % pc) i ≤ (fun j => BK j % pc) j := fun i j a b => mr_od_part (hs i j a b) (h16 j b)
  have hT : ∀ q, mr_bd (fun j => BK j % pc) q bf ≤ bf := fun q => mr_bd_le _ _ _
  have L : ∃ n, wX_spill_20 post (nI pc) (nI bs) (nI md) fa fo lw hg (nI rd) (nI bf) (nI mp) (nI sc) (nI oe) n (nI (mr_bd (fun j => BK j % pc) 0 bf)) (nI 0) (nI (se + mr_bd (fun j => BK j % pc) 0 bf)) (mr_cv R) rk rv (mr_cv MF) (mr_cv RF) (mr_cv BK) bv (mr_cv SK) sv (mr_cv PS) (mr_cv HD) (mr_cv LM) (mr_cv OS) (mr_cv OK) ov :=
    pk_loop (σ := (Nat → Nat) × (Nat → Int32) × (Nat → Nat)) (fun n q s => wX_spill_20 post (nI pc) (nI bs) (nI md) fa fo lw hg (nI rd) (nI bf) (nI mp) (nI sc) (nI oe) n (nI (mr_bd (fun j => BK j % pc) q bf)) (nI q) (nI (se + mr_bd (fun j => BK j % pc) q bf)) (mr_cv R) rk rv (mr_cv MF) (mr_cv RF) (mr_cv BK) bv (mr_cv s.1) s.2.1 (mr_cv s.2.2) (mr_cv HD) (mr_cv LM) (mr_cv OS) (mr_cv OK) ov)
      (fun q s => mr_cp se (mr_bd (fun j => BK j % pc) q bf) BK SK bv sv s.1 s.2.1 ∧ mr_pp pc sc se bf q BK PS s.2.2) 4 0 (SK, sv, PS) (by omega)
      ⟨⟨fun j hj => ⟨rfl, rfl⟩, fun j hj => absurd hj (by rw [hT0]; omega)⟩, ⟨fun j hj => rfl, fun r hr => absurd hr (by omega)⟩⟩
      (fun n s h => by
        obtain ⟨K, w, P⟩ := s
        obtain ⟨g1, g2⟩ := h
        refine pk_le 4 4 (fun _ => ?_) (fun z => absurd z (by omega))
        have b := hT 4
        refine ⟨pk_in (5 * sc + 4) 160 (by omega) (mr_5 sc 4), nm_r (mr_up (5 * sc + 4) (se + mr_bd (fun j => BK j % pc) 4 bf) (mr_i8 rfl (by omega)) (mr_5 sc 4)) (nm_r (nI_1 sc) ?_)⟩
        have g3 := mr_pp_s g2
        rw [hT4] at g1 g3 ⊢
        exact H K _ w g1 g3)
      (fun n q s hq h hw => by
        obtain ⟨K, w, P⟩ := s
        obtain ⟨g1, g2⟩ := h
        refine pk_le 4 q (fun z => absurd z (by omega)) (fun _ => ?_)
        have b := hT q
        have b2 := hT (q + 1)
        refine ⟨pk_in (5 * sc + q) 160 (by omega) (mr_5 sc q), nm_r (mr_up (5 * sc + q) (se + mr_bd (fun j => BK j % pc) q bf) (mr_i8 rfl (by omega)) (mr_5 sc q)) ?_⟩
        refine mr_spill43 (K0 := SK) (w0 := sv) h0 h4 hbf hse h16 hq (mr_bd_mono (fun j => BK j % pc) q bf) b2 (fun j x y => ?_) (fun x => ?_) g1 (fun K' w' g => hw (K', w', mr_un P (5 * sc + q) (se + mr_bd (fun j => BK j % pc) q bf)) ⟨g, mr_pp_s g2⟩)
        · have e1 := mr_bd_iff (q := q) hm j (by omega)
          have e2 := mr_bd_iff (q := q + 1) hm j (by omega)
          omega
        · have e2 := mr_bd_iff (q := q + 1) hm _ x
          omega)
  rw [hT0] at L
  exact L
theorem mr_spill {pc bs md rd bf mp sc se oe : Nat} {fa fo lw hg : Int32} {R MF RF BK SK PS HD LM OS OK : Nat → Nat} {rk rv bv sv ov : Nat → Int32} {post : St2 → Prop} (h0 : 0 < pc) (h4 : pc ≤ 4) (hrd : rd < 5) (h1 : 1 ≤ bf) (hbf : bf ≤ 8) (hse : se + bf ≤ 64) (hsc : sc < 32) (h16 : ∀ j, j < bf → BK j < 16) {SB : Nat → Nat} (hsp : mr_sp pc sc se SK PS SB)
    (H : ∀ (e' : Nat) (B K P SB' : Nat → Nat) (v w : Nat → Int32), se ≤ e' → e' ≤ se + bf → (∀ j, j < se → K j = SK j ∧ w j = sv j) → (∀ j, j < 5 * sc → P j = PS j) → mr_sp pc (sc + 1) e' K P SB' →
      (∀ k, mr_f1 rd k K w none 0 e' = mr_f1 rd k BK bv (mr_f1 rd k SK sv none 0 se) 0 bf) → post (nI pc, nI bs, nI md, fa, fo, lw, hg, nI rd, nI 0, nI mp, nI (sc + 1), nI e', nI oe, mr_cv R, rk, rv, mr_cv MF, mr_cv RF, mr_cv B, v, mr_cv K, w, mr_cv P, mr_cv HD, mr_cv LM, mr_cv OS, mr_cv OK, ov)) :
    wpX_spill post (nI pc, nI bs, nI md, fa, fo, lw, hg, nI rd, nI bf, nI mp, nI sc, nI se, nI oe, mr_cv R, rk, rv, mr_cv MF, mr_cv RF, mr_cv BK, bv, mr_cv SK, sv, mr_cv PS, mr_cv HD, mr_cv LM, mr_cv OS, mr_cv OK, ov) := by
  have fin : ∀ (b' : Nat) (B K P : Nat → Nat) (v w : Nat → Int32), b' ≤ bf → (∀ j, j < b' → B j < 16) → (∀ a b, a ≤ b → b < b' → mr_od pc (B a) ≤ mr_od pc (B b)) → (∀ k acc, mr_f1 rd k B v acc 0 b' = mr_f1 rd k BK bv acc 0 bf) →
      mr_cp se b' B SK v sv K w → mr_pp pc sc se b' 5 B PS P → post (nI pc, nI bs, nI md, fa, fo, lw, hg, nI rd, nI 0, nI mp, nI (sc + 1), nI (se + b'), nI oe, mr_cv R, rk, rv, mr_cv MF, mr_cv RF, mr_cv B, v, mr_cv K, w, mr_cv P, mr_cv HD, mr_cv LM, mr_cv OS, mr_cv OK, ov) := by
    intro b' B K P v w c1 c2 c3 c4 c5 c6
    refine H (se + b') B K P _ v w (by omega) (by omega) c5.1 c6.1 (mr_sp_add hsp (fun j hj => (c5.1 j hj).1) c6.1 (fun j hj => (c5.2 j hj).1) c2 c3 h0 h4 (fun q hq => c6.2 q (by omega))) (fun k => ?_)
    rw [mr_f1_add none 0 se b', mr_f1_congr (K' := SK) (v' := sv) none 0 0 se (fun j hj => by rw [Nat.zero_add]; exact c5.1 j hj), ← c4 k]
    exact mr_f1_congr _ _ _ b' (fun j hj => by rw [Nat.zero_add, Nat.zero_add]; exact c5.2 j hj)
  unfold wpX_spill
  dsimp only
  refine mr_sort h0 h4 h1 hbf h16 (fun B v c1 c2 c3 => ?_)
  refine pk_eq rd 4 (fun z => ?_) (fun z => ?_)
  · exact mr_copy h0 h4 hbf hse hsc c1 c2 (fun K P w g1 g2 => fin bf B K P v w (Nat.le_refl _) c1 c2 (fun k acc => c3 rd k acc) g1 g2)
  · refine mr_combine hrd z h1 hbf c1 c2 (fun b' B' v' d1 d2 d3 d4 d5 => ?_)
    exact mr_copy h0 h4 (by omega) (by omega) hsc d3 d4 (fun K P w g1 g2 => fin b' B' K P v' w d2 d3 d4 (fun k acc => (d5 k acc).trans (c3 rd k acc)) g1 g2)
end
section
-- a record mapped
/-- what the remainder is, before it is made positive -/
theorem mr_rt {md : Nat} (h0 : 0 < md) (h : md ≤ 16) (x : Int32) : (x - x / nI md * nI md).toInt = x.toInt.tmod (md : Int) := by
  have hm : (nI md).toInt = (md : Int) := nI_toInt (by omega)
  have hne : nI md ≠ -1 := fun e => by
    have e1 := congrArg Int32.toInt e
    rw [hm, show (-1 : Int32).toInt = -1 from by decide] at e1
    omega
  have l1 := Int.tmod_lt_of_pos x.toInt (b := (md : Int)) (by omega)
  have l2 := Int.lt_tmod_of_pos x.toInt (b := (md : Int)) (by omega)
  have e2 : x.toInt - x.toInt.tdiv (md : Int) * (md : Int) = x.toInt.tmod (md : Int) := by
    have := Int.tdiv_mul_self x.toInt (md : Int)
    omega
  rw [Int32.toInt_sub, Int32.toInt_mul, Int32.toInt_div_of_ne_right x (nI md) hne, hm, Int.sub_bmod_bmod, e2]
  exact Int.bmod_eq_of_le (by omega) (by omega)
/-- the key that a record's key is mapped to -/
def mr_ky (md : Nat) (x : Int32) : Nat := (if 0 ≤ x - x / nI md * nI md then x - x / nI md * nI md else x - x / nI md * nI md + nI md).toNatClampNeg
theorem mr_ky_t {md : Nat} (h0 : 0 < md) (h : md ≤ 16) {x : Int32} (hx : 0 ≤ x - x / nI md * nI md) : x - x / nI md * nI md = nI (mr_ky md x) ∧ mr_ky md x < 16 := by
  have e := mr_rt h0 h x
  have l1 := Int.tmod_lt_of_pos x.toInt (b := (md : Int)) (by omega)
  unfold mr_ky
  rw [if_pos hx]
  obtain ⟨j, hj, ej⟩ := nI_of (x := x - x / nI md * nI md) (by
    rw [Int32.lt_iff_toInt_lt]
    rw [Int32.le_iff_toInt_le] at hx
    omega)
  rw [ej, nI_toInt hj] at e
  rw [ej, nI_clamp hj]
  exact ⟨rfl, by omega⟩
theorem mr_ky_f {md : Nat} (h0 : 0 < md) (h : md ≤ 16) {x : Int32} (hx : ¬ 0 ≤ x - x / nI md * nI md) : x - x / nI md * nI md + nI md = nI (mr_ky md x) ∧ mr_ky md x < 16 := by
  have e := mr_rt h0 h x
  have l2 := Int.lt_tmod_of_pos x.toInt (b := (md : Int)) (by omega)
  unfold mr_ky
  rw [if_neg hx]
  rw [Int32.le_iff_toInt_le, show (0 : Int32).toInt = 0 from by decide] at hx
  have e3 : (x - x / nI md * nI md + nI md).toInt = x.toInt.tmod (md : Int) + md := by
    rw [Int32.toInt_add, e, nI_toInt (by omega)]
    exact Int.bmod_eq_of_le (by omega) (by omega)
  obtain ⟨j, hj, ej⟩ := nI_of (x := x - x / nI md * nI md + nI md) (by
    rw [Int32.lt_iff_toInt_lt, e3, show (0 : Int32).toInt = 0 from by decide]
    omega)
  rw [ej, nI_toInt hj] at e3
  rw [ej, nI_clamp hj]
  exact ⟨rfl, by omega⟩
def mr_vl (rd : Nat) (fa fo v : Int32) : Int32 := if rd = 3 then 1 else fa * v + fo
/-- what a record gives: nothing, or a pair -/
def mr_V (rd md : Nat) (fa fo lw hg : Int32) (rk rv : Nat → Int32) (j : Nat) : Option (Nat × Int32) :=
  if ¬ rv j < lw ∧ rv j ≤ hg then some (mr_ky md (rk j), mr_vl rd fa fo (rv j)) else none
def mr_r1 (rd k : Nat) : Option (Nat × Int32) → Option Int32 → Option Int32
  | none, acc => acc
  | some p, acc => mr_s1 rd k p.1 p.2 acc
def mr_m1 : Option (Nat × Int32) → Nat | none => 0 | some _ => 1
/-- group k over n records from place b on; how many pairs they give -/
def mr_fr (rd k : Nat) (V : Nat → Option (Nat × Int32)) (acc : Option Int32) (b : Nat) : Nat → Option Int32
  | 0 => acc
  | n + 1 => mr_r1 rd k (V (b + n)) (mr_fr rd k V acc b n)
def mr_nr (V : Nat → Option (Nat × Int32)) (b : Nat) : Nat → Nat
  | 0 => 0
  | n + 1 => mr_nr V b n + mr_m1 (V (b + n))
/-- .. over the splits -/
def mr_fs (rd : Nat) (V : Nat → Option (Nat × Int32)) (R : Nat → Nat) (k : Nat) : Nat → Option Int32
  | 0 => none
  | s + 1 => mr_fr rd k V (mr_fs rd V R k s) (16 * s) (R s)
def mr_ns (V : Nat → Option (Nat × Int32)) (R : Nat → Nat) : Nat → Nat
  | 0 => 0
  | s + 1 => mr_ns V R s + mr_nr V (16 * s) (R s)
-- the state while a split is mapped
/-- what the splits before it have spilled -/
def mr_ba (pc rd sc0 se0 : Nat) (G0 : Nat → Option Int32) (SK PS : Nat → Nat) (sv : Nat → Int32) : Prop :=
  (∃ SB, mr_sp pc sc0 se0 SK PS SB) ∧ ∀ k, mr_f1 rd k SK sv none 0 se0 = G0 k
theorem mr_ba_keep {pc rd sc0 se0 : Nat} {G0 : Nat → Option Int32} {SK PS SK' PS' : Nat → Nat} {sv sv' : Nat → Int32} (h : mr_ba pc rd sc0 se0 G0 SK PS sv) (h1 : ∀ j, j < se0 → SK' j = SK j ∧ sv' j = sv j) (h2 : ∀ j, j < 5 * sc0 → PS' j = PS j) : mr_ba pc rd sc0 se0 G0 SK' PS' sv' := by
  obtain ⟨⟨SB, hs⟩, hf⟩ := h
  refine ⟨⟨SB, mr_sp_congr hs (fun j hj => (h1 j hj).1) h2⟩, fun k => ?_⟩
  rw [← hf k]
  exact mr_f1_congr none 0 0 se0 (fun j hj => by rw [Nat.zero_add]; exact h1 j hj)
def mr_mi (pc bs rd sc0 se0 i : Nat) (G0 G : Nat → Option Int32) (sc se bf : Nat) (SK PS BK : Nat → Nat) (sv bv : Nat → Int32) : Prop :=
  mr_ba pc rd sc0 se0 G0 SK PS sv ∧ (∃ SB, mr_sp pc sc se SK PS SB) ∧ sc0 ≤ sc ∧ se0 ≤ se ∧ 2 * sc + bf ≤ 2 * sc0 + i ∧ se + bf ≤ se0 + i ∧ bf ≤ bs ∧ (∀ j, j < bf → BK j < 16) ∧
  ∀ k, mr_f1 rd k BK bv (mr_f1 rd k SK sv none 0 se) 0 bf = G k
theorem mr_mi_skip {pc bs rd sc0 se0 i : Nat} {G0 G : Nat → Option Int32} {sc se bf : Nat} {SK PS BK : Nat → Nat} {sv bv : Nat → Int32} (h : mr_mi pc bs rd sc0 se0 i G0 G sc se bf SK PS BK sv bv) : mr_mi pc bs rd sc0 se0 (i + 1) G0 G sc se bf SK PS BK sv bv := by
  obtain ⟨h1, h2, h3, h4, h5, h6, h7⟩ := h
  exact ⟨h1, h2, h3, h4, by omega, by omega, h7⟩
theorem mr_mi_push {pc bs rd sc0 se0 i k0 : Nat} {w : Int32} {G0 G : Nat → Option Int32} {sc se bf : Nat} {SK PS BK : Nat → Nat} {sv bv : Nat → Int32} (h : mr_mi pc bs rd sc0 se0 i G0 G sc se bf SK PS BK sv bv) (hb : bf < bs) (hk : k0 < 16) :
    mr_mi pc bs rd sc0 se0 (i + 1) G0 (fun k => mr_s1 rd k k0 w (G k)) sc se (bf + 1) SK PS (mr_un BK bf k0) sv (upd bv bf w) := by
  obtain ⟨h1, h2, h3, h4, h5, h6, h7, h8, h9⟩ := h
  refine ⟨h1, h2, h3, h4, by omega, by omega, by omega, fun j hj => ?_, fun k => ?_⟩
  · by_cases e : j = bf
    · rw [e, mr_us]
      exact hk
    · rw [mr_ne e]
      exact h8 j (by omega)
  · show mr_s1 rd k (mr_un BK bf k0 (0 + bf)) (upd bv bf w (0 + bf)) (mr_f1 rd k (mr_un BK bf k0) (upd bv bf w) (mr_f1 rd k SK sv none 0 se) 0 bf) = mr_s1 rd k k0 w (G k)
    rw [Nat.zero_add, mr_us, pk_us, mr_f1_congr (K' := BK) (v' := bv) _ 0 0 bf (fun j hj => ⟨mr_ne (by omega), pk_un (by omega)⟩), h9 k]
theorem mr_mi_spill {pc bs rd sc0 se0 i e' : Nat} {G0 G : Nat → Option Int32} {sc se bf : Nat} {SK PS BK B K P SB' : Nat → Nat} {sv bv v w : Nat → Int32} (h : mr_mi pc bs rd sc0 se0 i G0 G sc se bf SK PS BK sv bv) (hb : 2 ≤ bf)
    (c1 : se ≤ e') (c2 : e' ≤ se + bf) (c3 : ∀ j, j < se → K j = SK j ∧ w j = sv j) (c4 : ∀ j, j < 5 * sc → P j = PS j) (c5 : mr_sp pc (sc + 1) e' K P SB') (c6 : ∀ k, mr_f1 rd k K w none 0 e' = mr_f1 rd k BK bv (mr_f1 rd k SK sv none 0 se) 0 bf) :
    mr_mi pc bs rd sc0 se0 i G0 G (sc + 1) e' 0 K P B w v := by
  obtain ⟨h1, h2, h3, h4, h5, h6, h7, h8, h9⟩ := h
  exact ⟨mr_ba_keep h1 (fun j hj => c3 j (by omega)) (fun j hj => c4 j (by omega)), ⟨SB', c5⟩, by omega, by omega, by omega, by omega, by omega, fun j hj => absurd hj (by omega), fun k => (c6 k).trans (h9 k)⟩
theorem mr_map72 {pc bs md rd bf mp sc se oe : Nat} {fa fo lw hg : Int32} {R MF RF BK SK PS HD LM OS OK : Nat → Nat} {rk rv bv sv ov : Nat → Int32} {post : St2 → Prop} {k0 : Nat} {v : Int32} (hk : k0 < 16) (hbf : bf < 8) (hrd : rd < 5) (H : post (nI pc, nI bs, nI md, fa, fo, lw, hg, nI rd, nI (bf + 1), nI mp, nI sc, nI se, nI oe, mr_cv R, rk, rv, mr_cv MF, mr_cv RF, mr_cv (mr_un BK bf k0), (upd bv bf (mr_vl rd fa fo v)), mr_cv SK, sv, mr_cv PS, mr_cv HD, mr_cv LM, mr_cv OS, mr_cv OK, ov)) : wX_mapRecord_72 post v (nI k0) (nI pc) (nI bs) (nI md) fa fo lw hg (nI rd) (nI bf) (nI mp) (nI sc) (nI se) (nI oe) (mr_cv R) rk rv (mr_cv MF) (mr_cv RF) (mr_cv BK) bv (mr_cv SK) sv (mr_cv PS) (mr_cv HD) (mr_cv LM) (mr_cv OS) (mr_cv OK) ov := by
  refine ⟨pk_in bf 8 hbf, nm_r (mr_up bf k0 (mr_i8 rfl (by omega))) (pk_eq rd 3 (fun z => ?_) (fun z => ?_))⟩
  · have e : mr_vl rd fa fo v = 1 := if_pos z
    rw [e] at H
    exact ⟨pk_in bf 8 hbf, nm_r (mr_ui bf 1 rfl) (nm_r (nI_1 bf) H)⟩
  · have e : mr_vl rd fa fo v = fa * v + fo := if_neg z
    rw [e] at H
    exact ⟨pk_in bf 8 hbf, nm_r (mr_ui bf (fa * v + fo) rfl) (nm_r (nI_1 bf) H)⟩
theorem mr_mrec {pc bs md rd bf mp sc se oe : Nat} {fa fo lw hg : Int32} {R MF RF BK SK PS HD LM OS OK : Nat → Nat} {rk rv bv sv ov : Nat → Int32} {post : St2 → Prop} {x : Int32} {a sc0 se0 i : Nat} {G0 G : Nat → Option Int32} (hx : x = nI a) (ha : a < 64) (h0 : 0 < pc) (h4 : pc ≤ 4) (hrd : rd < 5) (hm0 : 0 < md) (hm : md ≤ 16) (hb2 : 2 ≤ bs) (hb8 : bs ≤ 8) (hi : i < 16) (hsc : sc0 ≤ 24) (hse : se0 ≤ 48)
    (h : mr_mi pc bs rd sc0 se0 i G0 G sc se bf SK PS BK sv bv)
    (H : ∀ (bf' sc' se' : Nat) (SK' PS' BK' : Nat → Nat) (sv' bv' : Nat → Int32), mr_mi pc bs rd sc0 se0 (i + 1) G0 (fun k => mr_r1 rd k (mr_V rd md fa fo lw hg rk rv a) (G k)) sc' se' bf' SK' PS' BK' sv' bv' → post (nI pc, nI bs, nI md, fa, fo, lw, hg, nI rd, nI bf', nI (mp + mr_m1 (mr_V rd md fa fo lw hg rk rv a)), nI sc', nI se', nI oe, mr_cv R, rk, rv, mr_cv MF, mr_cv RF, mr_cv BK', bv', mr_cv SK', sv', mr_cv PS', mr_cv HD, mr_cv LM, mr_cv OS, mr_cv OK, ov)) :
    wpX_mapRecord post (nI pc, nI bs, nI md, fa, fo, lw, hg, nI rd, nI bf, nI mp, nI sc, nI se, nI oe, mr_cv R, rk, rv, mr_cv MF, mr_cv RF, mr_cv BK, bv, mr_cv SK, sv, mr_cv PS, mr_cv HD, mr_cv LM, mr_cv OS, mr_cv OK, ov) x := by
  subst hx
  refine ⟨pk_in a 64 ha, nm_r (mr_ri a) (br_c (fun z => ?_) (fun z => br_c (fun z2 => ?_) (fun z2 => ?_)))⟩
  · have e : mr_V rd md fa fo lw hg rk rv a = none := if_neg (fun g => g.1 z)
    rw [e] at H
    exact H _ _ _ _ _ _ _ _ (mr_mi_skip h)
  · have e : mr_V rd md fa fo lw hg rk rv a = some (mr_ky md (rk a), mr_vl rd fa fo (rv a)) := if_pos ⟨z, z2⟩
    rw [e] at H
    have key : mr_ky md (rk a) < 16 → wX_mapRecord_57 post (rv a) (nI (mr_ky md (rk a))) (nI pc) (nI bs) (nI md) fa fo lw hg (nI rd) (nI bf) (nI (mp + 1)) (nI sc) (nI se) (nI oe) (mr_cv R) rk rv (mr_cv MF) (mr_cv RF) (mr_cv BK) bv (mr_cv SK) sv (mr_cv PS) (mr_cv HD) (mr_cv LM) (mr_cv OS) (mr_cv OK) ov := by
      intro hk
      have hI := h
      obtain ⟨_, ⟨SB, hsp⟩, g3, g4, g5, g6, g7, g8, _⟩ := hI
      refine pk_eq bf bs (fun z3 => ?_) (fun z3 => ?_)
      · refine mr_spill h0 h4 hrd (by omega) (by omega) (by omega) (by omega) g8 hsp (fun e' B K P SB' v w c1 c2 c3 c4 c5 c6 => ?_)
        exact mr_map72 hk (by omega) hrd (H _ _ _ _ _ _ _ _ (mr_mi_push (mr_mi_spill h (by omega) c1 c2 c3 c4 c5 c6) (by omega) hk))
      · exact mr_map72 hk (by omega) hrd (H _ _ _ _ _ _ _ _ (mr_mi_push h (by omega) hk))
    refine nm_r (nI_1 mp) ⟨pk_in a 64 ha, nI_ne0 hm0 (by omega), nm_r (show _ = rk a - rk a / nI md * nI md by rw [nI_clamp (show a < 2 ^ 31 by omega)]) (br_c (fun z3 => ?_) (fun z3 => ?_))⟩
    · have k := mr_ky_t hm0 hm z3
      rw [k.1]
      exact key k.2
    · have k := mr_ky_f hm0 hm z3
      exact nm_r k.1 (key k.2)
  · have e : mr_V rd md fa fo lw hg rk rv a = none := if_neg (fun g => z2 g.2)
    rw [e] at H
    exact H _ _ _ _ _ _ _ _ (mr_mi_skip h)
end
section
-- a split mapped
theorem mr_map77 {pc bs md rd oe : Nat} {fa fo lw hg : Int32} {R MF RF BK SK PS HD LM OS OK : Nat → Nat} {rk rv bv sv ov : Nat → Int32} {post : St2 → Prop} {J : Int32 → Int32 → Int32 → Int32 → Int32 → Int32 → Int32 → Int32 → Int32 → Int32 → Int32 → Int32 → Int32 → Int32 → (Nat → Int32) → (Nat → Int32) → (Nat → Int32) → (Nat → Int32) → (Nat → Int32) → (Nat → Int32) → (Nat → Int32) → (Nat → Int32) → (Nat → Int32) → (Nat → Int32) → (Nat → Int32) → (Nat → Int32) → (Nat → Int32) → (Nat → Int32) → (Nat → Int32) → Prop} {x5 y5 : Int32} {split sc0 se0 mp0 up : Nat} {G0 : Nat → Option Int32} (hy : x5 + (-1) = y5) (hs : split < 4) (hup : up ≤ 16) (h0 : 0 < pc) (h4 : pc ≤ 4) (hrd : rd < 5) (hm0 : 0 < md) (hm : md ≤ 16) (hb2 : 2 ≤ bs) (hb8 : bs ≤ 8) (hsc : sc0 ≤ 24) (hse : se0 ≤ 48)
    (h : mr_ba pc rd sc0 se0 G0 SK PS sv)
    (H : ∀ (sc' se' : Nat) (SK' PS' BK' : Nat → Nat) (sv' bv' : Nat → Int32), mr_ba pc rd sc0 se0 G0 SK' PS' sv' → mr_ba pc rd sc' se' (fun k => mr_fr rd k (mr_V rd md fa fo lw hg rk rv) (G0 k) (16 * split) up) SK' PS' sv' → sc' ≤ sc0 + 8 → se' ≤ se0 + 16 →
      J y5 (nI pc) (nI bs) (nI md) fa fo lw hg (nI rd) (nI 0) (nI (mp0 + mr_nr (mr_V rd md fa fo lw hg rk rv) (16 * split) up)) (nI sc') (nI se') (nI oe) (mr_cv R) rk rv (mr_cv MF) (mr_cv RF) (mr_cv BK') bv' (mr_cv SK') sv' (mr_cv PS') (mr_cv HD) (mr_cv LM) (mr_cv OS) (mr_cv OK) ov) :
    ∃ n, wX_mapSplit_77 post J (nI split) (nI sc0) (nI se0) (nI mp0) x5 (nI up) n 0 (nI pc) (nI bs) (nI md) fa fo lw hg (nI rd) (nI 0) (nI mp0) (nI sc0) (nI se0) (nI oe) (mr_cv R) rk rv (mr_cv MF) (mr_cv RF) (mr_cv BK) bv (mr_cv SK) sv (mr_cv PS) (mr_cv HD) (mr_cv LM) (mr_cv OS) (mr_cv OK) ov :=
  pk_loop (σ := (Nat × Nat × Nat × Nat) × (Nat → Nat) × (Nat → Nat) × (Nat → Nat) × (Nat → Int32) × (Nat → Int32))
    (fun n i s => wX_mapSplit_77 post J (nI split) (nI sc0) (nI se0) (nI mp0) x5 (nI up) n (nI i) (nI pc) (nI bs) (nI md) fa fo lw hg (nI rd) (nI s.1.2.1) (nI s.1.1) (nI s.1.2.2.1) (nI s.1.2.2.2) (nI oe) (mr_cv R) rk rv (mr_cv MF) (mr_cv RF) (mr_cv s.2.2.2.1) s.2.2.2.2.2 (mr_cv s.2.1) s.2.2.2.2.1 (mr_cv s.2.2.1) (mr_cv HD) (mr_cv LM) (mr_cv OS) (mr_cv OK) ov)
    (fun i s => s.1.1 = mp0 + mr_nr (mr_V rd md fa fo lw hg rk rv) (16 * split) i ∧ mr_mi pc bs rd sc0 se0 i G0 (fun k => mr_fr rd k (mr_V rd md fa fo lw hg rk rv) (G0 k) (16 * split) i) s.1.2.2.1 s.1.2.2.2 s.1.2.1 s.2.1 s.2.2.1 s.2.2.2.1 s.2.2.2.2.1 s.2.2.2.2.2)
    up 0 ((mp0, 0, sc0, se0), SK, PS, BK, sv, bv) (by omega)
    ⟨rfl, h, h.1, Nat.le_refl _, Nat.le_refl _, Nat.le_refl _, Nat.le_refl _, by show 0 ≤ bs; omega, fun j hj => absurd hj (Nat.not_lt_zero j), h.2⟩
    (fun n s h => by
      obtain ⟨⟨mp', bf', sc', se'⟩, SK', PS', BK', sv', bv'⟩ := s
      obtain ⟨e1, g1, ⟨SB, g2⟩, g3, g4, g5, g6, g7, g8, g9⟩ := h
      dsimp only at e1 g1 g2 g3 g4 g5 g6 g7 g8 g9
      show wX_mapSplit_77 post J (nI split) (nI sc0) (nI se0) (nI mp0) x5 (nI up) (n + 1) (nI up) (nI pc) (nI bs) (nI md) fa fo lw hg (nI rd) (nI bf') (nI mp') (nI sc') (nI se') (nI oe) (mr_cv R) rk rv (mr_cv MF) (mr_cv RF) (mr_cv BK') bv' (mr_cv SK') sv' (mr_cv PS') (mr_cv HD) (mr_cv LM) (mr_cv OS) (mr_cv OK) ov
      subst e1
      refine pk_le up up (fun _ => pk_le bf' 0 (fun z => ?_) (fun z => ?_)) (fun z => absurd z (by omega))
      · have eb : bf' = 0 := by omega
        subst eb
        exact nm_r hy (H sc' se' SK' PS' BK' sv' bv' g1 ⟨⟨SB, g2⟩, g9⟩ (by omega) (by omega))
      · refine mr_spill h0 h4 hrd (by omega) (by omega) (by omega) (by omega) g8 g2 (fun e' B K P SB' v w c1 c2 c3 c4 c5 c6 => ?_)
        exact nm_r hy (H (sc' + 1) e' K P B w v (mr_ba_keep g1 (fun j hj => c3 j (by omega)) (fun j hj => c4 j (by omega))) ⟨⟨SB', c5⟩, fun k => (c6 k).trans (g9 k)⟩ (by omega) (by omega)))
    (fun n i s hi h hw => by
      obtain ⟨⟨mp', bf', sc', se'⟩, SK', PS', BK', sv', bv'⟩ := s
      obtain ⟨e1, g⟩ := h
      dsimp only at e1 g
      show wX_mapSplit_77 post J (nI split) (nI sc0) (nI se0) (nI mp0) x5 (nI up) (n + 1) (nI i) (nI pc) (nI bs) (nI md) fa fo lw hg (nI rd) (nI bf') (nI mp') (nI sc') (nI se') (nI oe) (mr_cv R) rk rv (mr_cv MF) (mr_cv RF) (mr_cv BK') bv' (mr_cv SK') sv' (mr_cv PS') (mr_cv HD) (mr_cv LM) (mr_cv OS) (mr_cv OK) ov
      subst e1
      refine pk_le up i (fun z => absurd z (by omega)) (fun _ => ?_)
      refine mr_mrec (mr_16 split i) (by omega) h0 h4 hrd hm0 hm hb2 hb8 (by omega) hsc hse g (fun bf'' sc'' se'' SK'' PS'' BK'' sv'' bv'' g' => ?_)
      exact nm_r (nI_1 i) (hw ((_, bf'', sc'', se''), SK'', PS'', BK'', sv'', bv'') ⟨Nat.add_assoc _ _ _, g'⟩))
theorem mr_map24 {post : St2 → Prop} {split sc0 se0 mp0 : Nat} {G0 : Nat → Option Int32} {pc bs md rd oe : Nat} {fa fo lw hg : Int32} {R MF RF HD LM OS OK : Nat → Nat} {rk rv ov : Nat → Int32} (hs : split < 4) (h0 : 0 < pc) (h4 : pc ≤ 4) (hrd : rd < 5) (hm0 : 0 < md) (hm : md ≤ 16) (hb2 : 2 ≤ bs) (hb8 : bs ≤ 8) (hsc : sc0 ≤ 24) (hse : se0 ≤ 48) (hR : R split ≤ 16)
    (H : ∀ (sc se : Nat) (SK PS BK : Nat → Nat) (sv bv : Nat → Int32), mr_ba pc rd sc se (fun k => mr_fr rd k (mr_V rd md fa fo lw hg rk rv) (G0 k) (16 * split) (R split)) SK PS sv → sc ≤ sc0 + 8 → se ≤ se0 + 16 →
      post (nI pc, nI bs, nI md, fa, fo, lw, hg, nI rd, nI 0, nI (mp0 + mr_nr (mr_V rd md fa fo lw hg rk rv) (16 * split) (R split)), nI sc, nI se, nI oe, mr_cv R, rk, rv, mr_cv MF, mr_cv RF, mr_cv BK, bv, mr_cv SK, sv, mr_cv PS, mr_cv HD, mr_cv LM, mr_cv OS, mr_cv OK, ov)) :
    ∀ (d : Nat), d < 100 → ∀ (bf mp sc se : Nat) (SK PS BK : Nat → Nat) (sv bv : Nat → Int32), mr_ba pc rd sc0 se0 G0 SK PS sv → wX_mapSplit_24 post (nI split) (nI sc0) (nI se0) (nI mp0) (d + 2) (nI d) (nI pc) (nI bs) (nI md) fa fo lw hg (nI rd) (nI bf) (nI mp) (nI sc) (nI se) (nI oe) (mr_cv R) rk rv (mr_cv MF) (mr_cv RF) (mr_cv BK) bv (mr_cv SK) sv (mr_cv PS) (mr_cv HD) (mr_cv LM) (mr_cv OS) (mr_cv OK) ov := by
  intro d
  induction d with
  | zero =>
    intro _ bf mp sc se SK PS BK sv bv h
    refine br_f (by decide) (br_t (by decide) ⟨pk_in split 4 hs, nm_r (mr_rd split) ?_⟩)
    refine mr_map77 (y5 := -1) rfl hs hR h0 h4 hrd hm0 hm hb2 hb8 hsc hse h (fun sc' se' SK' PS' BK' sv' bv' _ g1 g2 g3 => ?_)
    exact br_t (by decide) (H sc' se' SK' PS' BK' sv' bv' g1 g2 g3)
  | succ d ih =>
    intro hd bf mp sc se SK PS BK sv bv h
    refine br_f (nI_pos (by omega)) (br_f (nI_nle (by omega) (by omega)) ⟨pk_in split 4 hs, by decide, nm_r (show _ = nI (R split / 2) by rw [mr_rd split]; exact pk_div (a := R split) (d := 2) (by omega) (by omega) (by omega)) ?_⟩)
    refine mr_map77 (y5 := nI d) (pk_m1 d) hs (by omega) h0 h4 hrd hm0 hm hb2 hb8 hsc hse h (fun sc' se' SK' PS' BK' sv' bv' g0 _ _ _ => ?_)
    exact ih (by omega) _ _ _ _ _ _ _ _ _ g0
theorem mr_msplit {pc bs md rd bf mp sc se oe : Nat} {fa fo lw hg : Int32} {R MF RF BK SK PS HD LM OS OK : Nat → Nat} {rk rv bv sv ov : Nat → Int32} {post : St2 → Prop} {split : Nat} {G0 : Nat → Option Int32} (hs : split < 4) (h0 : 0 < pc) (h4 : pc ≤ 4) (hrd : rd < 5) (hm0 : 0 < md) (hm : md ≤ 16) (hb2 : 2 ≤ bs) (hb8 : bs ≤ 8) (hsc : sc ≤ 24) (hse : se ≤ 48) (hR : R split ≤ 16) (hMF : MF split < 100)
    (h : mr_ba pc rd sc se G0 SK PS sv)
    (H : ∀ (sc' se' : Nat) (SK' PS' BK' : Nat → Nat) (sv' bv' : Nat → Int32), mr_ba pc rd sc' se' (fun k => mr_fr rd k (mr_V rd md fa fo lw hg rk rv) (G0 k) (16 * split) (R split)) SK' PS' sv' → sc' ≤ sc + 8 → se' ≤ se + 16 →
      post (nI pc, nI bs, nI md, fa, fo, lw, hg, nI rd, nI 0, nI (mp + mr_nr (mr_V rd md fa fo lw hg rk rv) (16 * split) (R split)), nI sc', nI se', nI oe, mr_cv R, rk, rv, mr_cv MF, mr_cv RF, mr_cv BK', bv', mr_cv SK', sv', mr_cv PS', mr_cv HD, mr_cv LM, mr_cv OS, mr_cv OK, ov)) :
    wpX_mapSplit post (nI pc, nI bs, nI md, fa, fo, lw, hg, nI rd, nI bf, nI mp, nI sc, nI se, nI oe, mr_cv R, rk, rv, mr_cv MF, mr_cv RF, mr_cv BK, bv, mr_cv SK, sv, mr_cv PS, mr_cv HD, mr_cv LM, mr_cv OS, mr_cv OK, ov) (nI split) :=
  ⟨pk_in split 4 hs, nm_r (mr_rd split) ⟨MF split + 2, mr_map24 hs h0 h4 hrd hm0 hm hb2 hb8 hsc hse hR H (MF split) hMF bf mp sc se SK PS BK sv bv h⟩⟩
end
section
-- one group reduced
/-- spill t's head in part p: what stands before it has keys below c, what stands behind it hasn't -/
def mr_hc (PS SK : Nat → Nat) (p c t h : Nat) : Prop :=
  PS (5 * t + p) ≤ h ∧ h ≤ PS (5 * t + p + 1) ∧ (∀ j, PS (5 * t + p) ≤ j → j < h → SK j < c) ∧ (∀ j, h ≤ j → j < PS (5 * t + p + 1) → c ≤ SK j)
/-- the heads while spill t's are taken -/
def mr_gi (rd k t : Nat) (SK LM HD0 : Nat → Nat) (sv : Nat → Int32) (acc0 acc : Option Int32) (HD : Nat → Nat) : Prop :=
  HD0 t ≤ HD t ∧ HD t ≤ LM t ∧ (∀ u, u ≠ t → HD u = HD0 u) ∧ (∀ j, HD0 t ≤ j → j < HD t → SK j = k) ∧ acc = mr_f1 rd k SK sv acc0 (HD0 t) (HD t - HD0 t)
theorem mr_gi_s {rd k t : Nat} {SK LM HD0 HD : Nat → Nat} {sv : Nat → Int32} {acc0 acc : Option Int32} (h : mr_gi rd k t SK LM HD0 sv acc0 acc HD) (hl : HD t < LM t) (e : SK (HD t) = k) : mr_gi rd k t SK LM HD0 sv acc0 (mr_sx rd acc (sv (HD t))) (mr_un HD t (HD t + 1)) := by
  obtain ⟨h1, h2, h3, h4, h5⟩ := h
  refine ⟨?_, ?_, fun u hu => ?_, fun j x y => ?_, ?_⟩
  · rw [mr_us]
    omega
  · rw [mr_us]
    omega
  · rw [mr_ne hu]
    exact h3 u hu
  · rw [mr_us] at y
    rcases Nat.lt_or_ge j (HD t) with z | z
    · exact h4 j x z
    · rw [show j = HD t by omega]
      exact e
  · rw [mr_us, show HD t + 1 - HD0 t = (HD t - HD0 t) + 1 by omega]
    show _ = mr_s1 rd k (SK (HD0 t + (HD t - HD0 t))) (sv (HD0 t + (HD t - HD0 t))) (mr_f1 rd k SK sv acc0 (HD0 t) (HD t - HD0 t))
    rw [← h5, show HD0 t + (HD t - HD0 t) = HD t by omega, mr_s1_t e]
theorem mr_rg112 {pc bs md rd bf mp sc se oe : Nat} {fa fo lw hg : Int32} {R MF RF BK SK PS HD LM OS OK : Nat → Nat} {rk rv bv sv ov : Nat → Int32} {post : St2 → Prop} {J20 : Int32 → Int32 → Int32 → (Nat → Int32) → (Nat → Int32) → (Nat → Int32) → (Nat → Int32) → (Nat → Int32) → (Nat → Int32) → (Nat → Int32) → (Nat → Int32) → (Nat → Int32) → (Nat → Int32) → (Nat → Int32) → (Nat → Int32) → (Nat → Int32) → (Nat → Int32) → (Nat → Int32) → Prop} {J29 : Int32 → Int32 → (Nat → Int32) → (Nat → Int32) → (Nat → Int32) → (Nat → Int32) → (Nat → Int32) → (Nat → Int32) → (Nat → Int32) → (Nat → Int32) → (Nat → Int32) → (Nat → Int32) → (Nat → Int32) → (Nat → Int32) → (Nat → Int32) → (Nat → Int32) → (Nat → Int32) → Prop} {x1 x2 : Int32} {t : Nat} (ht : t < 32) (hh : HD t < 64) (H : J29 x2 1 (mr_cv R) rk rv (mr_cv MF) (mr_cv RF) (mr_cv BK) bv (mr_cv SK) sv (mr_cv PS) (mr_cv (mr_un HD t (HD t + 1))) (mr_cv LM) (mr_cv OS) (mr_cv OK) ov) : wX_reduceGroup_112 post J20 J29 x1 x2 (nI t) (nI pc) (nI bs) (nI md) fa fo lw hg (nI rd) (nI bf) (nI mp) (nI sc) (nI se) (nI oe) (mr_cv R) rk rv (mr_cv MF) (mr_cv RF) (mr_cv BK) bv (mr_cv SK) sv (mr_cv PS) (mr_cv HD) (mr_cv LM) (mr_cv OS) (mr_cv OK) ov :=
  ⟨pk_in t 32 ht, pk_in t 32 ht, nm_r (mr_up t (HD t + 1) (mr_i8 (by rw [mr_rd t, nI_1]) (by omega))) H⟩
theorem mr_rg29 {pc bs md rd bf mp sc se oe : Nat} {fa fo lw hg : Int32} {R MF RF BK SK PS HD LM OS OK : Nat → Nat} {rk rv bv sv ov : Nat → Int32} {post : St2 → Prop} {J : Int32 → Int32 → Int32 → (Nat → Int32) → (Nat → Int32) → (Nat → Int32) → (Nat → Int32) → (Nat → Int32) → (Nat → Int32) → (Nat → Int32) → (Nat → Int32) → (Nat → Int32) → (Nat → Int32) → (Nat → Int32) → (Nat → Int32) → (Nat → Int32) → (Nat → Int32) → (Nat → Int32) → Prop} {k t : Nat} {acc : Option Int32} (hk : k < 16) (ht : t < 32) (hrd : rd < 5) (hl : LM t ≤ 64) (hh : HD t ≤ LM t) (h16 : ∀ j, j < LM t → SK j < 16)
    (H : ∀ (acc' : Option Int32) (HD' : Nat → Nat), mr_gi rd k t SK LM HD sv acc acc' HD' → (HD' t < LM t → SK (HD' t) ≠ k) → J (mr_ro rd acc') (mr_bo acc') (nI (t + 1)) (mr_cv R) rk rv (mr_cv MF) (mr_cv RF) (mr_cv BK) bv (mr_cv SK) sv (mr_cv PS) (mr_cv HD') (mr_cv LM) (mr_cv OS) (mr_cv OK) ov) :
    ∃ n, wX_reduceGroup_29 post J (nI k) (nI t) (nI pc) (nI bs) (nI md) fa fo lw hg (nI rd) (nI bf) (nI mp) (nI sc) (nI se) (nI oe) n (mr_ro rd acc) (mr_bo acc) (mr_cv R) rk rv (mr_cv MF) (mr_cv RF) (mr_cv BK) bv (mr_cv SK) sv (mr_cv PS) (mr_cv HD) (mr_cv LM) (mr_cv OS) (mr_cv OK) ov :=
  loop_m (σ := Option Int32 × (Nat → Nat)) (fun n s => wX_reduceGroup_29 post J (nI k) (nI t) (nI pc) (nI bs) (nI md) fa fo lw hg (nI rd) (nI bf) (nI mp) (nI sc) (nI se) (nI oe) n (mr_ro rd s.1) (mr_bo s.1) (mr_cv R) rk rv (mr_cv MF) (mr_cv RF) (mr_cv BK) bv (mr_cv SK) sv (mr_cv PS) (mr_cv s.2) (mr_cv LM) (mr_cv OS) (mr_cv OK) ov) (fun s => mr_gi rd k t SK LM HD sv acc s.1 s.2) (fun s => LM t - s.2 t)
    (fun n s h hw => by
      obtain ⟨c, D⟩ := s
      have b : D t ≤ LM t := h.2.1
      show wX_reduceGroup_29 post J (nI k) (nI t) (nI pc) (nI bs) (nI md) fa fo lw hg (nI rd) (nI bf) (nI mp) (nI sc) (nI se) (nI oe) (n + 1) (mr_ro rd c) (mr_bo c) (mr_cv R) rk rv (mr_cv MF) (mr_cv RF) (mr_cv BK) bv (mr_cv SK) sv (mr_cv PS) (mr_cv D) (mr_cv LM) (mr_cv OS) (mr_cv OK) ov
      refine ⟨pk_in t 32 ht, pk_in t 32 ht, pk_le (LM t) (D t) (fun z => nm_r (nI_1 t) (H c D h (fun g => absurd g (by omega)))) (fun z => ?_) (mr_rd t) (mr_rd t)⟩
      have b2 := h16 (D t) z
      have e1 : mr_cv SK (mr_cv D (nI t).toNatClampNeg).toNatClampNeg = nI (SK (D t)) := mr_rd (D t) (mr_rd t)
      have e2 : sv (mr_cv D (nI t).toNatClampNeg).toNatClampNeg = sv (D t) := mr_ri (D t) (mr_rd t)
      refine ⟨pk_in t 32 ht, pk_in (D t) 64 (by omega) (mr_rd t), pk_eq (SK (D t)) k (fun e => ?_) (fun e => nm_r (nI_1 t) (H c D h (fun _ => e))) e1⟩
      refine ⟨pk_in t 32 ht, pk_in (D t) 64 (by omega) (mr_rd t), nm_r e2 ?_⟩
      have hw' : wX_reduceGroup_29 post J (nI k) (nI t) (nI pc) (nI bs) (nI md) fa fo lw hg (nI rd) (nI bf) (nI mp) (nI sc) (nI se) (nI oe) n (mr_ro rd (mr_sx rd c (sv (D t)))) (mr_bo (mr_sx rd c (sv (D t)))) (mr_cv R) rk rv (mr_cv MF) (mr_cv RF) (mr_cv BK) bv (mr_cv SK) sv (mr_cv PS) (mr_cv (mr_un D t (D t + 1))) (mr_cv LM) (mr_cv OS) (mr_cv OK) ov :=
        hw (mr_sx rd c (sv (D t)), mr_un D t (D t + 1)) (mr_gi_s h z e) (by
          show LM t - mr_un D t (D t + 1) t < LM t - D t
          rw [mr_us]
          omega)
      rw [mr_sxb] at hw'
      refine pk_eq rd 4 (fun z4 => ?_) (fun z4 => ?_)
      · rw [mr_sx4 z4] at hw'
        exact nm_e (mr_rg112 ht (by omega) hw')
      · cases c with
        | none =>
          rw [mr_sx0 z4] at hw'
          exact br_t rfl (mr_rg112 ht (by omega) hw')
        | some r =>
          rw [mr_sxs z4] at hw'
          exact br_f (show ¬ (1 : Int32) = 0 by decide) (mr_comb hrd (mr_rg112 ht (by omega) hw')))
    (acc, HD) ⟨Nat.le_refl _, hh, fun u _ => rfl, fun j x y => absurd (show j < HD t from y) (by omega), by rw [Nat.sub_self]; rfl⟩
theorem mr_rgroup {pc bs md rd bf mp sc se oe : Nat} {fa fo lw hg : Int32} {R MF RF BK SK PS HD LM OS OK : Nat → Nat} {rk rv bv sv ov : Nat → Int32} {post : St2 → Prop} {x : Int32} {k p : Nat} {SB : Nat → Nat} (hx : x = nI k) (hk : k < 16) (hp : p < 4) (hkp : k % pc = p) (hsc : sc ≤ 32) (hse : se ≤ 64) (hoe : oe < 16) (hrd : rd < 5) (hsp : mr_sp pc sc se SK PS SB) (hLM : ∀ t, t < sc → LM t = PS (5 * t + p + 1)) (hhc : ∀ t, t < sc → mr_hc PS SK p k t (HD t))
    (H : ∀ HD' : Nat → Nat, (∀ t, t < sc → mr_hc PS SK p (k + 1) t (HD' t)) → post (nI pc, nI bs, nI md, fa, fo, lw, hg, nI rd, nI bf, nI mp, nI sc, nI se, nI (oe + 1), mr_cv R, rk, rv, mr_cv MF, mr_cv RF, mr_cv BK, bv, mr_cv SK, sv, mr_cv PS, mr_cv HD', mr_cv LM, mr_cv OS, mr_cv (mr_un OK oe k), (upd ov oe (mr_ro rd (mr_f1 rd k SK sv none 0 se))))) :
    wpX_reduceGroup post (nI pc, nI bs, nI md, fa, fo, lw, hg, nI rd, nI bf, nI mp, nI sc, nI se, nI oe, mr_cv R, rk, rv, mr_cv MF, mr_cv RF, mr_cv BK, bv, mr_cv SK, sv, mr_cv PS, mr_cv HD, mr_cv LM, mr_cv OS, mr_cv OK, ov) x := by
  subst hx
  have L : ∃ n, wX_reduceGroup_20 post (nI k) (nI pc) (nI bs) (nI md) fa fo lw hg (nI rd) (nI bf) (nI mp) (nI sc) (nI se) (nI oe) n (mr_ro rd none) (mr_bo none) (nI 0) (mr_cv R) rk rv (mr_cv MF) (mr_cv RF) (mr_cv BK) bv (mr_cv SK) sv (mr_cv PS) (mr_cv HD) (mr_cv LM) (mr_cv OS) (mr_cv OK) ov :=
    pk_loop (σ := Option Int32 × (Nat → Nat)) (fun n t s => wX_reduceGroup_20 post (nI k) (nI pc) (nI bs) (nI md) fa fo lw hg (nI rd) (nI bf) (nI mp) (nI sc) (nI se) (nI oe) n (mr_ro rd s.1) (mr_bo s.1) (nI t) (mr_cv R) rk rv (mr_cv MF) (mr_cv RF) (mr_cv BK) bv (mr_cv SK) sv (mr_cv PS) (mr_cv s.2) (mr_cv LM) (mr_cv OS) (mr_cv OK) ov)
      (fun t s => s.1 = mr_f1 rd k SK sv none 0 (SB t) ∧ (∀ u, u < t → mr_hc PS SK p (k + 1) u (s.2 u)) ∧ ∀ u, t ≤ u → s.2 u = HD u) sc 0 (none, HD) (by omega)
      ⟨by rw [hsp.1]; rfl, fun u hu => absurd hu (by omega), fun u _ => rfl⟩
      (fun n s h => by
        obtain ⟨c, D⟩ := s
        obtain ⟨g1, g2, g3⟩ := h
        dsimp only at g1 g2 g3
        show wX_reduceGroup_20 post (nI k) (nI pc) (nI bs) (nI md) fa fo lw hg (nI rd) (nI bf) (nI mp) (nI sc) (nI se) (nI oe) (n + 1) (mr_ro rd c) (mr_bo c) (nI sc) (mr_cv R) rk rv (mr_cv MF) (mr_cv RF) (mr_cv BK) bv (mr_cv SK) sv (mr_cv PS) (mr_cv D) (mr_cv LM) (mr_cv OS) (mr_cv OK) ov
        subst g1
        rw [hsp.2.1]
        exact pk_le sc sc (fun _ => ⟨pk_in oe 16 hoe, nm_r (mr_up oe k (mr_i8 rfl (by omega))) ⟨pk_in oe 16 hoe, nm_r (mr_ui oe _ rfl) (nm_r (nI_1 oe) (H D g2))⟩⟩) (fun z => absurd z (by omega)))
      (fun n t s ht h hw => by
        obtain ⟨c, D⟩ := s
        obtain ⟨g1, g2, g3⟩ := h
        dsimp only at g1 g2 g3
        show wX_reduceGroup_20 post (nI k) (nI pc) (nI bs) (nI md) fa fo lw hg (nI rd) (nI bf) (nI mp) (nI sc) (nI se) (nI oe) (n + 1) (mr_ro rd c) (mr_bo c) (nI t) (mr_cv R) rk rv (mr_cv MF) (mr_cv RF) (mr_cv BK) bv (mr_cv SK) sv (mr_cv PS) (mr_cv D) (mr_cv LM) (mr_cv OS) (mr_cv OK) ov
        have eD := g3 t (Nat.le_refl t)
        have hc := hhc t ht
        rw [← eD] at hc
        obtain ⟨c1, c2, c3, c4⟩ := hc
        have eL := hLM t ht
        have b1 := mr_sp_ps hsp (j := 5 * t + p + 1) (by omega)
        refine pk_le sc t (fun z => absurd z (by omega)) (fun _ => ?_)
        refine mr_rg29 hk (by omega) hrd (by omega) (by omega) (fun j hj => hsp.2.2.2.2.2.2 j (by omega)) (fun acc' D' q1 q2 => ?_)
        obtain ⟨r1, r2, r3, r4, r5⟩ := q1
        rw [eL] at r2 q2
        have hi' : ∀ j, D' t ≤ j → j < PS (5 * t + p + 1) → k + 1 ≤ SK j := fun j x y => by
          have s1 := c4 (D' t) (by omega) (by omega)
          have s2 := mr_sp_sort hsp ht hp (by omega) x y
          have s3 := q2 (by omega)
          omega
        have bS := hsp.2.2.2.1 t ht p (by omega)
        have bS' := hsp.2.2.2.1 t ht (p + 1) (by omega)
        rw [← Nat.add_assoc] at bS'
        have b4 := hsp.2.2.1 t ht
        refine hw (acc', D') ⟨?_, fun u hu => ?_, fun u hu => ?_⟩
        · show acc' = mr_f1 rd k SK sv none 0 (SB (t + 1))
          rw [show SB (t + 1) = SB t + (SB (t + 1) - SB t) by omega, mr_f1_add, ← g1, Nat.zero_add, r5]
          refine (mr_f1_win c (SB t) (D t) (D' t) (SB (t + 1)) (by omega) r1 (by omega) (fun j x y => ?_) (fun j x y => ?_)).symm
          · rcases Nat.lt_or_ge j (PS (5 * t + p)) with z | z
            · have o := mr_sp_out hsp ht hp x (by omega) (Or.inl z)
              exact fun ek => o (by rw [ek]; exact hkp)
            · have o := c3 j z y
              omega
          · rcases Nat.lt_or_ge j (PS (5 * t + p + 1)) with z | z
            · have o := hi' j x z
              omega
            · have o := mr_sp_out hsp ht hp (by omega) y (Or.inr z)
              exact fun ek => o (by rw [ek]; exact hkp)
        · show mr_hc PS SK p (k + 1) u (D' u)
          by_cases eu : u = t
          · rw [eu]
            refine ⟨by omega, r2, fun j x y => ?_, hi'⟩
            rcases Nat.lt_or_ge j (D t) with z | z
            · have o := c3 j x z
              omega
            · have o := r4 j z y
              omega
          · rw [r3 u eu]
            exact g2 u (by omega)
        · show D' u = HD u
          rw [r3 u (by omega)]
          exact g3 u (by omega))
  refine pk_eq rd 4 (fun z => ?_) (fun z => ?_)
  · have e : mr_ro rd none = 7 := if_pos z
    rw [e] at L
    exact L
  · have e : mr_ro rd none = 0 := if_neg z
    rw [e] at L
    exact L
end
section
-- one part reduced
theorem mr_hc_0 {PS SK : Nat → Nat} {p t : Nat} (h : PS (5 * t + p) ≤ PS (5 * t + p + 1)) : mr_hc PS SK p 0 t (PS (5 * t + p)) :=
  ⟨Nat.le_refl _, h, fun j x y => absurd y (by omega), fun j _ _ => Nat.zero_le _⟩
/-- what is to come behind the heads -/
theorem mr_hc_q {pc sc se rd p c k : Nat} {SK PS SB HD : Nat → Nat} {sv : Nat → Int32} {F : Nat → Option Int32} (hsp : mr_sp pc sc se SK PS SB) (hF : ∀ k, mr_f1 rd k SK sv none 0 se = F k) (hp : p < 4) (hhc : ∀ t, t < sc → mr_hc PS SK p c t (HD t)) (hq : mr_q pc F p k) (hk : c ≤ k) :
    ∃ t j, t < sc ∧ HD t ≤ j ∧ j < PS (5 * t + p + 1) ∧ SK j = k := by
  have h1 := hq.2
  rw [← hF k, mr_f1_some] at h1
  rcases h1 with z | ⟨j, _, b, e⟩
  · exact absurd z (by decide)
  · obtain ⟨t, h2, h3, h4⟩ := mr_sp_at hsp hp (j := j) (by omega) (by rw [e]; exact hq.1)
    refine ⟨t, j, h2, ?_, h4, e⟩
    rcases Nat.lt_or_ge j (HD t) with z | z
    · have o := (hhc t h2).2.2.1 j h3 z
      omega
    · exact z
/-- the least head is the next key -/
theorem mr_hc_next {pc sc se rd p c k : Nat} {SK PS SB HD LM : Nat → Nat} {sv : Nat → Int32} {F : Nat → Option Int32} (hsp : mr_sp pc sc se SK PS SB) (hF : ∀ k, mr_f1 rd k SK sv none 0 se = F k) (hp : p < 4) (hLM : ∀ t, t < sc → LM t = PS (5 * t + p + 1)) (hhc : ∀ t, t < sc → mr_hc PS SK p c t (HD t)) (ho : mr_lh SK HD LM sc (some k)) :
    c ≤ k ∧ k < 16 ∧ mr_q pc F p k ∧ (∀ j, c ≤ j → j < k → ¬ mr_q pc F p j) ∧ ∀ t, t < sc → mr_hc PS SK p k t (HD t) := by
  obtain ⟨⟨t, h1, h2, h3⟩, h4⟩ := ho.2 k rfl
  have a := hhc t h1
  have eL := hLM t h1
  have hlt : HD t < PS (5 * t + p + 1) := by
    have := a.2.1
    omega
  have hin := mr_sp_in hsp h1 hp hlt
  have hkp := mr_sp_part hsp h1 hp a.1 hlt
  rw [h3] at hkp
  have hck : c ≤ k := by
    have o := a.2.2.2 (HD t) (Nat.le_refl _) hlt
    omega
  have hall : ∀ u, u < sc → ∀ j, HD u ≤ j → j < PS (5 * u + p + 1) → k ≤ SK j := fun u hu j x y => by
    have o1 := h4 u hu (by rw [hLM u hu]; omega)
    have o2 := mr_sp_sort hsp hu hp (hhc u hu).1 x y
    omega
  refine ⟨hck, ?_, ⟨hkp, ?_⟩, fun j x y hq => ?_, fun u hu => ?_⟩
  · rw [← h3]
    exact hsp.2.2.2.2.2.2 _ hin
  · rw [← hF k, mr_f1_some]
    exact Or.inr ⟨HD t, by omega, by omega, h3⟩
  · obtain ⟨u, i, g1, g2, g3, g4⟩ := mr_hc_q hsp hF hp hhc hq x
    have o := hall u g1 i g2 g3
    omega
  · have b := hhc u hu
    refine ⟨b.1, b.2.1, fun j x y => ?_, hall u hu⟩
    have o := b.2.2.1 j x y
    omega
theorem mr_hc_end {pc sc se rd p c : Nat} {SK PS SB HD LM : Nat → Nat} {sv : Nat → Int32} {F : Nat → Option Int32} (hsp : mr_sp pc sc se SK PS SB) (hF : ∀ k, mr_f1 rd k SK sv none 0 se = F k) (hp : p < 4) (hLM : ∀ t, t < sc → LM t = PS (5 * t + p + 1)) (hhc : ∀ t, t < sc → mr_hc PS SK p c t (HD t)) (ho : mr_lh SK HD LM sc none) :
    ∀ j, c ≤ j → ¬ mr_q pc F p j := fun j x hq => by
  obtain ⟨u, i, g1, g2, g3, g4⟩ := mr_hc_q hsp hF hp hhc hq x
  have o := ho.1 rfl u g1
  rw [hLM u g1] at o
  omega
/-- what 'leastHead' asks of the heads -/
theorem mr_least' {pc bs md rd bf mp sc se oe : Nat} {fa fo lw hg : Int32} {R MF RF BK SK PS HD LM OS OK : Nat → Nat} {rk rv bv sv ov : Nat → Int32} {post : Int32 → Prop} {p c : Nat} {SB : Nat → Nat} (hp : p < 4) (hsc : sc ≤ 32) (hse : se ≤ 64) (hsp : mr_sp pc sc se SK PS SB) (hLM : ∀ t, t < sc → LM t = PS (5 * t + p + 1)) (hhc : ∀ t, t < sc → mr_hc PS SK p c t (HD t)) (H : ∀ o, mr_lh SK HD LM sc o → post (mr_lo o)) : wpX_leastHead post (nI pc, nI bs, nI md, fa, fo, lw, hg, nI rd, nI bf, nI mp, nI sc, nI se, nI oe, mr_cv R, rk, rv, mr_cv MF, mr_cv RF, mr_cv BK, bv, mr_cv SK, sv, mr_cv PS, mr_cv HD, mr_cv LM, mr_cv OS, mr_cv OK, ov) := by
  have bd : ∀ t, t < sc → HD t ≤ LM t ∧ LM t ≤ se := fun t ht => by
    have a := (hhc t ht).2.1
    have b := mr_sp_ps hsp (j := 5 * t + p + 1) (by omega)
    rw [hLM t ht]
    exact ⟨a, b⟩
  refine mr_least hsc (fun t ht => ?_) (fun t ht hne => ?_) H
  · have := bd t ht
    omega
  · have := bd t ht
    exact ⟨by omega, hsp.2.2.2.2.2.2 _ (by omega)⟩
/-- the try that goes through -/
theorem mr_rp35 {pc bs md rd bf mp sc se : Nat} {fa fo lw hg : Int32} {R MF RF BK SK PS HD LM OS OK : Nat → Nat} {rk rv bv sv ov : Nat → Int32} {post : St2 → Prop} {J : Int32 → Int32 → Int32 → Int32 → Int32 → Int32 → Int32 → Int32 → Int32 → Int32 → Int32 → Int32 → Int32 → Int32 → (Nat → Int32) → (Nat → Int32) → (Nat → Int32) → (Nat → Int32) → (Nat → Int32) → (Nat → Int32) → (Nat → Int32) → (Nat → Int32) → (Nat → Int32) → (Nat → Int32) → (Nat → Int32) → (Nat → Int32) → (Nat → Int32) → (Nat → Int32) → (Nat → Int32) → Prop} {p : Nat} {SB : Nat → Nat} {F : Nat → Option Int32} {o : Option Nat} (hp : p < 4) (hsc : sc ≤ 32) (hse : se ≤ 64) (hrd : rd < 5) (hsp : mr_sp pc sc se SK PS SB) (hF : ∀ k, mr_f1 rd k SK sv none 0 se = F k) (hLM : ∀ t, t < sc → LM t = PS (5 * t + p + 1)) (hhc : ∀ t, t < sc → mr_hc PS SK p 0 t (HD t)) (ho : mr_lh SK HD LM sc o)
    (H : ∀ (HD' OK' : Nat → Nat) (ov' : Nat → Int32), mr_op pc F p 16 OK' ov' → (∀ j, j < mr_st pc F p → OK' j = OK j ∧ ov' j = ov j) → J (-1) (nI pc) (nI bs) (nI md) fa fo lw hg (nI rd) (nI bf) (nI mp) (nI sc) (nI se) (nI (mr_st pc F (p + 1))) (mr_cv R) rk rv (mr_cv MF) (mr_cv RF) (mr_cv BK) bv (mr_cv SK) sv (mr_cv PS) (mr_cv HD') (mr_cv LM) (mr_cv OS) (mr_cv OK') ov') :
    ∃ n, wX_reducePart_35 post J (nI p) (nI (mr_st pc F p)) (nI 0) n (mr_lo o) 1 (nI pc) (nI bs) (nI md) fa fo lw hg (nI rd) (nI bf) (nI mp) (nI sc) (nI se) (nI (mr_st pc F p)) (mr_cv R) rk rv (mr_cv MF) (mr_cv RF) (mr_cv BK) bv (mr_cv SK) sv (mr_cv PS) (mr_cv HD) (mr_cv LM) (mr_cv OS) (mr_cv OK) ov :=
  loop_m (σ := (Nat × Option Nat) × (Nat → Nat) × (Nat → Nat) × (Nat → Int32)) (fun n s => wX_reducePart_35 post J (nI p) (nI (mr_st pc F p)) (nI 0) n (mr_lo s.1.2) 1 (nI pc) (nI bs) (nI md) fa fo lw hg (nI rd) (nI bf) (nI mp) (nI sc) (nI se) (nI (mr_st pc F p + mr_cn pc F p s.1.1)) (mr_cv R) rk rv (mr_cv MF) (mr_cv RF) (mr_cv BK) bv (mr_cv SK) sv (mr_cv PS) (mr_cv s.2.1) (mr_cv LM) (mr_cv OS) (mr_cv s.2.2.1) s.2.2.2)
    (fun s => s.1.1 ≤ 16 ∧ (∀ t, t < sc → mr_hc PS SK p s.1.1 t (s.2.1 t)) ∧ mr_lh SK s.2.1 LM sc s.1.2 ∧ mr_op pc F p s.1.1 s.2.2.1 s.2.2.2 ∧ ∀ j, j < mr_st pc F p → s.2.2.1 j = OK j ∧ s.2.2.2 j = ov j) (fun s => 16 - s.1.1)
    (fun n s h hw => by
      obtain ⟨⟨c, o'⟩, D, O, v⟩ := s
      obtain ⟨g1, g2, g3, g4, g5⟩ := h
      dsimp only at g1 g2 g3 g4 g5
      show wX_reducePart_35 post J (nI p) (nI (mr_st pc F p)) (nI 0) (n + 1) (mr_lo o') 1 (nI pc) (nI bs) (nI md) fa fo lw hg (nI rd) (nI bf) (nI mp) (nI sc) (nI se) (nI (mr_st pc F p + mr_cn pc F p c)) (mr_cv R) rk rv (mr_cv MF) (mr_cv RF) (mr_cv BK) bv (mr_cv SK) sv (mr_cv PS) (mr_cv D) (mr_cv LM) (mr_cv OS) (mr_cv O) v
      cases o' with
      | none =>
        have hn := mr_hc_end hsp hF hp hLM g2 g3
        have ec : mr_cn pc F p 16 = mr_cn pc F p c := by
          have e := mr_cn_eq (pc := pc) (F := F) (p := p) (c := c) (16 - c) (fun k a _ => hn k a)
          rw [show c + (16 - c) = 16 by omega] at e
          exact e
        have hh := H D O v (mr_op_up g4 (fun k a _ => hn k a)) g5
        rw [mr_st_s, ec] at hh
        exact br_t (show (-1 : Int32) < 0 by decide) (nm_r (show nI 0 + (-1) = -1 from rfl) hh)
      | some k =>
        obtain ⟨n1, n2, n3, n4, n5⟩ := mr_hc_next hsp hF hp hLM g2 g3
        have ec : mr_cn pc F p c = mr_cn pc F p k := by
          have e := mr_cn_eq (pc := pc) (F := F) (p := p) (c := c) (k - c) (fun j a b => n4 j a (by omega))
          rw [show c + (k - c) = k by omega] at e
          exact e.symm
        have b := mr_st_lt n3 n2
        have ok := mr_op_up g4 n4
        have hv : some (mr_ro rd (mr_f1 rd k SK sv none 0 se)) = F k := by
          have e := n3.2
          rw [hF k]
          cases hFk : F k with
          | none => rw [hFk] at e; exact absurd e (by decide)
          | some r => rfl
        refine br_f (show ¬ nI k < 0 from nI_pos (by omega)) (br_f (show ¬ (1 : Int32) = 0 by decide) ?_)
        show wpX_reduceGroup _ (nI pc, nI bs, nI md, fa, fo, lw, hg, nI rd, nI bf, nI mp, nI sc, nI se, nI (mr_st pc F p + mr_cn pc F p c), mr_cv R, rk, rv, mr_cv MF, mr_cv RF, mr_cv BK, bv, mr_cv SK, sv, mr_cv PS, mr_cv D, mr_cv LM, mr_cv OS, mr_cv O, v) _
        rw [ec]
        refine mr_rgroup rfl n2 hp n3.1 hsc hse b hrd hsp hLM n5 (fun D' hD' => br_t rfl ?_)
        refine mr_least' hp hsc hse hsp hLM hD' (fun o2 ho2 => ?_)
        have hw' := hw ((k + 1, o2), D', mr_un O (mr_st pc F p + mr_cn pc F p k) k, upd v (mr_st pc F p + mr_cn pc F p k) (mr_ro rd (mr_f1 rd k SK sv none 0 se))) ⟨n2, hD', ho2, mr_op_add ok hv, fun j hj => by
          show mr_un O _ k j = OK j ∧ upd v _ _ j = ov j
          rw [mr_ne (by omega), pk_un (by omega)]
          exact g5 j hj⟩ (by show 16 - (k + 1) < 16 - c; omega)
        dsimp only at hw'
        rw [mr_cn_t n3] at hw'
        exact hw')
    ((0, o), HD, OK, ov) ⟨Nat.zero_le _, hhc, ho, fun k hk => absurd hk (Nat.not_lt_zero k), fun j _ => ⟨rfl, rfl⟩⟩
/-- a try that breaks off -/
theorem mr_rp35b {pc bs md rd bf mp sc se : Nat} {fa fo lw hg : Int32} {R MF RF BK SK PS HD LM OS OK : Nat → Nat} {rk rv bv sv ov : Nat → Int32} {post : St2 → Prop} {J : Int32 → Int32 → Int32 → Int32 → Int32 → Int32 → Int32 → Int32 → Int32 → Int32 → Int32 → Int32 → Int32 → Int32 → (Nat → Int32) → (Nat → Int32) → (Nat → Int32) → (Nat → Int32) → (Nat → Int32) → (Nat → Int32) → (Nat → Int32) → (Nat → Int32) → (Nat → Int32) → (Nat → Int32) → (Nat → Int32) → (Nat → Int32) → (Nat → Int32) → (Nat → Int32) → (Nat → Int32) → Prop} {p d : Nat} {SB : Nat → Nat} {F : Nat → Option Int32} {o : Option Nat} (hd : d < 100) (hp : p < 4) (hsc : sc ≤ 32) (hse : se ≤ 64) (hrd : rd < 5) (hsp : mr_sp pc sc se SK PS SB) (hF : ∀ k, mr_f1 rd k SK sv none 0 se = F k) (hLM : ∀ t, t < sc → LM t = PS (5 * t + p + 1)) (hhc : ∀ t, t < sc → mr_hc PS SK p 0 t (HD t)) (ho : mr_lh SK HD LM sc o)
    (H : ∀ (oe' : Nat) (HD' OK' : Nat → Nat) (ov' : Nat → Int32), (∀ j, j < mr_st pc F p → OK' j = OK j ∧ ov' j = ov j) → J (nI d) (nI pc) (nI bs) (nI md) fa fo lw hg (nI rd) (nI bf) (nI mp) (nI sc) (nI se) (nI oe') (mr_cv R) rk rv (mr_cv MF) (mr_cv RF) (mr_cv BK) bv (mr_cv SK) sv (mr_cv PS) (mr_cv HD') (mr_cv LM) (mr_cv OS) (mr_cv OK') ov') :
    ∃ n, wX_reducePart_35 post J (nI p) (nI (mr_st pc F p)) (nI (d + 1)) n (mr_lo o) 1 (nI pc) (nI bs) (nI md) fa fo lw hg (nI rd) (nI bf) (nI mp) (nI sc) (nI se) (nI (mr_st pc F p)) (mr_cv R) rk rv (mr_cv MF) (mr_cv RF) (mr_cv BK) bv (mr_cv SK) sv (mr_cv PS) (mr_cv HD) (mr_cv LM) (mr_cv OS) (mr_cv OK) ov := by
  refine ⟨2, ?_⟩
  cases o with
  | none => exact br_t (show (-1 : Int32) < 0 by decide) (nm_r (pk_m1 d) (H _ _ _ _ (fun j _ => ⟨rfl, rfl⟩)))
  | some k =>
    obtain ⟨n1, n2, n3, n4, n5⟩ := mr_hc_next hsp hF hp hLM hhc ho
    have b := mr_st_lt n3 n2
    refine br_f (show ¬ nI k < 0 from nI_pos (by omega)) (br_f (show ¬ (1 : Int32) = 0 by decide) ?_)
    refine mr_rgroup rfl n2 hp n3.1 hsc hse (by omega) hrd hsp hLM n5 (fun D' hD' => br_f (nI_ne0 (by omega) (by omega)) ?_)
    refine mr_least' hp hsc hse hsp hLM hD' (fun o2 ho2 => ?_)
    have hh := H (mr_st pc F p + 1) D' (mr_un OK (mr_st pc F p) k) (upd ov (mr_st pc F p) (mr_ro rd (mr_f1 rd k SK sv none 0 se))) (fun j hj => by
      rw [mr_ne (by omega), pk_un (by omega)]
      exact ⟨rfl, rfl⟩)
    exact br_c (fun _ => nm_r (pk_m1 d) hh) (fun _ => br_t rfl (nm_r (pk_m1 d) hh))
theorem mr_rp12 {post : St2 → Prop} {p : Nat} {SB : Nat → Nat} {F : Nat → Option Int32} {pc bs md rd bf mp sc se : Nat} {fa fo lw hg : Int32} {R MF RF BK SK PS OS OK0 : Nat → Nat} {rk rv bv sv ov0 : Nat → Int32} (hp : p < 4) (hsc : sc ≤ 32) (hse : se ≤ 64) (hrd : rd < 5) (hsp : mr_sp pc sc se SK PS SB) (hF : ∀ k, mr_f1 rd k SK sv none 0 se = F k)
    (H : ∀ (HD LM OK : Nat → Nat) (ov : Nat → Int32), mr_op pc F p 16 OK ov → (∀ j, j < mr_st pc F p → OK j = OK0 j ∧ ov j = ov0 j) → post (nI pc, nI bs, nI md, fa, fo, lw, hg, nI rd, nI bf, nI mp, nI sc, nI se, nI (mr_st pc F (p + 1)), mr_cv R, rk, rv, mr_cv MF, mr_cv RF, mr_cv BK, bv, mr_cv SK, sv, mr_cv PS, mr_cv HD, mr_cv LM, mr_cv OS, mr_cv OK, ov)) :
    ∀ (d : Nat), d < 100 → ∀ (oe : Nat) (HD LM OK : Nat → Nat) (ov : Nat → Int32), (∀ j, j < mr_st pc F p → OK j = OK0 j ∧ ov j = ov0 j) → wX_reducePart_12 post (nI p) (nI (mr_st pc F p)) (d + 2) (nI d) (nI pc) (nI bs) (nI md) fa fo lw hg (nI rd) (nI bf) (nI mp) (nI sc) (nI se) (nI oe) (mr_cv R) rk rv (mr_cv MF) (mr_cv RF) (mr_cv BK) bv (mr_cv SK) sv (mr_cv PS) (mr_cv HD) (mr_cv LM) (mr_cv OS) (mr_cv OK) ov := by
  have hPS : ∀ j, j < 5 * sc → PS j < 128 := fun j hj => by
    have := mr_sp_ps hsp hj
    omega
  have hh0 : ∀ HD' LM' : Nat → Nat, (∀ t, t < sc → HD' t = PS (5 * t + p) ∧ LM' t = PS (5 * t + p + 1)) → ∀ t, t < sc → mr_hc PS SK p 0 t (HD' t) := fun HD' LM' g t ht => by
    rw [(g t ht).1]
    exact mr_hc_0 (mr_sp_mono hsp ht hp)
  intro d
  induction d with
  | zero =>
    intro _ oe HD LM OK ov h
    refine br_f (by decide) ?_
    refine mr_open hsc hp hPS (fun HD' LM' g => ?_)
    refine mr_least' hp hsc hse hsp (fun t ht => (g t ht).2) (hh0 HD' LM' g) (fun o ho => ?_)
    refine mr_rp35 hp hsc hse hrd hsp hF (fun t ht => (g t ht).2) (hh0 HD' LM' g) ho (fun D O v g1 g2 => ?_)
    exact br_t (by decide) (H D LM' O v g1 (fun j hj => ⟨(g2 j hj).1.trans (h j hj).1, (g2 j hj).2.trans (h j hj).2⟩))
  | succ d ih =>
    intro hd oe HD LM OK ov h
    refine br_f (nI_pos (by omega)) ?_
    refine mr_open hsc hp hPS (fun HD' LM' g => ?_)
    refine mr_least' hp hsc hse hsp (fun t ht => (g t ht).2) (hh0 HD' LM' g) (fun o ho => ?_)
    refine mr_rp35b (by omega) hp hsc hse hrd hsp hF (fun t ht => (g t ht).2) (hh0 HD' LM' g) ho (fun e D O v g2 => ?_)
    exact ih (by omega) e D LM' O v (fun j hj => ⟨(g2 j hj).1.trans (h j hj).1, (g2 j hj).2.trans (h j hj).2⟩)
theorem mr_rpart {pc bs md rd bf mp sc se oe : Nat} {fa fo lw hg : Int32} {R MF RF BK SK PS HD LM OS OK : Nat → Nat} {rk rv bv sv ov : Nat → Int32} {post : St2 → Prop} {p : Nat} {SB : Nat → Nat} {F : Nat → Option Int32} (hp : p < 4) (hsc : sc ≤ 32) (hse : se ≤ 64) (hrd : rd < 5) (hRF : RF p < 100) (hsp : mr_sp pc sc se SK PS SB) (hF : ∀ k, mr_f1 rd k SK sv none 0 se = F k) (hoe : oe = mr_st pc F p)
    (H : ∀ (HD' LM' OK' : Nat → Nat) (ov' : Nat → Int32), mr_op pc F p 16 OK' ov' → (∀ j, j < mr_st pc F p → OK' j = OK j ∧ ov' j = ov j) → post (nI pc, nI bs, nI md, fa, fo, lw, hg, nI rd, nI bf, nI mp, nI sc, nI se, nI (mr_st pc F (p + 1)), mr_cv R, rk, rv, mr_cv MF, mr_cv RF, mr_cv BK, bv, mr_cv SK, sv, mr_cv PS, mr_cv HD', mr_cv LM', mr_cv OS, mr_cv OK', ov')) :
    wpX_reducePart post (nI pc, nI bs, nI md, fa, fo, lw, hg, nI rd, nI bf, nI mp, nI sc, nI se, nI oe, mr_cv R, rk, rv, mr_cv MF, mr_cv RF, mr_cv BK, bv, mr_cv SK, sv, mr_cv PS, mr_cv HD, mr_cv LM, mr_cv OS, mr_cv OK, ov) (nI p) := by
  subst hoe
  exact ⟨pk_in p 4 hp, nm_r (mr_rd p) ⟨RF p + 2, mr_rp12 hp hsc hse hrd hsp hF H (RF p) hRF _ HD LM OK ov (fun j _ => ⟨rfl, rfl⟩)⟩⟩
end
section
-- a run
theorem mr_run104 {pc bs md rd bf mp sc se oe : Nat} {fa fo lw hg : Int32} {R MF RF BK SK PS HD LM OS OK : Nat → Nat} {rk rv bv sv ov : Nat → Int32} {post : Int32 → St2 → Prop} {J : Int32 → Int32 → Int32 → Int32 → Int32 → Int32 → Int32 → Int32 → Int32 → Int32 → Int32 → Int32 → Int32 → Int32 → (Nat → Int32) → (Nat → Int32) → (Nat → Int32) → (Nat → Int32) → (Nat → Int32) → (Nat → Int32) → (Nat → Int32) → (Nat → Int32) → (Nat → Int32) → (Nat → Int32) → (Nat → Int32) → (Nat → Int32) → (Nat → Int32) → (Nat → Int32) → (Nat → Int32) → Prop} {i : Nat} (hi : i < 4) (H : J (nI (i + 1)) (nI pc) (nI bs) (nI md) fa fo lw hg (nI rd) (nI bf) (nI mp) (nI sc) (nI se) (nI oe) (mr_cv R) rk rv (mr_cv (mr_un MF i 0)) (mr_cv (mr_un RF i 0)) (mr_cv BK) bv (mr_cv SK) sv (mr_cv PS) (mr_cv HD) (mr_cv LM) (mr_cv OS) (mr_cv OK) ov) : wX_run_104 post J 0 (nI i) (nI pc) (nI bs) (nI md) fa fo lw hg (nI rd) (nI bf) (nI mp) (nI sc) (nI se) (nI oe) (mr_cv R) rk rv (mr_cv MF) (mr_cv RF) (mr_cv BK) bv (mr_cv SK) sv (mr_cv PS) (mr_cv HD) (mr_cv LM) (mr_cv OS) (mr_cv OK) ov :=
  ⟨pk_in i 4 hi, nm_r (mr_up i 0 rfl) ⟨pk_in i 4 hi, nm_r (mr_up i 0 rfl) (nm_r (nI_1 i) H)⟩⟩
/-- the state between the parts -/
def mr_ri' (pc : Nat) (F : Nat → Option Int32) (RF0 : Nat → Nat) (i : Nat) (OS OK MF RF : Nat → Nat) (ov : Nat → Int32) : Prop :=
  (∀ q, q < i → OS q = mr_st pc F q) ∧ mr_os pc F i OK ov ∧ (∀ q, q < i → MF q = 0 ∧ RF q = 0) ∧ ∀ q, i ≤ q → RF q = RF0 q
theorem mr_ri_s {pc : Nat} {F : Nat → Option Int32} {RF0 : Nat → Nat} {i : Nat} {OS OK MF RF OK' : Nat → Nat} {ov ov' : Nat → Int32} (h : mr_ri' pc F RF0 i OS OK MF RF ov) (h1 : mr_op pc F i 16 OK' ov') (h2 : ∀ j, j < mr_st pc F i → OK' j = OK j ∧ ov' j = ov j) :
    mr_ri' pc F RF0 (i + 1) (mr_un OS i (mr_st pc F i)) OK' (mr_un MF i 0) (mr_un RF i 0) ov' := by
  obtain ⟨g1, g2, g3, g4⟩ := h
  refine ⟨fun q hq => ?_, mr_os_add (mr_os_keep g2 h2) h1, fun q hq => ?_, fun q hq => ?_⟩
  · by_cases e : q = i
    · rw [e, mr_us]
    · rw [mr_ne e]
      exact g1 q (by omega)
  · by_cases e : q = i
    · rw [e, mr_us, mr_us]
      exact ⟨rfl, rfl⟩
    · rw [mr_ne e, mr_ne e]
      exact g3 q (by omega)
  · rw [mr_ne (by omega)]
    exact g4 q (by omega)
theorem mr_run71 {pc bs md rd bf mp sc se : Nat} {fa fo lw hg : Int32} {R MF RF BK SK PS HD LM OS OK : Nat → Nat} {rk rv bv sv ov : Nat → Int32} {post : Int32 → St2 → Prop} {SB : Nat → Nat} {F : Nat → Option Int32} (h0 : 0 < pc) (h4 : pc ≤ 4) (hsc : sc ≤ 32) (hse : se ≤ 64) (hrd : rd < 5) (hRF : ∀ q, q < 4 → RF q < 100) (hsp : mr_sp pc sc se SK PS SB) (hF : ∀ k, mr_f1 rd k SK sv none 0 se = F k)
    (H : ∀ (MF' RF' HD' LM' OS' OK' : Nat → Nat) (ov' : Nat → Int32), (∀ q, q < 4 → MF' q = 0 ∧ RF' q = 0) → mr_out pc F OS' OK' ov' → post (nI (mr_st pc F 4)) (nI pc, nI bs, nI md, fa, fo, lw, hg, nI rd, nI bf, nI mp, nI sc, nI se, nI (mr_st pc F 4), mr_cv R, rk, rv, mr_cv MF', mr_cv RF', mr_cv BK, bv, mr_cv SK, sv, mr_cv PS, mr_cv HD', mr_cv LM', mr_cv OS', mr_cv OK', ov')) :
    ∃ n, wX_run_71 post 0 n 0 (nI pc) (nI bs) (nI md) fa fo lw hg (nI rd) (nI bf) (nI mp) (nI sc) (nI se) (nI 0) (mr_cv R) rk rv (mr_cv MF) (mr_cv RF) (mr_cv BK) bv (mr_cv SK) sv (mr_cv PS) (mr_cv HD) (mr_cv LM) (mr_cv OS) (mr_cv OK) ov :=
  pk_loop (σ := (Nat → Nat) × (Nat → Nat) × (Nat → Nat) × (Nat → Nat) × (Nat → Nat) × (Nat → Nat) × (Nat → Int32))
    (fun n i s => wX_run_71 post 0 n (nI i) (nI pc) (nI bs) (nI md) fa fo lw hg (nI rd) (nI bf) (nI mp) (nI sc) (nI se) (nI (mr_st pc F i)) (mr_cv R) rk rv (mr_cv s.1) (mr_cv s.2.1) (mr_cv BK) bv (mr_cv SK) sv (mr_cv PS) (mr_cv s.2.2.1) (mr_cv s.2.2.2.1) (mr_cv s.2.2.2.2.1) (mr_cv s.2.2.2.2.2.1) s.2.2.2.2.2.2)
    (fun i s => mr_ri' pc F RF i s.2.2.2.2.1 s.2.2.2.2.2.1 s.1 s.2.1 s.2.2.2.2.2.2) 4 0 (MF, RF, HD, LM, OS, OK, ov) (by omega)
    ⟨fun q hq => absurd hq (by omega), fun q hq => absurd hq (by omega), fun q hq => absurd hq (by omega), fun q _ => rfl⟩
    (fun n s h => by
      obtain ⟨MF', RF', HD', LM', OS', OK', ov'⟩ := s
      obtain ⟨g1, g2, g3, g4⟩ := h
      dsimp only at g1 g2 g3 g4
      have b := mr_st_le pc F 4
      show wX_run_71 post 0 (n + 1) (nI 4) (nI pc) (nI bs) (nI md) fa fo lw hg (nI rd) (nI bf) (nI mp) (nI sc) (nI se) (nI (mr_st pc F 4)) (mr_cv R) rk rv (mr_cv MF') (mr_cv RF') (mr_cv BK) bv (mr_cv SK) sv (mr_cv PS) (mr_cv HD') (mr_cv LM') (mr_cv OS') (mr_cv OK') ov'
      refine pk_le 4 4 (fun _ => nm_r (show upd (mr_cv OS') 4 (nI (mr_st pc F 4)).toInt8.toInt32 = mr_cv (mr_un OS' 4 (mr_st pc F 4)) by rw [mr_b _ (by omega), mr_upd]) (br_t rfl ?_)) (fun z => absurd z (by omega))
      refine H MF' RF' HD' LM' _ OK' ov' g3 ⟨fun q hq => ?_, g2⟩
      by_cases e : q = 4
      · rw [e, mr_us]
      · rw [mr_ne e]
        exact g1 q (by omega))
    (fun n i s hi h hw => by
      obtain ⟨MF', RF', HD', LM', OS', OK', ov'⟩ := s
      have h' : mr_ri' pc F RF i OS' OK' MF' RF' ov' := h
      have b := mr_st_le pc F i
      show wX_run_71 post 0 (n + 1) (nI i) (nI pc) (nI bs) (nI md) fa fo lw hg (nI rd) (nI bf) (nI mp) (nI sc) (nI se) (nI (mr_st pc F i)) (mr_cv R) rk rv (mr_cv MF') (mr_cv RF') (mr_cv BK) bv (mr_cv SK) sv (mr_cv PS) (mr_cv HD') (mr_cv LM') (mr_cv OS') (mr_cv OK') ov'
      refine pk_le 4 i (fun z => absurd z (by omega)) (fun _ => ⟨pk_in i 5 (by omega), nm_r (mr_up i (mr_st pc F i) (mr_i8 rfl (by omega))) (br_t rfl (pk_le pc i (fun z => ?_) (fun z => ?_)))⟩)
      · have ec : mr_st pc F (i + 1) = mr_st pc F i := by rw [mr_st_s, mr_cn_none z h0]; rfl
        have hw' := hw (mr_un MF' i 0, mr_un RF' i 0, HD', LM', mr_un OS' i (mr_st pc F i), OK', ov') (mr_ri_s h' (fun k hk hq => absurd (Nat.mod_lt k h0) (by have := hq.1; omega)) (fun j _ => ⟨rfl, rfl⟩))
        dsimp only at hw'
        rw [ec] at hw'
        exact mr_run104 hi hw'
      · refine mr_rpart hi hsc hse hrd (by rw [h'.2.2.2 i (Nat.le_refl i)]; exact hRF i hi) hsp hF rfl (fun HD2 LM2 OK2 ov2 c1 c2 => ?_)
        exact mr_run104 hi (hw (mr_un MF' i 0, mr_un RF' i 0, HD2, LM2, mr_un OS' i (mr_st pc F i), OK2, ov2) (mr_ri_s h' c1 c2)))
theorem mr_ft_at {MF RF : Nat → Nat} {q : Nat} : ∀ n, q < n → MF q + RF q ≤ mr_ft MF RF n := by
  intro n
  induction n with
  | zero => exact fun h => absurd h (by omega)
  | succ n ih =>
    intro h
    show MF q + RF q ≤ mr_ft MF RF n + (MF n + RF n)
    by_cases e : q = n
    · rw [e]
      omega
    · have := ih (by omega)
      omega
theorem mr_run {pc bs md rd bf mp sc se oe : Nat} {fa fo lw hg : Int32} {R MF RF BK SK PS HD LM OS OK : Nat → Nat} {rk rv bv sv ov : Nat → Int32} {post : Int32 → St2 → Prop} {x : Int32} {r : Nat} (hx : x = nI r) (hr : r < 5) (h0 : 0 < pc) (h4 : pc ≤ 4) (hm0 : 0 < md) (hm : md ≤ 16) (hb2 : 2 ≤ bs) (hb8 : bs ≤ 8) (hR : ∀ q, q < 4 → R q ≤ 16) (hft : mr_ft MF RF 4 ≤ 6)
    (H : ∀ (sc' se' : Nat) (MF' RF' BK' SK' PS' HD' LM' OS' OK' : Nat → Nat) (bv' sv' ov' : Nat → Int32), (∀ q, q < 4 → MF' q = 0 ∧ RF' q = 0) → mr_out pc (fun k => mr_fs r (mr_V r md fa fo lw hg rk rv) R k 4) OS' OK' ov' →
      post (nI (mr_st pc (fun k => mr_fs r (mr_V r md fa fo lw hg rk rv) R k 4) 4)) (nI pc, nI bs, nI md, fa, fo, lw, hg, nI r, nI 0, nI (mr_ns (mr_V r md fa fo lw hg rk rv) R 4), nI sc', nI se', nI (mr_st pc (fun k => mr_fs r (mr_V r md fa fo lw hg rk rv) R k 4) 4), mr_cv R, rk, rv, mr_cv MF', mr_cv RF', mr_cv BK', bv', mr_cv SK', sv', mr_cv PS', mr_cv HD', mr_cv LM', mr_cv OS', mr_cv OK', ov')) :
    wpX_run post (nI pc, nI bs, nI md, fa, fo, lw, hg, nI rd, nI bf, nI mp, nI sc, nI se, nI oe, mr_cv R, rk, rv, mr_cv MF, mr_cv RF, mr_cv BK, bv, mr_cv SK, sv, mr_cv PS, mr_cv HD, mr_cv LM, mr_cv OS, mr_cv OK, ov) x := by
  subst hx
  have hfa : ∀ q, q < 4 → MF q < 100 ∧ RF q < 100 := fun q hq => by
    have := mr_ft_at (MF := MF) (RF := RF) 4 hq
    omega
  refine br_f (nI_pos (by omega)) (pk_le r 4 (fun _ => ?_) (fun z => absurd z (by omega)))
  refine mr_ftc (pk_le (mr_ft MF RF 4) 6 (fun _ => ?_) (fun z => absurd z (by omega)))
  exact pk_loop (σ := (Nat × Nat × Nat × Nat) × (Nat → Nat) × (Nat → Nat) × (Nat → Nat) × (Nat → Int32) × (Nat → Int32))
    (fun n i s => wX_run_48 post 0 n (nI i) (nI pc) (nI bs) (nI md) fa fo lw hg (nI r) (nI s.1.2.1) (nI s.1.1) (nI s.1.2.2.1) (nI s.1.2.2.2) (nI oe) (mr_cv R) rk rv (mr_cv MF) (mr_cv RF) (mr_cv s.2.2.2.1) s.2.2.2.2.2 (mr_cv s.2.1) s.2.2.2.2.1 (mr_cv s.2.2.1) (mr_cv HD) (mr_cv LM) (mr_cv OS) (mr_cv OK) ov)
    (fun i s => s.1.1 = mr_ns (mr_V r md fa fo lw hg rk rv) R i ∧ (s.1.2.1 = 0 ∨ i = 0) ∧ s.1.2.2.1 ≤ 8 * i ∧ s.1.2.2.2 ≤ 16 * i ∧ mr_ba pc r s.1.2.2.1 s.1.2.2.2 (fun k => mr_fs r (mr_V r md fa fo lw hg rk rv) R k i) s.2.1 s.2.2.1 s.2.2.2.2.1)
    4 0 ((0, bf, 0, 0), SK, PS, BK, sv, bv) (by omega)
    ⟨rfl, Or.inr rfl, Nat.le_refl _, Nat.le_refl _, ⟨_, mr_sp_0 pc SK PS⟩, fun k => rfl⟩
    (fun n s h => by
      obtain ⟨⟨mp', bf', sc', se'⟩, SK', PS', BK', sv', bv'⟩ := s
      obtain ⟨e1, e2, g1, g2, ⟨SB, g3⟩, g4⟩ := h
      dsimp only at e1 e2 g1 g2 g3 g4
      show wX_run_48 post 0 (n + 1) (nI 4) (nI pc) (nI bs) (nI md) fa fo lw hg (nI r) (nI bf') (nI mp') (nI sc') (nI se') (nI oe) (mr_cv R) rk rv (mr_cv MF) (mr_cv RF) (mr_cv BK') bv' (mr_cv SK') sv' (mr_cv PS') (mr_cv HD) (mr_cv LM) (mr_cv OS) (mr_cv OK) ov
      subst e1
      have e2' : bf' = 0 := e2.elim id (fun z => absurd z (by omega))
      subst e2'
      refine pk_le 4 4 (fun _ => ?_) (fun z => absurd z (by omega))
      exact mr_run71 h0 h4 (by omega) (by omega) hr (fun q hq => (hfa q hq).2) g3 g4 (fun MF' RF' HD' LM' OS' OK' ov' c1 c2 => H sc' se' MF' RF' BK' SK' PS' HD' LM' OS' OK' bv' sv' ov' c1 c2))
    (fun n i s hi h hw => by
      obtain ⟨⟨mp', bf', sc', se'⟩, SK', PS', BK', sv', bv'⟩ := s
      obtain ⟨e1, e2, g1, g2, g3⟩ := h
      dsimp only at e1 e2 g1 g2 g3
      show wX_run_48 post 0 (n + 1) (nI i) (nI pc) (nI bs) (nI md) fa fo lw hg (nI r) (nI bf') (nI mp') (nI sc') (nI se') (nI oe) (mr_cv R) rk rv (mr_cv MF) (mr_cv RF) (mr_cv BK') bv' (mr_cv SK') sv' (mr_cv PS') (mr_cv HD) (mr_cv LM) (mr_cv OS) (mr_cv OK) ov
      subst e1
      refine pk_le 4 i (fun z => absurd z (by omega)) (fun _ => ?_)
      refine mr_msplit hi h0 h4 hr hm0 hm hb2 hb8 (by omega) (by omega) (hR i hi) (hfa i hi).1 g3 (fun sc2 se2 SK2 PS2 BK2 sv2 bv2 c1 c2 c3 => ?_)
      exact nm_r (nI_1 i) (hw ((_, 0, sc2, se2), SK2, PS2, BK2, sv2, bv2) ⟨rfl, Or.inl rfl, by show sc2 ≤ 8 * (i + 1); omega, by show se2 ≤ 16 * (i + 1); omega, c1⟩))
end
section
-- the answers, and what the law does with them
theorem mr_results {pc bs md rd bf mp sc se oe : Nat} {fa fo lw hg : Int32} {R MF RF BK SK PS HD LM OS OK : Nat → Nat} {rk rv bv sv ov : Nat → Int32} {post : Int32 → Prop} {x : Int32} {p : Nat} {F : Nat → Option Int32} (hx : x = nI p) (hp : p < pc) (h4 : pc ≤ 4) (ho : mr_out pc F OS OK ov) (H : post (nI (mr_cn pc F p 16))) : wpX_results post (nI pc, nI bs, nI md, fa, fo, lw, hg, nI rd, nI bf, nI mp, nI sc, nI se, nI oe, mr_cv R, rk, rv, mr_cv MF, mr_cv RF, mr_cv BK, bv, mr_cv SK, sv, mr_cv PS, mr_cv HD, mr_cv LM, mr_cv OS, mr_cv OK, ov) x := by
  subst hx
  have e : mr_cv OS (nI p + 1).toNatClampNeg - mr_cv OS (nI p).toNatClampNeg = nI (mr_cn pc F p 16) := by
    rw [mr_rd (p + 1) (nI_1 p), mr_rd p, ho.1 p (by omega), ho.1 (p + 1) (by omega), mr_st_s, pk_sub (by omega)]
    exact congrArg nI (by omega)
  refine br_f (nI_pos (by omega)) (pk_lt p pc (fun _ => ⟨pk_in (p + 1) 5 (by omega) (nI_1 p), pk_in p 5 (by omega), ?_⟩) (fun z => absurd z (by omega)))
  rw [e]
  exact H
theorem mr_isres {pc bs md rd bf mp sc se oe : Nat} {fa fo lw hg : Int32} {R MF RF BK SK PS HD LM OS OK : Nat → Nat} {rk rv bv sv ov : Nat → Int32} {post : Int32 → Prop} {x y : Int32} {p i : Nat} {F : Nat → Option Int32} (hx : x = nI p) (hy : y = nI i) (hp : p < pc) (h4 : pc ≤ 4) (ho : mr_out pc F OS OK ov) (hi : i < mr_cn pc F p 16) (H : post 1) : wpX_isResult post (nI pc, nI bs, nI md, fa, fo, lw, hg, nI rd, nI bf, nI mp, nI sc, nI se, nI oe, mr_cv R, rk, rv, mr_cv MF, mr_cv RF, mr_cv BK, bv, mr_cv SK, sv, mr_cv PS, mr_cv HD, mr_cv LM, mr_cv OS, mr_cv OK, ov) x y := by
  subst hx hy
  have b := mr_st_le pc F (p + 1)
  rw [mr_st_s] at b
  have e : mr_cv OS (nI p + 1).toNatClampNeg - mr_cv OS (nI p).toNatClampNeg = nI (mr_cn pc F p 16) := by
    rw [mr_rd (p + 1) (nI_1 p), mr_rd p, ho.1 p (by omega), ho.1 (p + 1) (by omega), mr_st_s, pk_sub (by omega)]
    exact congrArg nI (by omega)
  exact br_f (nI_pos (by omega)) (pk_le pc p (fun z => absurd z (by omega)) (fun _ => br_t (nI_pos' (by omega)) ⟨pk_in (p + 1) 5 (by omega) (nI_1 p), pk_in p 5 (by omega), pk_le (mr_cn pc F p 16) i (fun z => absurd z (by omega)) (fun _ => H) e⟩))
theorem mr_keyAt {pc bs md rd bf mp sc se oe : Nat} {fa fo lw hg : Int32} {R MF RF BK SK PS HD LM OS OK : Nat → Nat} {rk rv bv sv ov : Nat → Int32} {post : Int32 → Prop} {x y : Int32} {p i : Nat} {F : Nat → Option Int32} (hx : x = nI p) (hy : y = nI i) (hp : p < pc) (h4 : pc ≤ 4) (ho : mr_out pc F OS OK ov) (hi : i < mr_cn pc F p 16) (H : post (nI (OK (mr_st pc F p + i)))) : wpX_keyAt post (nI pc, nI bs, nI md, fa, fo, lw, hg, nI rd, nI bf, nI mp, nI sc, nI se, nI oe, mr_cv R, rk, rv, mr_cv MF, mr_cv RF, mr_cv BK, bv, mr_cv SK, sv, mr_cv PS, mr_cv HD, mr_cv LM, mr_cv OS, mr_cv OK, ov) x y := by
  have b := mr_st_le pc F (p + 1)
  rw [mr_st_s] at b
  unfold wpX_keyAt
  dsimp only
  refine mr_isres hx hy hp h4 ho hi (br_f (by decide) ?_)
  subst hx hy
  have e : mr_cv OS (nI p).toNatClampNeg + nI i = nI (mr_st pc F p + i) := by rw [mr_rd p, ho.1 p (by omega), nI_add]
  refine ⟨pk_in p 5 (by omega), pk_in (mr_st pc F p + i) 16 (by omega) e, ?_⟩
  rw [mr_rd (mr_st pc F p + i) e]
  exact H
theorem mr_valAt {pc bs md rd bf mp sc se oe : Nat} {fa fo lw hg : Int32} {R MF RF BK SK PS HD LM OS OK : Nat → Nat} {rk rv bv sv ov : Nat → Int32} {post : Int32 → Prop} {x y : Int32} {p i : Nat} {F : Nat → Option Int32} (hx : x = nI p) (hy : y = nI i) (hp : p < pc) (h4 : pc ≤ 4) (ho : mr_out pc F OS OK ov) (hi : i < mr_cn pc F p 16) (H : post (ov (mr_st pc F p + i))) : wpX_valueAt post (nI pc, nI bs, nI md, fa, fo, lw, hg, nI rd, nI bf, nI mp, nI sc, nI se, nI oe, mr_cv R, rk, rv, mr_cv MF, mr_cv RF, mr_cv BK, bv, mr_cv SK, sv, mr_cv PS, mr_cv HD, mr_cv LM, mr_cv OS, mr_cv OK, ov) x y := by
  have b := mr_st_le pc F (p + 1)
  rw [mr_st_s] at b
  unfold wpX_valueAt
  dsimp only
  refine mr_isres hx hy hp h4 ho hi (br_f (by decide) ?_)
  subst hx hy
  have e : mr_cv OS (nI p).toNatClampNeg + nI i = nI (mr_st pc F p + i) := by rw [mr_rd p, ho.1 p (by omega), nI_add]
  refine ⟨pk_in p 5 (by omega), pk_in (mr_st pc F p + i) 16 (by omega) e, ?_⟩
  rw [mr_ri (K := ov) (mr_st pc F p + i) e]
  exact H
/-- two that hold the same output are the same to the law -/
theorem mr_same {pc bs md rd bf mp sc se oe : Nat} {fa fo lw hg : Int32} {R MF RF BK SK PS HD LM OS OK : Nat → Nat} {rk rv bv sv ov : Nat → Int32} {bs2 rd2 bf2 mp2 sc2 se2 oe2 : Nat} {MF2 RF2 BK2 SK2 PS2 HD2 LM2 OS2 OK2 : Nat → Nat} {bv2 sv2 ov2 : Nat → Int32} {post : Int32 → Prop} {F : Nat → Option Int32} (h4 : pc ≤ 4) (ho : mr_out pc F OS OK ov) (ho2 : mr_out pc F OS2 OK2 ov2) (hm : mp2 = mp) (H : post 1) :
    wpL_same post (nI pc, nI bs, nI md, fa, fo, lw, hg, nI rd, nI bf, nI mp, nI sc, nI se, nI oe, mr_cv R, rk, rv, mr_cv MF, mr_cv RF, mr_cv BK, bv, mr_cv SK, sv, mr_cv PS, mr_cv HD, mr_cv LM, mr_cv OS, mr_cv OK, ov, nI pc, nI bs2, nI md, fa, fo, lw, hg, nI rd2, nI bf2, nI mp2, nI sc2, nI se2, nI oe2, mr_cv R, rk, rv, mr_cv MF2, mr_cv RF2, mr_cv BK2, bv2, mr_cv SK2, sv2, mr_cv PS2, mr_cv HD2, mr_cv LM2, mr_cv OS2, mr_cv OK2, ov2) (nI pc) :=
  pk_loop (σ := Unit) (fun n p _ => wL_same_2 post (nI pc) (nI pc) (nI bs) (nI md) fa fo lw hg (nI rd) (nI bf) (nI mp) (nI sc) (nI se) (nI oe) (mr_cv R) rk rv (mr_cv MF) (mr_cv RF) (mr_cv BK) bv (mr_cv SK) sv (mr_cv PS) (mr_cv HD) (mr_cv LM) (mr_cv OS) (mr_cv OK) ov (nI pc) (nI bs2) (nI md) fa fo lw hg (nI rd2) (nI bf2) (nI mp2) (nI sc2) (nI se2) (nI oe2) (mr_cv R) rk rv (mr_cv MF2) (mr_cv RF2) (mr_cv BK2) bv2 (mr_cv SK2) sv2 (mr_cv PS2) (mr_cv HD2) (mr_cv LM2) (mr_cv OS2) (mr_cv OK2) ov2 n (nI p)) (fun _ _ => True) pc 0 () (by omega) trivial
    (fun n _ _ => pk_le pc pc (fun _ => br_t (by rw [hm]) H) (fun z => absurd z (by omega)))
    (fun m p _ hp _ hw => pk_le pc p (fun z => absurd z (by omega)) (fun _ => by
      have bb := mr_st_le pc F (p + 1)
      rw [mr_st_s] at bb
      refine mr_results rfl hp h4 ho (mr_results rfl hp h4 ho2 (br_t rfl ?_))
      exact pk_loop (σ := Unit) (fun n i _ => wL_same_29 post (wL_same_2 post (nI pc) (nI pc) (nI bs) (nI md) fa fo lw hg (nI rd) (nI bf) (nI mp) (nI sc) (nI se) (nI oe) (mr_cv R) rk rv (mr_cv MF) (mr_cv RF) (mr_cv BK) bv (mr_cv SK) sv (mr_cv PS) (mr_cv HD) (mr_cv LM) (mr_cv OS) (mr_cv OK) ov (nI pc) (nI bs2) (nI md) fa fo lw hg (nI rd2) (nI bf2) (nI mp2) (nI sc2) (nI se2) (nI oe2) (mr_cv R) rk rv (mr_cv MF2) (mr_cv RF2) (mr_cv BK2) bv2 (mr_cv SK2) sv2 (mr_cv PS2) (mr_cv HD2) (mr_cv LM2) (mr_cv OS2) (mr_cv OK2) ov2 m) (nI pc) (nI p) (nI (mr_cn pc F p 16)) (nI pc) (nI bs) (nI md) fa fo lw hg (nI rd) (nI bf) (nI mp) (nI sc) (nI se) (nI oe) (mr_cv R) rk rv (mr_cv MF) (mr_cv RF) (mr_cv BK) bv (mr_cv SK) sv (mr_cv PS) (mr_cv HD) (mr_cv LM) (mr_cv OS) (mr_cv OK) ov (nI pc) (nI bs2) (nI md) fa fo lw hg (nI rd2) (nI bf2) (nI mp2) (nI sc2) (nI se2) (nI oe2) (mr_cv R) rk rv (mr_cv MF2) (mr_cv RF2) (mr_cv BK2) bv2 (mr_cv SK2) sv2 (mr_cv PS2) (mr_cv HD2) (mr_cv LM2) (mr_cv OS2) (mr_cv OK2) ov2 n (nI i)) (fun _ _ => True) (mr_cn pc F p 16) 0 () (by omega) trivial
        (fun n _ _ => pk_le (mr_cn pc F p 16) (mr_cn pc F p 16) (fun _ => nm_r (nI_1 p) (hw () trivial)) (fun z => absurd z (by omega)))
        (fun n i _ hi _ hw2 => pk_le (mr_cn pc F p 16) i (fun z => absurd z (by omega)) (fun _ => by
          have hat := mr_out_at ho ho2 (p := p) (i := i) (by omega) hi
          refine mr_keyAt rfl rfl hp h4 ho hi (mr_keyAt rfl rfl hp h4 ho2 hi (br_t (by rw [hat.1]) ?_))
          exact mr_valAt rfl rfl hp h4 ho hi (mr_valAt rfl rfl hp h4 ho2 hi (br_t hat.2.1 (nm_r (nI_1 i) (hw2 () trivial))))))))
/-- the sum of the values from place b on -/
def mr_su (ov : Nat → Int32) : Nat → Int32
  | 0 => 0
  | n + 1 => mr_su ov n + ov n
theorem mr_sum {pc bs md rd bf mp sc se oe : Nat} {fa fo lw hg : Int32} {R MF RF BK SK PS HD LM OS OK : Nat → Nat} {rk rv bv sv ov : Nat → Int32} {post : Int32 → Prop} {F : Nat → Option Int32} (h4 : pc ≤ 4) (ho : mr_out pc F OS OK ov) (H : post (mr_su ov (mr_st pc F pc))) : wpL_sum post (nI pc, nI bs, nI md, fa, fo, lw, hg, nI rd, nI bf, nI mp, nI sc, nI se, nI oe, mr_cv R, rk, rv, mr_cv MF, mr_cv RF, mr_cv BK, bv, mr_cv SK, sv, mr_cv PS, mr_cv HD, mr_cv LM, mr_cv OS, mr_cv OK, ov) (nI pc) :=
  pk_loop (σ := Unit) (fun n p _ => wL_sum_4 post (nI pc) (nI pc) (nI bs) (nI md) fa fo lw hg (nI rd) (nI bf) (nI mp) (nI sc) (nI se) (nI oe) (mr_cv R) rk rv (mr_cv MF) (mr_cv RF) (mr_cv BK) bv (mr_cv SK) sv (mr_cv PS) (mr_cv HD) (mr_cv LM) (mr_cv OS) (mr_cv OK) ov n (mr_su ov (mr_st pc F p)) (nI p)) (fun _ _ => True) pc 0 () (by omega) trivial
    (fun n _ _ => pk_le pc pc (fun _ => H) (fun z => absurd z (by omega)))
    (fun m p _ hp _ hw => pk_le pc p (fun z => absurd z (by omega)) (fun _ => by
      have bb := mr_st_le pc F (p + 1)
      rw [mr_st_s] at bb
      refine mr_results rfl hp h4 ho ?_
      exact pk_loop (σ := Unit) (fun n i _ => wL_sum_19 post (wL_sum_4 post (nI pc) (nI pc) (nI bs) (nI md) fa fo lw hg (nI rd) (nI bf) (nI mp) (nI sc) (nI se) (nI oe) (mr_cv R) rk rv (mr_cv MF) (mr_cv RF) (mr_cv BK) bv (mr_cv SK) sv (mr_cv PS) (mr_cv HD) (mr_cv LM) (mr_cv OS) (mr_cv OK) ov m) (nI pc) (nI p) (nI (mr_cn pc F p 16)) (nI pc) (nI bs) (nI md) fa fo lw hg (nI rd) (nI bf) (nI mp) (nI sc) (nI se) (nI oe) (mr_cv R) rk rv (mr_cv MF) (mr_cv RF) (mr_cv BK) bv (mr_cv SK) sv (mr_cv PS) (mr_cv HD) (mr_cv LM) (mr_cv OS) (mr_cv OK) ov n (mr_su ov (mr_st pc F p + i)) (nI i)) (fun _ _ => True) (mr_cn pc F p 16) 0 () (by omega) trivial
        (fun n _ _ => pk_le (mr_cn pc F p 16) (mr_cn pc F p 16) (fun _ => nm_r (nI_1 p) (hw () trivial)) (fun z => absurd z (by omega)))
        (fun n i _ hi _ hw2 => pk_le (mr_cn pc F p 16) i (fun z => absurd z (by omega)) (fun _ => mr_valAt rfl rfl hp h4 ho hi (nm_e (nm_r (nI_1 i) (hw2 () trivial)))))))
end
section
-- the other calls
theorem mr_addRec {pc bs md rd bf mp sc se oe : Nat} {fa fo lw hg : Int32} {R MF RF BK SK PS HD LM OS OK : Nat → Nat} {rk rv bv sv ov : Nat → Int32} {post : Int32 → St2 → Prop} {x p1 p2 : Int32} {s : Nat} (hx : x = nI s) (hs : s < 4) (hR : R s ≤ 16)
    (H1 : R s < 16 → post (nI (R s + 1)) (nI pc, nI bs, nI md, fa, fo, lw, hg, nI rd, nI bf, nI mp, nI sc, nI se, nI oe, mr_cv (mr_un R s (R s + 1)), (upd rk (16 * s + R s) p1), (upd rv (16 * s + R s) p2), mr_cv MF, mr_cv RF, mr_cv BK, bv, mr_cv SK, sv, mr_cv PS, mr_cv HD, mr_cv LM, mr_cv OS, mr_cv OK, ov)) (H2 : 16 ≤ R s → post (-2) (nI pc, nI bs, nI md, fa, fo, lw, hg, nI rd, nI bf, nI mp, nI sc, nI se, nI oe, mr_cv R, rk, rv, mr_cv MF, mr_cv RF, mr_cv BK, bv, mr_cv SK, sv, mr_cv PS, mr_cv HD, mr_cv LM, mr_cv OS, mr_cv OK, ov)) : wpX_addRecord post (nI pc, nI bs, nI md, fa, fo, lw, hg, nI rd, nI bf, nI mp, nI sc, nI se, nI oe, mr_cv R, rk, rv, mr_cv MF, mr_cv RF, mr_cv BK, bv, mr_cv SK, sv, mr_cv PS, mr_cv HD, mr_cv LM, mr_cv OS, mr_cv OK, ov) x p1 p2 := by
  subst hx
  refine br_f (nI_pos (by omega)) (pk_le s 3 (fun _ => ⟨pk_in s 4 hs, pk_lt (R s) 16 (fun z => ?_) H2 (mr_rd s)⟩) (fun z => absurd z (by omega)))
  have e : (16 : Int32) * nI s + mr_cv R (nI s).toNatClampNeg = nI (16 * s + R s) := by rw [mr_rd s, mr_16]
  refine ⟨pk_in s 4 hs, nm_r e ⟨pk_in (16 * s + R s) 64 (by omega), nm_r (mr_ui (16 * s + R s) p1 rfl) ⟨pk_in (16 * s + R s) 64 (by omega), nm_r (mr_ui (16 * s + R s) p2 rfl) ⟨pk_in s 4 hs, pk_in s 4 hs, nm_r (mr_up s (R s + 1) (mr_i8 (by rw [mr_rd s, nI_1]) (by omega))) ⟨pk_in s 4 hs, ?_⟩⟩⟩⟩⟩
  rw [mr_rd (K := mr_un R s (R s + 1)) s, mr_us]
  exact H1 z
theorem mr_mapping {pc bs md rd bf mp sc se oe : Nat} {fa fo lw hg : Int32} {R MF RF BK SK PS HD LM OS OK : Nat → Nat} {rk rv bv sv ov : Nat → Int32} {post : Int32 → St2 → Prop} {x p1 p2 : Int32} {m : Nat} (hx : x = nI m) (h1 : 1 ≤ m) (h2 : m ≤ 16) (H : post 1 (nI pc, nI bs, nI m, p1, p2, lw, hg, nI rd, nI bf, nI mp, nI sc, nI se, nI oe, mr_cv R, rk, rv, mr_cv MF, mr_cv RF, mr_cv BK, bv, mr_cv SK, sv, mr_cv PS, mr_cv HD, mr_cv LM, mr_cv OS, mr_cv OK, ov)) : wpX_mapping post (nI pc, nI bs, nI md, fa, fo, lw, hg, nI rd, nI bf, nI mp, nI sc, nI se, nI oe, mr_cv R, rk, rv, mr_cv MF, mr_cv RF, mr_cv BK, bv, mr_cv SK, sv, mr_cv PS, mr_cv HD, mr_cv LM, mr_cv OS, mr_cv OK, ov) x p1 p2 := by
  subst hx
  exact pk_lt m 1 (fun z => absurd z (by omega)) (fun _ => pk_le m 16 (fun _ => H) (fun z => absurd z (by omega)))
theorem mr_empty {pc bs md rd bf mp sc se oe : Nat} {fa fo lw hg : Int32} {R MF RF BK SK PS HD LM OS OK : Nat → Nat} {rk rv bv sv ov : Nat → Int32} {post : Int32 → St2 → Prop} {x : Int32} {s : Nat} (hx : x = nI s) (hs : s < 4) (H : post (nI (R s)) (nI pc, nI bs, nI md, fa, fo, lw, hg, nI rd, nI bf, nI mp, nI sc, nI se, nI oe, mr_cv (mr_un R s 0), rk, rv, mr_cv MF, mr_cv RF, mr_cv BK, bv, mr_cv SK, sv, mr_cv PS, mr_cv HD, mr_cv LM, mr_cv OS, mr_cv OK, ov)) : wpX_emptySplit post (nI pc, nI bs, nI md, fa, fo, lw, hg, nI rd, nI bf, nI mp, nI sc, nI se, nI oe, mr_cv R, rk, rv, mr_cv MF, mr_cv RF, mr_cv BK, bv, mr_cv SK, sv, mr_cv PS, mr_cv HD, mr_cv LM, mr_cv OS, mr_cv OK, ov) x := by
  subst hx
  exact br_f (nI_pos (by omega)) (pk_le s 3 (fun _ => ⟨pk_in s 4 hs, nm_r (mr_rd s) ⟨pk_in s 4 hs, nm_r (mr_up s 0 rfl) H⟩⟩) (fun z => absurd z (by omega)))
theorem mr_ft_un1 (MF RF : Nat → Nat) (i t n : Nat) : mr_ft (mr_un MF i t) RF n ≤ mr_ft MF RF n + (if i < n then t else 0) := by
  induction n with
  | zero => exact Nat.zero_le _
  | succ n ih =>
    show mr_ft (mr_un MF i t) RF n + (mr_un MF i t n + RF n) ≤ mr_ft MF RF n + (MF n + RF n) + _
    by_cases e : n = i
    · rw [if_neg (show ¬ i < n by omega)] at ih
      rw [e, mr_us, if_pos (show i < i + 1 by omega)]
      rw [e] at ih
      omega
    · rw [mr_ne e]
      by_cases h : i < n
      · rw [if_pos h] at ih
        rw [if_pos (show i < n + 1 by omega)]
        omega
      · rw [if_neg h] at ih
        omega
theorem mr_ft_un2 (MF RF : Nat → Nat) (i t n : Nat) : mr_ft MF (mr_un RF i t) n ≤ mr_ft MF RF n + (if i < n then t else 0) := by
  induction n with
  | zero => exact Nat.zero_le _
  | succ n ih =>
    show mr_ft MF (mr_un RF i t) n + (MF n + mr_un RF i t n) ≤ mr_ft MF RF n + (MF n + RF n) + _
    by_cases e : n = i
    · rw [if_neg (show ¬ i < n by omega)] at ih
      rw [e, mr_us, if_pos (show i < i + 1 by omega)]
      rw [e] at ih
      omega
    · rw [mr_ne e]
      by_cases h : i < n
      · rw [if_pos h] at ih
        rw [if_pos (show i < n + 1 by omega)]
        omega
      · rw [if_neg h] at ih
        omega
theorem mr_fail34 {pc bs md rd bf mp sc se oe : Nat} {fa fo lw hg : Int32} {R MF RF BK SK PS HD LM OS OK : Nat → Nat} {rk rv bv sv ov : Nat → Int32} {post : Int32 → St2 → Prop} {x : Int32} {i t : Nat} (hi : i < 4) (ht : t ≤ 3) (H : ∀ (r : Int32) (MF' RF' : Nat → Nat), mr_ft MF' RF' 4 ≤ mr_ft MF RF 4 + t → post r (nI pc, nI bs, nI md, fa, fo, lw, hg, nI rd, nI bf, nI mp, nI sc, nI se, nI oe, mr_cv R, rk, rv, mr_cv MF', mr_cv RF', mr_cv BK, bv, mr_cv SK, sv, mr_cv PS, mr_cv HD, mr_cv LM, mr_cv OS, mr_cv OK, ov)) : wX_failures_34 post x (nI i) (nI t) (nI pc) (nI bs) (nI md) fa fo lw hg (nI rd) (nI bf) (nI mp) (nI sc) (nI se) (nI oe) (mr_cv R) rk rv (mr_cv MF) (mr_cv RF) (mr_cv BK) bv (mr_cv SK) sv (mr_cv PS) (mr_cv HD) (mr_cv LM) (mr_cv OS) (mr_cv OK) ov := by
  have a1 := mr_ft_un1 MF RF i t 4
  have a2 := mr_ft_un2 MF RF i t 4
  rw [if_pos hi] at a1 a2
  exact br_c (fun _ => ⟨pk_in i 4 hi, nm_r (mr_up i t (mr_i8 rfl (by omega))) (H 1 _ _ a1)⟩) (fun _ => ⟨pk_in i 4 hi, nm_r (mr_up i t (mr_i8 rfl (by omega))) (H 1 _ _ a2)⟩)
theorem mr_fail {pc bs md rd bf mp sc se oe : Nat} {fa fo lw hg : Int32} {R MF RF BK SK PS HD LM OS OK : Nat → Nat} {rk rv bv sv ov : Nat → Int32} {post : Int32 → St2 → Prop} {x y z : Int32} {i t : Nat} (hy : y = nI i) (hz : z = nI t) (hi : i < 4) (ht : t ≤ 3) (hpc : pc ≤ 4) (H : ∀ (r : Int32) (MF' RF' : Nat → Nat), mr_ft MF' RF' 4 ≤ mr_ft MF RF 4 + t → post r (nI pc, nI bs, nI md, fa, fo, lw, hg, nI rd, nI bf, nI mp, nI sc, nI se, nI oe, mr_cv R, rk, rv, mr_cv MF', mr_cv RF', mr_cv BK, bv, mr_cv SK, sv, mr_cv PS, mr_cv HD, mr_cv LM, mr_cv OS, mr_cv OK, ov)) : wpX_failures post (nI pc, nI bs, nI md, fa, fo, lw, hg, nI rd, nI bf, nI mp, nI sc, nI se, nI oe, mr_cv R, rk, rv, mr_cv MF, mr_cv RF, mr_cv BK, bv, mr_cv SK, sv, mr_cv PS, mr_cv HD, mr_cv LM, mr_cv OS, mr_cv OK, ov) x y z := by
  subst hy hz
  refine br_f (nI_pos (by omega)) (pk_lt 3 i (fun g => absurd g (by omega)) (fun _ => br_f (nI_pos (by omega)) (pk_le t 3 (fun _ => br_c (fun _ => mr_fail34 hi ht H) (fun _ => ?_)) (fun g => absurd g (by omega)))))
  exact pk_lt i pc (fun _ => mr_fail34 hi ht H) (fun _ => H 0 MF RF (by omega))
-- feedBack
def mr_fbk (g f : Nat → Int32) (q b i : Nat) : Nat → Int32 := fun j => if 16 * q ≤ j ∧ j < 16 * q + i then g (b + (j - 16 * q)) else f j
theorem mr_fbk_0 (g f : Nat → Int32) (q b : Nat) : mr_fbk g f q b 0 = f := by
  funext j
  exact if_neg (fun h => by omega)
theorem mr_fbk_s (g f : Nat → Int32) (q b i : Nat) : upd (mr_fbk g f q b i) (16 * q + i) (g (b + i)) = mr_fbk g f q b (i + 1) := by
  funext j
  by_cases e : j = 16 * q + i
  · rw [e, pk_us]
    show _ = if 16 * q ≤ 16 * q + i ∧ 16 * q + i < 16 * q + (i + 1) then g (b + (16 * q + i - 16 * q)) else f (16 * q + i)
    rw [if_pos ⟨by omega, by omega⟩, show 16 * q + i - 16 * q = i by omega]
  · rw [pk_un e]
    show (if 16 * q ≤ j ∧ j < 16 * q + i then g (b + (j - 16 * q)) else f j) = if 16 * q ≤ j ∧ j < 16 * q + (i + 1) then g (b + (j - 16 * q)) else f j
    by_cases h : 16 * q ≤ j ∧ j < 16 * q + i
    · rw [if_pos h, if_pos (show 16 * q ≤ j ∧ j < 16 * q + (i + 1) from ⟨by omega, by omega⟩)]
    · rw [if_neg h, if_neg (show ¬ (16 * q ≤ j ∧ j < 16 * q + (i + 1)) from fun g => h ⟨g.1, by omega⟩)]
theorem mr_fbk_eq {g g' f : Nat → Int32} {q b n : Nat} (h : ∀ i, i < n → g (b + i) = g' (b + i)) : mr_fbk g f q b n = mr_fbk g' f q b n := by
  funext j
  show (if 16 * q ≤ j ∧ j < 16 * q + n then g (b + (j - 16 * q)) else f j) = if 16 * q ≤ j ∧ j < 16 * q + n then g' (b + (j - 16 * q)) else f j
  by_cases e : 16 * q ≤ j ∧ j < 16 * q + n
  · rw [if_pos e, if_pos e]
    exact h _ (by omega)
  · rw [if_neg e, if_neg e]
def mr_fR (OS R : Nat → Nat) : Nat → Nat → Nat
  | 0 => R
  | q + 1 => mr_un (mr_fR OS R q) q (OS (q + 1) - OS q)
def mr_fK (OS : Nat → Nat) (g f : Nat → Int32) : Nat → Nat → Int32
  | 0 => f
  | q + 1 => mr_fbk g (mr_fK OS g f q) q (OS q) (OS (q + 1) - OS q)
theorem mr_fb36 {pc bs md rd bf mp sc se oe : Nat} {fa fo lw hg : Int32} {R MF RF BK SK PS HD LM OS OK : Nat → Nat} {rk rv bv sv ov : Nat → Int32} {post : Int32 → St2 → Prop} {J : Int32 → (Nat → Int32) → (Nat → Int32) → (Nat → Int32) → (Nat → Int32) → (Nat → Int32) → (Nat → Int32) → (Nat → Int32) → (Nat → Int32) → (Nat → Int32) → (Nat → Int32) → (Nat → Int32) → (Nat → Int32) → (Nat → Int32) → (Nat → Int32) → (Nat → Int32) → Prop} {q b n : Nat} (hq : q < 4) (hb : b + n ≤ 16) (H : J (nI (q + 1)) (mr_cv R) (mr_fbk (mr_cv OK) rk q b n) (mr_fbk ov rv q b n) (mr_cv MF) (mr_cv RF) (mr_cv BK) bv (mr_cv SK) sv (mr_cv PS) (mr_cv HD) (mr_cv LM) (mr_cv OS) (mr_cv OK) ov) :
    ∃ m, wX_feedBack_36 post J (nI q) (nI b) (nI n) (nI pc) (nI bs) (nI md) fa fo lw hg (nI rd) (nI bf) (nI mp) (nI sc) (nI se) (nI oe) m 0 (mr_cv R) rk rv (mr_cv MF) (mr_cv RF) (mr_cv BK) bv (mr_cv SK) sv (mr_cv PS) (mr_cv HD) (mr_cv LM) (mr_cv OS) (mr_cv OK) ov := by
  have L : ∃ m, wX_feedBack_36 post J (nI q) (nI b) (nI n) (nI pc) (nI bs) (nI md) fa fo lw hg (nI rd) (nI bf) (nI mp) (nI sc) (nI se) (nI oe) m (nI 0) (mr_cv R) (mr_fbk (mr_cv OK) rk q b 0) (mr_fbk ov rv q b 0) (mr_cv MF) (mr_cv RF) (mr_cv BK) bv (mr_cv SK) sv (mr_cv PS) (mr_cv HD) (mr_cv LM) (mr_cv OS) (mr_cv OK) ov :=
    pk_loop (σ := Unit) (fun m i _ => wX_feedBack_36 post J (nI q) (nI b) (nI n) (nI pc) (nI bs) (nI md) fa fo lw hg (nI rd) (nI bf) (nI mp) (nI sc) (nI se) (nI oe) m (nI i) (mr_cv R) (mr_fbk (mr_cv OK) rk q b i) (mr_fbk ov rv q b i) (mr_cv MF) (mr_cv RF) (mr_cv BK) bv (mr_cv SK) sv (mr_cv PS) (mr_cv HD) (mr_cv LM) (mr_cv OS) (mr_cv OK) ov) (fun _ _ => True) n 0 () (by omega) trivial
      (fun m _ _ => pk_le n n (fun _ => nm_r (nI_1 q) H) (fun z => absurd z (by omega)))
      (fun m i _ hi _ hw => pk_le n i (fun z => absurd z (by omega)) (fun _ => by
        have e1 : nI b + nI i = nI (b + i) := nI_add b i
        have e2 : (16 : Int32) * nI q + nI i = nI (16 * q + i) := mr_16 q i
        refine ⟨pk_in (b + i) 16 (by omega) e1, pk_in (16 * q + i) 64 (by omega) e2, nm_r ((mr_ui (16 * q + i) (mr_cv OK (b + i)) (mr_ri (K := mr_cv OK) (b + i) e1) e2).trans (mr_fbk_s (mr_cv OK) rk q b i)) ?_⟩
        exact ⟨pk_in (b + i) 16 (by omega) e1, pk_in (16 * q + i) 64 (by omega) e2, nm_r ((mr_ui (16 * q + i) (ov (b + i)) (mr_ri (K := ov) (b + i) e1) e2).trans (mr_fbk_s ov rv q b i)) (nm_r (nI_1 i) (hw () trivial))⟩))
  rw [mr_fbk_0, mr_fbk_0] at L
  exact L
theorem mr_feed {pc bs md rd bf mp sc se oe : Nat} {fa fo lw hg : Int32} {R MF RF BK SK PS HD LM OS OK : Nat → Nat} {rk rv bv sv ov : Nat → Int32} {post : Int32 → St2 → Prop} (hOS : ∀ q, q < 4 → OS q ≤ OS (q + 1)) (hOS4 : ∀ q, q ≤ 4 → OS q ≤ 16) (H : post (nI oe) (nI pc, nI bs, nI md, fa, fo, lw, hg, nI rd, nI bf, nI mp, nI sc, nI se, nI oe, mr_cv (mr_fR OS R 4), (mr_fK OS (mr_cv OK) rk 4), (mr_fK OS ov rv 4), mr_cv MF, mr_cv RF, mr_cv BK, bv, mr_cv SK, sv, mr_cv PS, mr_cv HD, mr_cv LM, mr_cv OS, mr_cv OK, ov)) : wpX_feedBack post (nI pc, nI bs, nI md, fa, fo, lw, hg, nI rd, nI bf, nI mp, nI sc, nI se, nI oe, mr_cv R, rk, rv, mr_cv MF, mr_cv RF, mr_cv BK, bv, mr_cv SK, sv, mr_cv PS, mr_cv HD, mr_cv LM, mr_cv OS, mr_cv OK, ov) :=
  pk_loop (σ := Unit) (fun m q _ => wX_feedBack_2 post (nI pc) (nI bs) (nI md) fa fo lw hg (nI rd) (nI bf) (nI mp) (nI sc) (nI se) (nI oe) m (nI q) (mr_cv (mr_fR OS R q)) (mr_fK OS (mr_cv OK) rk q) (mr_fK OS ov rv q) (mr_cv MF) (mr_cv RF) (mr_cv BK) bv (mr_cv SK) sv (mr_cv PS) (mr_cv HD) (mr_cv LM) (mr_cv OS) (mr_cv OK) ov) (fun _ _ => True) 4 0 () (by omega) trivial
    (fun m _ _ => pk_le 4 4 (fun _ => H) (fun z => absurd z (by omega)))
    (fun m q _ hq _ hw => pk_le 4 q (fun z => absurd z (by omega)) (fun _ => by
      have b1 := hOS q hq
      have b2 := hOS4 (q + 1) (by omega)
      have e : mr_cv OS (nI q + 1).toNatClampNeg - nI (OS q) = nI (OS (q + 1) - OS q) := by rw [mr_rd (K := OS) (q + 1) (nI_1 q), pk_sub b1]
      refine ⟨pk_in q 5 (by omega), nm_r (mr_rd q) ⟨pk_in (q + 1) 5 (by omega) (nI_1 q), nm_r e ⟨pk_in q 4 hq, nm_r (mr_up q (OS (q + 1) - OS q) (mr_i8 rfl (by omega))) ?_⟩⟩⟩
      exact mr_fb36 hq (by omega) (hw () trivial)))
theorem mr_fR_at (OS R : Nat → Nat) : ∀ n q, q < n → mr_fR OS R n q = OS (q + 1) - OS q := by
  intro n
  induction n with
  | zero => exact fun q hq => absurd hq (by omega)
  | succ n ih =>
    intro q hq
    show mr_un (mr_fR OS R n) n (OS (n + 1) - OS n) q = _
    by_cases e : q = n
    · rw [e, mr_us]
    · rw [mr_ne e]
      exact ih q (by omega)
theorem mr_fR_eq {OS OS' R : Nat → Nat} : ∀ n, (∀ q, q ≤ n → OS q = OS' q) → mr_fR OS R n = mr_fR OS' R n := by
  intro n
  induction n with
  | zero => exact fun _ => rfl
  | succ n ih =>
    intro h
    show mr_un (mr_fR OS R n) n (OS (n + 1) - OS n) = mr_un (mr_fR OS' R n) n (OS' (n + 1) - OS' n)
    rw [ih (fun q hq => h q (by omega)), h (n + 1) (by omega), h n (by omega)]
theorem mr_fK_eq {OS OS' : Nat → Nat} {g g' f : Nat → Int32} : ∀ n, (∀ q, q ≤ n → OS q = OS' q) → (∀ q, q < n → ∀ i, i < OS (q + 1) - OS q → g (OS q + i) = g' (OS q + i)) → mr_fK OS g f n = mr_fK OS' g' f n := by
  intro n
  induction n with
  | zero => exact fun _ _ => rfl
  | succ n ih =>
    intro h h2
    show mr_fbk g (mr_fK OS g f n) n (OS n) (OS (n + 1) - OS n) = mr_fbk g' (mr_fK OS' g' f n) n (OS' n) (OS' (n + 1) - OS' n)
    rw [ih (fun q hq => h q (by omega)) (fun q hq => h2 q (by omega)), ← h (n + 1) (by omega), ← h n (by omega)]
    exact mr_fbk_eq (h2 n (by omega))
end
section
-- a tally: the values add up to the number of pairs
def mr_tk (n : Nat) : Option Int32 := if n = 0 then none else some (nI n)
theorem mr_tk_s (n : Nat) : mr_sx 3 (mr_tk n) 1 = mr_tk (n + 1) := by
  cases n with
  | zero => rfl
  | succ n =>
    show mr_sx 3 (if n + 1 = 0 then none else some (nI (n + 1))) 1 = if n + 1 + 1 = 0 then none else some (nI (n + 1 + 1))
    rw [if_neg (by omega), if_neg (by omega), ← nI_1 (n + 1)]
    rfl
theorem mr_tk_i {n : Nat} (h : (mr_tk n).isSome = true) : mr_tk n = some (nI n) := by
  unfold mr_tk at h ⊢
  by_cases e : n = 0
  · rw [if_pos e] at h
    exact absurd h (by decide)
  · rw [if_neg e]
theorem mr_tk_n {n : Nat} (h : ¬ (mr_tk n).isSome = true) : n = 0 := by
  unfold mr_tk at h
  by_cases e : n = 0
  · exact e
  · rw [if_neg e] at h
    exact absurd rfl h
/-- how many of the records give key k -/
def mr_c1 (k : Nat) : Option (Nat × Int32) → Nat | none => 0 | some p => if p.1 = k then 1 else 0
def mr_cr (k : Nat) (V : Nat → Option (Nat × Int32)) (b : Nat) : Nat → Nat
  | 0 => 0
  | n + 1 => mr_cr k V b n + mr_c1 k (V (b + n))
def mr_cs (k : Nat) (V : Nat → Option (Nat × Int32)) (R : Nat → Nat) : Nat → Nat
  | 0 => 0
  | s + 1 => mr_cs k V R s + mr_cr k V (16 * s) (R s)
theorem mr_cr_f {V : Nat → Option (Nat × Int32)} (hV : ∀ j p, V j = some p → p.2 = 1) (k a b n : Nat) : mr_fr 3 k V (mr_tk a) b n = mr_tk (a + mr_cr k V b n) := by
  induction n with
  | zero => rfl
  | succ n ih =>
    show mr_r1 3 k (V (b + n)) (mr_fr 3 k V (mr_tk a) b n) = mr_tk (a + (mr_cr k V b n + mr_c1 k (V (b + n))))
    rw [ih]
    cases h : V (b + n) with
    | none => rfl
    | some p =>
      have h1 := hV (b + n) p h
      show mr_s1 3 k p.1 p.2 (mr_tk (a + mr_cr k V b n)) = mr_tk (a + (mr_cr k V b n + if p.1 = k then 1 else 0))
      by_cases e : p.1 = k
      · rw [mr_s1_t e, h1, if_pos e, mr_tk_s]
        rfl
      · rw [mr_s1_f e, if_neg e]
        rfl
theorem mr_cs_f {V : Nat → Option (Nat × Int32)} (hV : ∀ j p, V j = some p → p.2 = 1) (R : Nat → Nat) (k s : Nat) : mr_fs 3 V R k s = mr_tk (mr_cs k V R s) := by
  induction s with
  | zero => rfl
  | succ s ih =>
    show mr_fr 3 k V (mr_fs 3 V R k s) (16 * s) (R s) = mr_tk (mr_cs k V R s + mr_cr k V (16 * s) (R s))
    rw [ih, mr_cr_f hV]
/-- sums over the keys below n -/
def mr_ta (f : Nat → Nat) : Nat → Nat
  | 0 => 0
  | n + 1 => mr_ta f n + f n
theorem mr_ta_add (f g : Nat → Nat) (n : Nat) : mr_ta (fun k => f k + g k) n = mr_ta f n + mr_ta g n := by
  induction n with
  | zero => rfl
  | succ n ih =>
    show mr_ta (fun k => f k + g k) n + (f n + g n) = mr_ta f n + f n + (mr_ta g n + g n)
    rw [ih]
    omega
theorem mr_ta_0 (n : Nat) : mr_ta (fun _ => 0) n = 0 := by
  induction n with
  | zero => rfl
  | succ n ih =>
    show mr_ta (fun _ => 0) n + 0 = 0
    rw [ih]
theorem mr_ta_1 (a n : Nat) : mr_ta (fun k => if a = k then 1 else 0) n = if a < n then 1 else 0 := by
  induction n with
  | zero => rfl
  | succ n ih =>
    show mr_ta (fun k => if a = k then 1 else 0) n + (if a = n then 1 else 0) = _
    rw [ih]
    by_cases h1 : a < n
    · rw [if_pos h1, if_neg (show ¬ a = n by omega), if_pos (show a < n + 1 by omega)]
    · by_cases h2 : a = n
      · rw [if_neg h1, if_pos h2, if_pos (show a < n + 1 by omega)]
      · rw [if_neg h1, if_neg h2, if_neg (show ¬ a < n + 1 by omega)]
theorem mr_ta_c1 (o : Option (Nat × Int32)) (h : ∀ p, o = some p → p.1 < 16) : mr_ta (fun k => mr_c1 k o) 16 = mr_m1 o := by
  cases o with
  | none => exact mr_ta_0 16
  | some p =>
    show mr_ta (fun k => if p.1 = k then 1 else 0) 16 = 1
    rw [mr_ta_1, if_pos (h p rfl)]
theorem mr_ta_cr {V : Nat → Option (Nat × Int32)} (hV : ∀ j p, V j = some p → p.1 < 16) (b n : Nat) : mr_ta (fun k => mr_cr k V b n) 16 = mr_nr V b n := by
  induction n with
  | zero => exact mr_ta_0 16
  | succ n ih =>
    show mr_ta (fun k => mr_cr k V b n + mr_c1 k (V (b + n))) 16 = mr_nr V b n + mr_m1 (V (b + n))
    rw [mr_ta_add, ih, mr_ta_c1 _ (hV (b + n))]
theorem mr_ta_cs {V : Nat → Option (Nat × Int32)} (hV : ∀ j p, V j = some p → p.1 < 16) (R : Nat → Nat) (s : Nat) : mr_ta (fun k => mr_cs k V R s) 16 = mr_ns V R s := by
  induction s with
  | zero => exact mr_ta_0 16
  | succ s ih =>
    show mr_ta (fun k => mr_cs k V R s + mr_cr k V (16 * s) (R s)) 16 = mr_ns V R s + mr_nr V (16 * s) (R s)
    rw [mr_ta_add, ih, mr_ta_cr hV]
/-- .. by parts -/
def mr_tp (pc : Nat) (f : Nat → Nat) (q : Nat) : Nat → Nat
  | 0 => 0
  | c + 1 => mr_tp pc f q c + (if c % pc = q then f c else 0)
def mr_tt (pc : Nat) (f : Nat → Nat) (c : Nat) : Nat → Nat
  | 0 => 0
  | P + 1 => mr_tt pc f c P + mr_tp pc f P c
theorem mr_tt_0 (pc : Nat) (f : Nat → Nat) (P : Nat) : mr_tt pc f 0 P = 0 := by
  induction P with
  | zero => rfl
  | succ P ih =>
    show mr_tt pc f 0 P + 0 = 0
    rw [ih]
theorem mr_tt_s (pc : Nat) (f : Nat → Nat) (c P : Nat) : mr_tt pc f (c + 1) P = mr_tt pc f c P + (if c % pc < P then f c else 0) := by
  induction P with
  | zero => rw [if_neg (Nat.not_lt_zero _)]; rfl
  | succ P ih =>
    show mr_tt pc f (c + 1) P + (mr_tp pc f P c + (if c % pc = P then f c else 0)) = mr_tt pc f c P + mr_tp pc f P c + _
    rw [ih]
    by_cases h1 : c % pc < P
    · rw [if_pos h1, if_neg (show ¬ c % pc = P by omega), if_pos (show c % pc < P + 1 by omega)]
      omega
    · by_cases h2 : c % pc = P
      · rw [if_neg h1, if_pos h2, if_pos (show c % pc < P + 1 by omega)]
        omega
      · rw [if_neg h1, if_neg h2, if_neg (show ¬ c % pc < P + 1 by omega)]
        omega
theorem mr_tt_all {pc : Nat} (h0 : 0 < pc) (f : Nat → Nat) (c : Nat) : mr_tt pc f c pc = mr_ta f c := by
  induction c with
  | zero => exact mr_tt_0 pc f pc
  | succ c ih =>
    rw [mr_tt_s, if_pos (Nat.mod_lt c h0), ih]
    rfl
theorem mr_su_p {pc : Nat} {F : Nat → Option Int32} {f : Nat → Nat} {OK : Nat → Nat} {ov : Nat → Int32} {q : Nat} (hF : ∀ k, F k = mr_tk (f k)) (ho : mr_os pc F 4 OK ov) (hq : q < 4) : ∀ c, c ≤ 16 → mr_su ov (mr_st pc F q + mr_cn pc F q c) = mr_su ov (mr_st pc F q) + nI (mr_tp pc f q c) := by
  intro c
  induction c with
  | zero =>
    intro _
    show mr_su ov (mr_st pc F q) = mr_su ov (mr_st pc F q) + nI 0
    rw [nI_0, Int32.add_zero]
  | succ c ih =>
    intro hc
    show _ = mr_su ov (mr_st pc F q) + nI (mr_tp pc f q c + (if c % pc = q then f c else 0))
    by_cases e : mr_q pc F q c
    · rw [mr_cn_t e, if_pos e.1, ← nI_add, ← Int32.add_assoc, ← ih (by omega)]
      show mr_su ov (mr_st pc F q + mr_cn pc F q c) + ov (mr_st pc F q + mr_cn pc F q c) = _
      have h1 := (ho q hq c (by omega) e).2
      have h2 := e.2
      rw [hF c] at h1 h2
      rw [mr_tk_i h2] at h1
      rw [Option.some.inj h1]
    · rw [mr_cn_f e, ih (by omega)]
      by_cases h1 : c % pc = q
      · have h2 : ¬ (F c).isSome = true := fun g => e ⟨h1, g⟩
        rw [hF c] at h2
        rw [if_pos h1, mr_tk_n h2, Nat.add_zero]
      · rw [if_neg h1, Nat.add_zero]
theorem mr_su_t {pc : Nat} {F : Nat → Option Int32} {f : Nat → Nat} {OK : Nat → Nat} {ov : Nat → Int32} (hF : ∀ k, F k = mr_tk (f k)) (ho : mr_os pc F 4 OK ov) : ∀ P, P ≤ 4 → mr_su ov (mr_st pc F P) = nI (mr_tt pc f 16 P) := by
  intro P
  induction P with
  | zero => exact fun _ => rfl
  | succ P ih =>
    intro hP
    rw [mr_st_s, mr_su_p hF ho (by omega) 16 (by omega), ih (by omega), nI_add]
    rfl
theorem mr_V3 {md : Nat} {fa fo lw hg : Int32} {rk rv : Nat → Int32} (hm0 : 0 < md) (hm : md ≤ 16) (j : Nat) (p : Nat × Int32) (h : mr_V 3 md fa fo lw hg rk rv j = some p) : p.1 < 16 ∧ p.2 = 1 := by
  unfold mr_V at h
  by_cases e : ¬ rv j < lw ∧ rv j ≤ hg
  · rw [if_pos e] at h
    have h1 := Option.some.inj h
    rw [← h1]
    refine ⟨?_, rfl⟩
    show mr_ky md (rk j) < 16
    by_cases z : 0 ≤ rk j - rk j / nI md * nI md
    · exact (mr_ky_t hm0 hm z).2
    · exact (mr_ky_f hm0 hm z).2
  · rw [if_neg e] at h
    exact absurd h.symm (Option.some_ne_none p)
theorem mr_tally {pc md : Nat} {fa fo lw hg : Int32} {R OS OK : Nat → Nat} {rk rv ov : Nat → Int32} (h0 : 0 < pc) (h4 : pc ≤ 4) (hm0 : 0 < md) (hm : md ≤ 16) (ho : mr_out pc (fun k => mr_fs 3 (mr_V 3 md fa fo lw hg rk rv) R k 4) OS OK ov) :
    mr_su ov (mr_st pc (fun k => mr_fs 3 (mr_V 3 md fa fo lw hg rk rv) R k 4) pc) = nI (mr_ns (mr_V 3 md fa fo lw hg rk rv) R 4) := by
  rw [mr_su_t (f := fun k => mr_cs k (mr_V 3 md fa fo lw hg rk rv) R 4) (fun k => mr_cs_f (fun j p h => (mr_V3 hm0 hm j p h).2) R k 4) ho.2 pc h4, mr_tt_all h0, mr_ta_cs (fun j p h => (mr_V3 hm0 hm j p h).1)]
end
section
-- the law's own loop: the two objects, step by step
def mr_sh (pc md : Nat) (R : Nat → Nat) : Prop := 0 < pc ∧ pc ≤ 4 ∧ 0 < md ∧ md ≤ 16 ∧ ∀ q, q < 4 → R q ≤ 16
def mr_ok (pc bs oe : Nat) (F : Nat → Option Int32) (MF RF OS OK : Nat → Nat) (ov : Nat → Int32) : Prop :=
  2 ≤ bs ∧ bs ≤ 8 ∧ (∀ q, q < 4 → MF q = 0 ∧ RF q = 0) ∧ mr_out pc F OS OK ov ∧ oe = mr_st pc F 4
def mr_iv (pc md bs bs2 oe oe2 : Nat) (R MF RF OS OK MF2 RF2 OS2 OK2 : Nat → Nat) (ov ov2 : Nat → Int32) : Prop :=
  mr_sh pc md R ∧ ∃ F, mr_ok pc bs oe F MF RF OS OK ov ∧ mr_ok pc bs2 oe2 F MF2 RF2 OS2 OK2 ov2
theorem mr_ft_0 {MF RF : Nat → Nat} : ∀ n, (∀ q, q < n → MF q = 0 ∧ RF q = 0) → mr_ft MF RF n = 0 := by
  intro n
  induction n with
  | zero => exact fun _ => rfl
  | succ n ih =>
    intro h
    show mr_ft MF RF n + (MF n + RF n) = 0
    rw [ih (fun q hq => h q (by omega)), (h n (by omega)).1, (h n (by omega)).2]
/-- what is left of the bytecode behind one turn -/
def mr_K (L : Nat) (xs : Nat → Int32) (pc kc ks n i : Nat) : Prop :=
  ∀ (bs md rd bf mp sc se oe : Nat) (fa fo lw hg : Int32) (R MF RF BK SK PS HD LM OS OK : Nat → Nat) (rk rv bv sv ov : Nat → Int32) (bs2 rd2 bf2 mp2 sc2 se2 oe2 : Nat) (MF2 RF2 BK2 SK2 PS2 HD2 LM2 OS2 OK2 : Nat → Nat) (bv2 sv2 ov2 : Nat → Int32), mr_iv pc md bs bs2 oe oe2 R MF RF OS OK MF2 RF2 OS2 OK2 ov ov2 → wL_law_41 (fun r => r = 1) L xs (nI pc) kc ks n (nI i) (nI pc) (nI bs) (nI md) fa fo lw hg (nI rd) (nI bf) (nI mp) (nI sc) (nI se) (nI oe) (mr_cv R) rk rv (mr_cv MF) (mr_cv RF) (mr_cv BK) bv (mr_cv SK) sv (mr_cv PS) (mr_cv HD) (mr_cv LM) (mr_cv OS) (mr_cv OK) ov (nI pc) (nI bs2) (nI md) fa fo lw hg (nI rd2) (nI bf2) (nI mp2) (nI sc2) (nI se2) (nI oe2) (mr_cv R) rk rv (mr_cv MF2) (mr_cv RF2) (mr_cv BK2) bv2 (mr_cv SK2) sv2 (mr_cv PS2) (mr_cv HD2) (mr_cv LM2) (mr_cv OS2) (mr_cv OK2) ov2
theorem mr_law174t {pc bs md rd bf mp sc se oe : Nat} {fa fo lw hg : Int32} {R MF RF BK SK PS HD LM OS OK : Nat → Nat} {rk rv bv sv ov : Nat → Int32} {bs2 rd2 bf2 mp2 sc2 se2 oe2 : Nat} {MF2 RF2 BK2 SK2 PS2 HD2 LM2 OS2 OK2 : Nat → Nat} {bv2 sv2 ov2 : Nat → Int32} {post : Int32 → Prop} {L : Nat} {xs : Nat → Int32} {J : Int32 → Int32 → Int32 → Int32 → Int32 → Int32 → Int32 → Int32 → Int32 → Int32 → Int32 → Int32 → Int32 → Int32 → (Nat → Int32) → (Nat → Int32) → (Nat → Int32) → (Nat → Int32) → (Nat → Int32) → (Nat → Int32) → (Nat → Int32) → (Nat → Int32) → (Nat → Int32) → (Nat → Int32) → (Nat → Int32) → (Nat → Int32) → (Nat → Int32) → (Nat → Int32) → (Nat → Int32) → Int32 → Int32 → Int32 → Int32 → Int32 → Int32 → Int32 → Int32 → Int32 → Int32 → Int32 → Int32 → Int32 → (Nat → Int32) → (Nat → Int32) → (Nat → Int32) → (Nat → Int32) → (Nat → Int32) → (Nat → Int32) → (Nat → Int32) → (Nat → Int32) → (Nat → Int32) → (Nat → Int32) → (Nat → Int32) → (Nat → Int32) → (Nat → Int32) → (Nat → Int32) → (Nat → Int32) → Prop} {x1 x5 x6 : Int32} {kc ks i : Nat} (c : x6 ≤ x5) (H : J (nI (i + 4)) (nI pc) (nI bs) (nI md) fa fo x6 x5 (nI rd) (nI bf) (nI mp) (nI sc) (nI se) (nI oe) (mr_cv R) rk rv (mr_cv MF) (mr_cv RF) (mr_cv BK) bv (mr_cv SK) sv (mr_cv PS) (mr_cv HD) (mr_cv LM) (mr_cv OS) (mr_cv OK) ov (nI pc) (nI bs2) (nI md) fa fo x6 x5 (nI rd2) (nI bf2) (nI mp2) (nI sc2) (nI se2) (nI oe2) (mr_cv R) rk rv (mr_cv MF2) (mr_cv RF2) (mr_cv BK2) bv2 (mr_cv SK2) sv2 (mr_cv PS2) (mr_cv HD2) (mr_cv LM2) (mr_cv OS2) (mr_cv OK2) ov2) : wL_law_174 post L xs J x1 (nI i) x5 x6 x6 kc ks (nI pc) (nI bs) (nI md) fa fo lw hg (nI rd) (nI bf) (nI mp) (nI sc) (nI se) (nI oe) (mr_cv R) rk rv (mr_cv MF) (mr_cv RF) (mr_cv BK) bv (mr_cv SK) sv (mr_cv PS) (mr_cv HD) (mr_cv LM) (mr_cv OS) (mr_cv OK) ov (nI pc) (nI bs2) (nI md) fa fo lw hg (nI rd2) (nI bf2) (nI mp2) (nI sc2) (nI se2) (nI oe2) (mr_cv R) rk rv (mr_cv MF2) (mr_cv RF2) (mr_cv BK2) bv2 (mr_cv SK2) sv2 (mr_cv PS2) (mr_cv HD2) (mr_cv LM2) (mr_cv OS2) (mr_cv OK2) ov2 :=
  br_t c (br_t c (br_t c (nm_r (nI_add i 4) H)))
theorem mr_law174f {pc bs md rd bf mp sc se oe : Nat} {fa fo lw hg : Int32} {R MF RF BK SK PS HD LM OS OK : Nat → Nat} {rk rv bv sv ov : Nat → Int32} {bs2 rd2 bf2 mp2 sc2 se2 oe2 : Nat} {MF2 RF2 BK2 SK2 PS2 HD2 LM2 OS2 OK2 : Nat → Nat} {bv2 sv2 ov2 : Nat → Int32} {post : Int32 → Prop} {L : Nat} {xs : Nat → Int32} {J : Int32 → Int32 → Int32 → Int32 → Int32 → Int32 → Int32 → Int32 → Int32 → Int32 → Int32 → Int32 → Int32 → Int32 → (Nat → Int32) → (Nat → Int32) → (Nat → Int32) → (Nat → Int32) → (Nat → Int32) → (Nat → Int32) → (Nat → Int32) → (Nat → Int32) → (Nat → Int32) → (Nat → Int32) → (Nat → Int32) → (Nat → Int32) → (Nat → Int32) → (Nat → Int32) → (Nat → Int32) → Int32 → Int32 → Int32 → Int32 → Int32 → Int32 → Int32 → Int32 → Int32 → Int32 → Int32 → Int32 → Int32 → (Nat → Int32) → (Nat → Int32) → (Nat → Int32) → (Nat → Int32) → (Nat → Int32) → (Nat → Int32) → (Nat → Int32) → (Nat → Int32) → (Nat → Int32) → (Nat → Int32) → (Nat → Int32) → (Nat → Int32) → (Nat → Int32) → (Nat → Int32) → (Nat → Int32) → Prop} {x1 x5 x6 : Int32} {kc ks i : Nat} (c : ¬ x6 ≤ x5) (H : J (nI (i + 4)) (nI pc) (nI bs) (nI md) fa fo x5 x6 (nI rd) (nI bf) (nI mp) (nI sc) (nI se) (nI oe) (mr_cv R) rk rv (mr_cv MF) (mr_cv RF) (mr_cv BK) bv (mr_cv SK) sv (mr_cv PS) (mr_cv HD) (mr_cv LM) (mr_cv OS) (mr_cv OK) ov (nI pc) (nI bs2) (nI md) fa fo x5 x6 (nI rd2) (nI bf2) (nI mp2) (nI sc2) (nI se2) (nI oe2) (mr_cv R) rk rv (mr_cv MF2) (mr_cv RF2) (mr_cv BK2) bv2 (mr_cv SK2) sv2 (mr_cv PS2) (mr_cv HD2) (mr_cv LM2) (mr_cv OS2) (mr_cv OK2) ov2) : wL_law_174 post L xs J x1 (nI i) x5 x6 x5 kc ks (nI pc) (nI bs) (nI md) fa fo lw hg (nI rd) (nI bf) (nI mp) (nI sc) (nI se) (nI oe) (mr_cv R) rk rv (mr_cv MF) (mr_cv RF) (mr_cv BK) bv (mr_cv SK) sv (mr_cv PS) (mr_cv HD) (mr_cv LM) (mr_cv OS) (mr_cv OK) ov (nI pc) (nI bs2) (nI md) fa fo lw hg (nI rd2) (nI bf2) (nI mp2) (nI sc2) (nI se2) (nI oe2) (mr_cv R) rk rv (mr_cv MF2) (mr_cv RF2) (mr_cv BK2) bv2 (mr_cv SK2) sv2 (mr_cv PS2) (mr_cv HD2) (mr_cv LM2) (mr_cv OS2) (mr_cv OK2) ov2 :=
  br_f c (br_f c (br_f c (nm_r (nI_add i 4) H)))
theorem mr_law288 {pc bs md rd bf mp sc se oe : Nat} {fa fo lw hg : Int32} {R MF RF BK SK PS HD LM OS OK : Nat → Nat} {rk rv bv sv ov : Nat → Int32} {bs2 rd2 bf2 mp2 sc2 se2 oe2 : Nat} {MF2 RF2 BK2 SK2 PS2 HD2 LM2 OS2 OK2 : Nat → Nat} {bv2 sv2 ov2 : Nat → Int32} {L : Nat} {xs : Nat → Int32} {x5 x6 x7 z0 : Int32} {kc ks n i : Nat} (h : mr_iv pc md bs bs2 oe oe2 R MF RF OS OK MF2 RF2 OS2 OK2 ov ov2) (K : mr_K L xs pc kc ks n (i + 4)) :
    wL_law_288 (fun r => r = 1) L xs (wL_law_41 (fun r => r = 1) L xs (nI pc) kc ks n) (nI pc) (nI i) x5 x6 x7 z0 kc ks (nI pc) (nI bs) (nI md) fa fo lw hg (nI rd) (nI bf) (nI mp) (nI sc) (nI se) (nI oe) (mr_cv R) rk rv (mr_cv MF) (mr_cv RF) (mr_cv BK) bv (mr_cv SK) sv (mr_cv PS) (mr_cv HD) (mr_cv LM) (mr_cv OS) (mr_cv OK) ov (nI pc) (nI bs2) (nI md) fa fo lw hg (nI rd2) (nI bf2) (nI mp2) (nI sc2) (nI se2) (nI oe2) (mr_cv R) rk rv (mr_cv MF2) (mr_cv RF2) (mr_cv BK2) bv2 (mr_cv SK2) sv2 (mr_cv PS2) (mr_cv HD2) (mr_cv LM2) (mr_cv OS2) (mr_cv OK2) ov2 := by
  obtain ⟨⟨h0, h4, hm0, hm, hR⟩, F, ⟨a1, a2, a3, a4, a5⟩, ⟨b1, b2, b3, b4, b5⟩⟩ := h
  obtain ⟨i1, hi1, ei1⟩ := pk_andE x6 (m := 3) 2 (by decide)
  obtain ⟨t1, ht1, et1⟩ := pk_andE x5 (m := 3) 2 (by decide)
  obtain ⟨i2, hi2, ei2⟩ := pk_andE x7 (m := 3) 2 (by decide)
  obtain ⟨t2, ht2, et2⟩ := pk_andE (x6 >>> ((2 : Int32) &&& 31)) (m := 3) 2 (by decide)
  obtain ⟨w, hw, ew⟩ := pk_andE x7 (m := 255) 8 (by decide)
  have e5 : (x7 &&& 255) - (x7 &&& 255) / 5 * 5 = nI (w % 5) := by
    rw [ew]
    exact pk_rem (a := w) (d := 5) (by omega) (by omega) (by omega)
  have hw5 : w % 5 < 5 := Nat.mod_lt _ (by omega)
  have f0 := mr_ft_0 4 a3
  have f1 := mr_ft_0 4 b3
  unfold wL_law_288
  refine mr_fail ei1 et1 (by omega) (by omega) h4 (fun r1 MF3 RF3 g1 => ?_)
  refine mr_fail ei2 et2 (by omega) (by omega) h4 (fun r2 MF4 RF4 g2 => ?_)
  refine ⟨by decide, nm_r e5 ?_⟩
  refine mr_run rfl hw5 h0 h4 hm0 hm a1 a2 hR (by omega) (fun sc' se' MF' RF' BK' SK' PS' HD' LM' OS' OK' bv' sv' ov' c1 c2 => ?_)
  have b := mr_st_le pc (fun k => mr_fs (w % 5) (mr_V (w % 5) md fa fo lw hg rk rv) R k 4) 4
  refine br_f (nI_pos (by omega)) ?_
  refine mr_run rfl hw5 h0 h4 hm0 hm b1 b2 hR (by omega) (fun sc3 se3 MF3 RF3 BK3 SK3 PS3 HD3 LM3 OS3 OK3 bv3 sv3 ov3 d1 d2 => ?_)
  refine br_t rfl (mr_same h4 c2 d2 rfl (br_f (by decide) ?_))
  refine pk_eq (w % 5) 3 (fun z => ?_) (fun z => nm_r (nI_add i 4) (K _ _ _ _ _ _ _ _ _ _ _ _ _ _ _ _ _ _ _ _ _ _ _ _ _ _ _ _ _ _ _ _ _ _ _ _ _ _ _ _ _ _ _ _ _ _ ⟨⟨h0, h4, hm0, hm, hR⟩, _, ⟨a1, a2, c1, c2, rfl⟩, ⟨b1, b2, d1, d2, rfl⟩⟩))
  refine mr_sum h4 c2 (br_t ?_ (nm_r (nI_add i 4) (K _ _ _ _ _ _ _ _ _ _ _ _ _ _ _ _ _ _ _ _ _ _ _ _ _ _ _ _ _ _ _ _ _ _ _ _ _ _ _ _ _ _ _ _ _ _ ⟨⟨h0, h4, hm0, hm, hR⟩, _, ⟨a1, a2, c1, c2, rfl⟩, ⟨b1, b2, d1, d2, rfl⟩⟩)))
  rw [z] at c2 ⊢
  exact mr_tally h0 h4 hm0 hm c2
theorem mr_law274 {pc bs md rd bf mp sc se oe : Nat} {fa fo lw hg : Int32} {R MF RF BK SK PS HD LM OS OK : Nat → Nat} {rk rv bv sv ov : Nat → Int32} {bs2 rd2 bf2 mp2 sc2 se2 oe2 : Nat} {MF2 RF2 BK2 SK2 PS2 HD2 LM2 OS2 OK2 : Nat → Nat} {bv2 sv2 ov2 : Nat → Int32} {L : Nat} {xs : Nat → Int32} {x5 x6 x7 : Int32} {kc ks n i : Nat} (h : mr_iv pc md bs bs2 oe oe2 R MF RF OS OK MF2 RF2 OS2 OK2 ov ov2) (K : mr_K L xs pc kc ks n (i + 4)) :
    wL_law_274 (fun r => r = 1) L xs (wL_law_41 (fun r => r = 1) L xs (nI pc) kc ks n) (nI pc) (nI i) x5 x6 x7 kc ks (nI pc) (nI bs) (nI md) fa fo lw hg (nI rd) (nI bf) (nI mp) (nI sc) (nI se) (nI oe) (mr_cv R) rk rv (mr_cv MF) (mr_cv RF) (mr_cv BK) bv (mr_cv SK) sv (mr_cv PS) (mr_cv HD) (mr_cv LM) (mr_cv OS) (mr_cv OK) ov (nI pc) (nI bs2) (nI md) fa fo lw hg (nI rd2) (nI bf2) (nI mp2) (nI sc2) (nI se2) (nI oe2) (mr_cv R) rk rv (mr_cv MF2) (mr_cv RF2) (mr_cv BK2) bv2 (mr_cv SK2) sv2 (mr_cv PS2) (mr_cv HD2) (mr_cv LM2) (mr_cv OS2) (mr_cv OK2) ov2 :=
  br_c (fun _ => mr_law288 h K) (fun _ => mr_law288 h K)
/-- the end of the law -/
theorem mr_end {pc bs md rd bf mp sc se oe : Nat} {fa fo lw hg : Int32} {R MF RF BK SK PS HD LM OS OK : Nat → Nat} {rk rv bv sv ov : Nat → Int32} {bs2 rd2 bf2 mp2 sc2 se2 oe2 : Nat} {MF2 RF2 BK2 SK2 PS2 HD2 LM2 OS2 OK2 : Nat → Nat} {bv2 sv2 ov2 : Nat → Int32} {L : Nat} {xs : Nat → Int32} {kc ks n i : Nat} (hL : L ≤ 260) (hi : i < 1000) (hx : L < i + 4) (h : mr_iv pc md bs bs2 oe oe2 R MF RF OS OK MF2 RF2 OS2 OK2 ov ov2) :
    wL_law_41 (fun r => r = 1) L xs (nI pc) kc ks (n + 1) (nI i) (nI pc) (nI bs) (nI md) fa fo lw hg (nI rd) (nI bf) (nI mp) (nI sc) (nI se) (nI oe) (mr_cv R) rk rv (mr_cv MF) (mr_cv RF) (mr_cv BK) bv (mr_cv SK) sv (mr_cv PS) (mr_cv HD) (mr_cv LM) (mr_cv OS) (mr_cv OK) ov (nI pc) (nI bs2) (nI md) fa fo lw hg (nI rd2) (nI bf2) (nI mp2) (nI sc2) (nI se2) (nI oe2) (mr_cv R) rk rv (mr_cv MF2) (mr_cv RF2) (mr_cv BK2) bv2 (mr_cv SK2) sv2 (mr_cv PS2) (mr_cv HD2) (mr_cv LM2) (mr_cv OS2) (mr_cv OK2) ov2 := by
  obtain ⟨⟨h0, h4, hm0, hm, hR⟩, F, ⟨a1, a2, a3, a4, a5⟩, ⟨b1, b2, b3, b4, b5⟩⟩ := h
  have f0 := mr_ft_0 4 a3
  have f1 := mr_ft_0 4 b3
  have hc : nI L - 4 < nI i := by
    rw [Int32.lt_iff_toInt_lt, show (4 : Int32) = nI 4 from rfl, pk_sub_toInt (by omega) (by omega), nI_toInt (by omega)]
    omega
  refine br_t hc ?_
  refine mr_run (r := 3) rfl (by omega) h0 h4 hm0 hm a1 a2 hR (by omega) (fun sc' se' MF' RF' BK' SK' PS' HD' LM' OS' OK' bv' sv' ov' c1 c2 => ?_)
  refine mr_run (r := 3) rfl (by omega) h0 h4 hm0 hm b1 b2 hR (by omega) (fun sc3 se3 MF3 RF3 BK3 SK3 PS3 HD3 LM3 OS3 OK3 bv3 sv3 ov3 d1 d2 => ?_)
  refine br_t rfl (mr_same h4 c2 d2 rfl (br_f (by decide) ?_))
  exact mr_sum h4 c2 (br_t (mr_tally h0 h4 hm0 hm c2) rfl)
end
section
/-- one turn -/
theorem mr_turn {pc bs md rd bf mp sc se oe : Nat} {fa fo lw hg : Int32} {R MF RF BK SK PS HD LM OS OK : Nat → Nat} {rk rv bv sv ov : Nat → Int32} {bs2 rd2 bf2 mp2 sc2 se2 oe2 : Nat} {MF2 RF2 BK2 SK2 PS2 HD2 LM2 OS2 OK2 : Nat → Nat} {bv2 sv2 ov2 : Nat → Int32} {L : Nat} {xs : Nat → Int32} {kc ks n i : Nat} (hL : L ≤ 260) (hi : i + 4 ≤ L) (h : mr_iv pc md bs bs2 oe oe2 R MF RF OS OK MF2 RF2 OS2 OK2 ov ov2) (K : mr_K L xs pc kc ks n (i + 4)) :
    wL_law_41 (fun r => r = 1) L xs (nI pc) kc ks (n + 1) (nI i) (nI pc) (nI bs) (nI md) fa fo lw hg (nI rd) (nI bf) (nI mp) (nI sc) (nI se) (nI oe) (mr_cv R) rk rv (mr_cv MF) (mr_cv RF) (mr_cv BK) bv (mr_cv SK) sv (mr_cv PS) (mr_cv HD) (mr_cv LM) (mr_cv OS) (mr_cv OK) ov (nI pc) (nI bs2) (nI md) fa fo lw hg (nI rd2) (nI bf2) (nI mp2) (nI sc2) (nI se2) (nI oe2) (mr_cv R) rk rv (mr_cv MF2) (mr_cv RF2) (mr_cv BK2) bv2 (mr_cv SK2) sv2 (mr_cv PS2) (mr_cv HD2) (mr_cv LM2) (mr_cv OS2) (mr_cv OK2) ov2 := by
  have hc : ¬ nI L - 4 < nI i := by
    rw [Int32.lt_iff_toInt_lt, show (4 : Int32) = nI 4 from rfl, pk_sub_toInt (by omega) (by omega), nI_toInt (by omega)]
    omega
  have hI := h
  obtain ⟨⟨h0, h4, hm0, hm, hR⟩, F, ⟨a1, a2, a3, a4, a5⟩, ⟨b1, b2, b3, b4, b5⟩⟩ := hI
  refine br_f hc ⟨pk_in (i + 1) L (by omega) (nI_add i 1), nm_e ⟨pk_in (i + 2) L (by omega) (nI_add i 2), nm_e ⟨pk_in (i + 3) L (by omega) (nI_add i 3), nm_e ⟨pk_in i L (by omega), ?_⟩⟩⟩⟩
  obtain ⟨k, hk, ek⟩ := pk_andE (xs (nI i).toNatClampNeg) (m := 15) 4 (by decide)
  refine nm_r ek (br_f (nI_pos (by omega)) (pk_lt 6 k (fun z => ?_) (fun z => pk_eq k 0 (fun z0 => ?_) (fun z0 => pk_eq k 1 (fun z1 => ?_) (fun z1 => pk_eq k 2 (fun z2 => ?_) (fun z2 => pk_eq k 3 (fun z3 => ?_) (fun z3 => pk_eq k 4 (fun _ => mr_law274 h K) (fun _ => pk_eq k 5 (fun _ => mr_law274 h K) (fun _ => pk_eq k 6 (fun _ => mr_law274 h K) (fun _ => trivial))))))))))
  · -- a record
    obtain ⟨s, hs, es⟩ := pk_andE (xs (nI i + 1).toNatClampNeg) (m := 3) 2 (by decide)
    have hRs := hR s (by omega)
    refine mr_addRec es (by omega) hRs (fun g => ?_) (fun g => ?_)
    · refine mr_addRec es (by omega) hRs (fun _ => ?_) (fun g2 => absurd g2 (by omega))
      refine br_t rfl (nm_r (nI_add i 4) (K _ _ _ _ _ _ _ _ _ _ _ _ _ _ _ _ _ _ _ _ _ _ _ _ _ _ _ _ _ _ _ _ _ _ _ _ _ _ _ _ _ _ _ _ _ _ ⟨⟨h0, h4, hm0, hm, fun q hq => ?_⟩, F, ⟨a1, a2, a3, a4, a5⟩, ⟨b1, b2, b3, b4, b5⟩⟩))
      by_cases e : q = s
      · rw [e, mr_us]
        omega
      · rw [mr_ne e]
        exact hR q hq
    · refine mr_addRec es (by omega) hRs (fun g2 => absurd g2 (by omega)) (fun _ => ?_)
      exact br_t rfl (nm_r (nI_add i 4) (K _ _ _ _ _ _ _ _ _ _ _ _ _ _ _ _ _ _ _ _ _ _ _ _ _ _ _ _ _ _ _ _ _ _ _ _ _ _ _ _ _ _ _ _ _ _ h))
  · -- a mapping
    obtain ⟨s, hs, es⟩ := pk_andE (xs (nI i + 1).toNatClampNeg) (m := 15) 4 (by decide)
    have em : (1 : Int32) + (xs (nI i + 1).toNatClampNeg &&& 15) = nI (1 + s) := by
      rw [es]
      exact nI_add 1 s
    refine mr_mapping em (by omega) (by omega) (mr_mapping em (by omega) (by omega) ?_)
    exact nm_r (nI_add i 4) (K _ _ _ _ _ _ _ _ _ _ _ _ _ _ _ _ _ _ _ _ _ _ _ _ _ _ _ _ _ _ _ _ _ _ _ _ _ _ _ _ _ _ _ _ _ _ ⟨⟨h0, h4, by omega, by omega, hR⟩, F, ⟨a1, a2, a3, a4, a5⟩, ⟨b1, b2, b3, b4, b5⟩⟩)
  · -- bounds
    exact br_c (fun c => mr_law174t c (K _ _ _ _ _ _ _ _ _ _ _ _ _ _ _ _ _ _ _ _ _ _ _ _ _ _ _ _ _ _ _ _ _ _ _ _ _ _ _ _ _ _ _ _ _ _ h)) (fun c => mr_law174f c (K _ _ _ _ _ _ _ _ _ _ _ _ _ _ _ _ _ _ _ _ _ _ _ _ _ _ _ _ _ _ _ _ _ _ _ _ _ _ _ _ _ _ _ _ _ _ h))
  · -- a split emptied
    refine br_c (fun _ => ?_) (fun _ => nm_r (nI_add i 4) (K _ _ _ _ _ _ _ _ _ _ _ _ _ _ _ _ _ _ _ _ _ _ _ _ _ _ _ _ _ _ _ _ _ _ _ _ _ _ _ _ _ _ _ _ _ _ h))
    obtain ⟨s, hs, es⟩ := pk_andE (xs (nI i + 1).toNatClampNeg) (m := 3) 2 (by decide)
    refine mr_empty es (by omega) (mr_empty es (by omega) ?_)
    refine br_t rfl (nm_r (nI_add i 4) (K _ _ _ _ _ _ _ _ _ _ _ _ _ _ _ _ _ _ _ _ _ _ _ _ _ _ _ _ _ _ _ _ _ _ _ _ _ _ _ _ _ _ _ _ _ _ ⟨⟨h0, h4, hm0, hm, fun q hq => ?_⟩, F, ⟨a1, a2, a3, a4, a5⟩, ⟨b1, b2, b3, b4, b5⟩⟩))
    by_cases e : q = s
    · rw [e, mr_us]
      omega
    · rw [mr_ne e]
      exact hR q hq
  · -- the output fed back
    refine br_c (fun _ => ?_) (fun _ => nm_r (nI_add i 4) (K _ _ _ _ _ _ _ _ _ _ _ _ _ _ _ _ _ _ _ _ _ _ _ _ _ _ _ _ _ _ _ _ _ _ _ _ _ _ _ _ _ _ _ _ _ _ h))
    have hd : ∀ {OS OK : Nat → Nat} {ov : Nat → Int32}, mr_out pc F OS OK ov → (∀ q, q < 4 → OS (q + 1) - OS q = mr_cn pc F q 16 ∧ OS q ≤ OS (q + 1)) ∧ ∀ q, q ≤ 4 → OS q ≤ 16 := fun {OS OK ov} ho => by
      refine ⟨fun q hq => ?_, fun q hq => ?_⟩
      · rw [ho.1 q (by omega), ho.1 (q + 1) (by omega), mr_st_s]
        omega
      · rw [ho.1 q hq]
        exact mr_st_le pc F q
    have x1 := hd a4
    have y1 := hd b4
    have eO : ∀ q, q ≤ 4 → OS q = OS2 q := fun q hq => (a4.1 q hq).trans (b4.1 q hq).symm
    have e1 : mr_fR OS2 R 4 = mr_fR OS R 4 := (mr_fR_eq 4 eO).symm
    have e2 : mr_fK OS2 (mr_cv OK2) rk 4 = mr_fK OS (mr_cv OK) rk 4 := (mr_fK_eq 4 eO (fun q hq j hj => by
      rw [(x1.1 q hq).1] at hj
      have o := (mr_out_at a4 b4 hq hj).1
      rw [a4.1 q (by omega)]
      show nI (OK (mr_st pc F q + j)) = nI (OK2 (mr_st pc F q + j))
      rw [o])).symm
    have e3 : mr_fK OS2 ov2 rv 4 = mr_fK OS ov rv 4 := (mr_fK_eq 4 eO (fun q hq j hj => by
      rw [(x1.1 q hq).1] at hj
      have o := (mr_out_at a4 b4 hq hj).2.1
      rw [a4.1 q (by omega)]
      exact o)).symm
    refine mr_feed (fun q hq => (x1.1 q hq).2) x1.2 (mr_feed (fun q hq => (y1.1 q hq).2) y1.2 ?_)
    refine br_t (by rw [a5, b5]) (nm_r (nI_add i 4) ?_)
    rw [e1, e2, e3]
    refine K _ _ _ _ _ _ _ _ _ _ _ _ _ _ _ _ _ _ _ _ _ _ _ _ _ _ _ _ _ _ _ _ _ _ _ _ _ _ _ _ _ _ _ _ _ _ ⟨⟨h0, h4, hm0, hm, fun q hq => ?_⟩, F, ⟨a1, a2, a3, a4, a5⟩, ⟨b1, b2, b3, b4, b5⟩⟩
    rw [mr_fR_at OS R 4 q hq]
    have o := x1.2 (q + 1) (by omega)
    omega
theorem mr_loop {L : Nat} {xs : Nat → Int32} {pc kc ks : Nat} (hL : L ≤ 260) : ∀ (m i : Nat), i < 300 → L < i + 4 + 4 * m → mr_K L xs pc kc ks (m + 1) i := by
  intro m
  induction m with
  | zero =>
    intro i hi hx
    exact fun bs md rd bf mp sc se oe fa fo lw hg R MF RF BK SK PS HD LM OS OK rk rv bv sv ov bs2 rd2 bf2 mp2 sc2 se2 oe2 MF2 RF2 BK2 SK2 PS2 HD2 LM2 OS2 OK2 bv2 sv2 ov2 h => mr_end hL (by omega) (by omega) h
  | succ m ih =>
    intro i hi hx
    rcases Nat.lt_or_ge L (i + 4) with z | z
    · exact fun bs md rd bf mp sc se oe fa fo lw hg R MF RF BK SK PS HD LM OS OK rk rv bv sv ov bs2 rd2 bf2 mp2 sc2 se2 oe2 MF2 RF2 BK2 SK2 PS2 HD2 LM2 OS2 OK2 bv2 sv2 ov2 h => mr_end hL (by omega) z h
    · exact fun bs md rd bf mp sc se oe fa fo lw hg R MF RF BK SK PS HD LM OS OK rk rv bv sv ov bs2 rd2 bf2 mp2 sc2 se2 oe2 MF2 RF2 BK2 SK2 PS2 HD2 LM2 OS2 OK2 bv2 sv2 ov2 h => mr_turn hL z h (ih (i + 4) (by omega) (by omega))
theorem mr_init {post : St2 → Prop} {x p1 : Int32} {pc : Nat} (hx : x = nI pc) (h1 : 1 ≤ pc) (h4 : pc ≤ 4)
    (H : ∀ bs : Nat, 2 ≤ bs → bs ≤ 8 → post (nI pc, nI bs, nI 16, 1, 0, (-2147483648), 2147483647, nI 0, nI 0, nI 0, nI 0, nI 0, nI 0, mr_cv (fun _ => 0), (fun _ => 0), (fun _ => 0), mr_cv (fun _ => 0), mr_cv (fun _ => 0), mr_cv (fun _ => 0), (fun _ => 0), mr_cv (fun _ => 0), (fun _ => 0), mr_cv (fun _ => 0), mr_cv (fun _ => 0), mr_cv (fun _ => 0), mr_cv (fun _ => 0), mr_cv (fun _ => 0), (fun _ => 0))) :
    wpX_init post 15 545 (0, 0, 0, 0, 0, 0, 0, 0, 0, 0, 0, 0, 0) x p1 := by
  subst hx
  refine ⟨by omega, by omega, by omega, by omega, by omega, by omega, by omega, by omega, by omega, by omega, by omega, by omega, by omega, by omega, by omega, by omega, by omega, by omega, by omega, by omega, by omega, by omega, by omega, by omega, by omega, by omega, by omega, by omega, by omega, by omega, ?_⟩
  refine pk_le 1 pc (fun _ => pk_le pc 4 (fun _ => ?_) (fun z => absurd z (by omega))) (fun z => absurd z (by omega))
  refine br_c (fun a => br_c (fun b => ?_) (fun b => H 8 (by omega) (by omega))) (fun a => H 2 (by omega) (by omega))
  have a' := a
  rw [Int32.le_iff_toInt_le, show (2 : Int32).toInt = 2 from by decide] at a'
  obtain ⟨j, hj, ej⟩ := nI_of2 (x := p1) (M := 8) (n := 8) (by decide) (by rw [Int32.lt_iff_toInt_lt, show (0 : Int32).toInt = 0 from by decide]; omega) b
  subst ej
  rw [nI_toInt (by omega)] at a'
  exact H j (by omega) hj
theorem mr_cell {post : Int32 → Prop} {L : Nat} {xs : Nat → Int32} {x : Int32} (c : Nat) (hx : x = nI c) (hc : c < 100) (hL : L ≤ 260) (H : ∀ v, post v) : wpL_cell post L xs () x := by
  subst hx
  exact pk_le L c (fun _ => H 0) (fun z => ⟨pk_in c L z, H _⟩)
theorem mr_sc_none {pc : Nat} (P : Nat) : mr_st pc (fun _ => none) P = 0 := by
  induction P with
  | zero => rfl
  | succ P ih =>
    have e := mr_cn_eq (pc := pc) (F := fun _ => none) (p := P) (c := 0) 16 (fun k _ _ g => absurd (show (none : Option Int32).isSome = true from g.2) (by decide))
    rw [Nat.zero_add] at e
    rw [mr_st_s, ih, e]
    rfl
theorem mr_ok_0 {pc bs : Nat} (h2 : 2 ≤ bs) (h8 : bs ≤ 8) : mr_ok pc bs 0 (fun _ => none) (fun _ => 0) (fun _ => 0) (fun _ => 0) (fun _ => 0) (fun _ => 0) :=
  ⟨h2, h8, fun _ _ => ⟨rfl, rfl⟩, ⟨fun q _ => (mr_sc_none q).symm, fun q _ k _ hq => absurd (show (none : Option Int32).isSome = true from hq.2) (by decide)⟩, (mr_sc_none 4).symm⟩
theorem i_vc (xs : Nat → Int32) (L : Nat) (hL : L ≤ 260) : wpL_law (fun r => r = 1) L xs := by
  unfold wpL_law
  refine mr_cell 0 rfl (by omega) hL (fun v0 => ?_)
  obtain ⟨k, hk, ek⟩ := pk_andE v0 (m := 3) 2 (by decide)
  refine nm_r (show (1 : Int32) + (v0 &&& 3) = nI (1 + k) by rw [ek]; exact nI_add 1 k) ?_
  refine mr_cell 1 rfl (by omega) hL (fun v1 => ⟨15, 545, by omega, by omega, ?_⟩)
  refine mr_init rfl (by omega) (by omega) (fun bs p2 p8 => ⟨by omega, by omega, ?_⟩)
  refine mr_cell 2 rfl (by omega) hL (fun v2 => ⟨15, 545, by omega, by omega, ?_⟩)
  refine mr_init rfl (by omega) (by omega) (fun bs2 q2 q8 => ⟨301, ?_⟩)
  exact mr_loop hL 300 3 (by omega) (by omega) _ _ _ _ _ _ _ _ _ _ _ _ _ _ _ _ _ _ _ _ _ _ _ _ _ _ _ _ _ _ _ _ _ _ _ _ _ _ _ _ _ _ _ _ _ _ ⟨⟨by omega, by omega, by omega, by omega, fun q _ => Nat.zero_le _⟩, fun _ => none, mr_ok_0 p2 p8, mr_ok_0 q2 q8⟩
end
