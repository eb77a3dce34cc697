section
/-! counting, reaching: no program in sight -/
/-- how many of the places below k have P -/
noncomputable def tm_cnt (P : Nat → Prop) : Nat → Nat
  | 0 => 0
  | k + 1 => tm_cnt P k + @ite Nat (P k) (Classical.propDecidable (P k)) 1 0
theorem tm_cnt_y {P : Nat → Prop} {k : Nat} (h : P k) : tm_cnt P (k + 1) = tm_cnt P k + 1 := by
  show tm_cnt P k + _ = _
  rw [if_pos h]
theorem tm_cnt_n {P : Nat → Prop} {k : Nat} (h : ¬ P k) : tm_cnt P (k + 1) = tm_cnt P k := by
  show tm_cnt P k + _ = _
  rw [if_neg h]
  rfl
theorem tm_cnt_le (P : Nat → Prop) (k : Nat) : tm_cnt P k ≤ k := by
  induction k with
  | zero => exact Nat.le_refl 0
  | succ k ih =>
    by_cases h : P k
    · rw [tm_cnt_y h]; omega
    · rw [tm_cnt_n h]; omega
theorem tm_cnt_mono {P Q : Nat → Prop} : ∀ k : Nat, (∀ j, j < k → P j → Q j) → tm_cnt P k ≤ tm_cnt Q k := by
  intro k
  induction k with
  | zero => exact fun _ => Nat.le_refl 0
  | succ k ih =>
    intro h
    have ih' := ih (fun j hj => h j (by omega))
    by_cases hP : P k
    · rw [tm_cnt_y hP, tm_cnt_y (h k (by omega) hP)]; omega
    · rw [tm_cnt_n hP]
      by_cases hQ : Q k
      · rw [tm_cnt_y hQ]; omega
      · rw [tm_cnt_n hQ]; exact ih'
theorem tm_cnt_eq {P Q : Nat → Prop} {k : Nat} (h : ∀ j, j < k → (P j ↔ Q j)) : tm_cnt P k = tm_cnt Q k :=
  Nat.le_antisymm (tm_cnt_mono k (fun j hj => (h j hj).mp)) (tm_cnt_mono k (fun j hj => (h j hj).mpr))
theorem tm_cnt_no {P : Nat → Prop} : ∀ k : Nat, (∀ j, j < k → ¬ P j) → tm_cnt P k = 0 := by
  intro k
  induction k with
  | zero => exact fun _ => rfl
  | succ k ih => intro h; rw [tm_cnt_n (h k (by omega))]; exact ih (fun j hj => h j (by omega))
theorem tm_cnt_all {P : Nat → Prop} : ∀ k : Nat, (∀ j, j < k → P j) → tm_cnt P k = k := by
  intro k
  induction k with
  | zero => exact fun _ => rfl
  | succ k ih => intro h; rw [tm_cnt_y (h k (by omega)), ih (fun j hj => h j (by omega))]
theorem tm_cnt_add {P Q : Nat → Prop} {x : Nat} : ∀ k : Nat, x < k → ¬ P x → Q x → (∀ j, j < k → j ≠ x → (P j ↔ Q j)) → tm_cnt Q k = tm_cnt P k + 1 := by
  intro k
  induction k with
  | zero => intro h; omega
  | succ k ih =>
    intro hx hP hQ h
    by_cases e : x = k
    · subst e
      rw [tm_cnt_y hQ, tm_cnt_n hP]
      exact congrArg (· + 1) (tm_cnt_eq (fun j hj => (h j (by omega) (by omega)).symm))
    · have ih' := ih (by omega) hP hQ (fun j hj => h j (by omega))
      by_cases hk : P k
      · rw [tm_cnt_y hk, tm_cnt_y ((h k (by omega) (by omega)).mp hk), ih']
      · rw [tm_cnt_n hk, tm_cnt_n (fun z => hk ((h k (by omega) (by omega)).mpr z)), ih']
theorem tm_cnt_lt {P : Nat → Prop} {x k : Nat} (hx : x < k) (hP : ¬ P x) : tm_cnt P k < k := by
  have h := tm_cnt_add (P := P) (Q := fun j => P j ∨ j = x) k hx hP (Or.inr rfl) (fun j _ hn => ⟨Or.inl, fun z => z.elim id (fun e => absurd e hn)⟩)
  have h2 := tm_cnt_le (fun j => P j ∨ j = x) k
  omega
theorem tm_cnt_up {P : Nat → Prop} {i k : Nat} (h : i ≤ k) : tm_cnt P i ≤ tm_cnt P k := by
  induction k with
  | zero => rw [show i = 0 by omega]; exact Nat.le_refl _
  | succ k ih =>
    by_cases e : i = k + 1
    · rw [e]; exact Nat.le_refl _
    · have ih' := ih (by omega)
      by_cases hk : P k
      · rw [tm_cnt_y hk]; omega
      · rw [tm_cnt_n hk]; omega
/-- y is reached from x by steps of E -/
def tm_rch (E : Nat → Nat → Prop) (x y : Nat) : Prop := ∀ S : Nat → Prop, S x → (∀ a b, S a → E a b → S b) → S y
theorem tm_rch_0 {E : Nat → Nat → Prop} {x : Nat} : tm_rch E x x := fun _ h _ => h
theorem tm_rch_s {E : Nat → Nat → Prop} {x a b : Nat} (h : tm_rch E x a) (e : E a b) : tm_rch E x b := fun S hx hs => hs a b (h S hx hs) e
theorem tm_rch_t {E : Nat → Nat → Prop} {x y z : Nat} (h : tm_rch E x y) (h2 : tm_rch E y z) : tm_rch E x z := h2 (fun w => tm_rch E x w) h (fun _ _ ha e => tm_rch_s ha e)
theorem tm_rch_1 {E : Nat → Nat → Prop} {x y z : Nat} (e : E x y) (h : tm_rch E y z) : tm_rch E x z := tm_rch_t (tm_rch_s tm_rch_0 e) h
theorem tm_rch_m {E F : Nat → Nat → Prop} (h : ∀ a b, E a b → F a b) {x y : Nat} (r : tm_rch E x y) : tm_rch F x y := r (fun w => tm_rch F x w) tm_rch_0 (fun a b ha e => tm_rch_s ha (h a b e))
/-- each reaches the other -/
def tm_sim (E : Nat → Nat → Prop) (x y : Nat) : Prop := tm_rch E x y ∧ tm_rch E y x
theorem tm_sim_t {E : Nat → Nat → Prop} {x y z : Nat} (h : tm_sim E x y) (h2 : tm_sim E y z) : tm_sim E x z := ⟨tm_rch_t h.1 h2.1, tm_rch_t h2.2 h.2⟩
theorem tm_sim_m {E F : Nat → Nat → Prop} (h : ∀ a b, E a b → F a b) {x y : Nat} (r : tm_sim E x y) : tm_sim F x y := ⟨tm_rch_m h r.1, tm_rch_m h r.2⟩
/-- x is alike to nothing below it -/
def tm_new (E : Nat → Nat → Prop) (x : Nat) : Prop := ∀ b, b < x → ¬ tm_sim E b x
theorem tm_new_m {E F : Nat → Nat → Prop} (h : ∀ a b, E a b → F a b) {x : Nat} (r : tm_new F x) : tm_new E x := fun b hb z => r b hb (tm_sim_m h z)
/-- which of the two products a kind takes: even places are products on the right, odd ones on the left -/
def tm_use (kd k : Nat) : Prop := kd = 2 ∨ (kd = 0 ∧ k % 2 = 0) ∨ (kd = 1 ∧ k % 2 = 1)
/-- the graph of a kind over the table N -/
def tm_E (c kd : Nat) (N : Nat → Nat → Nat) (x y : Nat) : Prop := ∃ k, k < 2 * c ∧ tm_use kd k ∧ N x k = y
theorem tm_E2 {c kd : Nat} {N : Nat → Nat → Nat} (x y : Nat) (h : tm_E c kd N x y) : tm_E c 2 N x y := by
  obtain ⟨k, h1, _, h3⟩ := h
  exact ⟨k, h1, Or.inl rfl, h3⟩
/-! the small maps -/
def tm_nm (n m : Nat) : Prop := (n = 2 ∧ m = 4) ∨ (n = 3 ∧ m = 27) ∨ (n = 4 ∧ m = 256)
theorem tm_nm_b {n m : Nat} (h : tm_nm n m) : 2 ≤ n ∧ n ≤ 4 ∧ 4 ≤ m ∧ m ≤ 256 := by
  rcases h with ⟨rfl, rfl⟩ | ⟨rfl, rfl⟩ | ⟨rfl, rfl⟩ <;> decide
def tm_e (n : Nat) : Nat := if n = 2 then 1 else if n = 3 then 5 else 27
theorem tm_e_lt {n m : Nat} (h : tm_nm n m) : tm_e n < m := by
  rcases h with ⟨rfl, rfl⟩ | ⟨rfl, rfl⟩ | ⟨rfl, rfl⟩ <;> decide
def tm_dv (n : Nat) : Nat → Nat → Nat
  | 0, f => f
  | j + 1, f => tm_dv n j (f / n)
def tm_im (n f p : Nat) : Nat := tm_dv n (n - 1 - p) f % n
def tm_cp (n f g : Nat) : Nat → Nat
  | 0 => 0
  | p + 1 => n * tm_cp n f g p + tm_im n g (tm_im n f p)
def tm_C (n f g : Nat) : Nat := tm_cp n f g n
theorem tm_cp_lt {n f g : Nat} (hn : 0 < n) : ∀ p, tm_cp n f g p < n ^ p := by
  intro p
  induction p with
  | zero => exact Nat.one_pos
  | succ p ih =>
    have h1 : tm_im n g (tm_im n f p) < n := Nat.mod_lt _ hn
    have h2 : n * (tm_cp n f g p + 1) ≤ n * n ^ p := Nat.mul_le_mul_left n ih
    rw [Nat.pow_succ, Nat.mul_comm (n ^ p) n]
    show n * tm_cp n f g p + tm_im n g (tm_im n f p) < n * n ^ p
    rw [Nat.mul_add, Nat.mul_one] at h2
    omega
theorem tm_C_lt {n m : Nat} (h : tm_nm n m) (f g : Nat) : tm_C n f g < m := by
  rcases h with ⟨rfl, rfl⟩ | ⟨rfl, rfl⟩ | ⟨rfl, rfl⟩
  · exact tm_cp_lt (by decide) 2
  · exact tm_cp_lt (by decide) 3
  · exact tm_cp_lt (by decide) 4
/-! ints -/
theorem tm_ne {a : Nat} (h : a < 2 ^ 31) : ¬ nI a = -1 := by
  intro e
  have e2 := congrArg Int32.toInt e
  rw [nI_toInt h, show (-1 : Int32).toInt = -1 from by decide] at e2
  omega
theorem tm_uc {f : Nat → Int32} {k : Nat} {x : Int32} (h : k < 2 ^ 31) : upd f (nI k).toNatClampNeg x = upd f k x := by rw [nI_clamp h]
theorem tm_rc {f : Nat → Int32} {k : Nat} (h : k < 2 ^ 31) : f (nI k).toNatClampNeg = f k := by rw [nI_clamp h]
theorem tm_ad (a g : Nat) : (4 : Int32) * nI a + nI g = nI (4 * a + g) := by
  show nI 4 * nI a + nI g = _
  rw [pk_mul, nI_add]
theorem tm_inj {a b : Nat} (ha : a < 2 ^ 31) (hb : b < 2 ^ 31) (h : nI a = nI b) : a = b := (nI_eq ha hb).mp h
end
section
section
variable {fm fc fs fcur : Int32} {a1 a2 a3 a4 a5 a6 a7 a8 a9 a10 a11 a12 : Nat → Int32}
/-! imageOf, compose -/
theorem tm_img {post : Int32 → Prop} {n p : Nat} (hn : 0 < n) (hn4 : n ≤ 4) (hp : p ≤ 4) : ∀ j f : Nat, f < 2 ^ 31 → j ≤ 4 → post (nI (tm_dv n j f % n)) →
    wX_imageOf_10 post (nI p) (nI n) fm fc fs fcur a1 a2 a3 a4 a5 a6 a7 a8 a9 a10 a11 a12 (j + 1) (nI f) (nI (p + j)) := by
  intro j
  induction j with
  | zero =>
    intro f hf _ h
    refine pk_le (p + 0) p (fun _ => ⟨nI_ne0 hn (by omega), ?_⟩) (fun z => absurd z (by omega))
    rw [pk_rem hf hn (by omega)]
    exact h
  | succ j ih =>
    intro f hf hj h
    exact pk_le (p + (j + 1)) p (fun z => absurd z (by omega)) (fun _ => ⟨nI_ne0 hn (by omega), nm_r (pk_div hf hn (by omega)) (nm_r (pk_m1 (p + j)) (ih (f / n) (Nat.lt_of_le_of_lt (Nat.div_le_self f n) hf) (by omega) h))⟩)
theorem tm_imageOf {post : Int32 → Prop} {n p f : Nat} (hn : 0 < n) (hn4 : n ≤ 4) (hp : p < n) (hf : f < 2 ^ 31) (h : post (nI (tm_im n f p))) :
    wpX_imageOf post (nI n, fm, fc, fs, fcur, a1, a2, a3, a4, a5, a6, a7, a8, a9, a10, a11, a12) (nI f) (nI p) :=
  nm_r (e' := nI (p + (n - 1 - p))) (by rw [show n = (p + (n - 1 - p)) + 1 by omega, nI_pred]; exact congrArg nI (by omega)) ⟨_, tm_img hn hn4 (by omega) (n - 1 - p) f hf (by omega) h⟩
theorem tm_comp {post : Int32 → Prop} {n f g : Nat} (hn : 0 < n) (hn4 : n ≤ 4) (hf : f < 2 ^ 31) (hg : g < 2 ^ 31) (h : post (nI (tm_C n f g))) : ∀ j p : Nat, p + j = n →
    wX_compose_5 post (nI f) (nI g) (nI n) fm fc fs fcur a1 a2 a3 a4 a5 a6 a7 a8 a9 a10 a11 a12 (j + 1) (nI (tm_cp n f g p)) (nI p) := by
  intro j
  induction j with
  | zero =>
    intro p hp
    rw [Nat.add_zero] at hp
    subst hp
    exact pk_le p p (fun _ => h) (fun z => absurd z (by omega))
  | succ j ih =>
    intro p hp
    refine pk_le n p (fun z => absurd z (by omega)) (fun z => tm_imageOf hn hn4 z hf (tm_imageOf hn hn4 (Nat.mod_lt _ hn) hg (nm_r (e' := nI (tm_cp n f g (p + 1))) ?_ (nm_r (nI_1 p) (ih (p + 1) (by omega))))))
    rw [pk_mul, nI_add]
    rfl
theorem tm_compose {post : Int32 → Prop} {n f g : Nat} (hn : 0 < n) (hn4 : n ≤ 4) (hf : f < 2 ^ 31) (hg : g < 2 ^ 31) (h : post (nI (tm_C n f g))) :
    wpX_compose post (nI n, fm, fc, fs, fcur, a1, a2, a3, a4, a5, a6, a7, a8, a9, a10, a11, a12) (nI f) (nI g) :=
  ⟨n + 1, tm_comp hn hn4 hf hg h n 0 (by omega)⟩
/-! enter -/
theorem tm_enter {post : St2 → Prop} {fn : Int32} {s r a g : Nat} (hr : r < 256) (hs : s < 256) (ha : a < 256)
    (h : post (fn, fm, fc, nI (s + 1), fcur, a1, upd a2 r (nI s), upd a3 s (nI r), upd a4 s (nI a), upd a5 s (nI g), upd a6 s (a6 a + 1), a7, a8, a9, a10, a11, a12)) :
    wpX_enter post (fn, fm, fc, nI s, fcur, a1, a2, a3, a4, a5, a6, a7, a8, a9, a10, a11, a12) (nI r) (nI a) (nI g) :=
  ⟨pk_in r 256 hr, nm_r (tm_uc (by omega)) ⟨pk_in s 256 hs, nm_r (tm_uc (by omega)) ⟨pk_in s 256 hs, nm_r (tm_uc (by omega)) ⟨pk_in s 256 hs, nm_r (tm_uc (by omega))
    (br_f (tm_ne (by omega)) ⟨pk_in a 256 ha, ⟨pk_in s 256 hs, nm_r (e' := upd a6 s (a6 a + 1)) (by rw [nI_clamp (by omega), nI_clamp (by omega)]) (nm_r (nI_1 s) h)⟩⟩)⟩⟩⟩⟩
theorem tm_enter0 {post : St2 → Prop} {fn : Int32} {r : Nat} (hr : r < 256)
    (h : post (fn, fm, fc, nI 1, fcur, a1, upd a2 r (nI 0), upd a3 0 (nI r), upd a4 0 (-1), upd a5 0 (-1), upd a6 0 (nI 0), a7, a8, a9, a10, a11, a12)) :
    wpX_enter post (fn, fm, fc, 0, fcur, a1, a2, a3, a4, a5, a6, a7, a8, a9, a10, a11, a12) (nI r) (-1) (-1) :=
  ⟨pk_in r 256 hr, nm_r (tm_uc (by omega)) ⟨pk_in 0 256 (by omega), nm_r (tm_uc (k := 0) (by omega)) ⟨pk_in 0 256 (by omega), nm_r (tm_uc (k := 0) (by omega)) ⟨pk_in 0 256 (by omega), nm_r (tm_uc (k := 0) (by omega))
    (br_t rfl ⟨pk_in 0 256 (by omega), nm_r (tm_uc (k := 0) (by omega)) (nm_r (nI_1 0) h)⟩)⟩⟩⟩⟩
/-! leftOf -/
theorem tm_leftOf {post : Int32 → Prop} {fn : Int32} {a g b l h r : Nat} (ha : a < 256) (hb : 4 * b + g < 1024) (hl : 4 * l + h < 1024)
    (e4 : a4 a = nI b) (e8 : a8 (4 * b + g) = nI l) (e5 : a5 a = nI h) (e7 : a7 (4 * l + h) = nI r) (hp : post (nI r)) :
    wpX_leftOf post (fn, fm, fc, fs, fcur, a1, a2, a3, a4, a5, a6, a7, a8, a9, a10, a11, a12) (nI a) (nI g) := by
  have q4 : (4 : Int32) * a4 (nI a).toNatClampNeg + nI g = nI (4 * b + g) := by rw [nI_clamp (by omega), e4, tm_ad]
  have q8 : a8 ((4 : Int32) * a4 (nI a).toNatClampNeg + nI g).toNatClampNeg = nI l := by rw [q4, nI_clamp (by omega), e8]
  have q5 : (4 : Int32) * nI l + a5 (nI a).toNatClampNeg = nI (4 * l + h) := by rw [nI_clamp (by omega), e5, tm_ad]
  refine ⟨pk_in a 256 ha, pk_in (4 * b + g) 1024 hb q4, nm_r q8 ⟨pk_in a 256 ha, pk_in (4 * l + h) 1024 hl q5, ?_⟩⟩
  rw [q5, nI_clamp (by omega), e7]
  exact hp
end
end
section
/-- the search after t places of the table of right products: s elements are known -/
def tm_ok (n m c s t : Nat) (G : Nat → Nat) (a2 a3 a4 a5 a6 a7 : Nat → Int32) : Prop :=
  1 ≤ s ∧
  (∀ x, x < s → ∃ k, k < m ∧ a3 x = nI k ∧ a2 k = nI x) ∧
  (∀ k, k < m → a2 k = -1 ∨ ∃ x, x < s ∧ a2 k = nI x ∧ a3 x = nI k) ∧
  tm_cnt (fun k => ¬ a2 k = -1) m = s ∧
  a3 0 = nI (tm_e n) ∧ a6 0 = nI 0 ∧
  (∀ x, 0 < x → x < s → ∃ b g l k, b < x ∧ g < c ∧ 4 * b + g < t ∧ l ≤ b ∧ k < m ∧ a4 x = nI b ∧ a5 x = nI g ∧ a7 (4 * b + g) = nI x ∧ a6 b = nI l ∧ a6 x = nI (l + 1) ∧ a3 b = nI k ∧ a3 x = nI (tm_C n k (G g))) ∧
  (∀ b g, b < s → g < c → 4 * b + g < t → ∃ r, r < s ∧ a7 (4 * b + g) = nI r)
theorem tm_ok_le {n m c s t : Nat} {G : Nat → Nat} {a2 a3 a4 a5 a6 a7 : Nat → Int32} (h : tm_ok n m c s t G a2 a3 a4 a5 a6 a7) : s ≤ m := by
  have h4 := h.2.2.2.1
  rw [← h4]
  exact tm_cnt_le _ _
theorem tm_ok_len {n m c s t : Nat} {G : Nat → Nat} {a2 a3 a4 a5 a6 a7 : Nat → Int32} (h : tm_ok n m c s t G a2 a3 a4 a5 a6 a7) {x : Nat} (hx : x < s) : ∃ l, l ≤ x ∧ a6 x = nI l := by
  obtain ⟨h1, h2, h3, h4, h5, h6, h7, h8⟩ := h
  by_cases e : x = 0
  · exact ⟨0, by omega, by rw [e]; exact h6⟩
  · obtain ⟨b, g, l, k, q1, q2, q3, q4, q5, q6, q7, q8, q9, q10, q11, q12⟩ := h7 x (by omega) hx
    exact ⟨l + 1, by omega, q10⟩
theorem tm_ok_t {n m c s t t' : Nat} {G : Nat → Nat} {a2 a3 a4 a5 a6 a7 : Nat → Int32} (ht : t ≤ t') (hb : ∀ b g, b < s → g < c → 4 * b + g < t' → 4 * b + g < t) (h : tm_ok n m c s t G a2 a3 a4 a5 a6 a7) : tm_ok n m c s t' G a2 a3 a4 a5 a6 a7 := by
  obtain ⟨h1, h2, h3, h4, h5, h6, h7, h8⟩ := h
  refine ⟨h1, h2, h3, h4, h5, h6, fun x hx0 hx => ?_, fun b g hb' hg hh => h8 b g hb' hg (hb b g hb' hg hh)⟩
  obtain ⟨b, g, l, k, q1, q2, q3, q⟩ := h7 x hx0 hx
  exact ⟨b, g, l, k, q1, q2, by omega, q⟩
theorem tm_ok_new {n m c s a g ka r : Nat} {G : Nat → Nat} {a2 a3 a4 a5 a6 a7 : Nat → Int32} (hm : m ≤ 256) (hc : c ≤ 4) (h : tm_ok n m c s (4 * a + g) G a2 a3 a4 a5 a6 a7) (ha : a < s) (hg : g < c) (hka : ka < m) (ea : a3 a = nI ka) (er : r = tm_C n ka (G g)) (hr : r < m) (hn : a2 r = -1) :
    s < m ∧ tm_ok n m c (s + 1) (4 * a + g + 1) G (upd a2 r (nI s)) (upd a3 s (nI r)) (upd a4 s (nI a)) (upd a5 s (nI g)) (upd a6 s (a6 a + 1)) (upd a7 (4 * a + g) (nI s)) := by
  obtain ⟨l, hl, el⟩ := tm_ok_len h ha
  obtain ⟨h1, h2, h3, h4, h5, h6, h7, h8⟩ := h
  have hs : s < m := by
    have q := tm_cnt_lt (P := fun k => ¬ a2 k = -1) hr (fun z => z hn)
    omega
  refine ⟨hs, by omega, ?_, ?_, ?_, ?_, ?_, ?_, ?_⟩
  · intro x hx
    by_cases e : x = s
    · rw [e]
      exact ⟨r, hr, pk_us, pk_us⟩
    · obtain ⟨k, hk, e1, e2⟩ := h2 x (by omega)
      have hkr : k ≠ r := by
        intro z
        rw [z, hn] at e2
        exact tm_ne (by omega) e2.symm
      exact ⟨k, hk, by rw [pk_un e]; exact e1, by rw [pk_un hkr]; exact e2⟩
  · intro k hk
    by_cases e : k = r
    · right
      rw [e]
      exact ⟨s, by omega, pk_us, pk_us⟩
    · rcases h3 k hk with z | ⟨x, hx, e1, e2⟩
      · left
        rw [pk_un e]
        exact z
      · right
        exact ⟨x, by omega, by rw [pk_un e]; exact e1, by rw [pk_un (by omega)]; exact e2⟩
  · have q := tm_cnt_add (P := fun k => ¬ a2 k = -1) (Q := fun k => ¬ upd a2 r (nI s) k = -1) m hr (fun z => z hn) (by show ¬ upd a2 r (nI s) r = -1; rw [pk_us]; exact tm_ne (by omega)) (fun j _ hj => by show (¬ a2 j = -1) ↔ (¬ upd a2 r (nI s) j = -1); rw [pk_un hj])
    rw [q, h4]
  · rw [pk_un (by omega)]
    exact h5
  · rw [pk_un (by omega)]
    exact h6
  · intro x hx0 hx
    by_cases e : x = s
    · rw [e]
      exact ⟨a, g, l, ka, by omega, hg, by omega, hl, hka, pk_us, pk_us, pk_us, by rw [pk_un (by omega)]; exact el, by rw [pk_us, el, nI_1], by rw [pk_un (by omega)]; exact ea, by rw [pk_us, er]⟩
    · obtain ⟨b, g', l', k', q1, q2, q3, q4, q5, q6, q7, q8, q9, q10, q11, q12⟩ := h7 x hx0 (by omega)
      exact ⟨b, g', l', k', q1, q2, by omega, q4, q5, by rw [pk_un e]; exact q6, by rw [pk_un e]; exact q7, by rw [pk_un (by omega)]; exact q8, by rw [pk_un (by omega)]; exact q9, by rw [pk_un e]; exact q10, by rw [pk_un (by omega)]; exact q11, by rw [pk_un e]; exact q12⟩
  · intro b g' hb hg' ht
    by_cases e : 4 * b + g' = 4 * a + g
    · exact ⟨s, by omega, by rw [e]; exact pk_us⟩
    · obtain ⟨r', hr', e'⟩ := h8 b g' (by omega) hg' (by omega)
      exact ⟨r', by omega, by rw [pk_un e]; exact e'⟩
theorem tm_ok_old {n m c s a g x : Nat} {G : Nat → Nat} {a2 a3 a4 a5 a6 a7 : Nat → Int32} (h : tm_ok n m c s (4 * a + g) G a2 a3 a4 a5 a6 a7) (hx : x < s) :
    tm_ok n m c s (4 * a + g + 1) G a2 a3 a4 a5 a6 (upd a7 (4 * a + g) (nI x)) := by
  obtain ⟨h1, h2, h3, h4, h5, h6, h7, h8⟩ := h
  refine ⟨h1, h2, h3, h4, h5, h6, ?_, ?_⟩
  · intro y hy0 hy
    obtain ⟨b, g', l', k', q1, q2, q3, q4, q5, q6, q7, q8, q9, q10, q11, q12⟩ := h7 y hy0 hy
    exact ⟨b, g', l', k', q1, q2, by omega, q4, q5, q6, q7, by rw [pk_un (by omega)]; exact q8, q9, q10, q11, q12⟩
  · intro b g' hb hg' ht
    by_cases e : 4 * b + g' = 4 * a + g
    · exact ⟨x, hx, by rw [e]; exact pk_us⟩
    · obtain ⟨r', hr', e'⟩ := h8 b g' hb hg' (by omega)
      exact ⟨r', hr', by rw [pk_un e]; exact e'⟩
theorem tm_ok_0 {n m c : Nat} {G : Nat → Nat} {a2 a3 a4 a5 a6 a7 : Nat → Int32} (hnm : tm_nm n m) (h : ∀ k, k < m → a2 k = -1) :
    tm_ok n m c 1 0 G (upd a2 (tm_e n) (nI 0)) (upd a3 0 (nI (tm_e n))) a4 a5 (upd a6 0 (nI 0)) a7 := by
  have he := tm_e_lt hnm
  refine ⟨Nat.le_refl 1, ?_, ?_, ?_, pk_us, pk_us, ?_, ?_⟩
  · intro x hx
    rw [show x = 0 by omega]
    exact ⟨tm_e n, he, pk_us, pk_us⟩
  · intro k hk
    by_cases e : k = tm_e n
    · right
      rw [e]
      exact ⟨0, by omega, pk_us, pk_us⟩
    · left
      rw [pk_un e]
      exact h k hk
  · have q := tm_cnt_add (P := fun k => ¬ a2 k = -1) (Q := fun k => ¬ upd a2 (tm_e n) (nI 0) k = -1) m he (fun z => z (h _ he)) (by show ¬ upd a2 (tm_e n) (nI 0) (tm_e n) = -1; rw [pk_us]; exact tm_ne (by omega)) (fun j _ hj => by show (¬ a2 j = -1) ↔ (¬ upd a2 (tm_e n) (nI 0) j = -1); rw [pk_un hj])
    rw [q, tm_cnt_no m (fun j hj z => z (h j hj))]
  · intro x hx0 hx
    omega
  · intro b g _ _ ht
    omega
/-- the table of left products, t places of it -/
def tm_lf (c s t : Nat) (a8 : Nat → Int32) : Prop := ∀ b g, b < s → g < c → 4 * b + g < t → ∃ r, r < s ∧ a8 (4 * b + g) = nI r
theorem tm_lf_put {c s a g r : Nat} {a8 : Nat → Int32} (h : tm_lf c s (4 * a + g) a8) (hr : r < s) : tm_lf c s (4 * a + g + 1) (upd a8 (4 * a + g) (nI r)) := by
  intro b g' hb hg' ht
  by_cases e : 4 * b + g' = 4 * a + g
  · exact ⟨r, hr, by rw [e]; exact pk_us⟩
  · obtain ⟨r', hr', e'⟩ := h b g' hb hg' (by omega)
    exact ⟨r', hr', by rw [pk_un e]; exact e'⟩
theorem tm_lf_t {c s t t' : Nat} {a8 : Nat → Int32} (hb : ∀ b g, b < s → g < c → 4 * b + g < t' → 4 * b + g < t) (h : tm_lf c s t a8) : tm_lf c s t' a8 :=
  fun b g hb' hg ht => h b g hb' hg (hb b g hb' hg ht)
/-- the picture after a refresh -/
def tm_fr (n m c s : Nat) (G cd bf ls ln : Nat → Nat) (N : Nat → Nat → Nat) (a1 a2 a4 a5 a6 a7 a8 : Nat → Int32) : Prop :=
  tm_nm n m ∧ c ≤ 4 ∧ 1 ≤ s ∧ s ≤ m ∧
  (∀ j, j < c → a1 j = nI (G j) ∧ G j < m) ∧
  (∀ x, x < s → cd x < m ∧ a2 (cd x) = nI x) ∧
  (∀ k, k < m → a2 k = -1 ∨ ∃ x, x < s ∧ cd x = k) ∧
  tm_cnt (fun k => ¬ a2 k = -1) m = s ∧
  cd 0 = tm_e n ∧ ln 0 = 0 ∧
  (∀ x, x < s → a6 x = nI (ln x) ∧ ln x ≤ x) ∧
  (∀ x, 0 < x → x < s → bf x < x ∧ ls x < c ∧ a4 x = nI (bf x) ∧ a5 x = nI (ls x) ∧ ln x = ln (bf x) + 1 ∧ cd x = tm_C n (cd (bf x)) (G (ls x)) ∧ N (bf x) (2 * ls x) = x) ∧
  (∀ x k, x < s → k < 2 * c → N x k < s ∧ (k % 2 = 0 → a7 (4 * x + k / 2) = nI (N x k)) ∧ (k % 2 = 1 → a8 (4 * x + k / 2) = nI (N x k)))
theorem tm_cl {x : Int32} {k : Nat} (e : x = nI k) (h : k < 2 ^ 31) : x.toNatClampNeg = k := by rw [e, nI_clamp h]
theorem tm_fr_of {n m c s : Nat} {G : Nat → Nat} {a1 a2 a3 a4 a5 a6 a7 a8 : Nat → Int32} (hnm : tm_nm n m) (hc : c ≤ 4) (hG : ∀ j, j < c → a1 j = nI (G j) ∧ G j < m)
    (h : tm_ok n m c s (4 * s) G a2 a3 a4 a5 a6 a7) (h' : tm_lf c s (4 * s) a8) : ∃ cd bf ls ln N, tm_fr n m c s G cd bf ls ln N a1 a2 a4 a5 a6 a7 a8 := by
  have hsm := tm_ok_le h
  have hl := fun x hx => tm_ok_len (x := x) h hx
  obtain ⟨h1, h2, h3, h4, h5, h6, h7, h8⟩ := h
  obtain ⟨_, _, _, hm⟩ := tm_nm_b hnm
  have he := tm_e_lt hnm
  refine ⟨fun x => (a3 x).toNatClampNeg, fun x => (a4 x).toNatClampNeg, fun x => (a5 x).toNatClampNeg, fun x => (a6 x).toNatClampNeg,
    fun x k => if k % 2 = 0 then (a7 (4 * x + k / 2)).toNatClampNeg else (a8 (4 * x + k / 2)).toNatClampNeg, hnm, hc, h1, hsm, hG, ?_, ?_, h4, ?_, ?_, ?_, ?_, ?_⟩
  · intro x hx
    obtain ⟨k, hk, e1, e2⟩ := h2 x hx
    dsimp only
    rw [tm_cl e1 (by omega)]
    exact ⟨hk, e2⟩
  · intro k hk
    rcases h3 k hk with z | ⟨x, hx, e1, e2⟩
    · exact Or.inl z
    · exact Or.inr ⟨x, hx, tm_cl e2 (by omega)⟩
  · exact tm_cl h5 (by omega)
  · exact tm_cl h6 (by omega)
  · intro x hx
    obtain ⟨l, hl1, hl2⟩ := hl x hx
    dsimp only
    rw [tm_cl hl2 (by omega)]
    exact ⟨hl2, hl1⟩
  · intro x hx0 hx
    obtain ⟨b, g, l, k, q1, q2, q3, q4, q5, q6, q7, q8, q9, q10, q11, q12⟩ := h7 x hx0 hx
    have hC := tm_C_lt hnm k (G g)
    dsimp only
    rw [tm_cl q6 (by omega), tm_cl q7 (by omega), tm_cl q9 (by omega), tm_cl q10 (by omega), tm_cl q11 (by omega), tm_cl q12 (by omega), if_pos (by omega), show 2 * g / 2 = g by omega, tm_cl q8 (by omega)]
    exact ⟨q1, q2, q6, q7, rfl, rfl, rfl⟩
  · intro x k hx hk
    dsimp only
    by_cases e : k % 2 = 0
    · obtain ⟨r, hr, e7⟩ := h8 x (k / 2) hx (by omega) (by omega)
      rw [if_pos e, tm_cl e7 (by omega)]
      exact ⟨hr, fun _ => e7, fun z => absurd z (by omega)⟩
    · obtain ⟨r, hr, e8⟩ := h' x (k / 2) hx (by omega) (by omega)
      rw [if_neg e, tm_cl e8 (by omega)]
      exact ⟨hr, fun z => absurd z e, fun _ => e8⟩
end
section
section
variable {fn fm fc fs fcur : Int32} {a1 a2 a3 a4 a5 a6 a7 a8 a9 a10 a11 a12 : Nat → Int32} {post : St2 → Prop} {n m c : Nat} {G : Nat → Nat}
/-! the walk of refresh -/
theorem tm_compose2 {post : Int32 → Prop} {f g : Nat} {x y : Int32} (hn : 0 < n) (hn4 : n ≤ 4) (hf : f < 2 ^ 31) (hg : g < 2 ^ 31) (ex : x = nI f) (ey : y = nI g) (h : post (nI (tm_C n f g))) :
    wpX_compose post (nI n, fm, fc, fs, fcur, a1, a2, a3, a4, a5, a6, a7, a8, a9, a10, a11, a12) x y := by
  subst ex ey
  exact tm_compose hn hn4 hf hg h
theorem tm_94 {J77 : Int32 → Int32 → Int32 → Int32 → Int32 → Int32 → (Nat → Int32) → (Nat → Int32) → (Nat → Int32) → (Nat → Int32) → (Nat → Int32) → (Nat → Int32) → (Nat → Int32) → (Nat → Int32) → (Nat → Int32) → (Nat → Int32) → (Nat → Int32) → (Nat → Int32) → Prop}
    {a : Nat} (hnm : tm_nm n m) (hc : c ≤ 4) (hG : ∀ j, j < c → a1 j = nI (G j) ∧ G j < m)
    (hJ : ∀ s b2 b3 b4 b5 b6 b7, a < s → tm_ok n m c s (4 * (a + 1)) G b2 b3 b4 b5 b6 b7 → J77 (nI (a + 1)) (nI n) (nI m) (nI c) (nI s) fcur a1 b2 b3 b4 b5 b6 b7 a8 a9 a10 a11 a12) :
    ∀ (j g s : Nat) (a2 a3 a4 a5 a6 a7 : Nat → Int32), g + j = c → a < s → tm_ok n m c s (4 * a + g) G a2 a3 a4 a5 a6 a7 →
      wX_refresh_94 post J77 (nI a) (j + 1) (nI g) (nI n) (nI m) (nI c) (nI s) fcur a1 a2 a3 a4 a5 a6 a7 a8 a9 a10 a11 a12 := by
  obtain ⟨hn2, hn4, _, hm⟩ := tm_nm_b hnm
  intro j
  induction j with
  | zero =>
    intro g s a2 a3 a4 a5 a6 a7 hg ha h
    exact pk_le c g (fun _ => nm_r (nI_1 a) (hJ s a2 a3 a4 a5 a6 a7 ha (tm_ok_t (by omega) (fun b g' _ _ _ => by omega) h))) (fun z => absurd z (by omega))
  | succ j ih =>
    intro g s a2 a3 a4 a5 a6 a7 hg ha h
    have hsm := tm_ok_le h
    obtain ⟨ka, hka, ea, ea2⟩ := h.2.1 a ha
    obtain ⟨eg, hGg⟩ := hG g (by omega)
    have hr := tm_C_lt hnm ka (G g)
    refine pk_le c g (fun z => absurd z (by omega)) (fun _ => ⟨pk_in a 256 (by omega), pk_in g 4 (by omega), tm_compose2 (f := ka) (g := G g) (by omega) hn4 (by omega) (by omega) (by rw [nI_clamp (by omega)]; exact ea) (by rw [nI_clamp (by omega)]; exact eg) ⟨pk_in (tm_C n ka (G g)) 256 (by omega), ?_⟩⟩)
    rcases h.2.2.1 _ hr with z | ⟨x, hx, e1, e2⟩
    · obtain ⟨hs, hok⟩ := tm_ok_new hm hc h ha (by omega) hka ea rfl hr z
      refine br_t (by rw [nI_clamp (by omega)]; exact z) (tm_enter (by omega) (by omega) (by omega) ⟨pk_in (tm_C n ka (G g)) 256 (by omega), pk_in (4 * a + g) 1024 (by omega) (tm_ad a g), nm_r (e' := upd a7 (4 * a + g) (nI s)) ?_ (nm_r (nI_1 g) (ih (g + 1) (s + 1) _ _ _ _ _ _ (by omega) (by omega) hok))⟩)
      rw [tm_ad, nI_clamp (by omega), nI_clamp (by omega), pk_us]
    · refine br_f (by rw [nI_clamp (by omega), e1]; exact tm_ne (by omega)) ⟨pk_in (tm_C n ka (G g)) 256 (by omega), pk_in (4 * a + g) 1024 (by omega) (tm_ad a g), nm_r (e' := upd a7 (4 * a + g) (nI x)) ?_ (nm_r (nI_1 g) (ih (g + 1) s _ _ _ _ _ _ (by omega) ha (tm_ok_old h hx)))⟩
      rw [tm_ad, nI_clamp (by omega), nI_clamp (by omega), e1]
theorem tm_77 (hnm : tm_nm n m) (hc : c ≤ 4) (hG : ∀ j, j < c → a1 j = nI (G j) ∧ G j < m)
    (H : ∀ s b2 b3 b4 b5 b6 b7, tm_ok n m c s (4 * s) G b2 b3 b4 b5 b6 b7 → ∃ fu, wX_refresh_170 post (nI n) (nI m) (nI c) (nI s) fcur fu 0 a1 b2 b3 b4 b5 b6 b7 a8 a9 a10 a11 a12) :
    ∀ (j a s : Nat) (a2 a3 a4 a5 a6 a7 : Nat → Int32), a + j = 256 → a ≤ s → tm_ok n m c s (4 * a) G a2 a3 a4 a5 a6 a7 →
      wX_refresh_77 post (j + 1) (nI a) (nI n) (nI m) (nI c) (nI s) fcur a1 a2 a3 a4 a5 a6 a7 a8 a9 a10 a11 a12 := by
  obtain ⟨hn2, hn4, _, hm⟩ := tm_nm_b hnm
  intro j
  induction j with
  | zero =>
    intro a s a2 a3 a4 a5 a6 a7 ha hs h
    have hsm := tm_ok_le h
    have e : a = s := by omega
    subst e
    exact pk_le 256 a (fun _ => H a a2 a3 a4 a5 a6 a7 h) (fun z => absurd z (by omega))
  | succ j ih =>
    intro a s a2 a3 a4 a5 a6 a7 ha hs h
    have hsm := tm_ok_le h
    refine pk_le 256 a (fun z => absurd z (by omega)) (fun _ => pk_le s a (fun z => ?_) (fun z => ⟨c + 1, tm_94 hnm hc hG (fun s' b2 b3 b4 b5 b6 b7 hs' hok => ih (a + 1) s' b2 b3 b4 b5 b6 b7 (by omega) (by omega) hok) c 0 s a2 a3 a4 a5 a6 a7 (by omega) z h⟩))
    have e : a = s := by omega
    subst e
    exact H a a2 a3 a4 a5 a6 a7 h
theorem tm_180 {J170 : Int32 → (Nat → Int32) → (Nat → Int32) → (Nat → Int32) → (Nat → Int32) → (Nat → Int32) → (Nat → Int32) → (Nat → Int32) → (Nat → Int32) → (Nat → Int32) → (Nat → Int32) → (Nat → Int32) → (Nat → Int32) → Prop}
    {a s : Nat} (hc : c ≤ 4) (hs : s ≤ 256) (ha : a < s) (h : tm_ok n m c s (4 * s) G a2 a3 a4 a5 a6 a7)
    (hJ : ∀ b8, tm_lf c s (4 * (a + 1)) b8 → J170 (nI (a + 1)) a1 a2 a3 a4 a5 a6 a7 b8 a9 a10 a11 a12) :
    ∀ (j g : Nat) (a8 : Nat → Int32), g + j = c → tm_lf c s (4 * a + g) a8 →
      wX_refresh_180 post J170 (nI a) fn fm (nI c) fs fcur (j + 1) (nI g) a1 a2 a3 a4 a5 a6 a7 a8 a9 a10 a11 a12 := by
  intro j
  induction j with
  | zero =>
    intro g a8 hg hl
    exact pk_le c g (fun _ => nm_r (nI_1 a) (hJ a8 (tm_lf_t (fun b g' _ _ _ => by omega) hl))) (fun z => absurd z (by omega))
  | succ j ih =>
    intro g a8 hg hl
    refine pk_le c g (fun z => absurd z (by omega)) (fun _ => pk_eq a 0 (fun z => ?_) (fun z => ?_))
    · obtain ⟨r, hr, e7⟩ := h.2.2.2.2.2.2.2 0 g (by omega) (by omega) (by omega)
      refine ⟨pk_in g 1024 (by omega), pk_in (4 * a + g) 1024 (by omega) (tm_ad a g), nm_r (e' := upd a8 (4 * a + g) (nI r)) ?_ (nm_r (nI_1 g) (ih (g + 1) _ (by omega) (tm_lf_put hl hr)))⟩
      rw [tm_ad, nI_clamp (by omega), nI_clamp (by omega), show g = 4 * 0 + g by omega, e7, show 4 * a + (4 * 0 + g) = 4 * a + g by omega]
    · obtain ⟨b, g', l, k, q1, q2, q3, q4, q5, q6, q7, q8, q9, q10, q11, q12⟩ := h.2.2.2.2.2.2.1 a (by omega) ha
      obtain ⟨w, hw, e8⟩ := hl b g (by omega) (by omega) (by omega)
      obtain ⟨r, hr, e7⟩ := h.2.2.2.2.2.2.2 w g' hw q2 (by omega)
      refine tm_leftOf (by omega) (by omega) (by omega) q6 e8 q7 e7 ⟨pk_in (4 * a + g) 1024 (by omega) (tm_ad a g), nm_r (e' := upd a8 (4 * a + g) (nI r)) ?_ (nm_r (nI_1 g) (ih (g + 1) _ (by omega) (tm_lf_put hl hr)))⟩
      rw [tm_ad, nI_clamp (by omega)]
theorem tm_170 {s : Nat} (hc : c ≤ 4) (hs : s ≤ 256) (h : tm_ok n m c s (4 * s) G a2 a3 a4 a5 a6 a7)
    (H : ∀ b8, tm_lf c s (4 * s) b8 → post (fn, fm, nI c, nI s, fcur, a1, a2, a3, a4, a5, a6, a7, b8, a9, a10, a11, a12)) :
    ∀ (j a : Nat) (a8 : Nat → Int32), a + j = s → tm_lf c s (4 * a) a8 →
      wX_refresh_170 post fn fm (nI c) (nI s) fcur (j + 1) (nI a) a1 a2 a3 a4 a5 a6 a7 a8 a9 a10 a11 a12 := by
  intro j
  induction j with
  | zero =>
    intro a a8 ha hl
    have e : a = s := by omega
    subst e
    exact pk_le a a (fun _ => H a8 hl) (fun z => absurd z (by omega))
  | succ j ih =>
    intro a a8 ha hl
    exact pk_le s a (fun z => absurd z (by omega)) (fun z => ⟨c + 1, tm_180 hc hs z h (fun b8 hb => ih (a + 1) b8 (by omega) hb) c 0 a8 (by omega) hl⟩)
def tm_id (n : Nat) : Nat → Nat
  | 0 => 0
  | p + 1 => n * tm_id n p + p
theorem tm_id_e (hnm : tm_nm n m) : tm_id n n = tm_e n := by
  rcases hnm with ⟨rfl, rfl⟩ | ⟨rfl, rfl⟩ | ⟨rfl, rfl⟩ <;> rfl
theorem tm_40 (hn4 : n ≤ 4)
    (H : wpX_enter (fun u => match u with | (f0_n_5, f0_maps_6, f0_count_7, f0_size_8, f0_current_9, am721_12, am722_15, am723_18, am724_21, am725_24, am726_27, am727_30, am728_33, am729_36, am7210_39, am7211_42, am7212_45) => (∃ fu77 : Nat, wX_refresh_77 post fu77 0 f0_n_5 f0_maps_6 f0_count_7 f0_size_8 f0_current_9 am721_12 am722_15 am723_18 am724_21 am725_24 am726_27 am727_30 am728_33 am729_36 am7210_39 am7211_42 am7212_45)) (nI n, fm, fc, 0, fcur, a1, a2, a3, a4, a5, a6, a7, a8, a9, a10, a11, a12) (nI (tm_id n n)) (-1) (-1)) :
    ∀ j p : Nat, p + j = n → wX_refresh_40 post (nI n) fm fc fs fcur a1 a2 a3 a4 a5 a6 a7 a8 a9 a10 a11 a12 (j + 1) (nI (tm_id n p)) (nI p) := by
  intro j
  induction j with
  | zero =>
    intro p hp
    have e : p = n := by omega
    subst e
    exact pk_le p p (fun _ => H) (fun z => absurd z (by omega))
  | succ j ih =>
    intro p hp
    refine pk_le n p (fun z => absurd z (by omega)) (fun _ => nm_r (e' := nI (tm_id n (p + 1))) ?_ (nm_r (nI_1 p) (ih (p + 1) (by omega))))
    rw [pk_mul, nI_add]
    rfl
theorem tm_15 (hm : m ≤ 256) (H : ∀ b2 : Nat → Int32, (∀ k, k < m → b2 k = -1) → ∃ fu40, wX_refresh_40 post fn (nI m) fc fs fcur a1 b2 a3 a4 a5 a6 a7 a8 a9 a10 a11 a12 fu40 0 0) :
    ∀ (j k : Nat) (a2 : Nat → Int32), k + j = m → (∀ i, i < k → a2 i = -1) → wX_refresh_15 post fn (nI m) fc fs fcur (j + 1) (nI k) a1 a2 a3 a4 a5 a6 a7 a8 a9 a10 a11 a12 := by
  intro j
  induction j with
  | zero =>
    intro k a2 hk h
    have e : k = m := by omega
    subst e
    exact pk_le k k (fun _ => H a2 h) (fun z => absurd z (by omega))
  | succ j ih =>
    intro k a2 hk h
    refine pk_le m k (fun z => absurd z (by omega)) (fun _ => ⟨pk_in k 256 (by omega), nm_r (tm_uc (by omega)) (nm_r (nI_1 k) (ih (k + 1) _ (by omega) (fun i hi => ?_)))⟩)
    by_cases e : i = k
    · rw [e]
      exact pk_us
    · rw [pk_un e]
      exact h i (by omega)
theorem tm_refresh0 (hnm : tm_nm n m) (hc : c ≤ 4) (hG : ∀ j, j < c → a1 j = nI (G j) ∧ G j < m)
    (H : ∀ s b2 b3 b4 b5 b6 b7 b8, (∃ cd bf ls ln N, tm_fr n m c s G cd bf ls ln N a1 b2 b4 b5 b6 b7 b8) → post (nI n, nI m, nI c, nI s, 1, a1, b2, b3, b4, b5, b6, b7, b8, a9, a10, a11, a12)) :
    wpX_refresh post (nI n, nI m, nI c, fs, 0, a1, a2, a3, a4, a5, a6, a7, a8, a9, a10, a11, a12) := by
  obtain ⟨hn2, hn4, _, hm⟩ := tm_nm_b hnm
  have he := tm_e_lt hnm
  refine br_t rfl ⟨m + 1, tm_15 hm (fun b2 hb2 => ⟨n + 1, tm_40 hn4 ?_ n 0 (by omega)⟩) m 0 a2 (by omega) (fun i hi => absurd hi (by omega))⟩
  rw [tm_id_e hnm]
  refine tm_enter0 (by omega) ⟨256 + 1, tm_77 hnm hc hG (fun s b2 b3 b4 b5 b6 b7 hok => ⟨s + 1, tm_170 hc (Nat.le_trans (tm_ok_le hok) hm) hok (fun b8 hb8 => H s b2 b3 b4 b5 b6 b7 b8 (tm_fr_of hnm hc hG hok hb8)) s 0 a8 (by omega) (fun b g _ _ z => absurd z (by omega))⟩) 256 0 1 _ _ _ _ _ _ (by omega) (by omega) (tm_ok_0 hnm hb2)⟩
/-- what holds between two calls: the generators, and the picture where it is up to date -/
def tm_iv (n m c : Nat) (G : Nat → Nat) (fs fcur : Int32) (a1 a2 a4 a5 a6 a7 a8 : Nat → Int32) : Prop :=
  tm_nm n m ∧ c ≤ 4 ∧ (∀ j, j < c → a1 j = nI (G j) ∧ G j < m) ∧ (fcur = 0 ∨ (fcur = 1 ∧ ∃ s, fs = nI s ∧ ∃ cd bf ls ln N, tm_fr n m c s G cd bf ls ln N a1 a2 a4 a5 a6 a7 a8))
theorem tm_refresh (h : tm_iv n m c G fs fcur a1 a2 a4 a5 a6 a7 a8)
    (H : ∀ s b2 b3 b4 b5 b6 b7 b8, (∃ cd bf ls ln N, tm_fr n m c s G cd bf ls ln N a1 b2 b4 b5 b6 b7 b8) → post (nI n, nI m, nI c, nI s, 1, a1, b2, b3, b4, b5, b6, b7, b8, a9, a10, a11, a12)) :
    wpX_refresh post (nI n, nI m, nI c, fs, fcur, a1, a2, a3, a4, a5, a6, a7, a8, a9, a10, a11, a12) := by
  obtain ⟨hnm, hc, hG, h⟩ := h
  rcases h with e | ⟨e, s, es, hf⟩
  · subst e
    exact tm_refresh0 hnm hc hG H
  · subst e es
    exact br_f (by decide) (H s a2 a3 a4 a5 a6 a7 a8 hf)
theorem tm_refresh1 (h : post (fn, fm, fc, fs, 1, a1, a2, a3, a4, a5, a6, a7, a8, a9, a10, a11, a12)) :
    wpX_refresh post (fn, fm, fc, fs, 1, a1, a2, a3, a4, a5, a6, a7, a8, a9, a10, a11, a12) := br_f (by decide) h
end
end
section
/-- j steps back in the word of x -/
def tm_it (bf : Nat → Nat) : Nat → Nat → Nat
  | 0, x => x
  | j + 1, x => tm_it bf j (bf x)
theorem tm_it_s (bf : Nat → Nat) : ∀ j x : Nat, tm_it bf (j + 1) x = bf (tm_it bf j x) := by
  intro j
  induction j with
  | zero => intro x; rfl
  | succ j ih => intro x; exact ih (bf x)
section
variable {fn fm fc fs fcur : Int32} {a1 a2 a3 a4 a5 a6 a7 a8 a9 a10 a11 a12 : Nat → Int32} {n m c s : Nat} {G cd bf ls ln : Nat → Nat} {N : Nat → Nat → Nat}
theorem tm_fr_m (h : tm_fr n m c s G cd bf ls ln N a1 a2 a4 a5 a6 a7 a8) : s ≤ 256 ∧ m ≤ 256 ∧ 1 ≤ s ∧ c ≤ 4 ∧ s ≤ m := by
  obtain ⟨h1, h2, h3, h4, h5⟩ := h
  have := tm_nm_b h1
  omega
theorem tm_fr_b (h : tm_fr n m c s G cd bf ls ln N a1 a2 a4 a5 a6 a7 a8) {x : Nat} (hx : x < s) (h0 : 0 < x) : bf x < x ∧ ls x < c ∧ a4 x = nI (bf x) ∧ a5 x = nI (ls x) ∧ ln x = ln (bf x) + 1 ∧ cd x = tm_C n (cd (bf x)) (G (ls x)) ∧ N (bf x) (2 * ls x) = x := by
  obtain ⟨_, _, _, _, _, _, _, _, _, _, _, h12, _⟩ := h
  exact h12 x h0 hx
theorem tm_fr_ln0 (h : tm_fr n m c s G cd bf ls ln N a1 a2 a4 a5 a6 a7 a8) : ln 0 = 0 := by
  obtain ⟨_, _, _, _, _, _, _, _, _, h10, _⟩ := h
  exact h10
theorem tm_fr_cd0 (h : tm_fr n m c s G cd bf ls ln N a1 a2 a4 a5 a6 a7 a8) : cd 0 = tm_e n := by
  obtain ⟨_, _, _, _, _, _, _, _, h9, _⟩ := h
  exact h9
theorem tm_fr_c (h : tm_fr n m c s G cd bf ls ln N a1 a2 a4 a5 a6 a7 a8) {x : Nat} (hx : x < s) : cd x < m ∧ a2 (cd x) = nI x := by
  obtain ⟨_, _, _, _, _, h6, _⟩ := h
  exact h6 x hx
theorem tm_fr_l (h : tm_fr n m c s G cd bf ls ln N a1 a2 a4 a5 a6 a7 a8) {x : Nat} (hx : x < s) : a6 x = nI (ln x) ∧ ln x ≤ x := by
  obtain ⟨_, _, _, _, _, _, _, _, _, _, h11, _⟩ := h
  exact h11 x hx
theorem tm_fr_G (h : tm_fr n m c s G cd bf ls ln N a1 a2 a4 a5 a6 a7 a8) {j : Nat} (hj : j < c) : a1 j = nI (G j) ∧ G j < m := by
  obtain ⟨_, _, _, _, h5, _⟩ := h
  exact h5 j hj
theorem tm_fr_N (h : tm_fr n m c s G cd bf ls ln N a1 a2 a4 a5 a6 a7 a8) {x k : Nat} (hx : x < s) (hk : k < 2 * c) : N x k < s ∧ (k % 2 = 0 → a7 (4 * x + k / 2) = nI (N x k)) ∧ (k % 2 = 1 → a8 (4 * x + k / 2) = nI (N x k)) := by
  obtain ⟨_, _, _, _, _, _, _, _, _, _, _, _, h13⟩ := h
  exact h13 x k hx hk
theorem tm_fr_it (h : tm_fr n m c s G cd bf ls ln N a1 a2 a4 a5 a6 a7 a8) : ∀ j x : Nat, x < s → j ≤ ln x → tm_it bf j x < s ∧ ln (tm_it bf j x) = ln x - j := by
  have h0 := tm_fr_ln0 h
  intro j
  induction j with
  | zero => intro x hx _; exact ⟨hx, rfl⟩
  | succ j ih =>
    intro x hx hj
    have hx0 : 0 < x := by
      rcases Nat.eq_zero_or_pos x with e | e
      · rw [e, h0] at hj; omega
      · exact e
    obtain ⟨q1, q2, q3, q4, q5, q6, q7⟩ := tm_fr_b h hx hx0
    obtain ⟨i1, i2⟩ := ih (bf x) (by omega) (by omega)
    exact ⟨i1, by show ln (tm_it bf j (bf x)) = _; omega⟩
/-! the methods -/
theorem tm_isCode {post : Int32 → Prop} {k : Nat} (hm : m ≤ 256) (hk : k < m) (h : post 1) :
    wpX_isCode post (fn, nI m, fc, fs, fcur, a1, a2, a3, a4, a5, a6, a7, a8, a9, a10, a11, a12) (nI k) :=
  br_f (nI_pos (by omega)) (br_f (nI_ge hk (by omega)) h)
theorem tm_isElement {post : Int32 → St2 → Prop} (h : tm_fr n m c s G cd bf ls ln N a1 a2 a4 a5 a6 a7 a8) {x : Nat} (hx : x < s)
    (hp : post 1 (nI n, nI m, nI c, nI s, 1, a1, a2, a3, a4, a5, a6, a7, a8, a9, a10, a11, a12)) :
    wpX_isElement post (nI n, nI m, nI c, nI s, 1, a1, a2, a3, a4, a5, a6, a7, a8, a9, a10, a11, a12) (nI (cd x)) := by
  obtain ⟨hs, hm, _, _, hsm⟩ := tm_fr_m h
  obtain ⟨hc1, hc2⟩ := tm_fr_c h hx
  have ne : ¬ a2 (nI (cd x)).toNatClampNeg = -1 := by
    rw [nI_clamp (by omega), hc2]
    exact tm_ne (by omega)
  unfold wpX_isElement
  dsimp only
  exact tm_isCode hm hc1 (br_f (by decide) (tm_refresh1 ⟨pk_in (cd x) 256 (by omega), br_f ne hp⟩))
theorem tm_length {post : Int32 → St2 → Prop} (h : tm_fr n m c s G cd bf ls ln N a1 a2 a4 a5 a6 a7 a8) {x : Nat} (hx : x < s)
    (hp : post (nI (ln x)) (nI n, nI m, nI c, nI s, 1, a1, a2, a3, a4, a5, a6, a7, a8, a9, a10, a11, a12)) :
    wpX_length post (nI n, nI m, nI c, nI s, 1, a1, a2, a3, a4, a5, a6, a7, a8, a9, a10, a11, a12) (nI (cd x)) := by
  obtain ⟨hs, hm, _, _, hsm⟩ := tm_fr_m h
  obtain ⟨hc1, hc2⟩ := tm_fr_c h hx
  obtain ⟨hl1, hl2⟩ := tm_fr_l h hx
  have e : a2 (nI (cd x)).toNatClampNeg = nI x := by rw [nI_clamp (by omega), hc2]
  have ne : ¬ a2 (nI (cd x)).toNatClampNeg = -1 := by
    rw [e]
    exact tm_ne (by omega)
  have e6 : a6 (a2 (nI (cd x)).toNatClampNeg).toNatClampNeg = nI (ln x) := by rw [e, nI_clamp (by omega), hl1]
  unfold wpX_length
  dsimp only
  refine tm_isCode hm hc1 (br_f (by decide) (tm_refresh1 ⟨pk_in (cd x) 256 (by omega), br_f ne ⟨pk_in (cd x) 256 (by omega), pk_in x 256 (by omega) e, ?_⟩⟩))
  dsimp only
  rw [e6]
  exact hp
theorem tm_46 {post : Int32 → St2 → Prop} (h : tm_fr n m c s G cd bf ls ln N a1 a2 a4 a5 a6 a7 a8) {k : Nat} :
    ∀ j x : Nat, x < s → ln x = k + 1 + j → post (nI (ls (tm_it bf j x))) (nI n, nI m, nI c, nI s, 1, a1, a2, a3, a4, a5, a6, a7, a8, a9, a10, a11, a12) →
      wX_letter_46 post (nI k) (nI n) (nI m) (nI c) (nI s) 1 a1 a2 a3 a4 a5 a6 a7 a8 a9 a10 a11 a12 (j + 1) (nI x) := by
  obtain ⟨hs, hm, _, _, hsm⟩ := tm_fr_m h
  have h0 := tm_fr_ln0 h
  intro j
  induction j with
  | zero =>
    intro x hx hl hp
    obtain ⟨hl1, hl2⟩ := tm_fr_l h hx
    have hx0 : 0 < x := by omega
    obtain ⟨q1, q2, q3, q4, q5, q6, q7⟩ := tm_fr_b h hx hx0
    refine ⟨pk_in x 256 (by omega), pk_le (ln x) (k + 1) (fun _ => ⟨pk_in x 256 (by omega), ?_⟩) (fun z => absurd z (by omega)) (by rw [nI_clamp (by omega), hl1]) (nI_1 k)⟩
    rw [nI_clamp (by omega), q4]
    exact hp
  | succ j ih =>
    intro x hx hl hp
    obtain ⟨hl1, hl2⟩ := tm_fr_l h hx
    have hx0 : 0 < x := by omega
    obtain ⟨q1, q2, q3, q4, q5, q6, q7⟩ := tm_fr_b h hx hx0
    exact ⟨pk_in x 256 (by omega), pk_le (ln x) (k + 1) (fun z => absurd z (by omega)) (fun _ => ⟨pk_in x 256 (by omega), nm_r (by rw [nI_clamp (by omega), q3]) (ih (bf x) (by omega) (by omega) hp)⟩) (by rw [nI_clamp (by omega), hl1]) (nI_1 k)⟩
theorem tm_letter {post : Int32 → St2 → Prop} (h : tm_fr n m c s G cd bf ls ln N a1 a2 a4 a5 a6 a7 a8) {x k : Nat} (hx : x < s) (hk : k < ln x)
    (hp : post (nI (ls (tm_it bf (ln x - (k + 1)) x))) (nI n, nI m, nI c, nI s, 1, a1, a2, a3, a4, a5, a6, a7, a8, a9, a10, a11, a12)) :
    wpX_letter post (nI n, nI m, nI c, nI s, 1, a1, a2, a3, a4, a5, a6, a7, a8, a9, a10, a11, a12) (nI (cd x)) (nI k) := by
  obtain ⟨hs, hm, _, _, hsm⟩ := tm_fr_m h
  obtain ⟨hc1, hc2⟩ := tm_fr_c h hx
  obtain ⟨hl1, hl2⟩ := tm_fr_l h hx
  have e : a2 (nI (cd x)).toNatClampNeg = nI x := by rw [nI_clamp (by omega), hc2]
  have e6 : a6 (nI x).toNatClampNeg = nI (ln x) := by rw [nI_clamp (by omega), hl1]
  unfold wpX_letter
  dsimp only
  exact tm_isCode hm hc1 (br_f (by decide) (tm_refresh1 ⟨pk_in (cd x) 256 (by omega), nm_r e (br_f (tm_ne (by omega)) (br_f (nI_pos (by omega)) ⟨pk_in x 256 (by omega), pk_lt k (ln x) (fun _ => ⟨_, tm_46 h (ln x - (k + 1)) x hx (by omega) hp⟩) (fun z => absurd z (by omega)) rfl e6⟩))⟩))
theorem tm_product {post : Int32 → Prop} (hnm : tm_nm n m) {f g : Nat} (hf : f < m) (hg : g < m) (h : post (nI (tm_C n f g))) :
    wpX_product post (nI n, nI m, fc, fs, fcur, a1, a2, a3, a4, a5, a6, a7, a8, a9, a10, a11, a12) (nI f) (nI g) := by
  obtain ⟨hn2, hn4, _, hm⟩ := tm_nm_b hnm
  unfold wpX_product
  dsimp only
  exact tm_isCode hm hf (br_f (by decide) (tm_isCode hm hg (br_f (by decide) (tm_compose (by omega) hn4 (by omega) (by omega) h))))
theorem tm_size {post : Int32 → St2 → Prop} (h : tm_iv n m c G fs fcur a1 a2 a4 a5 a6 a7 a8)
    (H : ∀ s b2 b3 b4 b5 b6 b7 b8, (∃ cd bf ls ln N, tm_fr n m c s G cd bf ls ln N a1 b2 b4 b5 b6 b7 b8) → post (nI s) (nI n, nI m, nI c, nI s, 1, a1, b2, b3, b4, b5, b6, b7, b8, a9, a10, a11, a12)) :
    wpX_size post (nI n, nI m, nI c, fs, fcur, a1, a2, a3, a4, a5, a6, a7, a8, a9, a10, a11, a12) := by
  unfold wpX_size
  dsimp only
  exact tm_refresh h (fun s b2 b3 b4 b5 b6 b7 b8 hf => H s b2 b3 b4 b5 b6 b7 b8 hf)
theorem tm_el8 {post : Int32 → St2 → Prop} (h : tm_fr n m c s G cd bf ls ln N a1 a2 a4 a5 a6 a7 a8) {i : Nat} (hi : i ≤ s)
    (H1 : i < s → ∀ x, x < s → post (nI (cd x)) (nI n, nI m, nI c, nI s, 1, a1, a2, a3, a4, a5, a6, a7, a8, a9, a10, a11, a12))
    (H2 : i = s → post (-1) (nI n, nI m, nI c, nI s, 1, a1, a2, a3, a4, a5, a6, a7, a8, a9, a10, a11, a12)) :
    ∀ j k : Nat, k + j = m → tm_cnt (fun k => ¬ a2 k = -1) k ≤ i →
      wX_element_8 post (nI n) (nI m) (nI c) (nI s) 1 a1 a2 a3 a4 a5 a6 a7 a8 a9 a10 a11 a12 (j + 1) (nI (i - tm_cnt (fun k => ¬ a2 k = -1) k)) (nI k) := by
  obtain ⟨hs, hm, _, _, hsm⟩ := tm_fr_m h
  obtain ⟨_, _, _, _, _, _, h7, h8, _⟩ := h
  intro j
  induction j with
  | zero =>
    intro k hk hc
    have e : k = m := by omega
    rw [e] at hc
    exact pk_le m k (fun _ => H2 (by omega)) (fun z => absurd z (by omega))
  | succ j ih =>
    intro k hk hc
    refine pk_le m k (fun z => absurd z (by omega)) (fun _ => ⟨pk_in k 256 (by omega), ?_⟩)
    by_cases z : a2 k = -1
    · have q := tm_cnt_n (P := fun k => ¬ a2 k = -1) (k := k) (fun w => w z)
      have i' := ih (k + 1) (by omega) (by omega)
      rw [q] at i'
      exact br_t (by rw [nI_clamp (by omega)]; exact z) (nm_r (nI_1 k) i')
    · have q := tm_cnt_y (P := fun k => ¬ a2 k = -1) (k := k) z
      have q2 := tm_cnt_up (P := fun k => ¬ a2 k = -1) (i := k + 1) (k := m) (by omega)
      refine br_f (by rw [nI_clamp (by omega)]; exact z) (pk_eq (i - tm_cnt (fun k => ¬ a2 k = -1) k) 0 (fun e => ?_) (fun e => ?_))
      · rcases h7 k (by omega) with w | ⟨x, hx, ex⟩
        · exact absurd w z
        · rw [← ex]
          exact H1 (by omega) x hx
      · have i' := ih (k + 1) (by omega) (by omega)
        rw [q] at i'
        exact nm_r (e' := nI (i - (tm_cnt (fun k => ¬ a2 k = -1) k + 1))) (by rw [sb_m1 (by omega)]; exact congrArg nI (by omega)) (nm_r (nI_1 k) i')
theorem tm_element {post : Int32 → St2 → Prop} (h : tm_fr n m c s G cd bf ls ln N a1 a2 a4 a5 a6 a7 a8) {i : Nat} (hi : i ≤ s)
    (H1 : i < s → ∀ x, x < s → post (nI (cd x)) (nI n, nI m, nI c, nI s, 1, a1, a2, a3, a4, a5, a6, a7, a8, a9, a10, a11, a12))
    (H2 : i = s → post (-1) (nI n, nI m, nI c, nI s, 1, a1, a2, a3, a4, a5, a6, a7, a8, a9, a10, a11, a12)) :
    wpX_element post (nI n, nI m, nI c, nI s, 1, a1, a2, a3, a4, a5, a6, a7, a8, a9, a10, a11, a12) (nI i) := by
  unfold wpX_element
  dsimp only
  exact tm_refresh1 ⟨m + 1, tm_el8 h hi H1 H2 m 0 (by omega) (Nat.zero_le _)⟩
theorem tm_drop {post : Int32 → St2 → Prop} (hc : c ≤ 4)
    (H1 : post (-1) (fn, fm, nI c, fs, fcur, a1, a2, a3, a4, a5, a6, a7, a8, a9, a10, a11, a12))
    (H2 : 0 < c → ∀ r, post r (fn, fm, nI (c - 1), fs, 0, a1, a2, a3, a4, a5, a6, a7, a8, a9, a10, a11, a12)) :
    wpX_drop post (fn, fm, nI c, fs, fcur, a1, a2, a3, a4, a5, a6, a7, a8, a9, a10, a11, a12) :=
  pk_eq c 0 (fun _ => H1) (fun z => nm_r (e' := nI (c - 1)) (by rw [show c = (c - 1) + 1 by omega, nI_pred]; exact congrArg nI (by omega)) ⟨pk_in (c - 1) 4 (by omega), H2 (by omega) _⟩)
theorem tm_generate {post : Int32 → St2 → Prop} (hm : m ≤ 256) (hc : c ≤ 4) {k : Nat} (hk : k < m)
    (H1 : post (-2) (fn, nI m, nI c, fs, fcur, a1, a2, a3, a4, a5, a6, a7, a8, a9, a10, a11, a12))
    (H2 : c < 4 → post (nI c) (fn, nI m, nI (c + 1), fs, 0, upd a1 c (nI k), a2, a3, a4, a5, a6, a7, a8, a9, a10, a11, a12)) :
    wpX_generate post (fn, nI m, nI c, fs, fcur, a1, a2, a3, a4, a5, a6, a7, a8, a9, a10, a11, a12) (nI k) := by
  unfold wpX_generate
  dsimp only
  refine tm_isCode hm hk (br_f (by decide) (pk_eq c 4 (fun _ => H1) (fun z => ⟨pk_in c 4 (by omega), nm_r (tm_uc (by omega)) (nm_r (nI_1 c) ?_)⟩)))
  rw [nI_pred]
  exact H2 (by omega)
end
end
section
/-- the spread: q places queued, t places of the table looked at -/
def tm_sp (c kd s st q t : Nat) (N : Nat → Nat → Nat) (a10 a12 : Nat → Int32) : Prop :=
  (∀ x, x < s → a10 x = nI 0 ∨ a10 x = nI 1) ∧
  a10 st = nI 1 ∧
  (∀ x, x < s → a10 x = nI 1 → tm_rch (tm_E c kd N) st x ∧ ∃ j, j < q ∧ a12 j = nI x) ∧
  (∀ j, j < q → ∃ x, x < s ∧ a12 j = nI x ∧ a10 x = nI 1) ∧
  tm_cnt (fun x => a10 x = nI 1) s = q ∧
  (∀ j x k, j < q → x < s → a12 j = nI x → k < 2 * c → tm_use kd k → 8 * j + k < t → a10 (N x k) = nI 1)
theorem tm_01 : ¬ nI 0 = nI 1 := by decide
theorem tm_u1 {f : Nat → Int32} {y z : Nat} (h : f z = nI 1) : upd f y (nI 1) z = nI 1 := by
  by_cases e : z = y
  · rw [e]
    exact pk_us
  · rw [pk_un e]
    exact h
theorem tm_sp_q {c kd s st q t : Nat} {N : Nat → Nat → Nat} {a10 a12 : Nat → Int32} (h : tm_sp c kd s st q t N a10 a12) : q ≤ s := by
  rw [← h.2.2.2.2.1]
  exact tm_cnt_le _ _
theorem tm_sp_t {c kd s st q t t' : Nat} {N : Nat → Nat → Nat} {a10 a12 : Nat → Int32} (h : tm_sp c kd s st q t N a10 a12) (ht : ∀ j k, k < 2 * c → 8 * j + k < t' → 8 * j + k < t) : tm_sp c kd s st q t' N a10 a12 := by
  obtain ⟨h1, h2, h3, h4, h5, h6⟩ := h
  exact ⟨h1, h2, h3, h4, h5, fun j x k hj hx e hk hu hh => h6 j x k hj hx e hk hu (ht j k hk hh)⟩
theorem tm_sp_no {c kd s st q i k : Nat} {N : Nat → Nat → Nat} {a10 a12 : Nat → Int32} (h : tm_sp c kd s st q (8 * i + k) N a10 a12) (hc : c ≤ 4) (hk : k < 2 * c) (hu : ¬ tm_use kd k) : tm_sp c kd s st q (8 * i + (k + 1)) N a10 a12 := by
  obtain ⟨h1, h2, h3, h4, h5, h6⟩ := h
  refine ⟨h1, h2, h3, h4, h5, fun j x k' hj hx e hk' hu' hh => ?_⟩
  by_cases z : 8 * j + k' = 8 * i + k
  · have ek : k' = k := by omega
    rw [ek] at hu'
    exact absurd hu' hu
  · exact h6 j x k' hj hx e hk' hu' (by omega)
theorem tm_sp_old {c kd s st q i k x : Nat} {N : Nat → Nat → Nat} {a10 a12 : Nat → Int32} (h : tm_sp c kd s st q (8 * i + k) N a10 a12) (hs : s ≤ 256) (hc : c ≤ 4) (hk : k < 2 * c) (hx : x < s) (e12 : a12 i = nI x) (h10 : a10 (N x k) = nI 1) : tm_sp c kd s st q (8 * i + (k + 1)) N a10 a12 := by
  obtain ⟨h1, h2, h3, h4, h5, h6⟩ := h
  refine ⟨h1, h2, h3, h4, h5, fun j x' k' hj hx' e hk' hu' hh => ?_⟩
  by_cases z : 8 * j + k' = 8 * i + k
  · have ek : k' = k := by omega
    have ej : j = i := by omega
    rw [ej, e12] at e
    have ex : x = x' := tm_inj (by omega) (by omega) e
    rw [ek, ← ex]
    exact h10
  · exact h6 j x' k' hj hx' e hk' hu' (by omega)
theorem tm_sp_new {c kd s st q i k x : Nat} {N : Nat → Nat → Nat} {a10 a12 : Nat → Int32} (h : tm_sp c kd s st q (8 * i + k) N a10 a12) (hs : s ≤ 256) (hc : c ≤ 4) (hk : k < 2 * c) (hu : tm_use kd k) (hi : i < q) (hx : x < s) (e12 : a12 i = nI x) (hy : N x k < s) (h10 : a10 (N x k) = nI 0) :
    q < s ∧ tm_sp c kd s st (q + 1) (8 * i + (k + 1)) N (upd a10 (N x k) (nI 1)) (upd a12 q (nI (N x k))) := by
  obtain ⟨h1, h2, h3, h4, h5, h6⟩ := h
  have hn : ¬ a10 (N x k) = nI 1 := by
    rw [h10]
    exact tm_01
  have hq : q < s := by
    have z := tm_cnt_lt (P := fun x => a10 x = nI 1) hy hn
    omega
  have hxr : tm_rch (tm_E c kd N) st x := by
    obtain ⟨x', hx', e', r'⟩ := h4 i hi
    rw [e12] at e'
    have ex : x = x' := tm_inj (by omega) (by omega) e'
    rw [ex]
    exact (h3 x' hx' r').1
  refine ⟨hq, ?_, tm_u1 h2, ?_, ?_, ?_, ?_⟩
  · intro z hz
    by_cases e : z = N x k
    · right
      rw [e]
      exact pk_us
    · rw [pk_un e]
      exact h1 z hz
  · intro z hz e1
    by_cases e : z = N x k
    · rw [e]
      exact ⟨tm_rch_s hxr ⟨k, hk, hu, rfl⟩, q, by omega, pk_us⟩
    · rw [pk_un e] at e1
      obtain ⟨r1, j, hj, r2⟩ := h3 z hz e1
      exact ⟨r1, j, by omega, by rw [pk_un (by omega)]; exact r2⟩
  · intro j hj
    by_cases e : j = q
    · rw [e]
      exact ⟨N x k, hy, pk_us, pk_us⟩
    · obtain ⟨z, hz, r1, r2⟩ := h4 j (by omega)
      exact ⟨z, hz, by rw [pk_un e]; exact r1, tm_u1 r2⟩
  · have z := tm_cnt_add (P := fun x => a10 x = nI 1) (Q := fun z => upd a10 (N x k) (nI 1) z = nI 1) s hy hn pk_us (fun j _ hj => by show a10 j = nI 1 ↔ upd a10 (N x k) (nI 1) j = nI 1; rw [pk_un hj])
    rw [z, h5]
  · intro j x' k' hj hx' e hk' hu' hh
    have hjq : j ≠ q := by omega
    rw [pk_un hjq] at e
    by_cases z : 8 * j + k' = 8 * i + k
    · have ek : k' = k := by omega
      have ej : j = i := by omega
      rw [ej, e12] at e
      have ex : x = x' := tm_inj (by omega) (by omega) e
      rw [ek, ← ex]
      exact pk_us
    · exact tm_u1 (h6 j x' k' (by omega) hx' e hk' hu' (by omega))
theorem tm_sp_0 {c kd s st : Nat} {N : Nat → Nat → Nat} {a10 a12 : Nat → Int32} (hst : st < s) (hs : s ≤ 256) (h : ∀ x, x < s → a10 x = nI 0) : tm_sp c kd s st 1 0 N (upd a10 st (nI 1)) (upd a12 0 (nI st)) := by
  have hn : ∀ j, j < s → ¬ a10 j = nI 1 := by
    intro j hj
    rw [h j hj]
    exact tm_01
  refine ⟨?_, pk_us, ?_, ?_, ?_, ?_⟩
  · intro z hz
    by_cases e : z = st
    · right
      rw [e]
      exact pk_us
    · left
      rw [pk_un e]
      exact h z hz
  · intro z hz e1
    by_cases e : z = st
    · rw [e]
      exact ⟨tm_rch_0, 0, by omega, pk_us⟩
    · rw [pk_un e] at e1
      exact absurd e1 (hn z hz)
  · intro j hj
    rw [show j = 0 by omega]
    exact ⟨st, hst, pk_us, pk_us⟩
  · have z := tm_cnt_add (P := fun x => a10 x = nI 1) (Q := fun z => upd a10 st (nI 1) z = nI 1) s hst (hn st hst) pk_us (fun j _ hj => by show a10 j = nI 1 ↔ upd a10 st (nI 1) j = nI 1; rw [pk_un hj])
    rw [z, tm_cnt_no s hn]
  · intro j x k _ _ _ _ _ hh
    omega
theorem tm_sp_end {c kd s st q : Nat} {N : Nat → Nat → Nat} {a10 a12 : Nat → Int32} (h : tm_sp c kd s st q (8 * q) N a10 a12) (hc : c ≤ 4) (hst : st < s) (hN : ∀ x k, x < s → k < 2 * c → N x k < s) :
    (∀ x, x < s → (a10 x = nI 1 ↔ tm_rch (tm_E c kd N) st x)) ∧ q = tm_cnt (fun x => tm_rch (tm_E c kd N) st x) s := by
  obtain ⟨h1, h2, h3, h4, h5, h6⟩ := h
  have main : ∀ x, x < s → (a10 x = nI 1 ↔ tm_rch (tm_E c kd N) st x) := by
    intro x hx
    refine ⟨fun e => (h3 x hx e).1, fun r => ?_⟩
    have z : x < s ∧ a10 x = nI 1 := r (fun w => w < s ∧ a10 w = nI 1) ⟨hst, h2⟩ (by
      rintro a b ⟨ha, e⟩ ⟨k, hk, hu, ek⟩
      obtain ⟨_, j, hj, ej⟩ := h3 a ha e
      rw [← ek]
      exact ⟨hN a k ha hk, h6 j a k hj ha ej hk hu (by omega)⟩)
    exact z.2
  refine ⟨main, ?_⟩
  rw [← h5]
  exact tm_cnt_eq main
section
variable {fn fm fc fs fcur : Int32} {a1 a2 a3 a4 a5 a6 a7 a8 a9 a10 a11 a12 : Nat → Int32} {n m c s kd : Nat} {G cd bf ls ln : Nat → Nat} {N : Nat → Nat → Nat} {post : Int32 → St2 → Prop}
  {J42 J59 : Int32 → Int32 → (Nat → Int32) → (Nat → Int32) → (Nat → Int32) → (Nat → Int32) → (Nat → Int32) → (Nat → Int32) → (Nat → Int32) → (Nat → Int32) → (Nat → Int32) → (Nat → Int32) → (Nat → Int32) → (Nat → Int32) → Prop}
theorem tm_122 {x3 x4 x5 z y : Int32} {k : Nat} (hkd : kd ≤ 2) (hz : (k % 2 = 0 ∧ z = 1) ∨ (k % 2 = 1 ∧ z = 0))
    (hu : tm_use kd k → wX_spread_148 post J42 J59 (nI kd) x3 x4 x5 y 1 fn fm fc fs fcur a1 a2 a3 a4 a5 a6 a7 a8 a9 a10 a11 a12)
    (hn : ¬ tm_use kd k → wX_spread_148 post J42 J59 (nI kd) x3 x4 x5 y 0 fn fm fc fs fcur a1 a2 a3 a4 a5 a6 a7 a8 a9 a10 a11 a12) :
    wX_spread_122 post J42 J59 (nI kd) x3 x4 x5 z y fn fm fc fs fcur a1 a2 a3 a4 a5 a6 a7 a8 a9 a10 a11 a12 := by
  have h3 : kd = 0 ∨ kd = 1 ∨ kd = 2 := by omega
  rcases h3 with e | e | e
  · subst e
    rcases hz with ⟨hk, rfl⟩ | ⟨hk, rfl⟩
    · exact br_f (by decide) (br_t rfl (br_t rfl (hu (Or.inr (Or.inl ⟨rfl, hk⟩)))))
    · exact br_f (by decide) (br_t rfl (br_f (by decide) (hn (by unfold tm_use; omega))))
  · subst e
    rcases hz with ⟨hk, rfl⟩ | ⟨hk, rfl⟩
    · exact br_f (by decide) (br_f (by decide) (br_f (by decide) (hn (by unfold tm_use; omega))))
    · exact br_f (by decide) (br_f (by decide) (br_t rfl (hu (Or.inr (Or.inr ⟨rfl, hk⟩)))))
  · subst e
    exact br_t rfl (hu (Or.inl rfl))
theorem tm_82 {x3 z : Int32} {i k x : Nat} (h : tm_fr n m c s G cd bf ls ln N a1 a2 a4 a5 a6 a7 a8) (hkd : kd ≤ 2) (hi : i < 256) (hk : k < 2 * c) (hx : x < s) (e12 : a12 i = nI x) (hz : (k % 2 = 0 ∧ z = 1) ∨ (k % 2 = 1 ∧ z = 0))
    (hu : tm_use kd k → wX_spread_148 post J42 J59 (nI kd) x3 (nI i) (nI k) (nI (N x k)) 1 fn fm fc fs fcur a1 a2 a3 a4 a5 a6 a7 a8 a9 a10 a11 a12)
    (hn : ¬ tm_use kd k → wX_spread_148 post J42 J59 (nI kd) x3 (nI i) (nI k) (nI (N x k)) 0 fn fm fc fs fcur a1 a2 a3 a4 a5 a6 a7 a8 a9 a10 a11 a12) :
    wX_spread_82 post J42 J59 (nI kd) x3 (nI i) (nI k) z fn fm fc fs fcur a1 a2 a3 a4 a5 a6 a7 a8 a9 a10 a11 a12 := by
  obtain ⟨hs, hm, _, hc, hsm⟩ := tm_fr_m h
  obtain ⟨hN, hr, hl⟩ := tm_fr_N h hx hk
  refine ⟨pk_in i 256 hi, nm_r (e' := nI (4 * x + k / 2)) (by rw [nI_clamp (by omega), e12, pk_shrN (by omega) _ 1 (by decide), tm_ad]) ?_⟩
  rcases hz with ⟨hk2, rfl⟩ | ⟨hk2, rfl⟩
  · refine br_f (by decide) ⟨pk_in (4 * x + k / 2) 1024 (by omega), ?_⟩
    rw [nI_clamp (by omega), hr hk2]
    exact tm_122 hkd (Or.inl ⟨hk2, rfl⟩) hu hn
  · refine br_t rfl ⟨pk_in (4 * x + k / 2) 1024 (by omega), ?_⟩
    rw [nI_clamp (by omega), hl hk2]
    exact tm_122 hkd (Or.inr ⟨hk2, rfl⟩) hu hn
theorem tm_59 {i st : Nat} (h : tm_fr n m c s G cd bf ls ln N a1 a2 a4 a5 a6 a7 a8) (hkd : kd ≤ 2)
    (hJ : ∀ q b10 b12, i < q → tm_sp c kd s st q (8 * (i + 1)) N b10 b12 → J42 (nI q) (nI (i + 1)) a1 a2 a3 a4 a5 a6 a7 a8 a9 b10 a11 b12) :
    ∀ (j k q : Nat) (a10 a12 : Nat → Int32), k + j = 2 * c → i < q → tm_sp c kd s st q (8 * i + k) N a10 a12 →
      wX_spread_59 post J42 (nI kd) (nI i) fn fm (nI c) fs fcur (j + 1) (nI q) (nI k) a1 a2 a3 a4 a5 a6 a7 a8 a9 a10 a11 a12 := by
  obtain ⟨hs, hm, _, hc, hsm⟩ := tm_fr_m h
  have e2 : (2 : Int32) * nI c = nI (2 * c) := pk_mul 2 c
  intro j
  induction j with
  | zero =>
    intro k q a10 a12 hk hi hp
    exact pk_le (2 * c) k (fun _ => nm_r (nI_1 i) (hJ q a10 a12 hi (tm_sp_t hp (fun j' k' _ _ => by omega)))) (fun z => absurd z (by omega)) e2
  | succ j ih =>
    intro k q a10 a12 hk hi hp
    have hq := tm_sp_q hp
    obtain ⟨x, hx, e12, r12⟩ := hp.2.2.2.1 i hi
    obtain ⟨hN, hr, hl⟩ := tm_fr_N h (k := k) hx (by omega)
    have hn : ¬ tm_use kd k → wX_spread_148 post J42 (wX_spread_59 post J42 (nI kd) (nI i) fn fm (nI c) fs fcur (j + 1)) (nI kd) (nI q) (nI i) (nI k) (nI (N x k)) 0 fn fm (nI c) fs fcur a1 a2 a3 a4 a5 a6 a7 a8 a9 a10 a11 a12 :=
      fun hu => br_t rfl (nm_r (nI_1 k) (ih (k + 1) q a10 a12 (by omega) hi (tm_sp_no hp hc (by omega) hu)))
    have hu : tm_use kd k → wX_spread_148 post J42 (wX_spread_59 post J42 (nI kd) (nI i) fn fm (nI c) fs fcur (j + 1)) (nI kd) (nI q) (nI i) (nI k) (nI (N x k)) 1 fn fm (nI c) fs fcur a1 a2 a3 a4 a5 a6 a7 a8 a9 a10 a11 a12 := by
      intro hu
      refine br_f (by decide) ⟨pk_in (N x k) 256 (by omega), ?_⟩
      rcases hp.1 (N x k) hN with z | z
      · obtain ⟨hq', hp'⟩ := tm_sp_new hp hs hc (by omega) hu hi hx e12 hN z
        exact br_t (by rw [nI_clamp (by omega)]; exact z) ⟨pk_in (N x k) 256 (by omega), nm_r (tm_uc (by omega)) ⟨pk_in q 256 (by omega), nm_r (tm_uc (by omega)) (nm_r (nI_1 q) (nm_r (nI_1 k) (ih (k + 1) (q + 1) _ _ (by omega) (by omega) hp')))⟩⟩
      · exact br_f (by rw [nI_clamp (by omega), z]; decide) (nm_r (nI_1 k) (ih (k + 1) q a10 a12 (by omega) hi (tm_sp_old hp hs hc (by omega) hx e12 z)))
    refine pk_le (2 * c) k (fun z => absurd z (by omega)) (fun _ => pk_eq (k % 2) 0 (fun z => ?_) (fun z => ?_) (pk_andN (by omega) 1 (by decide)) rfl) e2
    · exact tm_82 h hkd (by omega) (by omega) hx e12 (Or.inl ⟨z, rfl⟩) hu hn
    · exact tm_82 h hkd (by omega) (by omega) hx e12 (Or.inr ⟨by omega, rfl⟩) hu hn
theorem tm_42 {st : Nat} (h : tm_fr n m c s G cd bf ls ln N a1 a2 a4 a5 a6 a7 a8) (hkd : kd ≤ 2)
    (H : ∀ q b10 b12, tm_sp c kd s st q (8 * q) N b10 b12 → post (nI q) (fn, fm, nI c, fs, fcur, a1, a2, a3, a4, a5, a6, a7, a8, a9, b10, a11, b12)) :
    ∀ (j i q : Nat) (a10 a12 : Nat → Int32), i + j = 256 → i ≤ q → tm_sp c kd s st q (8 * i) N a10 a12 →
      wX_spread_42 post (nI kd) fn fm (nI c) fs fcur (j + 1) (nI q) (nI i) a1 a2 a3 a4 a5 a6 a7 a8 a9 a10 a11 a12 := by
  obtain ⟨hs, hm, _, hc, hsm⟩ := tm_fr_m h
  intro j
  induction j with
  | zero =>
    intro i q a10 a12 hi hq hp
    have hqs := tm_sp_q hp
    have e : i = q := by omega
    subst e
    exact pk_le 256 i (fun _ => H i a10 a12 hp) (fun z => absurd z (by omega))
  | succ j ih =>
    intro i q a10 a12 hi hq hp
    have hqs := tm_sp_q hp
    refine pk_le 256 i (fun z => absurd z (by omega)) (fun _ => pk_le q i (fun z => ?_) (fun z => ⟨2 * c + 1, tm_59 h hkd (fun q' b10 b12 hq' hp' => ih (i + 1) q' b10 b12 (by omega) (by omega) hp') (2 * c) 0 q a10 a12 (by omega) z hp⟩))
    have e : i = q := by omega
    subst e
    exact H i a10 a12 hp
theorem tm_s2 {st : Nat} (h : tm_fr n m c s G cd bf ls ln N a1 a2 a4 a5 a6 a7 a8) (hkd : kd ≤ 2) (hst : st < s)
    (H : ∀ q b10 b12, tm_sp c kd s st q (8 * q) N b10 b12 → post (nI q) (fn, fm, nI c, nI s, fcur, a1, a2, a3, a4, a5, a6, a7, a8, a9, b10, a11, b12)) :
    ∀ (j k : Nat) (a10 : Nat → Int32), k + j = s → (∀ x, x < k → a10 x = nI 0) →
      wX_spread_2 post (nI kd) (nI st) fn fm (nI c) (nI s) fcur (j + 1) (nI k) a1 a2 a3 a4 a5 a6 a7 a8 a9 a10 a11 a12 := by
  obtain ⟨hs, hm, _, hc, hsm⟩ := tm_fr_m h
  intro j
  induction j with
  | zero =>
    intro k a10 hk hz
    have e : k = s := by omega
    subst e
    exact pk_le k k (fun _ => ⟨pk_in st 256 (by omega), nm_r (tm_uc (by omega)) (nm_e ⟨256 + 1, tm_42 h hkd H 256 0 1 _ _ (by omega) (by omega) (tm_sp_0 hst hs hz)⟩)⟩) (fun z => absurd z (by omega))
  | succ j ih =>
    intro k a10 hk hz
    refine pk_le s k (fun z => absurd z (by omega)) (fun _ => ⟨pk_in k 256 (by omega), nm_r (tm_uc (by omega)) (nm_r (nI_1 k) (ih (k + 1) _ (by omega) (fun x hx => ?_)))⟩)
    by_cases e : x = k
    · rw [e]
      exact pk_us
    · rw [pk_un e]
      exact hz x (by omega)
theorem tm_spread {st : Nat} {y : Int32} (h : tm_fr n m c s G cd bf ls ln N a1 a2 a4 a5 a6 a7 a8) (hkd : kd ≤ 2) (hst : st < s) (ey : y = nI st)
    (H : ∀ b10 b12 : Nat → Int32, (∀ x, x < s → b10 x = nI 0 ∨ b10 x = nI 1) → (∀ x, x < s → (b10 x = nI 1 ↔ tm_rch (tm_E c kd N) st x)) →
      post (nI (tm_cnt (fun x => tm_rch (tm_E c kd N) st x) s)) (fn, fm, nI c, nI s, fcur, a1, a2, a3, a4, a5, a6, a7, a8, a9, b10, a11, b12)) :
    wpX_spread post (fn, fm, nI c, nI s, fcur, a1, a2, a3, a4, a5, a6, a7, a8, a9, a10, a11, a12) (nI kd) y := by
  obtain ⟨hs, hm, _, hc, hsm⟩ := tm_fr_m h
  subst ey
  refine ⟨s + 1, tm_s2 h hkd hst (fun q b10 b12 hp => ?_) s 0 a10 (by omega) (fun x hx => absurd hx (by omega))⟩
  obtain ⟨e1, e2⟩ := tm_sp_end hp hc hst (fun x k hx hk => (tm_fr_N h hx hk).1)
  rw [e2]
  exact H b10 b12 hp.1 e1
theorem tm_ideal {x : Nat} (h : tm_fr n m c s G cd bf ls ln N a1 a2 a4 a5 a6 a7 a8) (hkd : kd ≤ 2) (hx : x < s)
    (H : ∀ b10 b12 : Nat → Int32, post (nI (tm_cnt (fun z => tm_rch (tm_E c kd N) x z) s)) (nI n, nI m, nI c, nI s, 1, a1, a2, a3, a4, a5, a6, a7, a8, a9, b10, a11, b12)) :
    wpX_ideal post (nI n, nI m, nI c, nI s, 1, a1, a2, a3, a4, a5, a6, a7, a8, a9, a10, a11, a12) (nI kd) (nI (cd x)) := by
  obtain ⟨hs, hm, _, hc, hsm⟩ := tm_fr_m h
  obtain ⟨hc1, hc2⟩ := tm_fr_c h hx
  exact br_f (nI_pos (by omega)) (br_t (nI_le (b := 2) hkd (by decide)) (tm_isElement h hx (br_f (by decide) ⟨pk_in (cd x) 256 (by omega), tm_spread h hkd hx (by rw [nI_clamp (by omega), hc2]) (fun b10 b12 _ _ => H b10 b12)⟩)))
theorem tm_alike {x y : Nat} (h : tm_fr n m c s G cd bf ls ln N a1 a2 a4 a5 a6 a7 a8) (hkd : kd ≤ 2) (hx : x < s) (hy : y < s)
    (H : ∀ (r : Int32) (b10 b12 : Nat → Int32), (r = 1 ↔ tm_sim (tm_E c kd N) x y) → post r (nI n, nI m, nI c, nI s, 1, a1, a2, a3, a4, a5, a6, a7, a8, a9, b10, a11, b12)) :
    wpX_alike post (nI n, nI m, nI c, nI s, 1, a1, a2, a3, a4, a5, a6, a7, a8, a9, a10, a11, a12) (nI kd) (nI (cd x)) (nI (cd y)) := by
  obtain ⟨hs, hm, _, hc, hsm⟩ := tm_fr_m h
  obtain ⟨hc1, hc2⟩ := tm_fr_c h hx
  obtain ⟨hd1, hd2⟩ := tm_fr_c h hy
  have ex : a2 (nI (cd x)).toNatClampNeg = nI x := by rw [nI_clamp (by omega), hc2]
  have ey : a2 (nI (cd y)).toNatClampNeg = nI y := by rw [nI_clamp (by omega), hd2]
  refine br_f (nI_pos (by omega)) (br_t (nI_le (b := 2) hkd (by decide)) (tm_isElement h hx (br_f (by decide) (tm_isElement h hy (br_f (by decide) ⟨pk_in (cd x) 256 (by omega), tm_spread h hkd hx ex (fun b10 b12 hb hr => ?_)⟩)))))
  refine ⟨pk_in (cd y) 256 (by omega), pk_in y 256 (by omega) ey, nm_r (e' := b10 y) (by rw [ey, nI_clamp (by omega)]) ⟨pk_in (cd y) 256 (by omega), tm_spread h hkd hy ey (fun d10 d12 hd hq => ?_)⟩⟩
  rcases hb y hy with z | z
  · exact br_t z (H 0 d10 d12 ⟨fun w => absurd w (by decide), fun w => absurd ((hr y hy).mpr w.1) (by rw [z]; exact tm_01)⟩)
  · refine br_f (by rw [z]; decide) ⟨pk_in (cd x) 256 (by omega), pk_in x 256 (by omega) ex, ?_⟩
    rw [ex, nI_clamp (by omega)]
    rcases hd x hx with w | w
    · exact br_t w (H 0 d10 d12 ⟨fun u => absurd u (by decide), fun u => absurd ((hq x hx).mpr u.2) (by rw [w]; exact tm_01)⟩)
    · exact br_f (by rw [w]; decide) (H 1 d10 d12 ⟨fun _ => ⟨(hr y hy).mp z, (hq x hx).mp w⟩, fun _ => rfl⟩)
end
end
section
/-- the places known to lead to st: at least r of them -/
def tm_rg (c kd s st r : Nat) (N : Nat → Nat → Nat) (a11 : Nat → Int32) : Prop :=
  (∀ x, x < s → a11 x = nI 0 ∨ a11 x = nI 1) ∧ a11 st = nI 1 ∧ (∀ x, x < s → a11 x = nI 1 → tm_rch (tm_E c kd N) x st) ∧ r ≤ tm_cnt (fun x => a11 x = nI 1) s
/-- nothing is wanting among the first t places of the table -/
def tm_shut (c kd s t : Nat) (N : Nat → Nat → Nat) (a10 a11 : Nat → Int32) : Prop :=
  ∀ x k, x < s → k < 2 * c → tm_use kd k → 8 * x + k < t → a10 x = nI 1 → a11 (N x k) = nI 1 → a11 x = nI 1
theorem tm_rg_le {c kd s st r : Nat} {N : Nat → Nat → Nat} {a11 : Nat → Int32} (h : tm_rg c kd s st (r + 1) N a11) : tm_rg c kd s st r N a11 := by
  obtain ⟨h1, h2, h3, h4⟩ := h
  exact ⟨h1, h2, h3, by omega⟩
theorem tm_rg_add {c kd s st r x y : Nat} {N : Nat → Nat → Nat} {a11 : Nat → Int32} (h : tm_rg c kd s st r N a11) (hx : x < s) (hy : y < s) (e : tm_E c kd N x y) (h0 : a11 x = nI 0) (h1 : a11 y = nI 1) : tm_rg c kd s st (r + 1) N (upd a11 x (nI 1)) := by
  obtain ⟨g1, g2, g3, g4⟩ := h
  have hn : ¬ a11 x = nI 1 := by
    rw [h0]
    exact tm_01
  refine ⟨?_, tm_u1 g2, ?_, ?_⟩
  · intro z hz
    by_cases q : z = x
    · right
      rw [q]
      exact pk_us
    · rw [pk_un q]
      exact g1 z hz
  · intro z hz e1
    by_cases q : z = x
    · rw [q]
      exact tm_rch_1 e (g3 y hy h1)
    · rw [pk_un q] at e1
      exact g3 z hz e1
  · have z := tm_cnt_add (P := fun x => a11 x = nI 1) (Q := fun z => upd a11 x (nI 1) z = nI 1) s hx hn pk_us (fun j _ hj => by show a11 j = nI 1 ↔ upd a11 x (nI 1) j = nI 1; rw [pk_un hj])
    omega
theorem tm_upd_id {f : Nat → Int32} {k : Nat} {v : Int32} (h : f k = v) : upd f k v = f := by
  funext j
  by_cases e : j = k
  · rw [e, pk_us, h]
  · exact pk_un e
theorem tm_shut_s {c kd s x k : Nat} {N : Nat → Nat → Nat} {a10 a11 : Nat → Int32} (h : tm_shut c kd s (8 * x + k) N a10 a11) (hc : c ≤ 4) (hk : k < 8) (hx : k < 2 * c → tm_use kd k → a10 x = nI 1 → a11 (N x k) = nI 1 → a11 x = nI 1) : tm_shut c kd s (8 * x + k + 1) N a10 a11 := by
  intro x' k' hx' hk' hu ht h10 h11
  by_cases e : 8 * x' + k' = 8 * x + k
  · have ek : k' = k := by omega
    have ex : x' = x := by omega
    subst ek ex
    exact hx hk' hu h10 h11
  · exact h x' k' hx' hk' hu (by omega) h10 h11
theorem tm_shut_end {c kd s st x : Nat} {N : Nat → Nat → Nat} {a10 a11 : Nat → Int32} (h : tm_shut c kd s (8 * s) N a10 a11) (hr : tm_rg c kd s st 0 N a11) (hc : c ≤ 4) (hst : st < s) (hN : ∀ x k, x < s → k < 2 * c → N x k < s)
    (h10 : ∀ x, x < s → (a10 x = nI 1 ↔ tm_rch (tm_E c kd N) st x)) (hx : x < s) : (a10 x = nI 1 ∧ a11 x = nI 1) ↔ tm_sim (tm_E c kd N) st x := by
  obtain ⟨g1, g2, g3, g4⟩ := hr
  constructor
  · rintro ⟨e1, e2⟩
    exact ⟨(h10 x hx).mp e1, g3 x hx e2⟩
  · rintro ⟨r1, r2⟩
    have hx10 := (h10 x hx).mpr r1
    have z : (st < s ∧ a10 st = nI 1) ∧ (a11 st = nI 1 → a11 x = nI 1) := r2 (fun w => (w < s ∧ a10 w = nI 1) ∧ (a11 w = nI 1 → a11 x = nI 1)) ⟨⟨hx, hx10⟩, id⟩ (by
      rintro a b ⟨⟨ha, ha10⟩, hi⟩ ⟨k, hk, hu, ek⟩
      have hb : b < s := by
        rw [← ek]
        exact hN a k ha hk
      refine ⟨⟨hb, (h10 b hb).mpr (tm_rch_s ((h10 a ha).mp ha10) ⟨k, hk, hu, ek⟩)⟩, fun e => hi (h a k ha hk hu (by omega) ha10 (by rw [ek]; exact e))⟩)
    exact ⟨hx10, z.2 g2⟩
theorem tm_vn {v : Int32} (h : v = nI 0 ∨ v = nI 1) : vp_nar .boolean v = v := by
  rcases h with rfl | rfl <;> rfl
theorem tm_nn {v : Int32} (h : v = nI 0 ∨ v = nI 1) : narrow .boolean (.int v) = .int v := by
  rcases h with rfl | rfl <;> rfl
section
variable {fn fm fc fs fcur : Int32} {a1 a2 a3 a4 a5 a6 a7 a8 a9 a10 a11 a12 : Nat → Int32} {n m c s kd st : Nat} {G cd bf ls ln : Nat → Nat} {N : Nat → Nat → Nat}
theorem tm_l15 {post : Int32 → St2 → Prop} {x3 z : Int32} {k : Nat} (hkd : kd ≤ 2) (hz : (k % 2 = 0 ∧ z = 1) ∨ (k % 2 = 1 ∧ z = 0))
    (hu : tm_use kd k → wX_leadsOn_41 post x3 z 1 fn fm fc fs fcur a1 a2 a3 a4 a5 a6 a7 a8 a9 a10 a11 a12)
    (hn : ¬ tm_use kd k → wX_leadsOn_41 post x3 z 0 fn fm fc fs fcur a1 a2 a3 a4 a5 a6 a7 a8 a9 a10 a11 a12) :
    wX_leadsOn_15 post (nI kd) x3 z fn fm fc fs fcur a1 a2 a3 a4 a5 a6 a7 a8 a9 a10 a11 a12 := by
  have h3 : kd = 0 ∨ kd = 1 ∨ kd = 2 := by omega
  rcases h3 with e | e | e
  · subst e
    rcases hz with ⟨hk, rfl⟩ | ⟨hk, rfl⟩
    · exact br_f (by decide) (br_t rfl (br_t rfl (hu (Or.inr (Or.inl ⟨rfl, hk⟩)))))
    · exact br_f (by decide) (br_t rfl (br_f (by decide) (hn (by unfold tm_use; omega))))
  · subst e
    rcases hz with ⟨hk, rfl⟩ | ⟨hk, rfl⟩
    · exact br_f (by decide) (br_f (by decide) (br_f (by decide) (hn (by unfold tm_use; omega))))
    · exact br_f (by decide) (br_f (by decide) (br_t rfl (hu (Or.inr (Or.inr ⟨rfl, hk⟩)))))
  · subst e
    exact br_t rfl (hu (Or.inl rfl))
theorem tm_leadsOn {post : Int32 → St2 → Prop} {x k t : Nat} (h : tm_fr n m c s G cd bf ls ln N a1 a2 a4 a5 a6 a7 a8) (hkd : kd ≤ 2) (hx : x < s) (hk : k < 8) (et : t = 8 * x + k)
    (h10 : ∀ x, x < s → a10 x = nI 0 ∨ a10 x = nI 1) (h11 : ∀ x, x < s → a11 x = nI 0 ∨ a11 x = nI 1)
    (H0 : (k < 2 * c → tm_use kd k → a10 x = nI 1 → a11 x = nI 1) → post 0 (fn, fm, nI c, fs, fcur, a1, a2, a3, a4, a5, a6, a7, a8, a9, a10, a11, a12))
    (H1 : k < 2 * c → tm_use kd k → a11 x = nI 0 → a10 x = nI 1 → post (a11 (N x k)) (fn, fm, nI c, fs, fcur, a1, a2, a3, a4, a5, a6, a7, a8, a9, a10, upd a11 x (a11 (N x k)), a12)) :
    wpX_leadsOn post (fn, fm, nI c, fs, fcur, a1, a2, a3, a4, a5, a6, a7, a8, a9, a10, a11, a12) (nI kd) (nI t) := by
  obtain ⟨hs, hm, _, hc, hsm⟩ := tm_fr_m h
  subst et
  have hn : ∀ z : Int32, ¬ tm_use kd k → wX_leadsOn_41 post (nI (4 * x + k / 2)) z 0 fn fm (nI c) fs fcur a1 a2 a3 a4 a5 a6 a7 a8 a9 a10 a11 a12 :=
    fun z hu => ⟨by decide, nm_e (br_t rfl (H0 (fun _ w => absurd w hu)))⟩
  have e6 : nI (4 * x + k / 2) / (4 : Int32) = nI x := (pk_div (d := 4) (by omega) (by omega) (by omega)).trans (congrArg nI (by omega))
  have e7 : nI (4 * x + k / 2) - nI (4 * x + k / 2) / (4 : Int32) * (4 : Int32) = nI (k / 2) := (pk_rem (d := 4) (by omega) (by omega) (by omega)).trans (congrArg nI (by omega))
  have hu : ∀ z : Int32, ((k % 2 = 0 ∧ z = 1) ∨ (k % 2 = 1 ∧ z = 0)) → tm_use kd k → wX_leadsOn_41 post (nI (4 * x + k / 2)) z 1 fn fm (nI c) fs fcur a1 a2 a3 a4 a5 a6 a7 a8 a9 a10 a11 a12 := by
    intro z hz hu
    refine ⟨by decide, nm_r e6 (br_f (by decide) ⟨by decide, pk_le c (k / 2) (fun w => H0 (fun w' => absurd w' (by omega))) (fun w => ⟨pk_in x 256 (by omega), ?_⟩) rfl e7⟩)⟩
    rcases h11 x hx with y | y
    · refine br_t (by rw [nI_clamp (by omega)]; exact y) ⟨pk_in x 256 (by omega), ?_⟩
      rcases h10 x hx with v | v
      · exact br_t (by rw [nI_clamp (by omega)]; exact v) (H0 (fun _ _ q => absurd q (by rw [v]; exact tm_01)))
      · refine br_f (by rw [nI_clamp (by omega), v]; decide) ?_
        obtain ⟨hN, hr, hl⟩ := tm_fr_N h (k := k) hx (by omega)
        have hb := h11 (N x k) hN
        have hp := H1 (by omega) hu y v
        rcases hz with ⟨hk2, rfl⟩ | ⟨hk2, rfl⟩
        · have er : a7 (nI (4 * x + k / 2)).toNatClampNeg = nI (N x k) := by rw [nI_clamp (by omega)]; exact hr hk2
          refine br_f (by decide) ⟨pk_in (4 * x + k / 2) 1024 (by omega), pk_in (N x k) 256 (by omega) er, pk_in x 256 (by omega), nm_r (e' := upd a11 x (a11 (N x k))) (by rw [er, nI_clamp (by omega), nI_clamp (by omega), tm_vn hb]) ⟨pk_in x 256 (by omega), ?_⟩⟩
          rw [nI_clamp (by omega), pk_us]
          exact ⟨tm_nn hb, hp⟩
        · have er : a8 (nI (4 * x + k / 2)).toNatClampNeg = nI (N x k) := by rw [nI_clamp (by omega)]; exact hl hk2
          refine br_t rfl ⟨pk_in (4 * x + k / 2) 1024 (by omega), pk_in (N x k) 256 (by omega) er, pk_in x 256 (by omega), nm_r (e' := upd a11 x (a11 (N x k))) (by rw [er, nI_clamp (by omega), nI_clamp (by omega), tm_vn hb]) ⟨pk_in x 256 (by omega), ?_⟩⟩
          rw [nI_clamp (by omega), pk_us]
          exact ⟨tm_nn hb, hp⟩
    · exact br_f (by rw [nI_clamp (by omega), y]; decide) (H0 (fun _ _ _ => y))
  refine nm_r (e' := nI (4 * x + k / 2)) (by rw [pk_shrN (by omega) _ 1 (by decide)]; exact congrArg nI (by omega)) (pk_eq ((8 * x + k) % 2) 0 (fun z => ?_) (fun z => ?_) (pk_andN (by omega) 1 (by decide)) rfl)
  · exact tm_l15 hkd (Or.inl ⟨by omega, rfl⟩) (hu 1 (Or.inl ⟨by omega, rfl⟩)) (hn 1)
  · exact tm_l15 hkd (Or.inr ⟨by omega, rfl⟩) (hu 0 (Or.inr ⟨by omega, rfl⟩)) (hn 0)
theorem tm_61 {post : St2 → Prop} {r w : Nat} {J44 : Int32 → Int32 → Int32 → Int32 → Int32 → Int32 → Int32 → (Nat → Int32) → (Nat → Int32) → (Nat → Int32) → (Nat → Int32) → (Nat → Int32) → (Nat → Int32) → (Nat → Int32) → (Nat → Int32) → (Nat → Int32) → (Nat → Int32) → (Nat → Int32) → (Nat → Int32) → Prop}
    (h : tm_fr n m c s G cd bf ls ln N a1 a2 a4 a5 a6 a7 a8) (hkd : kd ≤ 2) (h10 : ∀ x, x < s → a10 x = nI 0 ∨ a10 x = nI 1)
    (hJ : ∀ (f : Nat) (b11 : Nat → Int32), tm_rg c kd s st r N b11 → ((f = 0 ∧ tm_shut c kd s (8 * s) N a10 b11) ∨ (f = 1 ∧ tm_rg c kd s st (r + 1) N b11)) →
      J44 (nI f) (nI (w + 1)) fn fm (nI c) (nI s) fcur a1 a2 a3 a4 a5 a6 a7 a8 a9 a10 b11 a12) :
    ∀ (j t f : Nat) (a11 : Nat → Int32), t + j = 8 * s → tm_rg c kd s st r N a11 → ((f = 0 ∧ tm_shut c kd s t N a10 a11) ∨ (f = 1 ∧ tm_rg c kd s st (r + 1) N a11)) →
      wX_findPart_61 post J44 (nI kd) (nI st) (nI w) (j + 1) (nI f) (nI t) fn fm (nI c) (nI s) fcur a1 a2 a3 a4 a5 a6 a7 a8 a9 a10 a11 a12 := by
  obtain ⟨hs, hm, _, hc, hsm⟩ := tm_fr_m h
  have e8 : (8 : Int32) * nI s = nI (8 * s) := pk_mul 8 s
  intro j
  induction j with
  | zero =>
    intro t f a11 ht hr hf
    have e : t = 8 * s := by omega
    subst e
    exact pk_le (8 * s) (8 * s) (fun _ => nm_r (nI_1 w) (hJ f a11 hr hf)) (fun z => absurd z (by omega)) e8
  | succ j ih =>
    intro t f a11 ht hr hf
    have et : t = 8 * (t / 8) + t % 8 := by omega
    have hx : t / 8 < s := by omega
    refine pk_le (8 * s) t (fun z => absurd z (by omega)) (fun _ => tm_leadsOn h hkd hx (Nat.mod_lt t (by omega)) et h10 hr.1 (fun H => ?_) (fun hk hu h0 h1 => ?_)) e8
    · rcases hf with ⟨rfl, hf⟩ | ⟨rfl, hf⟩
      · refine br_t rfl (br_t rfl (nm_r (nI_1 t) (ih (t + 1) 0 a11 (by omega) hr (Or.inl ⟨rfl, ?_⟩))))
        rw [et] at hf ⊢
        exact tm_shut_s hf hc (by omega) (fun q1 q2 q3 _ => H q1 q2 q3)
      · exact br_f (by decide) (nm_r (nI_1 t) (ih (t + 1) 1 a11 (by omega) hr (Or.inr ⟨rfl, hf⟩)))
    · have hN := (tm_fr_N h hx hk).1
      rcases hr.1 _ hN with z | z
      · rw [z, tm_upd_id h0]
        rcases hf with ⟨rfl, hf⟩ | ⟨rfl, hf⟩
        · refine br_t rfl (br_t rfl (nm_r (nI_1 t) (ih (t + 1) 0 a11 (by omega) hr (Or.inl ⟨rfl, ?_⟩))))
          rw [et] at hf ⊢
          exact tm_shut_s hf hc (by omega) (fun q1 q2 q3 q4 => absurd q4 (by rw [z]; exact tm_01))
        · exact br_f (by decide) (nm_r (nI_1 t) (ih (t + 1) 1 a11 (by omega) hr (Or.inr ⟨rfl, hf⟩)))
      · rw [z]
        have hE : tm_E c kd N (t / 8) (N (t / 8) (t % 8)) := ⟨t % 8, hk, hu, rfl⟩
        have g := tm_rg_add hr hx hN hE h0 z
        rcases hf with ⟨rfl, hf⟩ | ⟨rfl, hf⟩
        · exact br_t rfl (br_f (by decide) (nm_r (nI_1 t) (ih (t + 1) 1 _ (by omega) (tm_rg_le g) (Or.inr ⟨rfl, g⟩))))
        · exact br_f (by decide) (nm_r (nI_1 t) (ih (t + 1) 1 _ (by omega) (tm_rg_le g) (Or.inr ⟨rfl, g⟩)))
theorem tm_44 {post : St2 → Prop} (h : tm_fr n m c s G cd bf ls ln N a1 a2 a4 a5 a6 a7 a8) (hkd : kd ≤ 2) (h10 : ∀ x, x < s → a10 x = nI 0 ∨ a10 x = nI 1)
    (H : ∀ b11 : Nat → Int32, tm_rg c kd s st 0 N b11 → tm_shut c kd s (8 * s) N a10 b11 → ∃ fu, wX_findPart_112 post (nI st) fn fm (nI c) (nI s) fcur fu 0 a1 a2 a3 a4 a5 a6 a7 a8 a9 a10 b11 a12) :
    ∀ (j w f : Nat) (a11 : Nat → Int32), w + j = 256 → tm_rg c kd s st 0 N a11 → ((f = 0 ∧ tm_shut c kd s (8 * s) N a10 a11) ∨ (f = 1 ∧ tm_rg c kd s st (w + 1) N a11)) →
      wX_findPart_44 post (nI kd) (nI st) (j + 1) (nI f) (nI w) fn fm (nI c) (nI s) fcur a1 a2 a3 a4 a5 a6 a7 a8 a9 a10 a11 a12 := by
  obtain ⟨hs, hm, _, hc, hsm⟩ := tm_fr_m h
  intro j
  induction j with
  | zero =>
    intro w f a11 hw hr hf
    rcases hf with ⟨rfl, hf⟩ | ⟨rfl, hf⟩
    · exact pk_le 256 w (fun _ => H a11 hr hf) (fun z => absurd z (by omega))
    · have q := hf.2.2.2
      have q2 := tm_cnt_le (fun x => a11 x = nI 1) s
      omega
  | succ j ih =>
    intro w f a11 hw hr hf
    refine pk_le 256 w (fun z => absurd z (by omega)) (fun _ => ?_)
    rcases hf with ⟨rfl, hf⟩ | ⟨rfl, hf⟩
    · exact br_t rfl (H a11 hr hf)
    · have q0 : ∀ (r : Nat) (b : Nat → Int32), tm_rg c kd s st r N b → tm_rg c kd s st 0 N b := fun r b g => ⟨g.1, g.2.1, g.2.2.1, Nat.zero_le _⟩
      refine br_f (by decide) ⟨8 * s + 1, tm_61 (r := w + 1) h hkd h10 (fun f' b11 g hf' => ih (w + 1) f' b11 (by omega) (q0 _ b11 g) hf') (8 * s) 0 0 a11 (by omega) hf (Or.inl ⟨rfl, fun x k _ _ _ z => absurd z (by omega)⟩)⟩
theorem tm_112 {post : St2 → Prop} {o9 : Nat → Int32} (hs : s ≤ 256) (h10 : ∀ x, x < s → a10 x = nI 0 ∨ a10 x = nI 1) (h11 : ∀ x, x < s → a11 x = nI 0 ∨ a11 x = nI 1)
    (H : ∀ b9 : Nat → Int32, (∀ x, x < s → ((a10 x = nI 1 ∧ a11 x = nI 1) → b9 x = nI st) ∧ (¬ (a10 x = nI 1 ∧ a11 x = nI 1) → b9 x = o9 x)) → post (fn, fm, fc, nI s, fcur, a1, a2, a3, a4, a5, a6, a7, a8, b9, a10, a11, a12)) :
    ∀ (j k : Nat) (a9 : Nat → Int32), k + j = s → (∀ x, x < k → ((a10 x = nI 1 ∧ a11 x = nI 1) → a9 x = nI st) ∧ (¬ (a10 x = nI 1 ∧ a11 x = nI 1) → a9 x = o9 x)) → (∀ x, k ≤ x → a9 x = o9 x) →
      wX_findPart_112 post (nI st) fn fm fc (nI s) fcur (j + 1) (nI k) a1 a2 a3 a4 a5 a6 a7 a8 a9 a10 a11 a12 := by
  intro j
  induction j with
  | zero =>
    intro k a9 hk h1 h2
    have e : k = s := by omega
    subst e
    exact pk_le k k (fun _ => H a9 h1) (fun z => absurd z (by omega))
  | succ j ih =>
    intro k a9 hk h1 h2
    have keep : ¬ (a10 k = nI 1 ∧ a11 k = nI 1) → wX_findPart_112 post (nI st) fn fm fc (nI s) fcur (j + 1) (nI (k + 1)) a1 a2 a3 a4 a5 a6 a7 a8 a9 a10 a11 a12 := by
      intro hn
      refine ih (k + 1) a9 (by omega) (fun x hx => ?_) (fun x hx => h2 x (by omega))
      by_cases e : x = k
      · rw [e]
        exact ⟨fun z => absurd z hn, fun _ => h2 k (by omega)⟩
      · exact h1 x (by omega)
    refine pk_le s k (fun z => absurd z (by omega)) (fun _ => ⟨pk_in k 256 (by omega), ?_⟩)
    rw [nI_clamp (show k < 2 ^ 31 by omega)]
    rcases h10 k (by omega) with z | z
    · exact br_t z (nm_r (nI_1 k) (keep (fun q => absurd q.1 (by rw [z]; exact tm_01))))
    · refine br_f (by rw [z]; decide) ⟨pk_in k 256 (by omega), ?_⟩
      rcases h11 k (by omega) with y | y
      · exact br_t y (nm_r (nI_1 k) (keep (fun q => absurd q.2 (by rw [y]; exact tm_01))))
      · refine br_f (by rw [y]; decide) ⟨pk_in k 256 (by omega), nm_e (nm_r (nI_1 k) (ih (k + 1) _ (by omega) (fun x hx => ?_) (fun x hx => ?_)))⟩
        · by_cases e : x = k
          · rw [e]
            exact ⟨fun _ => pk_us, fun q => absurd ⟨z, y⟩ q⟩
          · rw [pk_un e]
            exact h1 x (by omega)
        · rw [pk_un (by omega)]
          exact h2 x (by omega)
theorem tm_rg_0 (hst : st < s) (h : ∀ x, x < s → a11 x = (if x = st then nI 1 else nI 0)) : tm_rg c kd s st 1 N a11 := by
  have e0 : a11 st = nI 1 := by
    rw [h st hst, if_pos rfl]
  refine ⟨?_, e0, ?_, ?_⟩
  · intro x hx
    rw [h x hx]
    by_cases e : x = st
    · right
      rw [if_pos e]
    · left
      rw [if_neg e]
  · intro x hx e1
    by_cases e : x = st
    · rw [e]
      exact tm_rch_0
    · rw [h x hx, if_neg e] at e1
      exact absurd e1 tm_01
  · have z := tm_cnt_add (P := fun _ => False) (Q := fun x => a11 x = nI 1) s hst id e0 (fun j hj hn => ⟨fun w => w.elim, fun w => by
      have w' : a11 j = nI 1 := w
      rw [h j hj, if_neg hn] at w'
      exact tm_01 w'⟩)
    omega
theorem tm_f9 {post : St2 → Prop} (hs : s ≤ 256) (hst : st < s)
    (H : ∀ b11 : Nat → Int32, (∀ x, x < s → b11 x = (if x = st then nI 1 else nI 0)) → ∃ fu, wX_findPart_44 post (nI kd) (nI st) fu 1 0 fn fm fc (nI s) fcur a1 a2 a3 a4 a5 a6 a7 a8 a9 a10 b11 a12) :
    ∀ (j k : Nat) (a11 : Nat → Int32), k + j = s → (∀ x, x < k → a11 x = (if x = st then nI 1 else nI 0)) →
      wX_findPart_9 post (nI kd) (nI st) fn fm fc (nI s) fcur (j + 1) (nI k) a1 a2 a3 a4 a5 a6 a7 a8 a9 a10 a11 a12 := by
  intro j
  induction j with
  | zero =>
    intro k a11 hk h1
    have e : k = s := by omega
    subst e
    exact pk_le k k (fun _ => H a11 h1) (fun z => absurd z (by omega))
  | succ j ih =>
    intro k a11 hk h1
    refine pk_le s k (fun z => absurd z (by omega)) (fun _ => pk_eq k st (fun z => ⟨pk_in k 256 (by omega), nm_r (tm_uc (by omega)) (nm_r (nI_1 k) (ih (k + 1) _ (by omega) (fun x hx => ?_)))⟩) (fun z => ⟨pk_in k 256 (by omega), nm_r (tm_uc (by omega)) (nm_r (nI_1 k) (ih (k + 1) _ (by omega) (fun x hx => ?_)))⟩))
    · by_cases e : x = k
      · rw [e, if_pos z]
        exact pk_us
      · rw [pk_un e]
        exact h1 x (by omega)
    · by_cases e : x = k
      · rw [e, if_neg z]
        exact pk_us
      · rw [pk_un e]
        exact h1 x (by omega)
theorem tm_findPart {post : St2 → Prop} (h : tm_fr n m c s G cd bf ls ln N a1 a2 a4 a5 a6 a7 a8) (hkd : kd ≤ 2) (hst : st < s)
    (H : ∀ b9 b10 b11 b12 : Nat → Int32, (∀ x, x < s → (tm_sim (tm_E c kd N) st x → b9 x = nI st) ∧ (¬ tm_sim (tm_E c kd N) st x → b9 x = a9 x)) → post (fn, fm, nI c, nI s, fcur, a1, a2, a3, a4, a5, a6, a7, a8, b9, b10, b11, b12)) :
    wpX_findPart post (fn, fm, nI c, nI s, fcur, a1, a2, a3, a4, a5, a6, a7, a8, a9, a10, a11, a12) (nI kd) (nI st) := by
  obtain ⟨hs, hm, _, hc, hsm⟩ := tm_fr_m h
  unfold wpX_findPart
  dsimp only
  refine tm_spread h hkd hst rfl (fun b10 b12 hb hr => ⟨s + 1, tm_f9 hs hst (fun b11 hb11 => ⟨256 + 1, tm_44 h hkd hb (fun d11 g1 g2 => ⟨s + 1, tm_112 hs hb g1.1 (fun b9 hb9 => H b9 b10 d11 b12 (fun x hx => ?_)) s 0 a9 (by omega) (fun x hx => absurd hx (by omega)) (fun _ _ => rfl)⟩) 256 0 1 b11 (by omega) (tm_rg_le (tm_rg_0 hst hb11)) (Or.inr ⟨rfl, tm_rg_0 hst hb11⟩)⟩) s 0 a11 (by omega) (fun x hx => absurd hx (by omega))⟩)
  have q := tm_shut_end g2 g1 hc hst (fun x k hx hk => (tm_fr_N h hx hk).1) hr hx
  obtain ⟨p1, p2⟩ := hb9 x hx
  exact ⟨fun z => p1 (q.mpr z), fun z => p2 (fun w => z (q.mp w))⟩
theorem tm_c42 {post : Int32 → St2 → Prop} (h : tm_fr n m c s G cd bf ls ln N a1 a2 a4 a5 a6 a7 a8) (hkd : kd ≤ 2)
    (H : ∀ b9 b10 b11 b12 : Nat → Int32, post (nI (tm_cnt (tm_new (tm_E c kd N)) s)) (fn, fm, nI c, nI s, fcur, a1, a2, a3, a4, a5, a6, a7, a8, b9, b10, b11, b12)) :
    ∀ (j i : Nat) (a9 a10 a11 a12 : Nat → Int32), i + j = s → (∀ x, x < s → (a9 x = -1 ↔ ∀ b, b < i → ¬ tm_sim (tm_E c kd N) b x)) →
      wX_classes_42 post (nI kd) (j + 1) (nI (tm_cnt (tm_new (tm_E c kd N)) i)) (nI i) fn fm (nI c) (nI s) fcur a1 a2 a3 a4 a5 a6 a7 a8 a9 a10 a11 a12 := by
  obtain ⟨hs, hm, _, hc, hsm⟩ := tm_fr_m h
  intro j
  induction j with
  | zero =>
    intro i a9 a10 a11 a12 hi h1
    have e : i = s := by omega
    subst e
    exact pk_le i i (fun _ => H a9 a10 a11 a12) (fun z => absurd z (by omega))
  | succ j ih =>
    intro i a9 a10 a11 a12 hi h1
    refine pk_le s i (fun z => absurd z (by omega)) (fun _ => ⟨pk_in i 256 (by omega), ?_⟩)
    have hi1 := h1 i (by omega)
    by_cases z : a9 i = -1
    · have q := tm_cnt_y (P := tm_new (tm_E c kd N)) (k := i) (hi1.mp z)
      refine br_t (by rw [nI_clamp (by omega)]; exact z) (tm_findPart h hkd (by omega) (fun b9 b10 b11 b12 hb => nm_r (e' := nI (tm_cnt (tm_new (tm_E c kd N)) (i + 1))) (by rw [q, nI_1]) (nm_r (nI_1 i) (ih (i + 1) b9 b10 b11 b12 (by omega) (fun x hx => ?_)))))
      obtain ⟨p1, p2⟩ := hb x hx
      by_cases y : tm_sim (tm_E c kd N) i x
      · rw [p1 y]
        exact ⟨fun w => absurd w (tm_ne (by omega)), fun w => absurd y (w i (by omega))⟩
      · rw [p2 y, h1 x hx]
        refine ⟨fun w b hb' => ?_, fun w b hb' => w b (by omega)⟩
        by_cases e : b = i
        · rw [e]
          exact y
        · exact w b (by omega)
    · have q := tm_cnt_n (P := tm_new (tm_E c kd N)) (k := i) (fun w => z (hi1.mpr w))
      have i' := ih (i + 1) a9 a10 a11 a12 (by omega) (fun x hx => by
        rw [h1 x hx]
        refine ⟨fun w b hb' => ?_, fun w b hb' => w b (by omega)⟩
        by_cases e : b = i
        · intro y
          rw [e] at y
          exact z (hi1.mpr (fun b0 hb0 y0 => w b0 hb0 (tm_sim_t y0 y)))
        · exact w b (by omega))
      rw [q] at i'
      exact br_f (by rw [nI_clamp (by omega)]; exact z) (nm_r (nI_1 i) i')
theorem tm_c17 {post : Int32 → St2 → Prop} (hs : s ≤ 256)
    (H : ∀ b9 : Nat → Int32, (∀ x, x < s → b9 x = -1) → ∃ fu, wX_classes_42 post (nI kd) fu 0 0 fn fm fc (nI s) fcur a1 a2 a3 a4 a5 a6 a7 a8 b9 a10 a11 a12) :
    ∀ (j k : Nat) (a9 : Nat → Int32), k + j = s → (∀ x, x < k → a9 x = -1) →
      wX_classes_17 post (nI kd) fn fm fc (nI s) fcur (j + 1) (nI k) a1 a2 a3 a4 a5 a6 a7 a8 a9 a10 a11 a12 := by
  intro j
  induction j with
  | zero =>
    intro k a9 hk h1
    have e : k = s := by omega
    subst e
    exact pk_le k k (fun _ => H a9 h1) (fun z => absurd z (by omega))
  | succ j ih =>
    intro k a9 hk h1
    refine pk_le s k (fun z => absurd z (by omega)) (fun _ => ⟨pk_in k 256 (by omega), nm_r (tm_uc (by omega)) (nm_r (nI_1 k) (ih (k + 1) _ (by omega) (fun x hx => ?_)))⟩)
    by_cases e : x = k
    · rw [e]
      exact pk_us
    · rw [pk_un e]
      exact h1 x (by omega)
theorem tm_classes {post : Int32 → St2 → Prop} (h : tm_fr n m c s G cd bf ls ln N a1 a2 a4 a5 a6 a7 a8) (hkd : kd ≤ 2)
    (H : ∀ b9 b10 b11 b12 : Nat → Int32, post (nI (tm_cnt (tm_new (tm_E c kd N)) s)) (nI n, nI m, nI c, nI s, 1, a1, a2, a3, a4, a5, a6, a7, a8, b9, b10, b11, b12)) :
    wpX_classes post (nI n, nI m, nI c, nI s, 1, a1, a2, a3, a4, a5, a6, a7, a8, a9, a10, a11, a12) (nI kd) := by
  obtain ⟨hs, hm, _, hc, hsm⟩ := tm_fr_m h
  refine br_f (nI_pos (by omega)) (br_t (nI_le (b := 2) hkd (by decide)) (tm_refresh1 ⟨s + 1, tm_c17 hs (fun b9 hb => ⟨s + 1, tm_c42 h hkd H s 0 b9 a10 a11 a12 (by omega) (fun x hx => ⟨fun _ b z => absurd z (by omega), fun _ => hb x hx⟩)⟩) s 0 a9 (by omega) (fun x hx => absurd hx (by omega))⟩))
end
end
section
/-! Int32 by its bits (rows of the kit's BITS.to-paste, renamed), then the law's packed generators -/
def tm_bt (x : Int32) (i : Nat) : Bool := x.toBitVec.getLsbD i
theorem tm_bext {x y : Int32} (h : ∀ i, i < 32 → tm_bt x i = tm_bt y i) : x = y := Int32.toBitVec_inj.mp (BitVec.eq_of_getLsbD_eq (fun i hi => h i hi))
theorem tm_bor (x y : Int32) (i : Nat) : tm_bt (x ||| y) i = (tm_bt x i || tm_bt y i) := by unfold tm_bt; rw [Int32.toBitVec_or, BitVec.getLsbD_or]
theorem tm_band (x y : Int32) (i : Nat) : tm_bt (x &&& y) i = (tm_bt x i && tm_bt y i) := by unfold tm_bt; rw [Int32.toBitVec_and, BitVec.getLsbD_and]
theorem tm_bxor (x y : Int32) (i : Nat) : tm_bt (x ^^^ y) i = (tm_bt x i ^^ tm_bt y i) := by unfold tm_bt; rw [Int32.toBitVec_xor, BitVec.getLsbD_xor]
theorem tm_bbig {x : Int32} {i : Nat} (h : 32 ≤ i) : tm_bt x i = false := BitVec.getLsbD_of_ge _ _ h
theorem tm_b255 (i : Nat) : tm_bt 255 i = decide (i < 8) := by
  rcases Nat.lt_or_ge i 32 with h | h
  · exact (by decide +kernel : ∀ i, i < 32 → tm_bt 255 i = decide (i < 8)) i h
  · rw [tm_bbig h, decide_eq_false (by omega)]
theorem tm_bm1 : ∀ i, i < 32 → tm_bt (-1) i = true := by decide +kernel
theorem tm_bsl : ∀ n, n < 32 → ((nI n &&& 31).toBitVec.smod 32).toNat = n := by decide +kernel
theorem tm_bshl (n : Nat) (hn : n < 32) (x : Int32) {i : Nat} (hi : i < 32) : tm_bt (x <<< (nI n &&& 31)) i = (decide (n ≤ i) && tm_bt x (i - n)) := by
  unfold tm_bt
  rw [Int32.toBitVec_shiftLeft]
  show (x.toBitVec <<< ((nI n &&& 31).toBitVec.smod 32).toNat).getLsbD i = _
  rw [tm_bsl n hn, BitVec.getLsbD_shiftLeft]
  rcases Nat.lt_or_ge i n with h | h
  · simp [h, Nat.not_le.mpr h]
  · simp [hi, h, Nat.not_lt.mpr h]
theorem tm_bsshr (n : Nat) (hn : n < 32) (x : Int32) {i : Nat} (hi : i < 32) : tm_bt (x >>> (nI n &&& 31)) i = if n + i < 32 then tm_bt x (n + i) else tm_bt x 31 := by
  unfold tm_bt
  rw [Int32.toBitVec_shiftRight]
  show (x.toBitVec.sshiftRight ((nI n &&& 31).toBitVec.smod 32).toNat).getLsbD i = _
  rw [tm_bsl n hn, BitVec.getLsbD_sshiftRight, BitVec.msb_eq_getLsbD_last]
  simp [hi]
/-- byte j of x -/
def tm_by (x : Int32) (j : Nat) : Int32 := (x >>> ((8 * nI j) &&& 31)) &&& 255
theorem tm_by_bt (x : Int32) {j i : Nat} (hj : j < 4) (hi : i < 32) : tm_bt (tm_by x j) i = (tm_bt x (8 * j + i) && decide (i < 8)) := by
  unfold tm_by
  rw [show (8 : Int32) * nI j = nI (8 * j) from pk_mul 8 j, tm_band, tm_b255, tm_bsshr (8 * j) (by omega) x hi]
  by_cases h : i < 8
  · rw [if_pos (by omega)]
  · rw [decide_eq_false h, Bool.and_false, Bool.and_false]
theorem tm_small {k : Nat} (hk : k < 256) (i : Nat) : tm_bt (nI k) i = (tm_bt (nI k) i && decide (i < 8)) := by
  have e : nI k &&& 255 = nI k := by
    rw [pk_andN (by omega) 8 (by decide)]
    exact congrArg nI (by omega)
  have q := tm_band (nI k) 255 i
  rw [e, tm_b255] at q
  exact q
theorem tm_put_bt (x : Int32) {c k q : Nat} (hc : c < 4) (hk : k < 256) (hq : q < 32) :
    tm_bt ((x &&& (((255 : Int32) <<< ((8 * nI c) &&& 31)) ^^^ (-1))) ||| (nI k <<< ((8 * nI c) &&& 31))) q = if 8 * c ≤ q ∧ q < 8 * c + 8 then tm_bt (nI k) (q - 8 * c) else tm_bt x q := by
  rw [show (8 : Int32) * nI c = nI (8 * c) from pk_mul 8 c, tm_bor, tm_band, tm_bxor, tm_bshl (8 * c) (by omega) _ hq, tm_bshl (8 * c) (by omega) _ hq, tm_b255, tm_bm1 q hq, tm_small hk (q - 8 * c)]
  by_cases h1 : 8 * c ≤ q
  · by_cases h2 : q < 8 * c + 8
    · rw [if_pos ⟨h1, h2⟩, decide_eq_true h1, decide_eq_true (show q - 8 * c < 8 by omega)]
      simp
    · rw [if_neg (fun z => h2 z.2), decide_eq_true h1, decide_eq_false (show ¬ q - 8 * c < 8 by omega)]
      simp
  · rw [if_neg (fun z => h1 z.1), decide_eq_false h1]
    simp
theorem tm_by_put (x : Int32) {c k j : Nat} (hc : c < 4) (hk : k < 256) (hj : j < 4) :
    tm_by ((x &&& (((255 : Int32) <<< ((8 * nI c) &&& 31)) ^^^ (-1))) ||| (nI k <<< ((8 * nI c) &&& 31))) j = if j = c then nI k else tm_by x j := by
  apply tm_bext
  intro i hi
  rw [tm_by_bt _ hj hi]
  by_cases h8 : i < 8
  · rw [tm_put_bt x hc hk (show 8 * j + i < 32 by omega)]
    by_cases e : j = c
    · rw [if_pos e, if_pos (by omega), show 8 * j + i - 8 * c = i by omega, ← tm_small hk]
    · rw [if_neg e, if_neg (by omega), tm_by_bt x hj hi]
  · rw [decide_eq_false h8, Bool.and_false]
    by_cases e : j = c
    · rw [if_pos e, tm_small hk, decide_eq_false h8, Bool.and_false]
    · rw [if_neg e, tm_by_bt x hj hi, decide_eq_false h8, Bool.and_false]
end
section
section
variable {fn fm fc fs fcur : Int32} {a1 a2 a3 a4 a5 a6 a7 a8 a9 a10 a11 a12 : Nat → Int32} {n m c s : Nat} {G cd bf ls ln : Nat → Nat} {N : Nat → Nat → Nat} {post : Int32 → St2 → Prop}
theorem tm_product2 {post : Int32 → Prop} (hnm : tm_nm n m) {f g : Nat} {y : Int32} (hf : f < m) (hg : g < m) (ey : y = nI g) (h : post (nI (tm_C n f g))) :
    wpX_product post (nI n, nI m, fc, fs, fcur, a1, a2, a3, a4, a5, a6, a7, a8, a9, a10, a11, a12) (nI f) y := by
  subst ey
  exact tm_product hnm hf hg h
theorem tm_element2 (h : tm_fr n m c s G cd bf ls ln N a1 a2 a4 a5 a6 a7 a8) {i : Nat} {y : Int32} (hi : i < s) (ey : y = nI i)
    (H1 : ∀ x, x < s → post (nI (cd x)) (nI n, nI m, nI c, nI s, 1, a1, a2, a3, a4, a5, a6, a7, a8, a9, a10, a11, a12)) :
    wpX_element post (nI n, nI m, nI c, nI s, 1, a1, a2, a3, a4, a5, a6, a7, a8, a9, a10, a11, a12) y := by
  subst ey
  exact tm_element h (by omega) (fun _ => H1) (fun z => absurd z (by omega))
theorem tm_unit {post : Int32 → Prop} (hnm : tm_nm n m) (h : post (nI (tm_e n))) : wpL_unit post () (nI n) := by
  rcases hnm with ⟨rfl, rfl⟩ | ⟨rfl, rfl⟩ | ⟨rfl, rfl⟩
  · exact br_t rfl h
  · exact br_f (by decide) (br_t rfl h)
  · exact br_f (by decide) (br_f (by decide) h)
theorem tm_it_0 (h : tm_fr n m c s G cd bf ls ln N a1 a2 a4 a5 a6 a7 a8) {x : Nat} (hx : x < s) : tm_it bf (ln x) x = 0 := by
  obtain ⟨h1, h2⟩ := tm_fr_it h (ln x) x hx (Nat.le_refl _)
  rcases Nat.eq_zero_or_pos (tm_it bf (ln x) x) with e | e
  · exact e
  · obtain ⟨q1, q2, q3, q4, q5, q6, q7⟩ := tm_fr_b h h1 e
    omega
theorem tm_h77 {x2 x3 x4 x5 x6 : Int32} {i x : Nat} {J35 : Int32 → Int32 → Int32 → Int32 → Int32 → Int32 → (Nat → Int32) → (Nat → Int32) → (Nat → Int32) → (Nat → Int32) → (Nat → Int32) → (Nat → Int32) → (Nat → Int32) → (Nat → Int32) → (Nat → Int32) → (Nat → Int32) → (Nat → Int32) → (Nat → Int32) → Prop}
    (h : tm_fr n m c s G cd bf ls ln N a1 a2 a4 a5 a6 a7 a8) (hx : x < s) (hg : ∀ j, j < c → tm_by x2 j = nI (G j))
    (hJ : J35 (nI (i + 1)) (nI n) (nI m) (nI c) (nI s) 1 a1 a2 a3 a4 a5 a6 a7 a8 a9 a10 a11 a12) :
    ∀ j k : Nat, k + j = ln x → wL_holds_77 post J35 x2 x3 x4 x5 x6 (nI i) (nI (cd x)) (nI (ln x)) (j + 1) (nI (cd (tm_it bf (ln x - k) x))) (nI k) (nI n) (nI m) (nI c) (nI s) 1 a1 a2 a3 a4 a5 a6 a7 a8 a9 a10 a11 a12 := by
  obtain ⟨hs, hm, _, hc, hsm⟩ := tm_fr_m h
  obtain ⟨hl1, hl2⟩ := tm_fr_l h hx
  intro j
  induction j with
  | zero =>
    intro k hk
    exact pk_le (ln x) k (fun _ => br_t (by rw [show ln x - k = 0 by omega]; rfl) (nm_r (nI_1 i) hJ)) (fun z => absurd z (by omega))
  | succ j ih =>
    intro k hk
    obtain ⟨i1, i2⟩ := tm_fr_it h (ln x - (k + 1)) x hx (by omega)
    obtain ⟨y1, y2⟩ := tm_fr_it h (ln x - k) x hx (by omega)
    have h0 := tm_fr_ln0 h
    have hpos : 0 < tm_it bf (ln x - (k + 1)) x := by
      rcases Nat.eq_zero_or_pos (tm_it bf (ln x - (k + 1)) x) with e | e
      · rw [e, h0] at i2
        omega
      · exact e
    obtain ⟨q1, q2, q3, q4, q5, q6, q7⟩ := tm_fr_b h i1 hpos
    have e1 : tm_it bf (ln x - k) x = bf (tm_it bf (ln x - (k + 1)) x) := by
      rw [show ln x - k = (ln x - (k + 1)) + 1 by omega]
      exact tm_it_s bf _ x
    rw [← e1] at q6
    have i' := ih (k + 1) (by omega)
    rw [q6] at i'
    exact pk_le (ln x) k (fun z => absurd z (by omega)) (fun z => tm_letter h hx z (tm_product2 h.1 (tm_fr_c h y1).1 (tm_fr_G h q2).2 (hg _ q2) (nm_r (nI_1 k) i')))
theorem tm_all (h : tm_fr n m c s G cd bf ls ln N a1 a2 a4 a5 a6 a7 a8) : ∀ x, x < s → tm_rch (tm_E c 2 N) 0 x := by
  intro x
  induction x using Nat.strongRecOn with
  | ind x ih =>
    intro hx
    rcases Nat.eq_zero_or_pos x with e | e
    · rw [e]
      exact tm_rch_0
    · obtain ⟨q1, q2, q3, q4, q5, q6, q7⟩ := tm_fr_b h hx e
      exact tm_rch_s (ih (bf x) q1 (by omega)) ⟨2 * ls x, by omega, Or.inl rfl, q7⟩
theorem tm_260 (h : tm_fr n m c s G cd bf ls ln N a1 a2 a4 a5 a6 a7 a8)
    (H : post 1 (nI n, nI m, nI c, nI s, 1, a1, a2, a3, a4, a5, a6, a7, a8, a9, a10, a11, a12)) :
    wL_holds_260 post (nI s) (nI n) (nI m) (nI c) (nI s) 1 a1 a2 a3 a4 a5 a6 a7 a8 a9 a10 a11 a12 := by
  unfold wL_holds_260
  exact tm_element h (Nat.le_refl s) (fun z => absurd z (by omega)) (fun _ => br_t rfl H)
theorem tm_245 {x y : Nat} (h : tm_fr n m c s G cd bf ls ln N a1 a2 a4 a5 a6 a7 a8) (hx : x < s) (hy : y < s) (hxy : tm_sim (tm_E c 2 N) x y)
    (H : ∀ b9 b10 b11 b12 : Nat → Int32, post 1 (nI n, nI m, nI c, nI s, 1, a1, a2, a3, a4, a5, a6, a7, a8, b9, b10, b11, b12)) :
    wL_holds_245 post (nI s) (nI (cd x)) (nI (cd y)) (nI n) (nI m) (nI c) (nI s) 1 a1 a2 a3 a4 a5 a6 a7 a8 a9 a10 a11 a12 := by
  unfold wL_holds_245
  exact tm_alike (kd := 2) h (by omega) hx hy (fun r b10 b12 hr => br_t (hr.mpr hxy) (tm_260 h (H _ _ _ _)))
theorem tm_h35 {x2 : Int32} {look other : Nat} (h : tm_fr n m c s G cd bf ls ln N a1 a2 a4 a5 a6 a7 a8) (hg : ∀ j, j < c → tm_by x2 j = nI (G j)) (hlook : look < 256) (hother : other < 256)
    (H : ∀ b9 b10 b11 b12 : Nat → Int32, post 1 (nI n, nI m, nI c, nI s, 1, a1, a2, a3, a4, a5, a6, a7, a8, b9, b10, b11, b12)) :
    ∀ (j i : Nat) (a9 a10 a11 a12 : Nat → Int32), i + j = s →
      wL_holds_35 post x2 (nI look) (nI other) (nI s) (nI (tm_e n)) (j + 1) (nI i) (nI n) (nI m) (nI c) (nI s) 1 a1 a2 a3 a4 a5 a6 a7 a8 a9 a10 a11 a12 := by
  obtain ⟨hs, hm, hs1, hc, hsm⟩ := tm_fr_m h
  have cn : ∀ kd, tm_cnt (tm_new (tm_E c 2 N)) s ≤ tm_cnt (tm_new (tm_E c kd N)) s := fun kd => tm_cnt_mono s (fun x _ z => tm_new_m tm_E2 z)
  have cb : ∀ kd, tm_cnt (tm_new (tm_E c kd N)) s < 2 ^ 31 := fun kd => Nat.lt_of_le_of_lt (tm_cnt_le _ _) (by omega)
  have rn : ∀ kd x, tm_cnt (fun z => tm_rch (tm_E c kd N) x z) s ≤ tm_cnt (fun z => tm_rch (tm_E c 2 N) x z) s := fun kd x => tm_cnt_mono s (fun z _ r => tm_rch_m tm_E2 r)
  have rb : ∀ kd x, tm_cnt (fun z => tm_rch (tm_E c kd N) x z) s < 2 ^ 31 := fun kd x => Nat.lt_of_le_of_lt (tm_cnt_le _ _) (by omega)
  intro j
  induction j with
  | zero =>
    intro i a9 a10 a11 a12 hi
    refine pk_le s i (fun _ => ?_) (fun z => absurd z (by omega))
    refine tm_classes (kd := 2) h (by omega) (fun b9 b10 b11 b12 => tm_classes (kd := 0) h (by omega) (fun d9 d10 d11 d12 => br_f (nI_nlt (cn 0) (cb 0)) ?_))
    refine tm_classes (kd := 2) h (by omega) (fun b9 b10 b11 b12 => tm_classes (kd := 1) h (by omega) (fun d9 d10 d11 d12 => br_t (nI_le (cn 1) (cb 1)) ⟨nI_ne0 (by omega) (by omega), ?_⟩))
    refine tm_element2 h (i := look % s) (Nat.mod_lt _ (by omega)) (pk_rem (by omega) (by omega) (by omega)) (fun x hx => ⟨nI_ne0 (by omega) (by omega), ?_⟩)
    refine tm_element2 h (i := other % s) (Nat.mod_lt _ (by omega)) (pk_rem (by omega) (by omega) (by omega)) (fun y hy => ?_)
    refine tm_ideal (kd := 2) h (by omega) hx (fun e10 e12 => tm_ideal (kd := 0) h (by omega) hx (fun f10 f12 => br_f (nI_nlt (rn 0 x) (rb 2 x)) ?_))
    refine tm_ideal (kd := 2) h (by omega) hx (fun e10 e12 => tm_ideal (kd := 1) h (by omega) hx (fun f10 f12 => br_t (nI_le (rn 1 x) (rb 2 x)) ?_))
    refine tm_alike (kd := 0) h (by omega) hx hy (fun r p10 p12 hr => br_c (fun z => tm_245 h hx hy (tm_sim_m tm_E2 (hr.mp z)) H) (fun _ => ?_))
    exact tm_alike (kd := 1) h (by omega) hx hy (fun r2 q10 q12 hr2 => br_c (fun z => tm_245 h hx hy (tm_sim_m tm_E2 (hr2.mp z)) H) (fun _ => tm_260 h (H _ _ _ _)))
  | succ j ih =>
    intro i a9 a10 a11 a12 hi
    refine pk_le s i (fun z => absurd z (by omega)) (fun z => tm_element2 h z rfl (fun x hx => tm_length h hx ?_))
    obtain ⟨hc1, hc2⟩ := tm_fr_c h hx
    obtain ⟨hl1, hl2⟩ := tm_fr_l h hx
    have w := tm_h77 (post := post) (x2 := x2) (x3 := nI look) (x4 := nI other) (x5 := nI s) (x6 := nI (tm_e n)) (a9 := a9) (a10 := a10) (a11 := a11) (a12 := a12) h hx hg (ih (i + 1) a9 a10 a11 a12 (by omega)) (ln x) 0 (by omega)
    rw [Nat.sub_zero, tm_it_0 h hx, tm_fr_cd0 h] at w
    exact br_f (nI_pos (by omega)) (br_t (nI_pos' (by omega)) ⟨_, w⟩)
theorem tm_holds {x2 p3 p4 : Int32} {look other : Nat} (h : tm_iv n m c G fs fcur a1 a2 a4 a5 a6 a7 a8) (hg : ∀ j, j < c → tm_by x2 j = nI (G j)) (hlook : look < 256) (hother : other < 256) (e3 : p3 = nI look) (e4 : p4 = nI other)
    (H : ∀ s b2 b3 b4 b5 b6 b7 b8 b9 b10 b11 b12, (∃ cd bf ls ln N, tm_fr n m c s G cd bf ls ln N a1 b2 b4 b5 b6 b7 b8) → post 1 (nI n, nI m, nI c, nI s, 1, a1, b2, b3, b4, b5, b6, b7, b8, b9, b10, b11, b12)) :
    wpL_holds post (nI n, nI m, nI c, fs, fcur, a1, a2, a3, a4, a5, a6, a7, a8, a9, a10, a11, a12) (nI n) x2 p3 p4 := by
  subst e3 e4
  unfold wpL_holds
  dsimp only
  refine tm_size h (fun s b2 b3 b4 b5 b6 b7 b8 hf => ?_)
  obtain ⟨cd, bf, ls, ln, N, hf⟩ := hf
  obtain ⟨hs, hm, hs1, hc, hsm⟩ := tm_fr_m hf
  refine tm_unit h.1 (br_f (nI_nlt (b := 1) hs1 (by omega)) ?_)
  have e0 := tm_fr_cd0 hf
  rw [← e0]
  refine tm_ideal (kd := 2) hf (by omega) (by omega) (fun b10 b12 => br_t ?_ ⟨s + 1, ?_⟩)
  · exact congrArg nI (tm_cnt_all s (tm_all hf))
  · rw [e0]
    exact tm_h35 hf hg hlook hother (fun d9 d10 d11 d12 => H s b2 b3 b4 b5 b6 b7 b8 d9 d10 d11 d12 ⟨cd, bf, ls, ln, N, hf⟩) s 0 _ _ _ _ (by omega)
end
end
section
section
variable {fn fm fc fs fcur : Int32} {a1 a2 a3 a4 a5 a6 a7 a8 a9 a10 a11 a12 : Nat → Int32} {n m c : Nat} {G : Nat → Nat} {post : Int32 → Prop} {L : Nat} {xs : Nat → Int32}
theorem tm_cell {k : Nat} (hL : L ≤ 260) (hk : k ≤ 260) (H : ∀ v, post v) : wpL_cell post L xs () (nI k) :=
  pk_le L k (fun _ => H _) (fun z => ⟨pk_in k L z, H _⟩)
theorem tm_147 {J51 : Int32 → Int32 → Int32 → Int32 → Int32 → Int32 → Int32 → (Nat → Int32) → (Nat → Int32) → (Nat → Int32) → (Nat → Int32) → (Nat → Int32) → (Nat → Int32) → (Nat → Int32) → (Nat → Int32) → (Nat → Int32) → (Nat → Int32) → (Nat → Int32) → (Nat → Int32) → Prop}
    {x2 x4 x7 : Int32} {k kc ks : Nat} (h : tm_iv n m c G fs fcur a1 a2 a4 a5 a6 a7 a8) (hg : ∀ j, j < c → tm_by x4 j = nI (G j))
    (hJ : ∀ fs fcur a2 a3 a4 a5 a6 a7 a8 a9 a10 a11 a12, tm_iv n m c G fs fcur a1 a2 a4 a5 a6 a7 a8 → J51 x4 (nI (k + 2)) (nI n) (nI m) (nI c) fs fcur a1 a2 a3 a4 a5 a6 a7 a8 a9 a10 a11 a12) :
    wL_law_147 post L xs J51 (nI n) x2 x4 (nI k) x7 kc ks (nI n) (nI m) (nI c) fs fcur a1 a2 a3 a4 a5 a6 a7 a8 a9 a10 a11 a12 := by
  have e2 : nI k + 2 = nI (k + 2) := nI_add k 2
  obtain ⟨look, hlook, e3⟩ := pk_andE (x7 >>> ((18 : Int32) &&& 31)) (m := 255) 8 (by decide)
  obtain ⟨other, hother, e4⟩ := pk_andE (x7 >>> ((23 : Int32) &&& 31)) (m := 255) 8 (by decide)
  refine br_c (fun _ => tm_holds h hg hlook hother e3 e4 (fun s b2 b3 b4 b5 b6 b7 b8 b9 b10 b11 b12 hf => br_f (by decide) (nm_r e2 (hJ _ _ _ _ _ _ _ _ _ _ _ _ _ ?_)))) (fun _ => nm_r e2 (hJ _ _ _ _ _ _ _ _ _ _ _ _ _ h))
  exact ⟨h.1, h.2.1, h.2.2.1, Or.inr ⟨rfl, s, rfl, hf⟩⟩
theorem tm_51 {kc ks : Nat} (hnm : tm_nm n m) (hL : L ≤ 260) (hp : post 1) :
    ∀ (j k c : Nat) (G : Nat → Nat) (x4 fs fcur : Int32) (a1 a2 a3 a4 a5 a6 a7 a8 a9 a10 a11 a12 : Nat → Int32), k + 2 * j = 31 → tm_iv n m c G fs fcur a1 a2 a4 a5 a6 a7 a8 → (∀ j, j < c → tm_by x4 j = nI (G j)) →
      wL_law_51 post L xs (nI n) (nI m) kc ks (j + 1) x4 (nI k) (nI n) (nI m) (nI c) fs fcur a1 a2 a3 a4 a5 a6 a7 a8 a9 a10 a11 a12 := by
  obtain ⟨hn2, hn4, hm4, hm⟩ := tm_nm_b hnm
  intro j
  induction j with
  | zero =>
    intro k c G x4 fs fcur a1 a2 a3 a4 a5 a6 a7 a8 a9 a10 a11 a12 hk h hg
    exact pk_le L k (fun _ => hp) (fun _ => pk_le 30 k (fun _ => hp) (fun z => absurd z (by omega)))
  | succ j ih =>
    intro k c G x4 fs fcur a1 a2 a3 a4 a5 a6 a7 a8 a9 a10 a11 a12 hk h hg
    have hc := h.2.1
    refine pk_le L k (fun _ => hp) (fun _ => pk_le 30 k (fun _ => hp) (fun z => tm_cell hL (by omega) (fun v => nm_e ?_)))
    show wpL_cell _ L xs () (nI k + 1)
    rw [nI_1]
    refine tm_cell hL (by omega) (fun d => ⟨nI_ne0 (by omega) (by omega), ?_⟩)
    obtain ⟨w, hw, ew⟩ := pk_andE d (m := 65535) 16 (by decide)
    rw [ew]
    refine nm_r (e' := nI (w % m)) (pk_rem (by omega) (by omega) (by omega)) ?_
    have hwm : w % m < m := Nat.mod_lt _ (by omega)
    refine br_c (fun _ => tm_drop hc ?_ (fun h0 r => ?_)) (fun _ => tm_generate hm hc hwm ?_ (fun h4 => ?_))
    · exact tm_147 h hg (fun fs fcur a2 a3 a4 a5 a6 a7 a8 a9 a10 a11 a12 h' => ih (k + 2) c G x4 fs fcur a1 a2 a3 a4 a5 a6 a7 a8 a9 a10 a11 a12 (by omega) h' hg)
    · have h' : tm_iv n m (c - 1) G fs 0 a1 a2 a4 a5 a6 a7 a8 := ⟨hnm, by omega, fun j hj => h.2.2.1 j (by omega), Or.inl rfl⟩
      have hg' : ∀ j, j < c - 1 → tm_by x4 j = nI (G j) := fun j hj => hg j (by omega)
      exact tm_147 h' hg' (fun fs fcur a2 a3 a4 a5 a6 a7 a8 a9 a10 a11 a12 h' => ih (k + 2) (c - 1) G x4 fs fcur a1 a2 a3 a4 a5 a6 a7 a8 a9 a10 a11 a12 (by omega) h' hg')
    · exact br_t (by decide) (tm_147 h hg (fun fs fcur a2 a3 a4 a5 a6 a7 a8 a9 a10 a11 a12 h' => ih (k + 2) c G x4 fs fcur a1 a2 a3 a4 a5 a6 a7 a8 a9 a10 a11 a12 (by omega) h' hg))
    · have h' : tm_iv n m (c + 1) (fun j => if j = c then w % m else G j) fs 0 (upd a1 c (nI (w % m))) a2 a4 a5 a6 a7 a8 := by
        refine ⟨hnm, by omega, fun j hj => ?_, Or.inl rfl⟩
        dsimp only
        by_cases e : j = c
        · rw [e, if_pos rfl]
          exact ⟨pk_us, hwm⟩
        · rw [pk_un e, if_neg e]
          exact h.2.2.1 j (by omega)
      have hg' : ∀ j, j < c + 1 → tm_by ((x4 &&& (((255 : Int32) <<< ((8 * nI c) &&& 31)) ^^^ (-1))) ||| (nI (w % m) <<< ((8 * nI c) &&& 31))) j = nI ((fun j => if j = c then w % m else G j) j) := by
        intro j hj
        rw [tm_by_put x4 h4 (by omega) (show j < 4 by omega)]
        show _ = nI (if j = c then w % m else G j)
        by_cases e : j = c
        · rw [if_pos e, if_pos e]
        · rw [if_neg e, if_neg e]
          exact hg j (by omega)
      exact br_f (nI_pos (by omega)) (nm_e (tm_147 h' hg' (fun fs fcur a2 a3 a4 a5 a6 a7 a8 a9 a10 a11 a12 h' => ih (k + 2) (c + 1) _ _ fs fcur _ a2 a3 a4 a5 a6 a7 a8 a9 a10 a11 a12 (by omega) h' hg')))
theorem tm_144 {post : St2 → Prop} {mc ms kc ks : Nat} (hn : n ≤ 4) (H : post (nI n, nI (n ^ n), fc, fs, fcur, a1, a2, a3, a4, a5, a6, a7, a8, a9, a10, a11, a12)) :
    ∀ j p : Nat, p + j = n → wX_init_144 post mc ms kc ks (nI n) fc fs fcur a1 a2 a3 a4 a5 a6 a7 a8 a9 a10 a11 a12 (j + 1) (nI p) (nI (n ^ p)) := by
  intro j
  induction j with
  | zero =>
    intro p hp
    have e : p = n := by omega
    subst e
    exact pk_le p p (fun _ => H) (fun z => absurd z (by omega))
  | succ j ih =>
    intro p hp
    exact pk_le n p (fun z => absurd z (by omega)) (fun _ => nm_r (e' := nI (n ^ (p + 1))) (by rw [pk_mul]; rfl) (nm_r (nI_1 p) (ih (p + 1) (by omega))))
theorem tm_init {post : St2 → Prop} (hn2 : 2 ≤ n) (hn : n ≤ 4) (H : post (nI n, nI (n ^ n), 0, 0, 0, (fun _ => 0), (fun _ => 0), (fun _ => 0), (fun _ => 0), (fun _ => 0), (fun _ => 0), (fun _ => 0), (fun _ => 0), (fun _ => 0), (fun _ => 0), (fun _ => 0), (fun _ => 0))) :
    wpX_init post 12 4356 (0, 0, 0, 0, 0) (nI n) := by
  refine ⟨by omega, by omega, by omega, by omega, by omega, by omega, by omega, by omega, by omega, by omega, by omega, by omega, by omega, by omega, by omega, by omega, by omega, by omega, by omega, by omega, by omega, by omega, by omega, by omega, ?_⟩
  exact br_t (nI_le (a := 2) hn2 (by omega)) (br_t (nI_le (b := 4) hn (by omega)) ⟨n + 1, tm_144 hn H n 0 (by omega)⟩)
theorem tm_35 (hnm : tm_nm n m) (hL : L ≤ 260) (hp : post 1) : wL_law_35 post L xs (nI n) (nI m) 0 0 := by
  obtain ⟨hn2, hn4, hm4, hm⟩ := tm_nm_b hnm
  refine ⟨by omega, by omega, 12, 4356, by omega, by omega, tm_init hn2 hn4 ⟨15 + 1, ?_⟩⟩
  have e : n ^ n = m := by
    rcases hnm with ⟨rfl, rfl⟩ | ⟨rfl, rfl⟩ | ⟨rfl, rfl⟩ <;> rfl
  rw [e]
  exact tm_51 hnm hL hp 15 1 0 (fun _ => 0) 0 0 0 _ _ _ _ _ _ _ _ _ _ _ _ (by omega) ⟨hnm, by omega, fun j hj => absurd hj (by omega), Or.inl rfl⟩ (fun j hj => absurd hj (by omega))
end
theorem i_vc (xs : Nat → Int32) (L : Nat) (hL : L ≤ 260) : wpL_law (fun r => r = 1) L xs := by
  refine tm_cell hL (k := 0) (by omega) (fun v => ⟨by decide, ?_⟩)
  obtain ⟨w, hw, ew⟩ := pk_andE v (m := 2147483647) 31 (by decide)
  rw [ew]
  have e : (2 : Int32) + (nI w - nI w / 3 * 3) = nI (2 + w % 3) := by
    rw [show nI w - nI w / (3 : Int32) * (3 : Int32) = nI (w % 3) from pk_rem (d := 3) (by omega) (by omega) (by omega)]
    exact nI_add 2 (w % 3)
  refine nm_r e ?_
  have h3 : w % 3 = 0 ∨ w % 3 = 1 ∨ w % 3 = 2 := by omega
  rcases h3 with z | z | z
  · rw [z]
    exact br_t rfl (tm_35 (n := 2) (m := 4) (Or.inl ⟨rfl, rfl⟩) hL rfl)
  · rw [z]
    exact br_f (by decide) (br_t rfl (tm_35 (n := 3) (m := 27) (Or.inr (Or.inl ⟨rfl, rfl⟩)) hL rfl))
  · rw [z]
    exact br_f (by decide) (br_f (by decide) (tm_35 (n := 4) (m := 256) (Or.inr (Or.inr ⟨rfl, rfl⟩)) hL rfl))
end
