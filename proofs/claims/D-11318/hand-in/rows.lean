section
/-! whole numbers as ints -/
def sr_z (x : Int) : Int32 := Int32.ofInt x
theorem sr_zn (n : Nat) : nI n = sr_z (n : Int) := (Int32.ofInt_eq_ofNat (n := n)).symm
theorem sr_za (a b : Int) : sr_z a + sr_z b = sr_z (a + b) := (Int32.ofInt_add a b).symm
theorem sr_zs (a b : Int) : sr_z a - sr_z b = sr_z (a - b) := (Int32.ofInt_sub a b).symm
theorem sr_zt {a : Int} (h : -1000 ≤ a) (h2 : a ≤ 1000) : (sr_z a).toInt = a := Int32.toInt_ofInt_of_le (by omega) (by omega)
theorem sr_zle {a b : Int} (ha : -1000 ≤ a) (ha' : a ≤ 1000) (hb : -1000 ≤ b) (hb' : b ≤ 1000) : sr_z a ≤ sr_z b ↔ a ≤ b := by
  rw [Int32.le_iff_toInt_le, sr_zt ha ha', sr_zt hb hb']
theorem sr_zlt {a b : Int} (ha : -1000 ≤ a) (ha' : a ≤ 1000) (hb : -1000 ≤ b) (hb' : b ≤ 1000) : sr_z a < sr_z b ↔ a < b := by
  rw [Int32.lt_iff_toInt_lt, sr_zt ha ha', sr_zt hb hb']
theorem sr_zeq {a b : Int} (ha : -1000 ≤ a) (ha' : a ≤ 1000) (hb : -1000 ≤ b) (hb' : b ≤ 1000) : sr_z a = sr_z b ↔ a = b := by
  rw [← Int32.toInt_inj, sr_zt ha ha', sr_zt hb hb']
theorem sr_blt {x y : Int32} {A B : Prop} (a b : Int) (f : a < b → A) (g : b ≤ a → B) (hx : x = sr_z a := by rfl) (hy : y = sr_z b := by rfl) (ha : -1000 ≤ a := by omega) (ha' : a ≤ 1000 := by omega) (hb : -1000 ≤ b := by omega) (hb' : b ≤ 1000 := by omega) : (x < y → A) ∧ (¬ x < y → B) := by
  subst hx hy
  rw [sr_zlt ha ha' hb hb']
  exact ⟨f, fun z => g (by omega)⟩
theorem sr_ble {x y : Int32} {A B : Prop} (a b : Int) (f : a ≤ b → A) (g : b < a → B) (hx : x = sr_z a := by rfl) (hy : y = sr_z b := by rfl) (ha : -1000 ≤ a := by omega) (ha' : a ≤ 1000 := by omega) (hb : -1000 ≤ b := by omega) (hb' : b ≤ 1000 := by omega) : (x ≤ y → A) ∧ (¬ x ≤ y → B) := by
  subst hx hy
  rw [sr_zle ha ha' hb hb']
  exact ⟨f, fun z => g (by omega)⟩
theorem sr_beq {x y : Int32} {A B : Prop} (a b : Int) (f : a = b → A) (g : a ≠ b → B) (hx : x = sr_z a := by rfl) (hy : y = sr_z b := by rfl) (ha : -1000 ≤ a := by omega) (ha' : a ≤ 1000 := by omega) (hb : -1000 ≤ b := by omega) (hb' : b ≤ 1000 := by omega) : (x = y → A) ∧ (¬ x = y → B) := by
  subst hx hy
  rw [sr_zeq ha ha' hb hb']
  exact ⟨f, g⟩
theorem sr_n10 : ¬ (10 : Int32) = 0 := by decide
theorem sr_n100 : ¬ (100 : Int32) = 0 := by decide
theorem sr_by : ∀ t, t < 128 → (nI t).toInt8.toInt32 = nI t := by decide +kernel
/-- the digits of a code -/
theorem sr_d0 {k : Nat} (h : k < 2 ^ 31) : nI k - nI k / 10 * 10 = nI (k % 10) := pk_rem (d := 10) h (by omega) (by omega)
theorem sr_d1 {k : Nat} (h : k < 2 ^ 31) : nI k / 10 - nI k / 10 / 10 * 10 = nI (k / 10 % 10) := by
  rw [show nI k / 10 = nI (k / 10) from pk_div (d := 10) h (by omega) (by omega)]
  exact pk_rem (d := 10) (by omega) (by omega) (by omega)
theorem sr_d2 {k : Nat} (h : k < 2 ^ 31) : nI k / 100 = nI (k / 100) := pk_div (d := 100) h (by omega) (by omega)
/-- three rows that are a shape of size at most nine -/
def sr_ok (x y z : Nat) : Prop := z ≤ y ∧ y ≤ x ∧ x + y + z ≤ 9
/-- a code that names a shape -/
def sr_gd (k : Nat) : Prop := sr_ok (k % 10) (k / 10 % 10) (k / 100)
theorem sr_gd_of {x y z : Nat} (h : sr_ok x y z) : sr_gd (x + 10 * y + 100 * z) ∧ (x + 10 * y + 100 * z) % 10 = x ∧ (x + 10 * y + 100 * z) / 10 % 10 = y ∧ (x + 10 * y + 100 * z) / 100 = z ∧ x + 10 * y + 100 * z < 1000 := by
  obtain ⟨h1, h2, h3⟩ := h
  have e0 : (x + 10 * y + 100 * z) % 10 = x := by omega
  have e1 : (x + 10 * y + 100 * z) / 10 % 10 = y := by omega
  have e2 : (x + 10 * y + 100 * z) / 100 = z := by omega
  refine ⟨?_, e0, e1, e2, by omega⟩
  show sr_ok _ _ _
  rw [e0, e1, e2]
  exact ⟨h1, h2, h3⟩
def sr_gb (k : Nat) : Bool := decide (k / 100 ≤ k / 10 % 10) && (decide (k / 10 % 10 ≤ k % 10) && decide (k % 10 + k / 10 % 10 + k / 100 ≤ 9))
theorem sr_gb_t {k : Nat} : sr_gb k = true ↔ sr_gd k := by
  show (decide (k / 100 ≤ k / 10 % 10) && (decide (k / 10 % 10 ≤ k % 10) && decide (k % 10 + k / 10 % 10 + k / 100 ≤ 9))) = true ↔ (k / 100 ≤ k / 10 % 10 ∧ k / 10 % 10 ≤ k % 10 ∧ k % 10 + k / 10 % 10 + k / 100 ≤ 9)
  rw [Bool.and_eq_true, Bool.and_eq_true, decide_eq_true_iff, decide_eq_true_iff, decide_eq_true_iff]
/-- how many shapes have a code below k -/
def sr_cn : Nat → Nat
  | 0 => 0
  | k + 1 => bif sr_gb k then sr_cn k + 1 else sr_cn k
theorem sr_cn_y {k : Nat} (h : sr_gd k) : sr_cn (k + 1) = sr_cn k + 1 := by
  show (bif sr_gb k then sr_cn k + 1 else sr_cn k) = sr_cn k + 1
  rw [sr_gb_t.mpr h]
  rfl
theorem sr_cn_n {k : Nat} (h : ¬ sr_gd k) : sr_cn (k + 1) = sr_cn k := by
  have e : sr_gb k = false := by
    cases g : sr_gb k
    · rfl
    · exact absurd (sr_gb_t.mp g) h
  show (bif sr_gb k then sr_cn k + 1 else sr_cn k) = sr_cn k
  rw [e]
  rfl
theorem sr_cn_le (k d : Nat) : sr_cn k ≤ sr_cn (k + d) := by
  induction d with
  | zero => exact Nat.le_refl _
  | succ d ih =>
    by_cases h : sr_gd (k + d)
    · have := sr_cn_y h
      show sr_cn k ≤ sr_cn (k + d + 1)
      omega
    · have := sr_cn_n h
      show sr_cn k ≤ sr_cn (k + d + 1)
      omega
theorem sr_cn_53 : sr_cn 1000 = 53 := by decide +kernel
theorem sr_cn_b {k : Nat} (h : k ≤ 1000) : sr_cn k ≤ 53 := by
  have := sr_cn_le k (1000 - k)
  rw [show k + (1000 - k) = 1000 by omega, sr_cn_53] at this
  exact this
theorem sr_cn_lt {k : Nat} (h : k < 1000) (g : sr_gd k) : sr_cn k < 53 := by
  have := sr_cn_b (k := k + 1) (by omega)
  rw [sr_cn_y g] at this
  omega
theorem sr_cn_mono {i k : Nat} (h : i < k) (g : sr_gd i) : sr_cn i < sr_cn k := by
  have := sr_cn_le (i + 1) (k - (i + 1))
  rw [show i + 1 + (k - (i + 1)) = k by omega, sr_cn_y g] at this
  omega
theorem sr_cn_ex (k : Nat) : ∀ j, j < sr_cn k → ∃ i, i < k ∧ sr_gd i ∧ sr_cn i = j := by
  induction k with
  | zero => intro j hj; exact absurd hj (Nat.not_lt_zero j)
  | succ k ih =>
    intro j hj
    by_cases g : sr_gd k
    · rw [sr_cn_y g] at hj
      by_cases e : j = sr_cn k
      · exact ⟨k, by omega, g, e.symm⟩
      · obtain ⟨i, h1, h2, h3⟩ := ih j (by omega)
        exact ⟨i, by omega, h2, h3⟩
    · rw [sr_cn_n g] at hj
      obtain ⟨i, h1, h2, h3⟩ := ih j hj
      exact ⟨i, by omega, h2, h3⟩
/-- the rows at place j are x, y, z -/
def sr_R (a1 a2 a3 : Nat → Int32) (j x y z : Nat) : Prop := a1 j = nI x ∧ a2 j = nI y ∧ a3 j = nI z
/-- the table holds every shape, once -/
def sr_T (c : Nat) (a1 a2 a3 : Nat → Int32) : Prop := c ≤ 60 ∧ (∀ j, j < c → ∃ x y z, sr_ok x y z ∧ sr_R a1 a2 a3 j x y z) ∧ (∀ x y z, sr_ok x y z → ∃ j, j < c ∧ sr_R a1 a2 a3 j x y z) ∧ (∀ i j, i < c → j < c → a1 i = a1 j → a2 i = a2 j → a3 i = a3 j → i = j)
/-- the table as it grows -/
def sr_I (k : Nat) (a1 a2 a3 : Nat → Int32) : Prop := ∀ i, i < k → sr_gd i → sr_R a1 a2 a3 (sr_cn i) (i % 10) (i / 10 % 10) (i / 100)
theorem sr_I_n {k : Nat} {a1 a2 a3 : Nat → Int32} (h : sr_I k a1 a2 a3) (g : ¬ sr_gd k) : sr_I (k + 1) a1 a2 a3 := by
  intro i hi gi
  by_cases e : i = k
  · exact absurd (e ▸ gi) g
  · exact h i (by omega) gi
theorem sr_I_y {k : Nat} {a1 a2 a3 : Nat → Int32} (h : sr_I k a1 a2 a3) : sr_I (k + 1) (upd a1 (sr_cn k) (nI (k % 10))) (upd a2 (sr_cn k) (nI (k / 10 % 10))) (upd a3 (sr_cn k) (nI (k / 100))) := by
  intro i hi gi
  by_cases e : i = k
  · subst e
    exact ⟨pk_us, pk_us, pk_us⟩
  · have l := sr_cn_mono (show i < k by omega) gi
    obtain ⟨e1, e2, e3⟩ := h i (by omega) gi
    exact ⟨by rw [pk_un (by omega)]; exact e1, by rw [pk_un (by omega)]; exact e2, by rw [pk_un (by omega)]; exact e3⟩
theorem sr_I_T {a1 a2 a3 : Nat → Int32} (h : sr_I 1000 a1 a2 a3) : sr_T 53 a1 a2 a3 := by
  have H : ∀ j, j < 53 → ∃ i, i < 1000 ∧ sr_gd i ∧ sr_cn i = j := fun j hj => sr_cn_ex 1000 j (by rw [sr_cn_53]; exact hj)
  refine ⟨by omega, fun j hj => ?_, fun x y z hx => ?_, fun i j hi hj e1 e2 e3 => ?_⟩
  · obtain ⟨i, h1, h2, h3⟩ := H j hj
    exact ⟨_, _, _, h2, h3 ▸ h i h1 h2⟩
  · obtain ⟨g, d0, d1, d2, l⟩ := sr_gd_of hx
    have r := h _ l g
    rw [d0, d1, d2] at r
    exact ⟨_, sr_cn_lt l g, r⟩
  · obtain ⟨k, h1, h2, h3⟩ := H i hi
    obtain ⟨k', h1', h2', h3'⟩ := H j hj
    obtain ⟨r1, r2, r3⟩ := h k h1 h2
    obtain ⟨r1', r2', r3'⟩ := h k' h1' h2'
    rw [h3] at r1 r2 r3
    rw [h3'] at r1' r2' r3'
    rw [r1, r1', nI_eq (by omega) (by omega)] at e1
    rw [r2, r2', nI_eq (by omega) (by omega)] at e2
    rw [r3, r3', nI_eq (by omega) (by omega)] at e3
    have : k = k' := by omega
    rw [← h3, ← h3', this]
end
section
/-! the constructor: it lays the table -/
theorem sr_init {post : St2 → Prop} {mc ms : Nat} (hm : 6 ≤ mc) (hs : 372 ≤ ms) (H : ∀ a1 a2 a3, sr_T 53 a1 a2 a3 → post (nI 53, a1, a2, a3, fun _ => 0, fun _ => 0, fun _ => 0)) : wpX_init post mc ms 0 := by
  unfold wpX_init
  refine ⟨by omega, by omega, by omega, by omega, by omega, by omega, by omega, by omega, by omega, by omega, by omega, by omega, ?_⟩
  refine pk_loop (fun n k (s : (Nat → Int32) × (Nat → Int32) × (Nat → Int32)) => wX_init_54 post mc ms 6 372 n (nI k) (nI (sr_cn k)) s.1 s.2.1 s.2.2 (fun _ => 0) (fun _ => 0) (fun _ => 0)) (fun k s => sr_I k s.1 s.2.1 s.2.2) 1000 0 ((fun _ => 0), (fun _ => 0), (fun _ => 0)) (by omega) (fun i hi => absurd hi (Nat.not_lt_zero i)) ?_ ?_
  · intro n s h
    refine pk_le 1000 1000 (fun _ => ?_) (fun z => absurd z (by omega))
    rw [sr_cn_53]
    exact H _ _ _ (sr_I_T h)
  · intro n k s hk h hw
    have hn : ¬ sr_gd k → wX_init_54 post mc ms 6 372 n (nI (k + 1)) (nI (sr_cn k)) s.1 s.2.1 s.2.2 (fun _ => 0) (fun _ => 0) (fun _ => 0) := by
      intro g
      have := hw s (sr_I_n h g)
      rw [sr_cn_n g] at this
      exact this
    have hy : sr_gd k → wX_init_54 post mc ms 6 372 n (nI (k + 1)) (nI (sr_cn k + 1)) (upd s.1 (sr_cn k) (nI (k % 10))) (upd s.2.1 (sr_cn k) (nI (k / 10 % 10))) (upd s.2.2 (sr_cn k) (nI (k / 100))) (fun _ => 0) (fun _ => 0) (fun _ => 0) := by
      intro g
      have := hw (upd s.1 (sr_cn k) (nI (k % 10)), upd s.2.1 (sr_cn k) (nI (k / 10 % 10)), upd s.2.2 (sr_cn k) (nI (k / 100))) (sr_I_y h)
      rw [sr_cn_y g] at this
      exact this
    refine pk_le 1000 k (fun z => absurd z (by omega)) (fun _ => ?_)
    refine ⟨sr_n10, nm_r (sr_d0 (by omega)) ⟨sr_n10, sr_n10, nm_r (sr_d1 (by omega)) ⟨sr_n100, nm_r (sr_d2 (by omega)) ?_⟩⟩⟩
    refine pk_lt (k % 10) (k / 10 % 10) (fun z => nm_r (nI_1 k) (hn (fun g => absurd g.2.1 (by omega)))) (fun z1 => ?_)
    refine pk_lt (k / 10 % 10) (k / 100) (fun z => nm_r (nI_1 k) (hn (fun g => absurd g.1 (by omega)))) (fun z2 => ?_)
    refine pk_lt 9 (k % 10 + k / 10 % 10 + k / 100) (fun z => nm_r (nI_1 k) (hn (fun g => absurd g.2.2 (by omega)))) (fun z3 => ?_) rfl (by rw [nI_add, nI_add])
    have g : sr_gd k := ⟨z2, z1, z3⟩
    have l := sr_cn_lt hk g
    refine ⟨pk_in (sr_cn k) 60 (by omega), ?_⟩
    rw [nI_clamp (show sr_cn k < 2 ^ 31 by omega), sr_by (k % 10) (by omega), sr_by (k / 10 % 10) (by omega), sr_by (k / 100) (by omega)]
    exact nm_e ⟨pk_in (sr_cn k) 60 (by omega), nm_e ⟨pk_in (sr_cn k) 60 (by omega), nm_e (nm_r (nI_1 _) (nm_r (nI_1 k) (hy g)))⟩⟩
end
section
/-! looking up a shape -/
theorem sr_find {post : Int32 → Prop} {c : Nat} {a1 a2 a3 a4 a5 a6 : Nat → Int32} {p0 p1 p2 : Int32} (hc : c ≤ 60)
    (h1 : ∀ j, j < c → a1 j = p0 → a2 j = p1 → a3 j = p2 → post (nI j))
    (h2 : (∀ j, j < c → ¬ (a1 j = p0 ∧ a2 j = p1 ∧ a3 j = p2)) → post (-1)) : wpX_find post (nI c, a1, a2, a3, a4, a5, a6) p0 p1 p2 := by
  unfold wpX_find
  refine pk_loop (σ := Unit) (fun n i _ => wX_find_3 post p0 p1 p2 (nI c) a1 a2 a3 a4 a5 a6 n (nI i)) (fun i _ => ∀ j, j < i → ¬ (a1 j = p0 ∧ a2 j = p1 ∧ a3 j = p2)) c 0 () (by omega) (fun j hj => absurd hj (Nat.not_lt_zero j)) ?_ ?_
  · intro n _ h
    exact pk_le c c (fun _ => h2 h) (fun z => absurd z (by omega))
  · intro n i _ hi h hw
    have hn : ¬ (a1 i = p0 ∧ a2 i = p1 ∧ a3 i = p2) → wX_find_3 post p0 p1 p2 (nI c) a1 a2 a3 a4 a5 a6 n (nI (i + 1)) := fun g => hw () (lt_s h g)
    have e : (nI i).toNatClampNeg = i := nI_clamp (by omega)
    refine pk_le c i (fun z => absurd z (by omega)) (fun _ => ⟨pk_in i 60 (by omega), ?_⟩)
    rw [e]
    refine br_c (fun g1 => ⟨pk_in i 60 (by omega), br_c (fun g2 => ⟨pk_in i 60 (by omega), br_c (fun g3 => h1 i hi g1 g2 g3) (fun g3 => nm_r (nI_1 i) (hn (fun t => g3 t.2.2)))⟩) (fun g2 => nm_r (nI_1 i) (hn (fun t => g2 t.2.1)))⟩) (fun g1 => nm_r (nI_1 i) (hn (fun t => g1 t.1)))
theorem sr_shapeOf {post : Int32 → Prop} {c : Nat} {a1 a2 a3 a4 a5 a6 : Nat → Int32} {x y z : Nat} (hT : sr_T c a1 a2 a3) (hx : sr_ok x y z)
    (h1 : ∀ j, j < c → sr_R a1 a2 a3 j x y z → post (nI j)) : wpX_shapeOf post (nI c, a1, a2, a3, a4, a5, a6) (nI (x + 10 * y + 100 * z)) := by
  obtain ⟨g, d0, d1, d2, l⟩ := sr_gd_of hx
  have l' : x + 10 * y + 100 * z < 2 ^ 31 := by omega
  unfold wpX_shapeOf
  refine br_f (nI_pos l') (pk_le (x + 10 * y + 100 * z) 999 (fun _ => ⟨sr_n10, sr_n10, sr_n10, sr_n100, ?_⟩) (fun t => absurd t (by omega)))
  rw [sr_d0 l', sr_d1 l', sr_d2 l', d0, d1, d2]
  refine sr_find hT.1 (fun j hj e1 e2 e3 => h1 j hj ⟨e1, e2, e3⟩) (fun h => ?_)
  obtain ⟨j, hj, e1, e2, e3⟩ := hT.2.2.1 x y z hx
  exact absurd ⟨e1, e2, e3⟩ (h j hj)
theorem sr_badE {post : Int32 → Prop} {u : St2} {e : Nat} (he : e < 2) (h : post 0) : wpX_badElement post u (nI e) := by
  obtain ⟨f, a1, a2, a3, a4, a5, a6⟩ := u
  exact br_f (nI_pos (by omega)) (pk_le e 1 (fun _ => h) (fun z => absurd z (by omega)))
theorem sr_ix (e s : Nat) : (60 * nI e + nI s : Int32) = nI (60 * e + s) := by
  rw [show (60 * nI e : Int32) = nI (60 * e) from pk_mul 60 e, nI_add]
theorem sr_size {post : Int32 → Prop} {c : Nat} {a1 a2 a3 a4 a5 a6 : Nat → Int32} {j x y z : Nat} (hj : j < 60) (hR : sr_R a1 a2 a3 j x y z) (h : post (nI (x + y + z))) : wpX_sizeOf post (nI c, a1, a2, a3, a4, a5, a6) (nI j) := by
  obtain ⟨e1, e2, e3⟩ := hR
  unfold wpX_sizeOf
  refine ⟨pk_in j 60 hj, pk_in j 60 hj, pk_in j 60 hj, ?_⟩
  rw [nI_clamp (show j < 2 ^ 31 by omega), e1, e2, e3, nI_add, nI_add]
  exact h
theorem sr_get {post : Int32 → Prop} {f : Int32} {a1 a2 a3 a4 a5 a6 : Nat → Int32} {e s : Nat} (he : e < 2) (hs : s < 60) (h : post (a4 (60 * e + s))) : wpX_get post (f, a1, a2, a3, a4, a5, a6) (nI e) (nI s) := by
  unfold wpX_get
  rw [sr_ix e s]
  refine ⟨pk_in (60 * e + s) 120 (by omega), ?_⟩
  rw [nI_clamp (show 60 * e + s < 2 ^ 31 by omega)]
  exact h
theorem sr_add {post : Int32 → St2 → Prop} {c : Nat} {a1 a2 a3 a4 a5 a6 : Nat → Int32} {e x y z : Nat} {n : Int32} (hT : sr_T c a1 a2 a3) (he : e < 2) (hx : sr_ok x y z)
    (h : ∀ j, j < c → sr_R a1 a2 a3 j x y z → post 0 (nI c, a1, a2, a3, upd a4 (60 * e + j) (a4 (60 * e + j) + n), a5, a6)) : wpX_add post (nI c, a1, a2, a3, a4, a5, a6) (nI e) (nI (x + 10 * y + 100 * z)) n := by
  have hc := hT.1
  unfold wpX_add
  refine sr_shapeOf hT hx (fun j hj hR => sr_badE he (br_t rfl (br_t (nI_pos' (by omega)) ?_)))
  rw [sr_ix e j, nI_clamp (show 60 * e + j < 2 ^ 31 by omega)]
  exact ⟨pk_in (60 * e + j) 120 (by omega), pk_in (60 * e + j) 120 (by omega), nm_e (h j hj hR)⟩
theorem sr_coef {post : Int32 → Prop} {c : Nat} {a1 a2 a3 a4 a5 a6 : Nat → Int32} {e x y z : Nat} (hT : sr_T c a1 a2 a3) (he : e < 2) (hx : sr_ok x y z)
    (h : ∀ j, j < c → sr_R a1 a2 a3 j x y z → post (a4 (60 * e + j))) : wpX_coefficient post (nI c, a1, a2, a3, a4, a5, a6) (nI e) (nI (x + 10 * y + 100 * z)) := by
  have hc := hT.1
  unfold wpX_coefficient
  exact sr_shapeOf hT hx (fun j hj hR => sr_badE he (br_t rfl (br_t (nI_pos' (by omega)) (sr_get he (by omega) (h j hj hR)))))
theorem sr_deg {post : Int32 → Prop} {c : Nat} {a1 a2 a3 a4 a5 a6 : Nat → Int32} {e jp x y z : Nat} (hT : sr_T c a1 a2 a3) (he : e < 2) (hR : sr_R a1 a2 a3 jp x y z)
    (h0 : ∀ j, j < c → j ≠ jp → a4 (60 * e + j) = 0) (h1 : post (-4)) (h2 : post (nI (x + y + z))) : wpX_degreeOf post (nI c, a1, a2, a3, a4, a5, a6) (nI e) := by
  have hc := hT.1
  unfold wpX_degreeOf
  refine pk_loop (σ := Int32) (fun n i s => wX_degreeOf_5 post (nI e) (nI c) a1 a2 a3 a4 a5 a6 n s (nI i)) (fun _ s => s = -4 ∨ s = nI (x + y + z)) c 0 (-4) (by omega) (Or.inl rfl) ?_ ?_
  · intro n s h
    refine pk_le c c (fun _ => ?_) (fun t => absurd t (by omega))
    rcases h with h | h
    · rw [h]; exact h1
    · rw [h]; exact h2
  · intro n i s hi h hw
    obtain ⟨x', y', z', _, hR'⟩ := hT.2.1 i hi
    refine pk_le c i (fun t => absurd t (by omega)) (fun _ => sr_size (by omega) hR' (sr_get he (by omega) (br_c (fun g => nm_r (nI_1 i) (hw s h)) (fun g => br_c (fun _ => nm_r (nI_1 i) (hw s h)) (fun _ => nm_r (nI_1 i) (hw _ (Or.inr ?_)))))))
    by_cases ei : i = jp
    · subst ei
      obtain ⟨e1, e2, e3⟩ := hR
      obtain ⟨f1, f2, f3⟩ := hR'
      rw [← nI_add, ← nI_add, ← f1, ← f2, ← f3, e1, e2, e3, nI_add, nI_add]
    · exact absurd (h0 i hi ei) g
theorem sr_clear {post : St2 → Prop} {f : Int32} {a1 a2 a3 a4 a5 a6 : Nat → Int32} (h : ∀ b, (∀ j, j < 60 → b j = 0) → post (f, a1, a2, a3, a4, b, a6)) : wpX_clearMade post (f, a1, a2, a3, a4, a5, a6) := by
  unfold wpX_clearMade
  refine pk_loop (fun n i s => wX_clearMade_2 post f n (nI i) a1 a2 a3 a4 s a6) (fun i s => ∀ j, j < i → s j = 0) 60 0 a5 (by omega) (fun j hj => absurd hj (Nat.not_lt_zero j)) ?_ ?_
  · intro n s g
    exact pk_le 60 60 (fun _ => h s g) (fun t => absurd t (by omega))
  · intro n i s hi g hw
    refine pk_le 60 i (fun t => absurd t (by omega)) (fun _ => ⟨pk_in i 60 hi, nm_e (nm_r (nI_1 i) (hw _ (fun j hj => ?_)))⟩)
    rw [nI_clamp (show i < 2 ^ 31 by omega)]
    by_cases ej : j = i
    · rw [ej, pk_us]
    · rw [pk_un ej]; exact g j (by omega)
theorem sr_keep {post : St2 → Prop} {f : Int32} {a1 a2 a3 a4 a5 a6 : Nat → Int32} {e : Nat} (he : e < 2) (h : ∀ b, (∀ j, j < 60 → b (60 * e + j) = a5 j) → post (f, a1, a2, a3, b, a5, a6)) : wpX_keepMade post (f, a1, a2, a3, a4, a5, a6) (nI e) := by
  unfold wpX_keepMade
  refine pk_loop (fun n i s => wX_keepMade_2 post (nI e) f n (nI i) a1 a2 a3 s a5 a6) (fun i s => ∀ j, j < i → s (60 * e + j) = a5 j) 60 0 a4 (by omega) (fun j hj => absurd hj (Nat.not_lt_zero j)) ?_ ?_
  · intro n s g
    exact pk_le 60 60 (fun _ => h s g) (fun t => absurd t (by omega))
  · intro n i s hi g hw
    refine pk_le 60 i (fun t => absurd t (by omega)) (fun _ => ?_)
    rw [sr_ix e i]
    refine ⟨pk_in i 60 hi, pk_in (60 * e + i) 120 (by omega), nm_e (nm_r (nI_1 i) (hw _ (fun j hj => ?_)))⟩
    rw [nI_clamp (show i < 2 ^ 31 by omega), nI_clamp (show 60 * e + i < 2 ^ 31 by omega)]
    by_cases ej : j = i
    · rw [ej, pk_us]
    · rw [pk_un (by omega)]; exact g j (by omega)
end
section
/-! the law's own reading of a shape out of an int -/
theorem sr_code34 {post : Int32 → Prop} {sz : Nat} (hz : sz ≤ 9) (h : ∀ x y z, z ≤ y → y ≤ x → x + y + z ≤ sz → post (nI (x + 10 * y + 100 * z))) (x y z : Nat) (h1 : z ≤ y) (h2 : y ≤ x) (h3 : x ≤ sz) : ∃ n, wL_code_34 post (nI sz) n (nI x) (nI y) (nI z) := by
  refine loop_m (fun n (s : Nat × Nat × Nat) => wL_code_34 post (nI sz) n (nI s.1) (nI s.2.1) (nI s.2.2)) (fun s => s.2.2 ≤ s.2.1 ∧ s.2.1 ≤ s.1 ∧ s.1 ≤ sz) (fun s => s.1 + s.2.1 + s.2.2) ?_ (x, y, z) ⟨h1, h2, h3⟩
  rintro n ⟨x, y, z⟩ ⟨g1, g2, g3⟩ hw
  dsimp only at g1 g2 g3
  have w : ∀ x' y' z', z' ≤ y' → y' ≤ x' → x' ≤ sz → x' + y' + z' < x + y + z → wL_code_34 post (nI sz) n (nI x') (nI y') (nI z') := fun x' y' z' k1 k2 k3 k4 => hw (x', y', z') ⟨k1, k2, k3⟩ k4
  refine pk_le (x + y + z) sz (fun t => ?_) (fun t => ?_) (by rw [nI_add, nI_add])
  · have e : nI x + 10 * nI y + 100 * nI z = nI (x + 10 * y + 100 * z) := by
      rw [show (10 * nI y : Int32) = nI (10 * y) from pk_mul 10 y, show (100 * nI z : Int32) = nI (100 * z) from pk_mul 100 z, nI_add, nI_add]
    show post (nI x + 10 * nI y + 100 * nI z)
    rw [e]
    exact h x y z g1 g2 t
  · refine pk_le z 0 (fun tz => pk_le y 0 (fun ty => ?_) (fun ty => ?_)) (fun tz => ?_)
    · exact absurd t (by omega)
    · exact nm_r (sb_m1 ty) (w x (y - 1) z (by omega) (by omega) g3 (by omega))
    · exact nm_r (sb_m1 tz) (w x y (z - 1) (by omega) g2 g3 (by omega))
theorem sr_code {post : Int32 → Prop} {sz : Nat} {p0 : Int32} (hz : sz ≤ 9) (h : ∀ x y z, z ≤ y → y ≤ x → x + y + z ≤ sz → post (nI (x + 10 * y + 100 * z))) : wpL_code post () p0 (nI sz) := by
  obtain ⟨i, hi, ei⟩ := pk_andE p0 (m := 127) 7 (by decide)
  obtain ⟨j, hj, ej⟩ := pk_andE (p0 >>> ((7 : Int32) &&& 31)) (m := 127) 7 (by decide)
  obtain ⟨k, hk, ek⟩ := pk_andE (p0 >>> ((14 : Int32) &&& 31)) (m := 127) 7 (by decide)
  unfold wpL_code
  rw [ei, ej, ek, nI_1]
  refine ⟨nI_ne0 (by omega) (by omega), nm_r (pk_rem (by omega) (by omega) (by omega)) ?_⟩
  have l1 : i % (sz + 1) < sz + 1 := Nat.mod_lt _ (by omega)
  rw [nI_1]
  refine ⟨nI_ne0 (by omega) (by omega), nm_r (pk_rem (by omega) (by omega) (by omega)) ?_⟩
  have l2 : j % (i % (sz + 1) + 1) < i % (sz + 1) + 1 := Nat.mod_lt _ (by omega)
  rw [nI_1]
  refine ⟨nI_ne0 (by omega) (by omega), nm_r (pk_rem (by omega) (by omega) (by omega)) ?_⟩
  have l3 : k % (j % (i % (sz + 1) + 1) + 1) < j % (i % (sz + 1) + 1) + 1 := Nat.mod_lt _ (by omega)
  exact sr_code34 hz h _ _ _ (by omega) (by omega) (by omega)
theorem sr_cell {post : Int32 → Prop} {L : Nat} {xs : Nat → Int32} (k : Nat) {p : Int32} (hL : L ≤ 6) (hp : p = nI k) (hk : k < 6) (h : ∀ r, post r) : wpL_cellAt post L xs () p := by
  subst hp
  exact pk_le L k (fun _ => h 0) (fun t => ⟨pk_in k L t rfl (by omega), h _⟩)
end
section
/-! one row made longer: what it adds, as the law counts it -/
/-- the sign of three numbers put in order -/
def sr_sg (a b c : Nat) : Int32 := if b < c then -(if a < c then -(if a < b then -1 else 1) else (if a < b then -1 else 1)) else (if a < c then -(if a < b then -1 else 1) else (if a < b then -1 else 1))
def sr_hi (a b c : Nat) : Nat := max a (max b c)
def sr_lo (a b c : Nat) : Nat := min a (min b c)
def sr_mi (a b c : Nat) : Nat := a + b + c - sr_hi a b c - sr_lo a b c
/-- s if the three in order are the ones asked for, and differ -/
def sr_cx (t m l P Q S : Nat) (s : Int32) : Int32 := if t = P ∧ m = Q ∧ l = S ∧ t ≠ m ∧ m ≠ l then s else 0
theorem sr_cx_y {t m l P Q S : Nat} {s : Int32} (h : t = P ∧ m = Q ∧ l = S ∧ t ≠ m ∧ m ≠ l) : sr_cx t m l P Q S s = s := if_pos h
theorem sr_cx_n {t m l P Q S : Nat} {s : Int32} (h : ¬ (t = P ∧ m = Q ∧ l = S ∧ t ≠ m ∧ m ≠ l)) : sr_cx t m l P Q S s = 0 := if_neg h
def sr_ct (a b c P Q S : Nat) : Int32 := sr_cx (sr_hi a b c) (sr_mi a b c) (sr_lo a b c) P Q S (sr_sg a b c)
def sr_ck (u v w r P Q S k : Nat) : Int32 := sr_ct (u + if k = 0 then r else 0) (v + if k = 1 then r else 0) (w + if k = 2 then r else 0) P Q S
def sr_sm (u v w r P Q S : Nat) : Nat → Int32
  | 0 => 0
  | k + 1 => sr_sm u v w r P Q S k + sr_ck u v w r P Q S k
theorem sr_add0 (x : Int32) : x + 0 = x := Int32.add_zero x
/-! the law's strip -/
theorem sr_s210 {post : Int32 → Prop} {J : Int32 → Int32 → Prop} {x6 x7 x8 x9 x13 x14 s : Int32} {a b c t l P Q S : Nat} (ha : a ≤ 100) (hb : b ≤ 100) (hc : c ≤ 100) (hP : P ≤ 100) (hQ : Q ≤ 100) (hS : S ≤ 100) (ht : t = sr_hi a b c) (hl : l = sr_lo a b c)
    (h : J (x13 + sr_cx (sr_hi a b c) (sr_mi a b c) (sr_lo a b c) P Q S s) (x14 + 1)) : wL_strip_210 post J x6 x7 x8 x9 (nI P) (nI Q) (nI S) x13 x14 (nI a) (nI b) (nI c) s (nI t) (nI l) := by
  have g1 : t + l ≤ a + b + c := by rw [ht, hl]; unfold sr_hi sr_lo; omega
  have g2 : t ≤ 100 := by rw [ht]; unfold sr_hi; omega
  have g3 : l ≤ 100 := by rw [hl]; unfold sr_lo; omega
  have e : sr_mi a b c = a + b + c - t - l := by rw [ht, hl]; rfl
  rw [← ht, ← hl, e] at h
  have hz : ¬ (t = P ∧ a + b + c - t - l = Q ∧ l = S ∧ t ≠ a + b + c - t - l ∧ a + b + c - t - l ≠ l) → J x13 (x14 + 1) := by
    intro g
    rw [sr_cx_n g, sr_add0] at h
    exact h
  have hy : (t = P ∧ a + b + c - t - l = Q ∧ l = S ∧ t ≠ a + b + c - t - l ∧ a + b + c - t - l ≠ l) → J (x13 + s) (x14 + 1) := by
    intro g
    rw [sr_cx_y g] at h
    exact h
  clear h
  generalize hm : a + b + c - t - l = m at hz hy
  have hm' : m ≤ 300 := by omega
  unfold wL_strip_210
  refine nm_r (show nI a + nI b + nI c - nI t - nI l = nI m by rw [nI_add, nI_add, pk_sub (by omega), pk_sub (by omega), hm]) ?_
  refine pk_eq t P (fun e1 => ?_) (fun e1 => nm_e (hz (fun g => e1 g.1)))
  refine pk_eq m Q (fun e2 => ?_) (fun e2 => nm_e (hz (fun g => e2 g.2.1)))
  refine pk_eq l S (fun e3 => ?_) (fun e3 => nm_e (hz (fun g => e3 g.2.2.1)))
  refine pk_eq t m (fun e4 => nm_e (hz (fun g => g.2.2.2.1 e4))) (fun e4 => ?_)
  exact pk_eq m l (fun e5 => nm_e (hz (fun g => g.2.2.2.2 e5))) (fun e5 => nm_e (nm_e (hy ⟨e1, e2, e3, e4, e5⟩)))
theorem sr_s132 {post : Int32 → Prop} {J : Int32 → Int32 → Prop} {x6 x7 x8 x9 x13 x14 s : Int32} {a b c P Q S : Nat} (ha : a ≤ 100) (hb : b ≤ 100) (hc : c ≤ 100) (hP : P ≤ 100) (hQ : Q ≤ 100) (hS : S ≤ 100)
    (h : J (x13 + sr_cx (sr_hi a b c) (sr_mi a b c) (sr_lo a b c) P Q S s) (x14 + 1)) : wL_strip_132 post J x6 x7 x8 x9 (nI P) (nI Q) (nI S) x13 x14 (nI a) (nI b) (nI c) s := by
  have k : ∀ t, t = sr_hi a b c → wL_strip_170 post J x6 x7 x8 x9 (nI P) (nI Q) (nI S) x13 x14 (nI a) (nI b) (nI c) s (nI t) := by
    intro t ht
    have k2 : ∀ l, l = sr_lo a b c → wL_strip_210 post J x6 x7 x8 x9 (nI P) (nI Q) (nI S) x13 x14 (nI a) (nI b) (nI c) s (nI t) (nI l) := fun l hl => sr_s210 ha hb hc hP hQ hS ht hl h
    unfold wL_strip_170
    exact pk_le b a (fun t1 => pk_le c b (fun t2 => k2 c (by unfold sr_lo; omega)) (fun t2 => k2 b (by unfold sr_lo; omega))) (fun t1 => pk_le c a (fun t2 => k2 c (by unfold sr_lo; omega)) (fun t2 => k2 a (by unfold sr_lo; omega)))
  unfold wL_strip_132
  exact pk_le a b (fun t1 => pk_le b c (fun t2 => k c (by unfold sr_hi; omega)) (fun t2 => k b (by unfold sr_hi; omega))) (fun t1 => pk_le a c (fun t2 => k c (by unfold sr_hi; omega)) (fun t2 => k a (by unfold sr_hi; omega)))
theorem sr_s91 {post : Int32 → Prop} {J : Int32 → Int32 → Prop} {x6 x7 x8 x9 x13 x14 : Int32} {a b c P Q S : Nat} (ha : a ≤ 100) (hb : b ≤ 100) (hc : c ≤ 100) (hP : P ≤ 100) (hQ : Q ≤ 100) (hS : S ≤ 100)
    (h : J (x13 + sr_ct a b c P Q S) (x14 + 1)) : wL_strip_91 post J x6 x7 x8 x9 (nI P) (nI Q) (nI S) x13 x14 (nI a) (nI b) (nI c) := by
  have k3 : wL_strip_132 post J x6 x7 x8 x9 (nI P) (nI Q) (nI S) x13 x14 (nI a) (nI b) (nI c) (sr_sg a b c) := sr_s132 ha hb hc hP hQ hS h
  have k2 : wL_strip_120 post J x6 x7 x8 x9 (nI P) (nI Q) (nI S) x13 x14 (nI a) (nI b) (nI c) (if a < c then -(if a < b then -1 else 1) else (if a < b then -1 else 1)) := by
    unfold wL_strip_120
    unfold sr_sg at k3
    exact pk_le c b (fun t => by rw [if_neg (show ¬ b < c by omega)] at k3; exact k3) (fun t => nm_e (by rw [if_pos (show b < c by omega)] at k3; exact k3))
  have k1 : wL_strip_108 post J x6 x7 x8 x9 (nI P) (nI Q) (nI S) x13 x14 (nI a) (nI b) (nI c) (if a < b then -1 else 1) := by
    unfold wL_strip_108
    exact pk_le c a (fun t => by rw [if_neg (show ¬ a < c by omega)] at k2; exact k2) (fun t => nm_e (by rw [if_pos (show a < c by omega)] at k2; exact k2))
  unfold wL_strip_91
  exact pk_le b a (fun t => by rw [if_neg (show ¬ a < b by omega)] at k1; exact k1) (fun t => nm_e (by rw [if_pos (show a < b by omega)] at k1; exact k1))
theorem sr_s34 {post : Int32 → Prop} {u v w r P Q S : Nat} (hu : u ≤ 50) (hv : v ≤ 50) (hw : w ≤ 50) (hr : r ≤ 50) (hP : P ≤ 100) (hQ : Q ≤ 100) (hS : S ≤ 100) (h : post (sr_sm u v w r P Q S 3)) :
    ∃ n, wL_strip_34 post (nI r) (nI u) (nI v) (nI w) (nI P) (nI Q) (nI S) n 0 0 := by
  refine pk_loop (σ := Unit) (fun n i _ => wL_strip_34 post (nI r) (nI u) (nI v) (nI w) (nI P) (nI Q) (nI S) n (sr_sm u v w r P Q S i) (nI i)) (fun _ _ => True) 3 0 () (by omega) trivial ?_ ?_
  · intro n _ _
    exact pk_le 3 3 (fun _ => h) (fun t => absurd t (by omega))
  · intro n i _ hi _ hN
    have hN := hN () trivial
    generalize hJ : wL_strip_34 post (nI r) (nI u) (nI v) (nI w) (nI P) (nI Q) (nI S) n = J at hN
    have k0 : wL_strip_91 post J (nI r) (nI u) (nI v) (nI w) (nI P) (nI Q) (nI S) (sr_sm u v w r P Q S i) (nI i) (nI (u + if i = 0 then r else 0)) (nI (v + if i = 1 then r else 0)) (nI (w + if i = 2 then r else 0)) := by
      refine sr_s91 ?_ ?_ ?_ hP hQ hS ?_
      · split <;> omega
      · split <;> omega
      · split <;> omega
      · rw [nI_1]; exact hN
    have k1 : wL_strip_73 post J (nI r) (nI u) (nI v) (nI w) (nI P) (nI Q) (nI S) (sr_sm u v w r P Q S i) (nI i) (nI (u + if i = 0 then r else 0)) (nI (v + if i = 1 then r else 0)) := by
      unfold wL_strip_73
      exact pk_eq i 2 (fun t => by rw [nI_add]; rw [if_pos t] at k0; exact k0) (fun t => by rw [if_neg t] at k0; exact k0)
    have k2 : wL_strip_55 post J (nI r) (nI u) (nI v) (nI w) (nI P) (nI Q) (nI S) (sr_sm u v w r P Q S i) (nI i) (nI (u + if i = 0 then r else 0)) := by
      unfold wL_strip_55
      exact pk_eq i 1 (fun t => by rw [nI_add]; rw [if_pos t] at k1; exact k1) (fun t => by rw [if_neg t] at k1; exact k1)
    subst hJ
    exact pk_le 3 i (fun t => absurd t (by omega)) (fun _ => pk_eq i 0 (fun t => by rw [nI_add]; rw [if_pos t] at k2; exact k2) (fun t => by rw [if_neg t] at k2; exact k2))
theorem sr_strip {post : Int32 → Prop} {a b c x y z r : Nat} (h1 : sr_ok a b c) (h2 : sr_ok x y z) (hr : r ≤ 9) (h : post (sr_sm (a + 2) (b + 1) c r (x + 2) (y + 1) z 3)) : wpL_strip post () (nI a) (nI b) (nI c) (nI x) (nI y) (nI z) (nI r) := by
  obtain ⟨_, _, _⟩ := h1
  obtain ⟨_, _, _⟩ := h2
  unfold wpL_strip
  exact nm_r (nI_add a 2) (nm_r (nI_1 b) (nm_r (nI_add x 2) (nm_r (nI_1 y) (sr_s34 (by omega) (by omega) (by omega) (by omega) (by omega) (by omega) (by omega) h))))
/-! shift, as ShapeRing does it -/
theorem sr_96 {post : St2 → Prop} {J : Int32 → Int32 → Int32 → Int32 → Int32 → Prop} {x4 x5 s f : Int32} {a1 a2 a3 a4 a5 a6 : Nat → Int32} {b c i : Nat} (hb : b ≤ 100) (hc : c ≤ 100)
    (h : J x5 (nI (max b c)) (nI (min b c)) (if b < c then -s else s) (nI (i + 1))) : wX_shift_96 post J x4 x5 (nI b) (nI c) s (nI i) f a1 a2 a3 a4 a5 a6 := by
  unfold wX_shift_96
  refine pk_le c b (fun t => nm_r (nI_1 i) ?_) (fun t => nm_e (nm_r (nI_1 i) ?_))
  · rw [Nat.max_eq_left t, Nat.min_eq_right t, if_neg (by omega)] at h
    exact h
  · rw [Nat.max_eq_right (by omega), Nat.min_eq_left (by omega), if_pos t] at h
    exact h
theorem sr_round {post : St2 → Prop} {x4 s f : Int32} {a1 a2 a3 a4 a5 a6 : Nat → Int32} {n a b c i : Nat} (ha : a ≤ 100) (hb : b ≤ 100) (hc : c ≤ 100) (hi : i < 3)
    (h : wX_shift_66 post x4 f a1 a2 a3 a4 a5 a6 n (nI (max a b)) (nI (max (min a b) c)) (nI (min (min a b) c)) (if min a b < c then -(if a < b then -s else s) else (if a < b then -s else s)) (nI (i + 1))) :
    wX_shift_66 post x4 f a1 a2 a3 a4 a5 a6 (n + 1) (nI a) (nI b) (nI c) s (nI i) := by
  refine pk_le 3 i (fun t => absurd t (by omega)) (fun _ => pk_le b a (fun t => ?_) (fun t => nm_e ?_))
  · rw [Nat.max_eq_left t, Nat.min_eq_right t, if_neg (show ¬ a < b by omega)] at h
    exact sr_96 hb hc h
  · rw [Nat.max_eq_right (show a ≤ b by omega), Nat.min_eq_left (show a ≤ b by omega), if_pos t] at h
    exact sr_96 ha hc h
theorem sr_sub {X t d : Nat} (hX : X ≤ 100) (ht : t ≤ 100) (hd : d ≤ 100) : nI X = nI t - nI d ↔ t = X + d := by
  constructor
  · intro h
    have e := Int32.sub_eq_iff_eq_add.mp h.symm
    rw [nI_add, nI_eq (by omega) (by omega)] at e
    exact e
  · intro h
    rw [h, pk_sub (by omega), Nat.add_sub_cancel]
theorem sr_exit {post : St2 → Prop} {x4 s : Int32} {c : Nat} {a1 a2 a3 a4 a5 a6 : Nat → Int32} {n t m l q X Y Z : Nat} (hT : sr_T c a1 a2 a3) (hq : q < c) (hR : sr_R a1 a2 a3 q X Y Z) (hX : sr_ok X Y Z) (ht : t ≤ 100) (hm : m ≤ 100) (hl : l ≤ 100)
    (h : ∀ b, b q = a5 q + sr_cx t m l (X + 2) (Y + 1) Z s * x4 → post (nI c, a1, a2, a3, a4, b, a6)) :
    wX_shift_66 post x4 (nI c) a1 a2 a3 a4 a5 a6 (n + 1) (nI t) (nI m) (nI l) s (nI 3) := by
  obtain ⟨hc, T1, T2, T3⟩ := hT
  obtain ⟨r1, r2, r3⟩ := hR
  obtain ⟨o1, o2, o3⟩ := hX
  have hn : ¬ (t = X + 2 ∧ m = Y + 1 ∧ l = Z ∧ t ≠ m ∧ m ≠ l) → post (nI c, a1, a2, a3, a4, a5, a6) := by
    intro g
    refine h a5 ?_
    rw [sr_cx_n g, Int32.zero_mul, sr_add0]
  refine pk_le 3 3 (fun _ => pk_eq t m (fun e => hn (fun g => g.2.2.2.1 e)) (fun e1 => pk_eq m l (fun e => hn (fun g => g.2.2.2.2 e)) (fun e2 => ?_))) (fun z => absurd z (by omega))
  refine sr_find hc (fun j hj s1 s2 s3 => br_f (nI_pos (by omega)) ⟨pk_in j 60 (by omega), pk_in j 60 (by omega), nm_e (h _ ?_)⟩) (fun hno => br_t (by decide) (hn (fun g => ?_)))
  · rw [nI_clamp (show j < 2 ^ 31 by omega)]
    by_cases ej : q = j
    · subst ej
      rw [r1] at s1
      rw [r2] at s2
      rw [r3, nI_eq (by omega) (by omega)] at s3
      have s1' := (sr_sub (d := 2) (by omega) ht (by omega)).mp s1
      have s2' := (sr_sub (d := 1) (by omega) hm (by omega)).mp s2
      rw [pk_us, sr_cx_y ⟨s1', s2', s3.symm, e1, e2⟩]
    · rw [pk_un ej, sr_cx_n, Int32.zero_mul, sr_add0]
      rintro ⟨g1, g2, g3, _, _⟩
      refine ej (T3 q j hq hj ?_ ?_ ?_)
      · rw [r1, s1]; exact (sr_sub (d := 2) (by omega) ht (by omega)).mpr g1
      · rw [r2, s2]; exact (sr_sub (d := 1) (by omega) hm (by omega)).mpr g2
      · rw [r3, s3, g3]
  · obtain ⟨g1, g2, g3, _, _⟩ := g
    refine hno q hq ⟨?_, ?_, ?_⟩
    · rw [r1]; exact (sr_sub (d := 2) (by omega) ht (by omega)).mpr g1
    · rw [r2]; exact (sr_sub (d := 1) (by omega) hm (by omega)).mpr g2
    · rw [r3, g3]
theorem sr_sort_s (a b c : Nat) : ∀ a' b' c' s' a'' b'' c'' s'' , a' = max a b → b' = max (min a b) c → c' = min (min a b) c → s' = (if min a b < c then -(if a < b then -(1 : Int32) else 1) else (if a < b then -1 else 1)) → a'' = max a' b' → b'' = max (min a' b') c' → c'' = min (min a' b') c' → s'' = (if min a' b' < c' then -(if a' < b' then -s' else s') else (if a' < b' then -s' else s')) → (if min a'' b'' < c'' then -(if a'' < b'' then -s'' else s'') else (if a'' < b'' then -s'' else s'')) = sr_sg a b c := by
  intro a' b' c' s' a'' b'' c'' s'' e1 e2 e3 e4 f1 f2 f3 f4
  have n1 : ¬ min a' b' < c' := by omega
  have n2 : ¬ min a'' b'' < c'' := by omega
  have n3 : ¬ a'' < b'' := by omega
  rw [if_neg n2, if_neg n3, f4, if_neg n1, e4]
  unfold sr_sg
  rcases Nat.lt_or_ge a b with h1 | h1 <;> rcases Nat.lt_or_ge a c with h2 | h2 <;> rcases Nat.lt_or_ge b c with h3 | h3
  · rw [if_pos (show a' < b' by omega), if_pos (show min a b < c by omega), if_pos h1, if_pos h2, if_pos h3]
  · rw [if_neg (show ¬ a' < b' by omega), if_pos (show min a b < c by omega), if_pos h1, if_pos h2, if_neg (show ¬ b < c by omega)]
  · omega
  · rw [if_neg (show ¬ a' < b' by omega), if_neg (show ¬ min a b < c by omega), if_pos h1, if_neg (show ¬ a < c by omega), if_neg (show ¬ b < c by omega)]
  · rw [if_pos (show a' < b' by omega), if_pos (show min a b < c by omega), if_neg (show ¬ a < b by omega), if_pos h2, if_pos h3]
  · omega
  · rw [if_neg (show ¬ a' < b' by omega), if_pos (show min a b < c by omega), if_neg (show ¬ a < b by omega), if_neg (show ¬ a < c by omega), if_pos h3]
  · rw [if_neg (show ¬ a' < b' by omega), if_neg (show ¬ min a b < c by omega), if_neg (show ¬ a < b by omega), if_neg (show ¬ a < c by omega), if_neg (show ¬ b < c by omega)]
theorem sr_rd {a b c a' b' c' : Nat} (e1 : a' = max a b) (e2 : b' = max (min a b) c) (e3 : c' = min (min a b) c) : a' + b' + c' = a + b + c ∧ sr_hi a' b' c' = sr_hi a b c ∧ sr_lo a' b' c' = sr_lo a b c ∧ c' ≤ a' ∧ c' ≤ b' ∧ (c ≤ a → c ≤ b → b' ≤ a') := by
  unfold sr_hi sr_lo
  refine ⟨by omega, by omega, by omega, by omega, by omega, by omega⟩
theorem sr_rd_v {a b c : Nat} (h1 : b ≤ a) (h2 : c ≤ b) : sr_hi a b c = a ∧ sr_mi a b c = b ∧ sr_lo a b c = c := by
  unfold sr_mi sr_hi sr_lo
  refine ⟨by omega, by omega, by omega⟩
theorem sr_sort {post : St2 → Prop} {x4 : Int32} {c : Nat} {a1 a2 a3 a4 a5 a6 : Nat → Int32} {A B C q X Y Z : Nat} (hT : sr_T c a1 a2 a3) (hq : q < c) (hR : sr_R a1 a2 a3 q X Y Z) (hX : sr_ok X Y Z) (hA : A ≤ 30) (hB : B ≤ 30) (hC : C ≤ 30)
    (h : ∀ b, b q = a5 q + sr_ct A B C (X + 2) (Y + 1) Z * x4 → post (nI c, a1, a2, a3, a4, b, a6)) :
    ∃ n, wX_shift_66 post x4 (nI c) a1 a2 a3 a4 a5 a6 n (nI A) (nI B) (nI C) 1 0 := by
  have W : ∀ A1 B1 C1 A2 B2 C2 A3 B3 C3 s1 s2 s3, A1 = max A B → B1 = max (min A B) C → C1 = min (min A B) C → A2 = max A1 B1 → B2 = max (min A1 B1) C1 → C2 = min (min A1 B1) C1 → A3 = max A2 B2 → B3 = max (min A2 B2) C2 → C3 = min (min A2 B2) C2 → s1 = (if min A B < C then -(if A < B then -(1 : Int32) else 1) else (if A < B then -1 else 1)) → s2 = (if min A1 B1 < C1 then -(if A1 < B1 then -s1 else s1) else (if A1 < B1 then -s1 else s1)) → s3 = (if min A2 B2 < C2 then -(if A2 < B2 then -s2 else s2) else (if A2 < B2 then -s2 else s2)) → wX_shift_66 post x4 (nI c) a1 a2 a3 a4 a5 a6 4 (nI A) (nI B) (nI C) 1 (nI 0) := by
    intro A1 B1 C1 A2 B2 C2 A3 B3 C3 s1 s2 s3 e1 e2 e3 e4 e5 e6 e7 e8 e9 f1 f2 f3
    obtain ⟨p1, p2, p3, p4, p5, p6⟩ := sr_rd e1 e2 e3
    obtain ⟨q1, q2, q3, q4, q5, q6⟩ := sr_rd e4 e5 e6
    obtain ⟨r1, r2, r3, r4, r5, r6⟩ := sr_rd e7 e8 e9
    have sg : s3 = sr_sg A B C := by
      rw [f3]
      exact sr_sort_s A B C A1 B1 C1 s1 A2 B2 C2 s2 e1 e2 e3 f1 e4 e5 e6 f2
    obtain ⟨v1, v2, v3⟩ := sr_rd_v (r6 q4 q5) r5
    have t' : A3 = sr_hi A B C := by rw [← v1, r2, q2, p2]
    have l' : C3 = sr_lo A B C := by rw [← v3, r3, q3, p3]
    have m' : B3 = sr_mi A B C := by
      rw [← v2]
      unfold sr_mi
      rw [r1, q1, p1, r2, q2, p2, r3, q3, p3]
    refine sr_round (i := 0) (by omega) (by omega) (by omega) (by omega) ?_
    rw [← e1, ← e2, ← e3, ← f1]
    refine sr_round (i := 1) (by omega) (by omega) (by omega) (by omega) ?_
    rw [← e4, ← e5, ← e6, ← f2]
    refine sr_round (i := 2) (by omega) (by omega) (by omega) (by omega) ?_
    rw [← e7, ← e8, ← e9, ← f3, sg]
    refine sr_exit hT hq hR hX (by omega) (by omega) (by omega) ?_
    rw [t', m', l']
    exact h
  exact ⟨4, W _ _ _ _ _ _ _ _ _ _ _ _ rfl rfl rfl rfl rfl rfl rfl rfl rfl rfl rfl rfl⟩
theorem sr_shift {post : St2 → Prop} {n : Int32} {c : Nat} {a1 a2 a3 a4 a5 a6 : Nat → Int32} {p x y z q X Y Z k r : Nat} (hT : sr_T c a1 a2 a3) (hp : p < c) (hP : sr_R a1 a2 a3 p x y z) (hx : sr_ok x y z) (hq : q < c) (hR : sr_R a1 a2 a3 q X Y Z) (hX : sr_ok X Y Z) (hr : r ≤ 9) (hk : k < 3)
    (h : ∀ b, b q = a5 q + sr_ck (x + 2) (y + 1) z r (X + 2) (Y + 1) Z k * n → post (nI c, a1, a2, a3, a4, b, a6)) :
    wpX_shift post (nI c, a1, a2, a3, a4, a5, a6) (nI p) (nI k) (nI r) n := by
  have hc := hT.1
  obtain ⟨e1, e2, e3⟩ := hP
  obtain ⟨o1, o2, o3⟩ := hx
  have hcl : (nI p).toNatClampNeg = p := nI_clamp (by omega)
  unfold sr_ck at h
  have w0 : ∃ fu, wX_shift_66 post n (nI c) a1 a2 a3 a4 a5 a6 fu (nI (x + 2 + if k = 0 then r else 0)) (nI (y + 1 + if k = 1 then r else 0)) (nI (z + if k = 2 then r else 0)) 1 0 := by
    refine sr_sort hT hq hR hX ?_ ?_ ?_ h
    · split <;> omega
    · split <;> omega
    · split <;> omega
  have w1 : ∀ z0, z0 = nI (if k = 1 then r else 0) → wX_shift_38 post (nI p) (nI k) (nI r) n (nI (x + 2 + if k = 0 then r else 0)) z0 (a2 p + 1) (nI c) a1 a2 a3 a4 a5 a6 := by
    intro z0 hz
    unfold wX_shift_38
    rw [hcl, e3]
    refine nm_r (show a2 p + 1 + z0 = nI (y + 1 + if k = 1 then r else 0) by rw [hz, e2, nI_1, nI_add]) ⟨pk_in p 60 (by omega), ?_⟩
    exact pk_eq k 2 (fun t => by rw [if_pos t] at w0; exact nm_r (nI_add z r) w0) (fun t => by rw [if_neg t] at w0; exact nm_r (nI_add z 0) w0)
  have w2 : ∀ z0, z0 = nI (if k = 0 then r else 0) → wX_shift_17 post (nI p) (nI k) (nI r) n z0 (a1 p + 2) (nI c) a1 a2 a3 a4 a5 a6 := by
    intro z0 hz
    unfold wX_shift_17
    rw [hcl]
    refine nm_r (show a1 p + 2 + z0 = nI (x + 2 + if k = 0 then r else 0) by rw [hz, e1, show nI x + 2 = nI (x + 2) from nI_add x 2, nI_add]) ⟨pk_in p 60 (by omega), ?_⟩
    exact pk_eq k 1 (fun t => w1 _ (by rw [if_pos t])) (fun t => w1 _ (by rw [if_neg t]; rfl))
  unfold wpX_shift
  rw [hcl]
  exact ⟨pk_in p 60 (by omega), pk_eq k 0 (fun t => w2 _ (by rw [if_pos t])) (fun t => w2 _ (by rw [if_neg t]; rfl))⟩
end
section
/-! timesPower -/
theorem sr_tp70 {post : Int32 → St2 → Prop} {J : Int32 → Int32 → (Nat → Int32) → (Nat → Int32) → (Nat → Int32) → (Nat → Int32) → (Nat → Int32) → (Nat → Int32) → Prop} {n x1 : Int32} {c : Nat} {a1 a2 a3 a4 a5 a6 : Nat → Int32} {p x y z q X Y Z r : Nat} (hT : sr_T c a1 a2 a3) (hp : p < c) (hP : sr_R a1 a2 a3 p x y z) (hx : sr_ok x y z) (hq : q < c) (hR : sr_R a1 a2 a3 q X Y Z) (hX : sr_ok X Y Z) (hr : r ≤ 9)
    (h : ∀ b, b q = a5 q + sr_sm (x + 2) (y + 1) z r (X + 2) (Y + 1) Z 3 * n → J (nI (p + 1)) (nI c) a1 a2 a3 a4 b a6) :
    ∃ fu, wX_timesPower_70 post J x1 (nI r) (nI p) n fu 0 (nI c) a1 a2 a3 a4 a5 a6 := by
  by_cases h0 : n = 0
  · refine ⟨1, ?_⟩
    refine pk_le 3 0 (fun t => absurd t (by omega)) (fun _ => br_t h0 (nm_r (nI_1 p) (h a5 ?_)))
    rw [h0, Int32.mul_zero, sr_add0]
  · refine pk_loop (fun fu k s => wX_timesPower_70 post J x1 (nI r) (nI p) n fu (nI k) (nI c) a1 a2 a3 a4 s a6) (fun k s => s q = a5 q + sr_sm (x + 2) (y + 1) z r (X + 2) (Y + 1) Z k * n) 3 0 a5 (by omega) ?_ ?_ ?_
    · show a5 q = a5 q + 0 * n
      rw [Int32.zero_mul, sr_add0]
    · intro fu s g
      exact pk_le 3 3 (fun _ => nm_r (nI_1 p) (h s g)) (fun t => absurd t (by omega))
    · intro fu k s hk g hw
      refine pk_le 3 k (fun t => absurd t (by omega)) (fun _ => br_f h0 (sr_shift hT hp hP hx hq hR hX hr hk (fun b hb => nm_r (nI_1 k) (hw b ?_))))
      rw [hb, g]
      show _ = a5 q + (sr_sm (x + 2) (y + 1) z r (X + 2) (Y + 1) Z k + sr_ck (x + 2) (y + 1) z r (X + 2) (Y + 1) Z k) * n
      rw [Int32.add_mul, Int32.add_assoc]
theorem sr_tp49 {post : Int32 → St2 → Prop} {n : Int32} {c : Nat} {a1 a2 a3 a4 a5 a6 : Nat → Int32} {e p x y z q X Y Z r : Nat} (hT : sr_T c a1 a2 a3) (he : e < 2) (hp : p < c) (hP : sr_R a1 a2 a3 p x y z) (hx : sr_ok x y z) (hq : q < c) (hR : sr_R a1 a2 a3 q X Y Z) (hX : sr_ok X Y Z) (hr : r ≤ 9)
    (hn : a4 (60 * e + p) = n) (h0 : ∀ j, j < c → j ≠ p → a4 (60 * e + j) = 0) (h5 : a5 q = 0)
    (h : ∀ b b5, b (60 * e + q) = sr_sm (x + 2) (y + 1) z r (X + 2) (Y + 1) Z 3 * n → post 0 (nI c, a1, a2, a3, b, b5, a6)) :
    ∃ fu, wX_timesPower_49 post (nI e) (nI r) fu 0 (nI c) a1 a2 a3 a4 a5 a6 := by
  have hc := hT.1
  refine pk_loop (fun fu i s => wX_timesPower_49 post (nI e) (nI r) fu (nI i) (nI c) a1 a2 a3 a4 s a6) (fun i s => s q = if p < i then sr_sm (x + 2) (y + 1) z r (X + 2) (Y + 1) Z 3 * n else 0) c 0 a5 (by omega) (by rw [if_neg (by omega)]; exact h5) ?_ ?_
  · intro fu s g
    rw [if_pos hp] at g
    refine pk_le c c (fun _ => sr_keep he (fun b hb => h b s ?_)) (fun t => absurd t (by omega))
    rw [hb q (by omega), g]
  · intro fu i s hi g hw
    obtain ⟨x', y', z', hx', hP'⟩ := hT.2.1 i hi
    refine pk_le c i (fun t => absurd t (by omega)) (fun _ => sr_get he (by omega) ?_)
    by_cases ei : i = p
    · subst ei
      refine sr_tp70 hT hi hP hx hq hR hX hr (fun b hb => hw b ?_)
      rw [hb, g, hn, if_neg (by omega), if_pos (by omega), Int32.zero_add]
    · refine sr_tp70 hT hi hP' hx' hq hR hX hr (fun b hb => hw b ?_)
      rw [hb, g, h0 i hi ei, Int32.mul_zero, sr_add0]
      by_cases l : p < i
      · rw [if_pos l, if_pos (by omega)]
      · rw [if_neg l, if_neg (by omega)]
theorem sr_tp {post : Int32 → St2 → Prop} {n : Int32} {c : Nat} {a1 a2 a3 a4 a5 a6 : Nat → Int32} {e p x y z q X Y Z r : Nat} (hT : sr_T c a1 a2 a3) (he : e < 2) (hp : p < c) (hP : sr_R a1 a2 a3 p x y z) (hx : sr_ok x y z) (hq : q < c) (hR : sr_R a1 a2 a3 q X Y Z) (hX : sr_ok X Y Z) (hr1 : 1 ≤ r) (hr : x + y + z + r ≤ 9)
    (hn : a4 (60 * e + p) = n) (h0 : ∀ j, j < c → j ≠ p → a4 (60 * e + j) = 0)
    (h : ∀ b b5, b (60 * e + q) = sr_sm (x + 2) (y + 1) z r (X + 2) (Y + 1) Z 3 * n → post 0 (nI c, a1, a2, a3, b, b5, a6)) :
    wpX_timesPower post (nI c, a1, a2, a3, a4, a5, a6) (nI e) (nI r) := by
  have hc := hT.1
  have w : wX_timesPower_42 post (nI e) (nI r) (nI c) a1 a2 a3 a4 a5 a6 := by
    unfold wX_timesPower_42
    exact sr_clear (fun b hb => sr_tp49 hT he hp hP hx hq hR hX (by omega) hn h0 (hb q (by omega)) h)
  unfold wpX_timesPower
  refine sr_badE he (br_t rfl (pk_lt r 1 (fun t => absurd t (by omega)) (fun _ => pk_le r 9 (fun _ => ?_) (fun t => absurd t (by omega)))))
  refine sr_deg hT he hP h0 (br_t (by decide) w) (br_f (nI_pos (by omega)) (pk_le (x + y + z + r) 9 (fun _ => w) (fun t => absurd t (by omega)) (by rw [nI_add])))
end
section
/-! products of shapes: one filling, and how many -/
/-- the filling with t ones in the second row is good -/
def sr_G (a b c d e f x y z t : Int) : Prop := 0 ≤ x - a ∧ 0 ≤ d - (x - a) - t ∧ 0 ≤ y - b - t ∧ 0 ≤ e - (y - b - t) ∧ (d - (x - a) - t) + (e - (y - b - t)) + f = z - c ∧ b + t ≤ a ∧ c + (d - (x - a) - t) ≤ b ∧ c + (d - (x - a) - t) + (e - (y - b - t)) ≤ b + t ∧ y - b - t ≤ x - a ∧ f ≤ y - b - t ∧ (y - b - t) + (e - (y - b - t)) ≤ (x - a) + t
theorem sr_f217 {post : Int32 → Prop} {x10 x11 k : Int32} {a1 a2 a3 a4 a5 a6 : Nat → Int32} (h : post 0) : wX_fits_217 post x10 x11 k a1 a2 a3 a4 a5 a6 := by
  unfold wX_fits_217 wX_fits_218
  exact br_c (fun _ => h) (fun _ => br_c (fun _ => h) (fun _ => br_t rfl h))
theorem sr_f184 {post : Int32 → Prop} {x10 z0 k : Int32} {a1 a2 a3 a4 a5 a6 : Nat → Int32} {A B : Prop} {t n11 n22 n23 n33 : Int} (ht : -100 ≤ t ∧ t ≤ 100) (h11 : -100 ≤ n11 ∧ n11 ≤ 100) (h22 : -100 ≤ n22 ∧ n22 ≤ 100) (h23 : -100 ≤ n23 ∧ n23 ≤ 100) (h33 : -100 ≤ n33 ∧ n33 ≤ 100)
    (hA : x10 = 0 ↔ ¬ A) (hB : z0 = 0 ↔ ¬ B) (h1 : A ∧ B ∧ n22 ≤ n11 ∧ n33 ≤ n22 ∧ n22 + n23 ≤ n11 + t → post 1) (h0 : ¬ (A ∧ B ∧ n22 ≤ n11 ∧ n33 ≤ n22 ∧ n22 + n23 ≤ n11 + t) → post 0) :
    wX_fits_184 post (sr_z t) (sr_z n11) (sr_z n22) (sr_z n23) (sr_z n33) x10 z0 k a1 a2 a3 a4 a5 a6 := by
  unfold wX_fits_184
  refine sr_blt n11 n22 (fun u => sr_f217 (h0 (fun g => absurd g.2.2.1 (by omega)))) (fun u1 => ?_)
  refine sr_blt n22 n33 (fun u => sr_f217 (h0 (fun g => absurd g.2.2.2.1 (by omega)))) (fun u2 => ?_)
  refine sr_blt (n11 + t) (n22 + n23) (fun u => sr_f217 (h0 (fun g => absurd g.2.2.2.2 (by omega)))) (fun u3 => ?_) (sr_za _ _) (sr_za _ _)
  unfold wX_fits_218
  refine br_c (fun v => h0 (fun g => hA.mp v g.1)) (fun v1 => br_c (fun v => h0 (fun g => hB.mp v g.2.1)) (fun v2 => br_f (by decide) (h1 ⟨?_, ?_, u1, u2, u3⟩)))
  · exact Classical.byContradiction (fun q => v1 (hA.mpr q))
  · exact Classical.byContradiction (fun q => v2 (hB.mpr q))
theorem sr_f153 {post : Int32 → Prop} {z0 k : Int32} {a1 a2 a3 a4 a5 a6 : Nat → Int32} {A : Prop} {p : Nat} {b c t n11 n13 n22 n23 n33 : Int} (hp : p < 60) (e2 : a2 p = sr_z b) (e3 : a3 p = sr_z c) (hb : -100 ≤ b ∧ b ≤ 100) (hc : -100 ≤ c ∧ c ≤ 100) (ht : -100 ≤ t ∧ t ≤ 100) (h11 : -100 ≤ n11 ∧ n11 ≤ 100) (h13 : -100 ≤ n13 ∧ n13 ≤ 100) (h22 : -100 ≤ n22 ∧ n22 ≤ 100) (h23 : -100 ≤ n23 ∧ n23 ≤ 100) (h33 : -100 ≤ n33 ∧ n33 ≤ 100)
    (hA : z0 = 0 ↔ ¬ A) (h1 : A ∧ c + n13 + n23 ≤ b + t ∧ n22 ≤ n11 ∧ n33 ≤ n22 ∧ n22 + n23 ≤ n11 + t → post 1) (h0 : ¬ (A ∧ c + n13 + n23 ≤ b + t ∧ n22 ≤ n11 ∧ n33 ≤ n22 ∧ n22 + n23 ≤ n11 + t) → post 0) :
    wX_fits_153 post (nI p) (sr_z t) (sr_z n11) (sr_z n13) (sr_z n22) (sr_z n23) (sr_z n33) z0 k a1 a2 a3 a4 a5 a6 := by
  unfold wX_fits_153
  rw [nI_clamp (show p < 2 ^ 31 by omega), e2, e3, sr_za, sr_za, sr_za]
  refine ⟨pk_in p 60 hp, pk_in p 60 hp, sr_blt (b + t) (c + n13 + n23) (fun u => ?_) (fun u => ?_)⟩
  · exact sr_f184 (B := c + n13 + n23 ≤ b + t) ht h11 h22 h23 h33 hA ⟨fun _ => by omega, fun _ => rfl⟩ h1 h0
  · exact sr_f184 (B := c + n13 + n23 ≤ b + t) ht h11 h22 h23 h33 hA ⟨fun v => absurd v (by decide), fun v => absurd u v⟩ h1 h0
theorem sr_fits {post : Int32 → Prop} {k : Int32} {a1 a2 a3 a4 a5 a6 : Nat → Int32} {p q r a b c d e f x y z t : Nat} (hp : p < 60) (hq : q < 60) (hr : r < 60) (hP : sr_R a1 a2 a3 p a b c) (hQ : sr_R a1 a2 a3 q d e f) (hR : sr_R a1 a2 a3 r x y z) (o1 : sr_ok a b c) (o2 : sr_ok d e f) (o3 : sr_ok x y z) (ht : t ≤ 9)
    (h1 : sr_G a b c d e f x y z t → post 1) (h0 : ¬ sr_G a b c d e f x y z t → post 0) : wpX_fits post (k, a1, a2, a3, a4, a5, a6) (nI p) (nI q) (nI r) (nI t) := by
  obtain ⟨P1, P2, P3⟩ := hP
  obtain ⟨Q1, Q2, Q3⟩ := hQ
  obtain ⟨R1, R2, R3⟩ := hR
  obtain ⟨o11, o12, o13⟩ := o1
  obtain ⟨o21, o22, o23⟩ := o2
  obtain ⟨o31, o32, o33⟩ := o3
  rw [sr_zn] at P1 P2 P3 Q1 Q2 Q3 R1 R2 R3
  unfold sr_G at h1 h0
  rw [sr_zn t]
  have hA : (a : Int) ≤ 9 := by omega
  have hB : (b : Int) ≤ 9 := by omega
  have hC : (c : Int) ≤ 9 := by omega
  have hD : (d : Int) ≤ 9 := by omega
  have hE : (e : Int) ≤ 9 := by omega
  have hF : (f : Int) ≤ 9 := by omega
  have hX : (x : Int) ≤ 9 := by omega
  have hY : (y : Int) ≤ 9 := by omega
  have hZ : (z : Int) ≤ 9 := by omega
  have hT : (t : Int) ≤ 9 := by omega
  have hA0 : 0 ≤ (a : Int) := by omega
  have hB0 : 0 ≤ (b : Int) := by omega
  have hC0 : 0 ≤ (c : Int) := by omega
  have hD0 : 0 ≤ (d : Int) := by omega
  have hE0 : 0 ≤ (e : Int) := by omega
  have hF0 : 0 ≤ (f : Int) := by omega
  have hX0 : 0 ≤ (x : Int) := by omega
  have hY0 : 0 ≤ (y : Int) := by omega
  have hZ0 : 0 ≤ (z : Int) := by omega
  have hT0 : 0 ≤ (t : Int) := by omega
  clear o11 o12 o13 o21 o22 o23 o31 o32 o33 ht
  generalize (a : Int) = a at *
  generalize (b : Int) = b at *
  generalize (c : Int) = c at *
  generalize (d : Int) = d at *
  generalize (e : Int) = e at *
  generalize (f : Int) = f at *
  generalize (x : Int) = x at *
  generalize (y : Int) = y at *
  generalize (z : Int) = z at *
  generalize (t : Int) = t at *
  generalize e11 : x - a = n11 at h1 h0
  generalize e13 : d - n11 - t = n13 at h1 h0
  generalize e22 : y - b - t = n22 at h1 h0
  generalize e23 : e - n22 = n23 at h1 h0
  have b11 : -9 ≤ n11 ∧ n11 ≤ 9 := by omega
  have b13 : -18 ≤ n13 ∧ n13 ≤ 18 := by omega
  have b22 : -18 ≤ n22 ∧ n22 ≤ 9 := by omega
  have b23 : -9 ≤ n23 ∧ n23 ≤ 27 := by omega
  unfold wpX_fits
  dsimp only
  rw [nI_clamp (show p < 2 ^ 31 by omega), nI_clamp (show q < 2 ^ 31 by omega), nI_clamp (show r < 2 ^ 31 by omega), P1, P2, P3, Q1, Q2, Q3, R1, R2, R3]
  have ip : vp_in (nI p) 60 := pk_in p 60 hp
  have iq : vp_in (nI q) 60 := pk_in q 60 hq
  have ir : vp_in (nI r) 60 := pk_in r 60 hr
  refine ⟨ir, ip, nm_r (show sr_z x - sr_z a = sr_z n11 by rw [sr_zs, e11]) ⟨iq, nm_r (show sr_z d - sr_z n11 - sr_z t = sr_z n13 by rw [sr_zs, sr_zs, e13]) ⟨ir, ip, nm_r (show sr_z y - sr_z b - sr_z t = sr_z n22 by rw [sr_zs, sr_zs, e22]) ⟨iq, nm_r (show sr_z e - sr_z n22 = sr_z n23 by rw [sr_zs, e23]) ⟨iq, nm_e ?_⟩⟩⟩⟩⟩
  refine sr_blt n11 0 (fun u => h0 (fun g => absurd g.1 (by omega))) (fun u1 => ?_)
  refine sr_blt n13 0 (fun u => h0 (fun g => absurd g.2.1 (by omega))) (fun u2 => ?_)
  refine sr_blt n22 0 (fun u => h0 (fun g => absurd g.2.2.1 (by omega))) (fun u3 => ?_)
  refine sr_blt n23 0 (fun u => h0 (fun g => absurd g.2.2.2.1 (by omega))) (fun u4 => ⟨ir, ip, ?_⟩)
  refine sr_beq (n13 + n23 + f) (z - c) (fun u5 => ⟨ip, ip, ?_⟩) (fun u => h0 (fun g => absurd g.2.2.2.2.1 u)) (by rw [sr_za, sr_za]) (by rw [sr_zs])
  have k1 : (b + t ≤ a ∧ c + n13 ≤ b) ∧ c + n13 + n23 ≤ b + t ∧ n22 ≤ n11 ∧ f ≤ n22 ∧ n22 + n23 ≤ n11 + t → post 1 := fun g => h1 ⟨u1, u2, u3, u4, u5, g.1.1, g.1.2, g.2⟩
  have k0 : ¬ ((b + t ≤ a ∧ c + n13 ≤ b) ∧ c + n13 + n23 ≤ b + t ∧ n22 ≤ n11 ∧ f ≤ n22 ∧ n22 + n23 ≤ n11 + t) → post 0 := fun g => h0 (fun w => g ⟨⟨w.2.2.2.2.2.1, w.2.2.2.2.2.2.1⟩, w.2.2.2.2.2.2.2⟩)
  have kf : ¬ (b + t ≤ a ∧ c + n13 ≤ b) → wX_fits_152 post (nI p) (sr_z t) (sr_z n11) (sr_z n13) (sr_z n22) (sr_z n23) (sr_z f) k a1 a2 a3 a4 a5 a6 := by
    intro g
    unfold wX_fits_152
    exact sr_f153 (A := b + t ≤ a ∧ c + n13 ≤ b) hp P2 P3 (by omega) (by omega) (by omega) (by omega) (by omega) (by omega) (by omega) (by omega) ⟨fun _ => g, fun _ => rfl⟩ k1 k0
  refine sr_blt a (b + t) (fun u => kf (fun g => absurd g.1 (by omega))) (fun v1 => ⟨ip, ip, ?_⟩) rfl (sr_za _ _)
  refine sr_blt b (c + n13) (fun u => kf (fun g => absurd g.2 (by omega))) (fun v2 => ?_) rfl (sr_za _ _)
  exact sr_f153 (A := b + t ≤ a ∧ c + n13 ≤ b) hp P2 P3 (by omega) (by omega) (by omega) (by omega) (by omega) (by omega) (by omega) (by omega) ⟨fun v => absurd v (by decide), fun v => absurd ⟨v1, v2⟩ v⟩ k1 k0
/-- how many t below i have P -/
noncomputable def sr_ctn (P : Nat → Prop) : Nat → Nat
  | 0 => 0
  | i + 1 => sr_ctn P i + @ite Nat (P i) (Classical.propDecidable _) 1 0
theorem sr_ctn_y {P : Nat → Prop} {i : Nat} (h : P i) : sr_ctn P (i + 1) = sr_ctn P i + 1 := by
  show sr_ctn P i + @ite Nat (P i) (Classical.propDecidable _) 1 0 = _
  rw [if_pos h]
theorem sr_ctn_n {P : Nat → Prop} {i : Nat} (h : ¬ P i) : sr_ctn P (i + 1) = sr_ctn P i := by
  show sr_ctn P i + @ite Nat (P i) (Classical.propDecidable _) 1 0 = _
  rw [if_neg h, Nat.add_zero]
theorem sr_ctn_le (P : Nat → Prop) (i : Nat) : sr_ctn P i ≤ i := by
  induction i with
  | zero => exact Nat.le_refl _
  | succ i ih =>
    by_cases h : P i
    · rw [sr_ctn_y h]; omega
    · rw [sr_ctn_n h]; omega
/-- the number of fillings -/
noncomputable def sr_N (a b c d e f x y z : Nat) : Nat := sr_ctn (fun t => sr_G a b c d e f x y z t) (y + 1 - b)
theorem sr_cf {post : Int32 → Prop} {k : Int32} {a1 a2 a3 a4 a5 a6 : Nat → Int32} {p q r a b c d e f x y z : Nat} (hp : p < 60) (hq : q < 60) (hr : r < 60) (hP : sr_R a1 a2 a3 p a b c) (hQ : sr_R a1 a2 a3 q d e f) (hR : sr_R a1 a2 a3 r x y z) (o1 : sr_ok a b c) (o2 : sr_ok d e f) (o3 : sr_ok x y z)
    (h : post (nI (sr_N a b c d e f x y z))) : wpX_countFillings post (k, a1, a2, a3, a4, a5, a6) (nI p) (nI q) (nI r) := by
  unfold wpX_countFillings
  have hb : b ≤ 9 := by obtain ⟨_, _, _⟩ := o1; omega
  have hy : y ≤ 9 := by obtain ⟨_, _, _⟩ := o3; omega
  have ep : (nI p).toNatClampNeg = p := nI_clamp (by omega)
  have er : (nI r).toNatClampNeg = r := nI_clamp (by omega)
  have es : nI y - nI b = sr_z ((y : Int) - b) := by rw [sr_zn, sr_zn, sr_zs]
  refine pk_loop (σ := Unit) (fun n i _ => wX_countFillings_6 post (nI p) (nI q) (nI r) k a1 a2 a3 a4 a5 a6 n (nI (sr_ctn (fun t => sr_G a b c d e f x y z t) i)) (nI i)) (fun _ _ => True) (y + 1 - b) 0 () (by omega) trivial ?_ ?_
  · intro n _ _
    refine ⟨pk_in r 60 hr, pk_in p 60 hp, ?_⟩
    rw [er, ep, hR.2.1, hP.2.1, es]
    exact sr_blt ((y : Int) - b) ((y + 1 - b : Nat) : Int) (fun _ => h) (fun t => absurd t (by omega)) rfl (sr_zn _)
  · intro n i _ hi _ hw
    have hw := hw () trivial
    refine ⟨pk_in r 60 hr, pk_in p 60 hp, ?_⟩
    rw [er, ep, hR.2.1, hP.2.1, es]
    refine sr_blt ((y : Int) - b) (i : Int) (fun t => absurd t (by omega)) (fun _ => ?_) rfl (sr_zn _)
    refine sr_fits hp hq hr hP hQ hR o1 o2 o3 (by omega) (fun g => br_f (by decide) (nm_r (nI_1 _) (nm_r (nI_1 i) ?_))) (fun g => br_t rfl (nm_r (nI_1 i) ?_))
    · rw [sr_ctn_y (P := fun t : Nat => sr_G a b c d e f x y z t) g] at hw
      exact hw
    · rw [sr_ctn_n (P := fun t : Nat => sr_G a b c d e f x y z t) g] at hw
      exact hw
theorem sr_num {post : Int32 → Prop} {k : Nat} {a1 a2 a3 a4 a5 a6 : Nat → Int32} {a b c d e f x y z : Nat} {p q r : Int32} (hT : sr_T k a1 a2 a3) (o1 : sr_ok a b c) (o2 : sr_ok d e f) (o3 : sr_ok x y z)
    (hp : p = nI (a + 10 * b + 100 * c)) (hq : q = nI (d + 10 * e + 100 * f)) (hr : r = nI (x + 10 * y + 100 * z))
    (h : post (nI (sr_N a b c d e f x y z))) : wpX_number post (nI k, a1, a2, a3, a4, a5, a6) p q r := by
  have hk := hT.1
  subst hp hq hr
  unfold wpX_number
  exact sr_shapeOf hT o1 (fun i hi Ri => sr_shapeOf hT o2 (fun j hj Rj => sr_shapeOf hT o3 (fun l hl Rl => br_f (nI_pos (by omega)) (br_f (nI_pos (by omega)) (br_t (nI_pos' (by omega)) (sr_cf (by omega) (by omega) (by omega) Ri Rj Rl o1 o2 o3 h))))))
end
section
/-! what the numbers are -/
theorem sr_ctn_0 {P : Nat → Prop} {i : Nat} (h : ∀ t, t < i → ¬ P t) : sr_ctn P i = 0 := by
  induction i with
  | zero => rfl
  | succ i ih => rw [sr_ctn_n (h i (by omega))]; exact ih (fun t ht => h t (by omega))
theorem sr_ctn_1 {P : Nat → Prop} {i t0 : Nat} (h0 : t0 < i) (hP : P t0) (h : ∀ t, t < i → P t → t = t0) : sr_ctn P i = 1 := by
  induction i with
  | zero => exact absurd h0 (Nat.not_lt_zero _)
  | succ i ih =>
    by_cases e : t0 = i
    · subst e
      rw [sr_ctn_y hP, sr_ctn_0 (fun t ht g => absurd (h t (by omega) g) (by omega))]
    · rw [sr_ctn_n (fun g => e (h i (by omega) g).symm)]
      exact ih (by omega) (fun t ht g => h t (by omega) g)
theorem sr_ctn_iv {P : Nat → Prop} {L U : Int} (hL : 0 ≤ L) (h : ∀ t : Nat, P t ↔ L ≤ t ∧ t ≤ U) (i : Nat) : (sr_ctn P i : Int) = max 0 (min (U + 1) i - L) := by
  induction i with
  | zero =>
    show ((0 : Nat) : Int) = _
    omega
  | succ i ih =>
    by_cases g : P i
    · have := (h i).mp g
      rw [sr_ctn_y g]
      omega
    · have g' : ¬ (L ≤ (i : Int) ∧ (i : Int) ≤ U) := fun t => g ((h i).mpr t)
      rw [sr_ctn_n g]
      omega
/-- a row of r more: Pieri's rule -/
def sr_row (a b c r x y z : Nat) : Prop := a ≤ x ∧ y ≤ a ∧ b ≤ y ∧ z ≤ b ∧ c ≤ z ∧ x + y + z = a + b + c + r
theorem sr_p1 {a b c r x y z : Nat} (o3 : sr_ok x y z) (h : sr_row a b c r x y z) : sr_N a b c r 0 0 x y z = 1 := by
  obtain ⟨h1, h2, h3, h4, h5, h6⟩ := h
  obtain ⟨h7, h8, h9⟩ := o3
  refine sr_ctn_1 (t0 := y - b) (by omega) ?_ ?_
  · unfold sr_G
    refine ⟨?_, ?_, ?_, ?_, ?_, ?_, ?_, ?_, ?_, ?_, ?_⟩ <;> omega
  · intro t ht g
    obtain ⟨g1, g2, g3, g4, g5, g6, g7, g8, g9, g10, g11⟩ := g
    omega
theorem sr_p0 {a b c r x y z : Nat} (h : ¬ sr_row a b c r x y z) : sr_N a b c r 0 0 x y z = 0 := by
  refine sr_ctn_0 (fun t ht g => h ?_)
  obtain ⟨g1, g2, g3, g4, g5, g6, g7, g8, g9, g10, g11⟩ := g
  refine ⟨?_, ?_, ?_, ?_, ?_, ?_⟩ <;> omega
theorem sr_q1 {a b c r x y z : Nat} (h : sr_row a b c r x y z) : sr_N r 0 0 a b c x y z = 1 := by
  obtain ⟨h1, h2, h3, h4, h5, h6⟩ := h
  refine sr_ctn_1 (t0 := a + r - x) (by omega) ?_ ?_
  · unfold sr_G
    refine ⟨?_, ?_, ?_, ?_, ?_, ?_, ?_, ?_, ?_, ?_, ?_⟩ <;> omega
  · intro t ht g
    obtain ⟨g1, g2, g3, g4, g5, g6, g7, g8, g9, g10, g11⟩ := g
    omega
theorem sr_q0 {a b c r x y z : Nat} (h : ¬ sr_row a b c r x y z) : sr_N r 0 0 a b c x y z = 0 := by
  refine sr_ctn_0 (fun t ht g => h ?_)
  obtain ⟨g1, g2, g3, g4, g5, g6, g7, g8, g9, g10, g11⟩ := g
  refine ⟨?_, ?_, ?_, ?_, ?_, ?_⟩ <;> omega
/-- one cell more -/
theorem sr_c1 {a b c x y z : Nat} (o1 : sr_ok a b c) (o3 : sr_ok x y z) (h1 : x + y + z = a + b + c + 1) (h2 : a ≤ x) (h3 : b ≤ y) (h4 : c ≤ z) : sr_N a b c 1 0 0 x y z = 1 := by
  obtain ⟨h5, h6, h7⟩ := o1
  obtain ⟨h8, h9, h10⟩ := o3
  exact sr_p1 ⟨h8, h9, h10⟩ ⟨by omega, by omega, by omega, by omega, by omega, by omega⟩
theorem sr_c0 {a b c x y z : Nat} (h : ¬ (x + y + z = a + b + c + 1 ∧ a ≤ x ∧ b ≤ y ∧ c ≤ z)) : sr_N a b c 1 0 0 x y z = 0 :=
  sr_p0 (fun g => h ⟨g.2.2.2.2.2, g.1, g.2.2.1, g.2.2.2.2.1⟩)
/-- a column of three more -/
theorem sr_k1 {a b c x y z : Nat} (o1 : sr_ok a b c) (h1 : x = a + 1) (h2 : y = b + 1) (h3 : z = c + 1) : sr_N a b c 1 1 1 x y z = 1 := by
  obtain ⟨h5, h6, h7⟩ := o1
  refine sr_ctn_1 (t0 := 0) (by omega) ?_ ?_
  · unfold sr_G
    refine ⟨?_, ?_, ?_, ?_, ?_, ?_, ?_, ?_, ?_, ?_, ?_⟩ <;> omega
  · intro t ht g
    obtain ⟨g1, g2, g3, g4, g5, g6, g7, g8, g9, g10, g11⟩ := g
    omega
theorem sr_k0 {a b c x y z : Nat} (h : ¬ (x = a + 1 ∧ y = b + 1 ∧ z = c + 1)) : sr_N a b c 1 1 1 x y z = 0 := by
  refine sr_ctn_0 (fun t ht g => h ?_)
  obtain ⟨g1, g2, g3, g4, g5, g6, g7, g8, g9, g10, g11⟩ := g
  refine ⟨?_, ?_, ?_⟩ <;> omega
/-! the product doesn't mind the order: the good t are the ints from L to U, and U - L is the least of the same differences on both sides -/
theorem sr_mx (l : List Int) (h : l ≠ []) : ∃ m, m ∈ l ∧ ∀ v, v ∈ l → v ≤ m := by
  induction l with
  | nil => exact absurd rfl h
  | cons u l ih =>
    by_cases e : l = []
    · subst e
      exact ⟨u, List.mem_cons_self, fun v hv => by rw [List.mem_singleton.mp hv]; exact Int.le_refl u⟩
    · obtain ⟨m, h1, h2⟩ := ih e
      by_cases g : u ≤ m
      · exact ⟨m, List.mem_cons_of_mem _ h1, fun v hv => by
          rcases List.mem_cons.mp hv with k | k
          · rw [k]; exact g
          · exact h2 v k⟩
      · exact ⟨u, List.mem_cons_self, fun v hv => by
          rcases List.mem_cons.mp hv with k | k
          · rw [k]; exact Int.le_refl u
          · have := h2 v k
            omega⟩
theorem sr_m6 (v1 v2 v3 v4 v5 v6 : Int) : ∃ m, (v1 ≤ m ∧ v2 ≤ m ∧ v3 ≤ m ∧ v4 ≤ m ∧ v5 ≤ m ∧ v6 ≤ m) ∧ (m = v1 ∨ m = v2 ∨ m = v3 ∨ m = v4 ∨ m = v5 ∨ m = v6) := by
  obtain ⟨m, h1, h2⟩ := sr_mx [v1, v2, v3, v4, v5, v6] (List.cons_ne_nil _ _)
  refine ⟨m, ⟨h2 _ (by simp), h2 _ (by simp), h2 _ (by simp), h2 _ (by simp), h2 _ (by simp), h2 _ (by simp)⟩, ?_⟩
  simpa using h1
theorem sr_n3 (v1 v2 v3 : Int) : ∃ m, (m ≤ v1 ∧ m ≤ v2 ∧ m ≤ v3) ∧ (m = v1 ∨ m = v2 ∨ m = v3) :=
  ⟨min v1 (min v2 v3), ⟨by omega, by omega, by omega⟩, by omega⟩
/-- L is the greatest lower bound on t, U the least upper one -/
def sr_LU (a b c d e f x y L U : Int) : Prop :=
  (0 ≤ L ∧ y - b - e ≤ L ∧ a + c + d - x - b ≤ L ∧ a + c + d + e - x - y ≤ L ∧ a + y - b - x ≤ L ∧ a + e - x ≤ L) ∧
  (L = 0 ∨ L = y - b - e ∨ L = a + c + d - x - b ∨ L = a + c + d + e - x - y ∨ L = a + y - b - x ∨ L = a + e - x) ∧
  (U ≤ a + d - x ∧ U ≤ y - b - f ∧ U ≤ a - b) ∧ (U = a + d - x ∨ U = y - b - f ∨ U = a - b)
theorem sr_LU_ex (a b c d e f x y : Int) : ∃ L U, sr_LU a b c d e f x y L U := by
  obtain ⟨L, h1, h2⟩ := sr_m6 0 (y - b - e) (a + c + d - x - b) (a + c + d + e - x - y) (a + y - b - x) (a + e - x)
  obtain ⟨U, h3, h4⟩ := sr_n3 (a + d - x) (y - b - f) (a - b)
  exact ⟨L, U, h1, h2, h3, h4⟩
theorem sr_LU_G {a b c d e f x y z t L U : Int} (h : sr_LU a b c d e f x y L U) (hs : x + y + z = a + b + c + d + e + f) (hx : a ≤ x) (ht : 0 ≤ t) (hf : 0 ≤ f) : sr_G a b c d e f x y z t ↔ L ≤ t ∧ t ≤ U := by
  obtain ⟨⟨l1, l2, l3, l4, l5, l6⟩, lo, ⟨u1, u2, u3⟩, uo⟩ := h
  constructor
  · rintro ⟨g1, g2, g3, g4, g5, g6, g7, g8, g9, g10, g11⟩
    clear l1 l2 l3 l4 l5 l6 u1 u2 u3
    constructor
    · clear uo
      rcases lo with k | k | k | k | k | k <;> omega
    · clear lo
      rcases uo with k | k | k <;> omega
  · rintro ⟨t1, t2⟩
    clear lo uo
    refine ⟨?_, ?_, ?_, ?_, ?_, ?_, ?_, ?_, ?_, ?_, ?_⟩ <;> omega
theorem sr_N_LU {a b c d e f x y z : Nat} {L U : Int} (h : sr_LU a b c d e f x y L U) (hs : x + y + z = a + b + c + d + e + f) (hx : a ≤ x) : (sr_N a b c d e f x y z : Int) = max 0 (U + 1 - L) := by
  have l1 : 0 ≤ L := h.1.1
  have u2 : U ≤ (y : Int) - b - f := h.2.2.1.2.1
  have e1 := sr_ctn_iv (P := fun t : Nat => sr_G a b c d e f x y z t) (L := L) (U := U) l1 (fun t => sr_LU_G h (by omega) (by omega) (by omega) (by omega)) (y + 1 - b)
  show (sr_ctn (fun t : Nat => sr_G a b c d e f x y z t) (y + 1 - b) : Int) = _
  rw [e1]
  clear e1
  omega
theorem sr_two {U L U' L' u l u' l' : Int} (hU : U = u) (hL : L = l) (hu : U' ≤ u') (hl : l' ≤ L') (e : u' - l' = u - l) : U' - L' ≤ U - L := by omega
theorem sr_LU_le {a b c d e f x y L U L' U' : Int} (h : sr_LU a b c d e f x y L U) (h' : sr_LU d e f a b c x y L' U') : U' - L' ≤ U - L := by
  have e11 : (d + a - x) - (0) = (a + d - x) - (0) := by omega
  have e12 : (d + a - x) - (d + f + a + b - x - y) = (y - b - f) - (0) := by omega
  have e13 : (d + a - x) - (d + b - x) = (a - b) - (0) := by omega
  have e21 : (d + a - x) - (y - e - b) = (a + d - x) - (y - b - e) := by omega
  have e22 : (d + a - x) - (d + f + a - x - e) = (y - b - f) - (y - b - e) := by omega
  have e23 : (d + a - x) - (d + y - e - x) = (a - b) - (y - b - e) := by omega
  have e31 : (y - e - c) - (y - e - b) = (a + d - x) - (a + c + d - x - b) := by omega
  have e32 : (y - e - c) - (d + f + a - x - e) = (y - b - f) - (a + c + d - x - b) := by omega
  have e33 : (y - e - c) - (d + y - e - x) = (a - b) - (a + c + d - x - b) := by omega
  have e41 : (y - e - c) - (0) = (a + d - x) - (a + c + d + e - x - y) := by omega
  have e42 : (y - e - c) - (d + f + a + b - x - y) = (y - b - f) - (a + c + d + e - x - y) := by omega
  have e43 : (y - e - c) - (d + b - x) = (a - b) - (a + c + d + e - x - y) := by omega
  have e51 : (d - e) - (y - e - b) = (a + d - x) - (a + y - b - x) := by omega
  have e52 : (d - e) - (d + f + a - x - e) = (y - b - f) - (a + y - b - x) := by omega
  have e53 : (d - e) - (d + y - e - x) = (a - b) - (a + y - b - x) := by omega
  have e61 : (d - e) - (0) = (a + d - x) - (a + e - x) := by omega
  have e62 : (d - e) - (d + f + a + b - x - y) = (y - b - f) - (a + e - x) := by omega
  have e63 : (d - e) - (d + b - x) = (a - b) - (a + e - x) := by omega
  obtain ⟨_, lo, _, uo⟩ := h
  obtain ⟨⟨m1, m2, m3, m4, m5, m6⟩, _, ⟨v1, v2, v3⟩, _⟩ := h'
  rcases lo with k | k | k | k | k | k <;> rcases uo with j | j | j
  · exact sr_two j k v1 m1 e11
  · exact sr_two j k v1 m4 e12
  · exact sr_two j k v1 m6 e13
  · exact sr_two j k v1 m2 e21
  · exact sr_two j k v1 m3 e22
  · exact sr_two j k v1 m5 e23
  · exact sr_two j k v2 m2 e31
  · exact sr_two j k v2 m3 e32
  · exact sr_two j k v2 m5 e33
  · exact sr_two j k v2 m1 e41
  · exact sr_two j k v2 m4 e42
  · exact sr_two j k v2 m6 e43
  · exact sr_two j k v3 m2 e51
  · exact sr_two j k v3 m3 e52
  · exact sr_two j k v3 m5 e53
  · exact sr_two j k v3 m1 e61
  · exact sr_two j k v3 m4 e62
  · exact sr_two j k v3 m6 e63
theorem sr_G_x {a b c d e f x y z t : Int} (h : sr_G a b c d e f x y z t) (hc : 0 ≤ c) : a ≤ x ∧ d ≤ x := by
  have g1 := h.1
  have g6 := h.2.2.2.2.2.1
  have g7 := h.2.2.2.2.2.2.1
  clear h
  exact ⟨by omega, by omega⟩
theorem sr_G_s {a b c d e f x y z t : Int} (h : sr_G a b c d e f x y z t) : x + y + z = a + b + c + d + e + f := by
  have g := h.2.2.2.2.1
  clear h
  omega
theorem sr_eqN {m n : Nat} {L U L' U' : Int} (e1 : (m : Int) = max 0 (U + 1 - L)) (e2 : (n : Int) = max 0 (U' + 1 - L')) (i1 : U' - L' ≤ U - L) (i2 : U - L ≤ U' - L') : m = n := by omega
theorem sr_sym {a b c d e f x y z : Nat} : sr_N a b c d e f x y z = sr_N d e f a b c x y z := by
  by_cases hs : x + y + z = a + b + c + d + e + f
  · by_cases hx : a ≤ x ∧ d ≤ x
    · obtain ⟨L, U, h⟩ := sr_LU_ex (a : Int) b c d e f x y
      obtain ⟨L', U', h'⟩ := sr_LU_ex (d : Int) e f a b c x y
      exact sr_eqN (sr_N_LU (z := z) h hs hx.1) (sr_N_LU (z := z) h' (by omega) hx.2) (sr_LU_le h h') (sr_LU_le h' h)
    · have z1 : sr_N a b c d e f x y z = 0 := sr_ctn_0 (fun t ht g => hx ⟨Int.ofNat_le.mp (sr_G_x g (Int.natCast_nonneg c)).1, Int.ofNat_le.mp (sr_G_x g (Int.natCast_nonneg c)).2⟩)
      have z2 : sr_N d e f a b c x y z = 0 := sr_ctn_0 (fun t ht g => hx ⟨Int.ofNat_le.mp (sr_G_x g (Int.natCast_nonneg f)).2, Int.ofNat_le.mp (sr_G_x g (Int.natCast_nonneg f)).1⟩)
      rw [z1, z2]
  · have z1 : sr_N a b c d e f x y z = 0 := sr_ctn_0 (fun t ht g => hs (by have := sr_G_s g; clear g; omega))
    have z2 : sr_N d e f a b c x y z = 0 := sr_ctn_0 (fun t ht g => hs (by have := sr_G_s g; clear g; omega))
    rw [z1, z2]
theorem sr_N_le (a b c d e f x y z : Nat) : sr_N a b c d e f x y z ≤ y + 1 := by
  have := sr_ctn_le (fun t : Nat => sr_G a b c d e f x y z t) (y + 1 - b)
  show sr_ctn (fun t : Nat => sr_G a b c d e f x y z t) (y + 1 - b) ≤ y + 1
  omega
end
section
/-! the law -/
theorem sr_ok1 {r : Nat} (h : r ≤ 9) : sr_ok r 0 0 := ⟨Nat.le_refl 0, Nat.zero_le r, h⟩
theorem sr_ok111 : sr_ok 1 1 1 := ⟨by omega, by omega, by omega⟩
theorem sr_w409 {post : Int32 → St0 → Prop} {mc ms kc ks k : Nat} {a1 a2 a3 a4 a5 a6 : Nat → Int32} {x5 : Int32} {a b c x y z : Nat} (hT : sr_T k a1 a2 a3) (o1 : sr_ok a b c) (o3 : sr_ok x y z) (H : post 1 ()) : wL_lawOf_409 post mc ms x5 (nI (a + 10 * b + 100 * c)) (nI (x + 10 * y + 100 * z)) kc ks (nI k) a1 a2 a3 a4 a5 a6 := by
  unfold wL_lawOf_409
  refine sr_code (sz := 9) (by omega) (fun d e f h1 h2 h3 => ?_)
  have o2 : sr_ok d e f := ⟨h1, h2, h3⟩
  refine sr_num hT o1 o2 o3 rfl rfl rfl (sr_num hT o2 o1 o3 rfl rfl rfl (br_t (by rw [sr_sym]) (sr_num hT o1 o2 o3 rfl rfl rfl (br_f (nI_pos ?_) H))))
  have := sr_N_le a b c d e f x y z
  obtain ⟨_, _, _⟩ := o3
  omega
theorem sr_w345 {post : Int32 → St0 → Prop} {mc ms kc ks k : Nat} {a1 a2 a3 a4 a5 a6 : Nat → Int32} {x5 : Int32} {a b c x y z : Nat} (hT : sr_T k a1 a2 a3) (o1 : sr_ok a b c) (o3 : sr_ok x y z) (H : post 1 ()) {z0 z1 : Int32} (hz : z1 = z0) : wL_lawOf_345 post mc ms x5 (nI (a + 10 * b + 100 * c)) (nI (x + 10 * y + 100 * z)) (nI a) (nI b) (nI c) (nI x) (nI y) (nI z) z0 z1 kc ks (nI k) a1 a2 a3 a4 a5 a6 := by
  have w : wL_lawOf_409 post mc ms x5 (nI (a + 10 * b + 100 * c)) (nI (x + 10 * y + 100 * z)) kc ks (nI k) a1 a2 a3 a4 a5 a6 := sr_w409 hT o1 o3 H
  obtain ⟨p1, p2, p3⟩ := id o1
  obtain ⟨p4, p5, p6⟩ := id o3
  unfold wL_lawOf_345
  refine br_t hz (pk_le 7 (a + b + c) (fun _ => w) (fun _ => sr_num (d := 1) (e := 1) (f := 1) hT o1 sr_ok111 o3 rfl rfl rfl ?_) rfl (by rw [nI_add, nI_add]))
  have w0 : ¬ (x = a + 1 ∧ y = b + 1 ∧ z = c + 1) → wL_lawOf_403 post mc ms x5 (nI (a + 10 * b + 100 * c)) (nI (x + 10 * y + 100 * z)) (nI (sr_N a b c 1 1 1 x y z)) kc ks (nI k) a1 a2 a3 a4 a5 a6 := by
    intro g
    unfold wL_lawOf_403 wL_lawOf_404
    exact br_t (by rw [sr_k0 g]; rfl) w
  refine pk_eq x (a + 1) (fun e1 => pk_eq y (b + 1) (fun e2 => pk_eq z (c + 1) (fun e3 => ?_) (fun e => w0 (fun g => e g.2.2)) rfl (nI_1 c)) (fun e => w0 (fun g => e g.2.1)) rfl (nI_1 b)) (fun e => w0 (fun g => e g.1)) rfl (nI_1 a)
  unfold wL_lawOf_404
  exact br_t (by rw [sr_k1 o1 e1 e2 e3]; rfl) w
theorem sr_w323 {post : Int32 → St0 → Prop} {mc ms kc ks k : Nat} {a1 a2 a3 a4 a5 a6 : Nat → Int32} {x5 : Int32} {a b c x y z : Nat} (hT : sr_T k a1 a2 a3) (o1 : sr_ok a b c) (o3 : sr_ok x y z) (H : post 1 ()) {z0 : Int32} (h1 : (x + y + z = a + b + c + 1 ∧ a ≤ x ∧ b ≤ y ∧ c ≤ z) → z0 = 1) (h0 : ¬ (x + y + z = a + b + c + 1 ∧ a ≤ x ∧ b ≤ y ∧ c ≤ z) → z0 = 0) : wL_lawOf_323 post mc ms x5 (nI (a + 10 * b + 100 * c)) (nI (x + 10 * y + 100 * z)) (nI a) (nI b) (nI c) (nI x) (nI y) (nI z) z0 kc ks (nI k) a1 a2 a3 a4 a5 a6 := by
  unfold wL_lawOf_323
  refine sr_num (d := 1) (e := 0) (f := 0) hT o1 (sr_ok1 (by omega)) o3 rfl rfl rfl ?_
  by_cases g : x + y + z = a + b + c + 1 ∧ a ≤ x ∧ b ≤ y ∧ c ≤ z
  · exact br_f (by rw [h1 g]; decide) (sr_w345 hT o1 o3 H (by rw [sr_c1 o1 o3 g.1 g.2.1 g.2.2.1 g.2.2.2]; rfl))
  · exact br_t (h0 g) (sr_w345 hT o1 o3 H (by rw [sr_c0 g]; rfl))
theorem sr_w258 {post : Int32 → St0 → Prop} {mc ms kc ks k : Nat} {a1 a2 a3 a4 a5 a6 : Nat → Int32} {x5 : Int32} {a b c x y z : Nat} (hT : sr_T k a1 a2 a3) (o1 : sr_ok a b c) (o3 : sr_ok x y z) (H : post 1 ()) {z0 z1 : Int32} (hz : z1 = z0) : wL_lawOf_258 post mc ms x5 (nI (a + 10 * b + 100 * c)) (nI (x + 10 * y + 100 * z)) (nI a) (nI b) (nI c) (nI x) (nI y) (nI z) z0 z1 kc ks (nI k) a1 a2 a3 a4 a5 a6 := by
  obtain ⟨p1, p2, p3⟩ := id o1
  obtain ⟨p4, p5, p6⟩ := id o3
  have w0 : ¬ (x + y + z = a + b + c + 1 ∧ a ≤ x ∧ b ≤ y ∧ c ≤ z) → wL_lawOf_322 post mc ms x5 (nI (a + 10 * b + 100 * c)) (nI (x + 10 * y + 100 * z)) (nI a) (nI b) (nI c) (nI x) (nI y) (nI z) kc ks (nI k) a1 a2 a3 a4 a5 a6 := by
    intro g
    unfold wL_lawOf_322
    exact sr_w323 hT o1 o3 H (fun t => absurd t g) (fun _ => rfl)
  unfold wL_lawOf_258
  refine br_t hz (pk_eq (x + y + z) (a + b + c + 1) (fun e => ?_) (fun e => w0 (fun g => e g.1)) (by rw [nI_add, nI_add]) (by rw [nI_add, nI_add, nI_1]))
  unfold wpL_shape
  by_cases hx : x < a
  · exact br_t (pk_sneg (by omega) hx) (br_t rfl (w0 (fun g => absurd g.2.1 (by omega))))
  · rw [pk_sub (show a ≤ x by omega)]
    refine br_f (nI_pos (by omega)) (br_f (by decide) (br_f (by decide) (br_f (by decide) ?_)))
    refine pk_lt x a (fun t => absurd t hx) (fun t1 => pk_lt y b (fun t => w0 (fun g => absurd g.2.2.1 (by omega))) (fun t2 => pk_lt z c (fun t => w0 (fun g => absurd g.2.2.2 (by omega))) (fun t3 => ?_)))
    exact sr_w323 hT o1 o3 H (fun _ => rfl) (fun g => absurd ⟨e, t1, t2, t3⟩ g)
theorem sr_w211 {post : Int32 → St0 → Prop} {mc ms kc ks k : Nat} {a1 a2 a3 a4 a5 a6 : Nat → Int32} {x5 : Int32} {a b c x y z : Nat} (hT : sr_T k a1 a2 a3) (o1 : sr_ok a b c) (o3 : sr_ok x y z) (H : post 1 ()) {s : Nat} (hs : s ≤ 9) {z0 : Int32} (h1 : sr_row a b c s x y z → z0 = 1) (h0 : ¬ sr_row a b c s x y z → z0 = 0) : wL_lawOf_211 post mc ms x5 (nI s) (nI (a + 10 * b + 100 * c)) (nI (x + 10 * y + 100 * z)) (nI a) (nI b) (nI c) (nI x) (nI y) (nI z) z0 kc ks (nI k) a1 a2 a3 a4 a5 a6 := by
  have w : ∀ z1 : Int32, (z0 = 1 ∧ sr_row a b c s x y z ∧ z1 = 1 ∨ z0 = 0 ∧ ¬ sr_row a b c s x y z ∧ z1 = 0) → wL_lawOf_234 post mc ms x5 (nI s) (nI (a + 10 * b + 100 * c)) (nI (x + 10 * y + 100 * z)) (nI a) (nI b) (nI c) (nI x) (nI y) (nI z) z0 z1 (nI (sr_N a b c s 0 0 x y z)) kc ks (nI k) a1 a2 a3 a4 a5 a6 := by
    intro z1 hz
    unfold wL_lawOf_234
    rcases hz with ⟨e0, g, e1⟩ | ⟨e0, g, e1⟩
    · exact br_t (by rw [sr_p1 o3 g, e1]; rfl) (sr_num hT (sr_ok1 hs) o1 o3 rfl rfl rfl (br_f (by rw [e0]; decide) (sr_w258 hT o1 o3 H (by rw [sr_q1 g]; rfl))))
    · exact br_t (by rw [sr_p0 g, e1]; rfl) (sr_num hT (sr_ok1 hs) o1 o3 rfl rfl rfl (br_t e0 (sr_w258 hT o1 o3 H (by rw [sr_q0 g]; rfl))))
  unfold wL_lawOf_211
  refine sr_num (d := s) (e := 0) (f := 0) hT o1 (sr_ok1 hs) o3 rfl rfl rfl ?_
  by_cases g : sr_row a b c s x y z
  · exact br_f (by rw [h1 g]; decide) (w 1 (Or.inl ⟨h1 g, g, rfl⟩))
  · exact br_t (h0 g) (w 0 (Or.inr ⟨h0 g, g, rfl⟩))
theorem sr_w210 {post : Int32 → St0 → Prop} {mc ms kc ks k : Nat} {a1 a2 a3 a4 a5 a6 : Nat → Int32} {x5 : Int32} {a b c x y z : Nat} (hT : sr_T k a1 a2 a3) (o1 : sr_ok a b c) (o3 : sr_ok x y z) (H : post 1 ()) {s : Nat} (hs : s ≤ 9) (h0 : ¬ sr_row a b c s x y z) : wL_lawOf_210 post mc ms x5 (nI s) (nI (a + 10 * b + 100 * c)) (nI (x + 10 * y + 100 * z)) (nI a) (nI b) (nI c) (nI x) (nI y) (nI z) kc ks (nI k) a1 a2 a3 a4 a5 a6 := by
  unfold wL_lawOf_210
  exact sr_w211 hT o1 o3 H hs (fun g => absurd g h0) (fun _ => rfl)
theorem sr_lawOf {post : Int32 → St0 → Prop} {p0 p1 p2 p3 p4 p5 : Int32} (H : post 1 ()) : wpL_lawOf post 7 379 () p0 p1 p2 p3 p4 p5 := by
  unfold wpL_lawOf
  refine ⟨by omega, by omega, 6, 372, by omega, by omega, sr_init (by omega) (by omega) (fun a1 a2 a3 hT => ⟨by decide, ?_⟩)⟩
  obtain ⟨j, hj, ej⟩ := pk_andE p2 (m := 127) 7 (by decide)
  obtain ⟨e, he, ee⟩ := pk_andE p4 (m := 1) 1 (by decide)
  obtain ⟨s, es⟩ : ∃ s, s = 1 + j % 8 := ⟨_, rfl⟩
  have s1 : 1 ≤ s := by omega
  have s8 : s ≤ 8 := by omega
  refine nm_r (show 1 + ((p2 &&& 127) - (p2 &&& 127) / 8 * 8) = nI s by rw [ej, show nI j - nI j / 8 * 8 = nI (j % 8) from pk_rem (d := 8) (by omega) (by omega) (by omega), es]; exact nI_add 1 (j % 8)) ?_
  rw [show (9 : Int32) - nI s = nI (9 - s) from pk_sub (a := 9) (by omega)]
  refine sr_code (by omega) (fun a b c h1 h2 h3 => sr_code (sz := 9) (by omega) (fun x y z g1 g2 g3 => nm_r ee ?_))
  have o1 : sr_ok a b c := ⟨h1, h2, by omega⟩
  have o3 : sr_ok x y z := ⟨g1, g2, g3⟩
  obtain ⟨_, c0, c1, c2, cl⟩ := sr_gd_of o1
  obtain ⟨_, d0, d1, d2, dl⟩ := sr_gd_of o3
  refine ⟨sr_n10, nm_r ((sr_d0 (by omega)).trans (by rw [c0])) ⟨sr_n10, sr_n10, nm_r ((sr_d1 (by omega)).trans (by rw [c1])) ⟨sr_n100, nm_r ((sr_d2 (by omega)).trans (by rw [c2])) ?_⟩⟩⟩
  refine ⟨sr_n10, nm_r ((sr_d0 (by omega)).trans (by rw [d0])) ⟨sr_n10, sr_n10, nm_r ((sr_d1 (by omega)).trans (by rw [d1])) ⟨sr_n100, nm_r ((sr_d2 (by omega)).trans (by rw [d2])) ?_⟩⟩⟩
  refine sr_add hT he o1 (fun jp hp Rp => ?_)
  obtain ⟨jq, hq, Rq⟩ := hT.2.2.1 x y z o3
  refine sr_tp (n := p3) hT he hp Rp o1 hq Rq o3 s1 (by omega) (by rw [pk_us]; exact Int32.zero_add p3) (fun i hi ni => by rw [pk_un (by omega)]) (fun b4 b5 hb => ?_)
  refine br_t rfl (sr_coef hT he o3 (fun i hi Ri => sr_strip o1 o3 (by omega) (br_t ?_ ?_)))
  · have : i = jq := hT.2.2.2 i jq hi hq (Ri.1.trans Rq.1.symm) (Ri.2.1.trans Rq.2.1.symm) (Ri.2.2.trans Rq.2.2.symm)
    rw [this, hb, Int32.mul_comm]
  · have w0 : ∀ {kc ks : Nat} {b6 : Nat → Int32}, ¬ sr_row a b c s x y z → wL_lawOf_210 post 7 379 p5 (nI s) (nI (a + 10 * b + 100 * c)) (nI (x + 10 * y + 100 * z)) (nI a) (nI b) (nI c) (nI x) (nI y) (nI z) kc ks (nI 53) a1 a2 a3 b4 b5 b6 := fun g => sr_w210 hT o1 o3 H (by omega) g
    refine pk_lt x a (fun t => w0 (fun g => absurd g.1 (by omega))) (fun t1 => ?_)
    refine pk_lt a y (fun t => w0 (fun g => absurd g.2.1 (by omega))) (fun t2 => ?_)
    refine pk_lt y b (fun t => w0 (fun g => absurd g.2.2.1 (by omega))) (fun t3 => ?_)
    refine pk_lt b z (fun t => w0 (fun g => absurd g.2.2.2.1 (by omega))) (fun t4 => ?_)
    refine pk_lt z c (fun t => w0 (fun g => absurd g.2.2.2.2.1 (by omega))) (fun t5 => ?_)
    refine pk_eq (x + y + z) (a + b + c + s) (fun t6 => ?_) (fun t => w0 (fun g => absurd g.2.2.2.2.2 t)) (by rw [nI_add, nI_add]) (by rw [nI_add, nI_add, nI_add])
    exact sr_w211 hT o1 o3 H (by omega) (fun _ => rfl) (fun g => absurd ⟨t1, t2, t3, t4, t5, t6⟩ g)
theorem i_vc (xs : Nat → Int32) (L : Nat) (hL : L ≤ 6) : wpL_law (fun r => r = 1) L xs := by
  unfold wpL_law
  refine sr_cell 0 hL rfl (by omega) (fun r1 => sr_cell 1 hL rfl (by omega) (fun r2 => sr_cell 2 hL rfl (by omega) (fun r3 => sr_cell 3 hL rfl (by omega) (fun r4 => sr_cell 4 hL rfl (by omega) (fun r5 => sr_cell 5 hL rfl (by omega) (fun r6 => ?_))))))
  exact ⟨7, 379, by omega, by omega, sr_lawOf rfl⟩
end
