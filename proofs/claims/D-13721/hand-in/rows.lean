section
/-- how many of the first n places hold v -/
def ds_z (v : Int32) (a : Nat → Int32) : Nat → Nat
  | 0 => 0
  | n + 1 => ds_z v a n + (if a n = v then 1 else 0)
/-- how many of the first n places hold something else than v -/
def ds_e (v : Int32) (a : Nat → Int32) : Nat → Nat
  | 0 => 0
  | n + 1 => ds_e v a n + (if a n = v then 0 else 1)
/-- the number of the group within its record, behind n entries -/
def ds_g (a : Nat → Int32) : Nat → Nat
  | 0 => 0
  | n + 1 => if a n = 0 then 0 else if a n = 1 then ds_g a n + 1 else ds_g a n
theorem ds_z_t {v : Int32} {a : Nat → Int32} {n : Nat} (h : a n = v) : ds_z v a (n + 1) = ds_z v a n + 1 := by
  show ds_z v a n + (if a n = v then 1 else 0) = _
  rw [if_pos h]
theorem ds_z_f {v : Int32} {a : Nat → Int32} {n : Nat} (h : ¬ a n = v) : ds_z v a (n + 1) = ds_z v a n := by
  show ds_z v a n + (if a n = v then 1 else 0) = _
  rw [if_neg h]
  rfl
theorem ds_e_t {v : Int32} {a : Nat → Int32} {n : Nat} (h : a n = v) : ds_e v a (n + 1) = ds_e v a n := by
  show ds_e v a n + (if a n = v then 0 else 1) = _
  rw [if_pos h]
  rfl
theorem ds_e_f {v : Int32} {a : Nat → Int32} {n : Nat} (h : ¬ a n = v) : ds_e v a (n + 1) = ds_e v a n + 1 := by
  show ds_e v a n + (if a n = v then 0 else 1) = _
  rw [if_neg h]
theorem ds_10 : ¬ (1 : Int32) = 0 := by decide
theorem ds_20 : ¬ (2 : Int32) = 0 := by decide
theorem ds_21 : ¬ (2 : Int32) = 1 := by decide
theorem ds_02 : ¬ (0 : Int32) = 2 := by decide
theorem ds_12 : ¬ (1 : Int32) = 2 := by decide
theorem ds_g_0 {a : Nat → Int32} {n : Nat} (h : a n = 0) : ds_g a (n + 1) = 0 := by
  show (if a n = 0 then 0 else if a n = 1 then ds_g a n + 1 else ds_g a n) = _
  rw [if_pos h]
theorem ds_g_1 {a : Nat → Int32} {n : Nat} (h : a n = 1) : ds_g a (n + 1) = ds_g a n + 1 := by
  show (if a n = 0 then 0 else if a n = 1 then ds_g a n + 1 else ds_g a n) = _
  rw [if_neg (by rw [h]; exact ds_10), if_pos h]
theorem ds_g_2 {a : Nat → Int32} {n : Nat} (h0 : ¬ a n = 0) (h1 : ¬ a n = 1) : ds_g a (n + 1) = ds_g a n := by
  show (if a n = 0 then 0 else if a n = 1 then ds_g a n + 1 else ds_g a n) = _
  rw [if_neg h0, if_neg h1]
theorem ds_z_1 (v : Int32) (a : Nat → Int32) (n : Nat) : ds_z v a n ≤ ds_z v a (n + 1) ∧ ds_z v a (n + 1) ≤ ds_z v a n + 1 := by
  by_cases h : a n = v
  · rw [ds_z_t h]; omega
  · rw [ds_z_f h]; omega
theorem ds_e_1 (v : Int32) (a : Nat → Int32) (n : Nat) : ds_e v a n ≤ ds_e v a (n + 1) ∧ ds_e v a (n + 1) ≤ ds_e v a n + 1 := by
  by_cases h : a n = v
  · rw [ds_e_t h]; omega
  · rw [ds_e_f h]; omega
theorem ds_z_le (v : Int32) (a : Nat → Int32) (n : Nat) : ds_z v a n ≤ n := by
  induction n with
  | zero => exact Nat.le_refl 0
  | succ n ih => have h := ds_z_1 v a n; omega
theorem ds_e_le (v : Int32) (a : Nat → Int32) (n : Nat) : ds_e v a n ≤ n := by
  induction n with
  | zero => exact Nat.le_refl 0
  | succ n ih => have h := ds_e_1 v a n; omega
theorem ds_g_le (a : Nat → Int32) (n : Nat) : ds_g a n ≤ n := by
  induction n with
  | zero => exact Nat.le_refl 0
  | succ n ih =>
    by_cases h0 : a n = 0
    · rw [ds_g_0 h0]; omega
    · by_cases h1 : a n = 1
      · rw [ds_g_1 h1]; omega
      · rw [ds_g_2 h0 h1]; omega
theorem ds_z_mono (v : Int32) (a : Nat → Int32) {m n : Nat} (h : m ≤ n) : ds_z v a m ≤ ds_z v a n := by
  induction n with
  | zero => rw [show m = 0 by omega]; exact Nat.le_refl _
  | succ n ih =>
    by_cases e : m = n + 1
    · rw [e]; exact Nat.le_refl _
    · have h1 := ih (by omega)
      have h2 := ds_z_1 v a n
      omega
theorem ds_e_mono (v : Int32) (a : Nat → Int32) {m n : Nat} (h : m ≤ n) : ds_e v a m ≤ ds_e v a n := by
  induction n with
  | zero => rw [show m = 0 by omega]; exact Nat.le_refl _
  | succ n ih =>
    by_cases e : m = n + 1
    · rw [e]; exact Nat.le_refl _
    · have h1 := ih (by omega)
      have h2 := ds_e_1 v a n
      omega
theorem ds_z_lt {v : Int32} {a : Nat → Int32} {f n : Nat} (hf : f < n) (h : a f = v) : ds_z v a f < ds_z v a n := by
  have h1 := ds_z_mono v a (show f + 1 ≤ n from hf)
  have h2 := ds_z_t h
  omega
theorem ds_e_lt {v : Int32} {a : Nat → Int32} {f n : Nat} (hf : f < n) (h : ¬ a f = v) : ds_e v a f < ds_e v a n := by
  have h1 := ds_e_mono v a (show f + 1 ≤ n from hf)
  have h2 := ds_e_f h
  omega
theorem ds_z_c {v : Int32} {a b : Nat → Int32} : ∀ {n : Nat}, (∀ j, j < n → a j = b j) → ds_z v a n = ds_z v b n := by
  intro n
  induction n with
  | zero => intro _; rfl
  | succ n ih =>
    intro h
    have h1 := ih (fun j hj => h j (by omega))
    have h2 := h n (by omega)
    show ds_z v a n + (if a n = v then 1 else 0) = ds_z v b n + (if b n = v then 1 else 0)
    rw [h1, h2]
theorem ds_e_c {v : Int32} {a b : Nat → Int32} : ∀ {n : Nat}, (∀ j, j < n → a j = b j) → ds_e v a n = ds_e v b n := by
  intro n
  induction n with
  | zero => intro _; rfl
  | succ n ih =>
    intro h
    have h1 := ih (fun j hj => h j (by omega))
    have h2 := h n (by omega)
    show ds_e v a n + (if a n = v then 0 else 1) = ds_e v b n + (if b n = v then 0 else 1)
    rw [h1, h2]
theorem ds_z_u {v x : Int32} {a : Nat → Int32} {m n : Nat} (h : m ≤ n) : ds_z v (upd a n x) m = ds_z v a m :=
  ds_z_c (fun j hj => pk_un (by omega))
theorem ds_e_u {v x : Int32} {a : Nat → Int32} {m n : Nat} (h : m ≤ n) : ds_e v (upd a n x) m = ds_e v a m :=
  ds_e_c (fun j hj => pk_un (by omega))
theorem ds_z_ut {v x : Int32} {a : Nat → Int32} {n : Nat} (h : x = v) : ds_z v (upd a n x) (n + 1) = ds_z v a n + 1 := by
  rw [ds_z_t (by rw [pk_us]; exact h), ds_z_u (Nat.le_refl n)]
theorem ds_z_uf {v x : Int32} {a : Nat → Int32} {n : Nat} (h : ¬ x = v) : ds_z v (upd a n x) (n + 1) = ds_z v a n := by
  rw [ds_z_f (by rw [pk_us]; exact h), ds_z_u (Nat.le_refl n)]
theorem ds_e_ut {v x : Int32} {a : Nat → Int32} {n : Nat} (h : x = v) : ds_e v (upd a n x) (n + 1) = ds_e v a n := by
  rw [ds_e_t (by rw [pk_us]; exact h), ds_e_u (Nat.le_refl n)]
theorem ds_e_uf {v x : Int32} {a : Nat → Int32} {n : Nat} (h : ¬ x = v) : ds_e v (upd a n x) (n + 1) = ds_e v a n + 1 := by
  rw [ds_e_f (by rw [pk_us]; exact h), ds_e_u (Nat.le_refl n)]
theorem ds_z_at {v : Int32} {a : Nat → Int32} {k n : Nat} (h : k < ds_z v a n) : ∃ f, f < n ∧ ds_z v a f = k ∧ a f = v := by
  induction n with
  | zero => exact absurd h (Nat.not_lt_zero k)
  | succ n ih =>
    by_cases hk : k < ds_z v a n
    · obtain ⟨f, h1, h2, h3⟩ := ih hk
      exact ⟨f, by omega, h2, h3⟩
    · by_cases hv : a n = v
      · rw [ds_z_t hv] at h
        exact ⟨n, by omega, by omega, hv⟩
      · rw [ds_z_f hv] at h
        exact absurd h hk
theorem ds_e_at {v : Int32} {a : Nat → Int32} {k n : Nat} (h : k < ds_e v a n) : ∃ f, f < n ∧ ds_e v a f = k ∧ ¬ a f = v := by
  induction n with
  | zero => exact absurd h (Nat.not_lt_zero k)
  | succ n ih =>
    by_cases hk : k < ds_e v a n
    · obtain ⟨f, h1, h2, h3⟩ := ih hk
      exact ⟨f, by omega, h2, h3⟩
    · by_cases hv : a n = v
      · rw [ds_e_t hv] at h
        exact absurd h hk
      · rw [ds_e_f hv] at h
        exact ⟨n, by omega, by omega, hv⟩
/-- the entry f is one of the group gp of the record rc -/
def ds_at (a : Nat → Int32) (rc gp f : Nat) : Prop := ds_z 0 a (f + 1) = rc + 1 ∧ ds_g a (f + 1) = gp
/-- .. and the first such -/
def ds_fst (a : Nat → Int32) (n rc gp f : Nat) : Prop := f < n ∧ ds_at a rc gp f ∧ ∀ j, j < f → ¬ ds_at a rc gp j
theorem ds_fst_of {a : Nat → Int32} {n rc gp : Nat} (h : ∃ f, f < n ∧ ds_at a rc gp f) : ∃ f, ds_fst a n rc gp f := by
  obtain ⟨f, ⟨h1, h2⟩, h3⟩ := pk_least (fun f => f < n ∧ ds_at a rc gp f) h
  exact ⟨f, h1, h2, fun j hj hat => h3 j hj ⟨by omega, hat⟩⟩
/-- a group lies there without a value or an entry of its own as yet -/
def ds_pd (op og ov : Nat) : Nat := if op = 1 ∧ 0 < og ∧ ov = 0 then 1 else 0
/-- the record that is being written has a group -/
def ds_rc (op og : Nat) : Nat := if op = 1 ∧ 0 < og then 1 else 0
theorem ds_pd1 {op og ov : Nat} (h1 : op = 1) (h2 : 0 < og) (h3 : ov = 0) : ds_pd op og ov = 1 := if_pos ⟨h1, h2, h3⟩
theorem ds_pdO {op og ov : Nat} (h : op = 0) : ds_pd op og ov = 0 := if_neg (fun z => by omega)
theorem ds_pdG {op og ov : Nat} (h : og = 0) : ds_pd op og ov = 0 := if_neg (fun z => by omega)
theorem ds_pdV {op og ov : Nat} (h : 0 < ov) : ds_pd op og ov = 0 := if_neg (fun z => by omega)
theorem ds_pd_le (op og ov : Nat) : ds_pd op og ov ≤ 1 := by
  unfold ds_pd
  split <;> omega
theorem ds_pd_of {op og ov : Nat} (h : ¬ ds_pd op og ov = 0) : op = 1 ∧ 0 < og ∧ ov = 0 := by
  unfold ds_pd at h
  by_cases c : op = 1 ∧ 0 < og ∧ ov = 0
  · exact c
  · rw [if_neg c] at h
    exact absurd rfl h
theorem ds_rc1 {op og : Nat} (h1 : op = 1) (h2 : 0 < og) : ds_rc op og = 1 := if_pos ⟨h1, h2⟩
theorem ds_rcO {op og : Nat} (h : op = 0) : ds_rc op og = 0 := if_neg (fun z => by omega)
theorem ds_rcG {op og : Nat} (h : og = 0) : ds_rc op og = 0 := if_neg (fun z => by omega)
/-- what the two columns hold: each entry of the tags is 0 or 1; each of the values 0, 1, or 2 (then there is a value); an entry that isn't just the next value goes as the tag entry of its group -/
def ds_C (te ve : Nat) (a3 a6 a7 : Nat → Int32) : Prop :=
  (∀ j, j < te → a3 j = 0 ∨ a3 j = 1) ∧ (∀ j, j < ve → a6 j = 0 ∨ a6 j = 1 ∨ a6 j = 2) ∧ (∀ j, j < ve → a6 j = 2 → a7 j = 2) ∧ (∀ j, j < ve → 2 ≤ a7 j → a7 j = 2) ∧ (∀ j, j < ve → ¬ a6 j = 2 → a6 j = a3 (ds_e 2 a6 j))
/-- the numbers of a store -/
def ds_N (op bg en nc te tc ve vc og ov gc : Nat) (a1 a3 a4 a6 a7 : Nat → Int32) : Prop :=
  op ≤ 1 ∧ en + op = bg ∧ bg ≤ 12 ∧ nc = ds_e 0 a1 bg ∧ tc = ds_z 2 a4 te ∧ tc ≤ gc ∧ gc ≤ 40 ∧ te ≤ gc + en ∧ ve + ds_pd op og ov ≤ vc + gc + en ∧ vc = ds_z 2 a7 ve ∧ vc ≤ 60 ∧ og ≤ 4 ∧ ov ≤ 4 ∧ ds_e 2 a6 ve + ds_pd op og ov = te ∧ ds_z 0 a3 te = en + ds_rc op og ∧ (op = 1 → 0 < og → a3 (te - 1) = if og ≤ 1 then 0 else 1)
/-- the invariant of one store's shape -/
def ds_I (op bg en nc te tc ve vc og ov gc : Nat) (a1 a3 a4 a6 a7 : Nat → Int32) : Prop :=
  ds_N op bg en nc te tc ve vc og ov gc a1 a3 a4 a6 a7 ∧ ds_C te ve a3 a6 a7
/-- the columns go together -/
theorem ds_col {te ve : Nat} {a3 a6 a7 : Nat → Int32} (hC : ds_C te ve a3 a6 a7) : ∀ j, j ≤ ve → ds_z 0 a6 j = ds_z 0 a3 (ds_e 2 a6 j) ∧ ds_g a6 j = ds_g a3 (ds_e 2 a6 j) := by
  obtain ⟨c1, c2, c3, c4, c5⟩ := hC
  intro j
  induction j with
  | zero => intro _; exact ⟨rfl, rfl⟩
  | succ j ih =>
    intro hj
    obtain ⟨i1, i2⟩ := ih (by omega)
    by_cases h2 : a6 j = 2
    · rw [ds_e_t h2, ds_z_f (by rw [h2]; exact ds_20), ds_g_2 (by rw [h2]; exact ds_20) (by rw [h2]; exact ds_21)]
      exact ⟨i1, i2⟩
    · have h5 := c5 j (by omega) h2
      rw [ds_e_f h2]
      rcases c2 j (by omega) with h | h | h
      · rw [ds_z_t h, ds_g_0 h, ds_z_t (by rw [← h5]; exact h), ds_g_0 (by rw [← h5]; exact h), i1]
        exact ⟨rfl, rfl⟩
      · rw [ds_z_f (by rw [h]; exact ds_10), ds_g_1 h, ds_z_f (by rw [← h5, h]; exact ds_10), ds_g_1 (by rw [← h5]; exact h), i1, i2]
        exact ⟨rfl, rfl⟩
      · exact absurd h h2
/-- an ended record has its first entry among the tags -/
theorem ds_ft0 {a3 : Nat → Int32} {te rc : Nat} (h : rc < ds_z 0 a3 te) : ∃ f, ds_fst a3 te rc 0 f := by
  obtain ⟨f, h1, h2, h3⟩ := ds_z_at h
  exact ds_fst_of ⟨f, h1, by rw [ds_z_t h3, h2], ds_g_0 h3⟩
/-- behind the first entry of a record its further groups -/
theorem ds_run {a3 : Nat → Int32} {te rc f k : Nat} (hf : ds_at a3 rc 0 f) (h : ∀ j, j < k → a3 (f + 1 + j) = 1) : ∀ gp, gp ≤ k → ds_at a3 rc gp (f + gp) := by
  intro gp
  induction gp with
  | zero => intro _; exact hf
  | succ gp ih =>
    intro hg
    obtain ⟨i1, i2⟩ := ih (by omega)
    have e := h gp (by omega)
    rw [show f + 1 + gp = f + gp + 1 by omega] at e
    refine ⟨?_, ?_⟩
    · show ds_z 0 a3 (f + gp + 1 + 1) = rc + 1
      rw [ds_z_f (by rw [e]; exact ds_10)]
      exact i1
    · show ds_g a3 (f + gp + 1 + 1) = gp + 1
      rw [ds_g_1 e, i2]
/-- a group of an ended record has its entry among the values -/
theorem ds_fv0 {op bg en nc te tc ve vc og ov gc : Nat} {a1 a3 a4 a6 a7 : Nat → Int32} (hI : ds_I op bg en nc te tc ve vc og ov gc a1 a3 a4 a6 a7) {rc gp q : Nat} (hr : rc < en) (hq : q < te) (h : ds_at a3 rc gp q) : ∃ f, ds_fst a6 ve rc gp f := by
  obtain ⟨⟨n1, n2, n3, n4, n5, n6, n7, n8, n9, n10, n11, n12, n13, n14, n15, n16⟩, hC⟩ := hI
  obtain ⟨h1, h2⟩ := h
  have hlt : q < ds_e 2 a6 ve := by
    by_cases hp : ds_pd op og ov = 0
    · omega
    · have hp' := ds_pd_of hp
      have hr1 := ds_rc1 hp'.1 hp'.2.1
      have hl := ds_pd_le op og ov
      rcases Nat.lt_or_ge q (ds_e 2 a6 ve) with z | z
      · exact z
      · have hqe : q + 1 = te := by omega
        rw [hqe] at h1
        omega
  obtain ⟨j, j1, j2, j3⟩ := ds_e_at hlt
  obtain ⟨k1, k2⟩ := ds_col hC (j + 1) j1
  rw [ds_e_f j3, j2] at k1 k2
  exact ds_fst_of ⟨j, j1, k1.trans h1, k2.trans h2⟩
end
section
section
variable {op bg en nc te tc ve vc og ov gc : Nat} {a1 a3 a4 a6 a7 : Nat → Int32}
theorem ds_bd (hI : ds_I op bg en nc te tc ve vc og ov gc a1 a3 a4 a6 a7) : te ≤ 52 ∧ ve ≤ 112 ∧ vc ≤ 60 ∧ tc ≤ 40 ∧ en ≤ 12 ∧ bg ≤ 12 ∧ en ≤ bg ∧ en ≤ ds_z 0 a3 te ∧ tc = ds_z 2 a4 te ∧ vc = ds_z 2 a7 ve ∧ nc = ds_e 0 a1 bg ∧ ds_e 2 a6 ve ≤ te := by
  obtain ⟨⟨n1, n2, n3, n4, n5, n6, n7, n8, n9, n10, n11, n12, n13, n14, n15, n16⟩, hC⟩ := hI
  refine ⟨?_, ?_, n11, ?_, ?_, n3, ?_, ?_, n5, n10, n4, ?_⟩ <;> omega
theorem ds_m1 {z r : Nat} (hz : z < 2 ^ 30) (hr : r < 2 ^ 30) : nI z + (-1) = nI r ↔ z = r + 1 := by
  cases z with
  | zero =>
    constructor
    · intro h
      have h2 : (nI 0 + (-1)).toInt = -1 := by decide
      rw [h, nI_toInt (by omega)] at h2
      omega
    · intro h
      omega
  | succ z =>
    rw [pk_m1, nI_eq (by omega) (by omega)]
    omega
theorem ds_p0 (x : Int32) : x + 0 = x := Int32.add_zero x
theorem ds_m1s (z : Nat) : nI z + (-1) + 1 = nI z := by
  rw [Int32.add_assoc, show (-1 : Int32) + 1 = 0 by decide, Int32.add_zero]
theorem ds_m1t (z : Nat) : nI z + (-1) + 1 = nI (z + 1) + (-1) := by
  rw [ds_m1s, pk_m1]
theorem ds_m0 : nI 0 + (-1) = (-1 : Int32) := by decide
theorem ds_m1le {n : Nat} (h : n < 2 ^ 31) : (-1 : Int32) ≤ nI n := by
  rw [Int32.le_iff_toInt_le, nI_toInt h]
  show (-1 : Int) ≤ n
  omega
/-! the walk over the tags -/
theorem ds_t83 {post : St1 → Prop} {J : Int32 → Int32 → Int32 → Int32 → Prop} {x1 x2 x3 x4 fd : Int32} {a2 a5 a8 : Nat → Int32} {i : Nat} (hi : i < 52) (h : J x3 x4 (nI (i + 1)) (nI (ds_z 2 a4 (i + 1)))) : wX_findTag_83 post J x1 x2 x3 x4 (nI i) (nI op) (nI bg) (nI en) (nI nc) (nI te) (nI tc) (nI ve) (nI vc) (nI og) (nI ov) (nI gc) fd (nI (ds_z 2 a4 i)) a1 a2 a3 a4 a5 a6 a7 a8 := by
  unfold wX_findTag_83
  rw [nI_clamp (show i < 2 ^ 31 by omega)]
  exact ⟨pk_in i 52 hi, br_c (fun e => nm_r ((nI_1 _).trans (by rw [ds_z_t e])) (nm_r (nI_1 i) h)) (fun e => nm_r ((ds_p0 _).trans (by rw [ds_z_f e])) (nm_r (nI_1 i) h))⟩
theorem ds_t63f {post : St1 → Prop} {J : Int32 → Int32 → Int32 → Int32 → Prop} {fd : Int32} {a2 a5 a8 : Nat → Int32} {rc gp i : Nat} (hi : i < 52) (hr : rc < 100) (hg : gp < 100) (hne : ¬ ds_at a3 rc gp i) (h : J (nI (ds_z 0 a3 (i + 1)) + (-1)) (nI (ds_g a3 (i + 1))) (nI (i + 1)) (nI (ds_z 2 a4 (i + 1)))) : wX_findTag_63 post J (nI rc) (nI gp) (nI (ds_z 0 a3 (i + 1)) + (-1)) (nI i) (nI (ds_g a3 (i + 1))) (nI op) (nI bg) (nI en) (nI nc) (nI te) (nI tc) (nI ve) (nI vc) (nI og) (nI ov) (nI gc) fd (nI (ds_z 2 a4 i)) a1 a2 a3 a4 a5 a6 a7 a8 := by
  have b1 := ds_z_le 0 a3 (i + 1)
  have b2 := ds_g_le a3 (i + 1)
  unfold wX_findTag_63
  exact br_c (fun e => br_c (fun e' => absurd ⟨(ds_m1 (by omega) (by omega)).mp e, (nI_eq (by omega) (by omega)).mp e'⟩ hne) (fun _ => ds_t83 hi h)) (fun _ => ds_t83 hi h)
theorem ds_t63t {post : St1 → Prop} {J : Int32 → Int32 → Int32 → Int32 → Prop} {fd : Int32} {a2 a5 a8 : Nat → Int32} {rc gp i : Nat} (hi : i < 52) (hr : rc < 100) (hat : ds_at a3 rc gp i) (h : post (nI op, nI bg, nI en, nI nc, nI te, nI tc, nI ve, nI vc, nI og, nI ov, nI gc, nI i, nI (ds_z 2 a4 i), a1, a2, a3, a4, a5, a6, a7, a8)) : wX_findTag_63 post J (nI rc) (nI gp) (nI (ds_z 0 a3 (i + 1)) + (-1)) (nI i) (nI (ds_g a3 (i + 1))) (nI op) (nI bg) (nI en) (nI nc) (nI te) (nI tc) (nI ve) (nI vc) (nI og) (nI ov) (nI gc) fd (nI (ds_z 2 a4 i)) a1 a2 a3 a4 a5 a6 a7 a8 := by
  have b1 := ds_z_le 0 a3 (i + 1)
  unfold wX_findTag_63
  exact br_t ((ds_m1 (by omega) (by omega)).mpr hat.1) (br_t (by rw [hat.2]) h)
theorem ds_t18 {post : St1 → Prop} {x1 x2 fd : Int32} {a2 a5 a8 : Nat → Int32} {i n : Nat} (hI : ds_I op bg en nc te tc ve vc og ov gc a1 a3 a4 a6 a7) (hi : i < te) (h : wX_findTag_63 post (wX_findTag_18 post x1 x2 (nI op) (nI bg) (nI en) (nI nc) (nI te) (nI tc) (nI ve) (nI vc) (nI og) (nI ov) (nI gc) fd a1 a2 a3 a4 a5 a6 a7 a8 n) x1 x2 (nI (ds_z 0 a3 (i + 1)) + (-1)) (nI i) (nI (ds_g a3 (i + 1))) (nI op) (nI bg) (nI en) (nI nc) (nI te) (nI tc) (nI ve) (nI vc) (nI og) (nI ov) (nI gc) fd (nI (ds_z 2 a4 i)) a1 a2 a3 a4 a5 a6 a7 a8) : wX_findTag_18 post x1 x2 (nI op) (nI bg) (nI en) (nI nc) (nI te) (nI tc) (nI ve) (nI vc) (nI og) (nI ov) (nI gc) fd a1 a2 a3 a4 a5 a6 a7 a8 (n + 1) (nI (ds_z 0 a3 i) + (-1)) (nI (ds_g a3 i)) (nI i) (nI (ds_z 2 a4 i)) := by
  have bd := ds_bd hI
  have hc : (nI i).toNatClampNeg = i := nI_clamp (by omega)
  refine pk_le te i (fun z => absurd z (by omega)) (fun _ => ⟨pk_in i 52 (by omega), ?_⟩)
  rcases hI.2.1 i hi with e | e
  · refine br_t (by rw [hc]; exact e) ?_
    unfold wX_findTag_43
    refine nm_r (e' := nI (ds_z 0 a3 (i + 1)) + (-1)) (by rw [ds_z_t e]; exact ds_m1t _) ⟨pk_in i 52 (by omega), br_t (by rw [hc]; exact e) ?_⟩
    rw [ds_g_0 e] at h
    exact h
  · have e0 : ¬ a3 i = 0 := by rw [e]; exact ds_10
    refine br_f (by rw [hc]; exact e0) ?_
    unfold wX_findTag_43
    refine nm_r (e' := nI (ds_z 0 a3 (i + 1)) + (-1)) (by rw [ds_z_f e0]; exact ds_p0 _) ⟨pk_in i 52 (by omega), br_f (by rw [hc]; exact e0) ?_⟩
    rw [ds_g_1 e, ← nI_1] at h
    exact h
theorem ds_findTag {post : St1 → Prop} {fd ps : Int32} {a2 a5 a8 : Nat → Int32} {rc gp f : Nat} (hI : ds_I op bg en nc te tc ve vc og ov gc a1 a3 a4 a6 a7) (hr : rc < 100) (hg : gp < 100) (hf : ds_fst a3 te rc gp f) (H : post (nI op, nI bg, nI en, nI nc, nI te, nI tc, nI ve, nI vc, nI og, nI ov, nI gc, nI f, nI (ds_z 2 a4 f), a1, a2, a3, a4, a5, a6, a7, a8)) : wpX_findTag post (nI op, nI bg, nI en, nI nc, nI te, nI tc, nI ve, nI vc, nI og, nI ov, nI gc, fd, ps, a1, a2, a3, a4, a5, a6, a7, a8) (nI rc) (nI gp) := by
  have bd := ds_bd hI
  obtain ⟨f1, f2, f3⟩ := hf
  obtain ⟨n, hn⟩ := pk_loop (σ := Unit) (fun n i _ => wX_findTag_18 post (nI rc) (nI gp) (nI op) (nI bg) (nI en) (nI nc) (nI te) (nI tc) (nI ve) (nI vc) (nI og) (nI ov) (nI gc) 0 a1 a2 a3 a4 a5 a6 a7 a8 n (nI (ds_z 0 a3 i) + (-1)) (nI (ds_g a3 i)) (nI i) (nI (ds_z 2 a4 i))) (fun _ _ => True) f 0 () (Nat.zero_le f) trivial
    (fun n _ _ => ds_t18 hI f1 (ds_t63t (by omega) hr f2 H))
    (fun n i _ hi _ hw => ds_t18 hI (by omega) (ds_t63f (by omega) hr hg (f3 i hi) (hw () trivial)))
  have hn' : wX_findTag_18 post (nI rc) (nI gp) (nI op) (nI bg) (nI en) (nI nc) (nI te) (nI tc) (nI ve) (nI vc) (nI og) (nI ov) (nI gc) 0 a1 a2 a3 a4 a5 a6 a7 a8 n (nI 0 + (-1)) 0 0 0 := hn
  rw [ds_m0] at hn'
  unfold wpX_findTag
  exact ⟨n, hn'⟩
/-! the walk over the values -/
theorem ds_v99 {post : St1 → Prop} {J : Int32 → Int32 → Int32 → Int32 → Prop} {x1 x2 x3 x4 fd : Int32} {a2 a5 a8 : Nat → Int32} {i : Nat} (hi : i < 112) (h : J x3 x4 (nI (i + 1)) (nI (ds_z 2 a7 (i + 1)))) : wX_findValue_99 post J x1 x2 x3 x4 (nI i) (nI op) (nI bg) (nI en) (nI nc) (nI te) (nI tc) (nI ve) (nI vc) (nI og) (nI ov) (nI gc) fd (nI (ds_z 2 a7 i)) a1 a2 a3 a4 a5 a6 a7 a8 := by
  unfold wX_findValue_99
  rw [nI_clamp (show i < 2 ^ 31 by omega)]
  exact ⟨pk_in i 112 hi, br_c (fun e => nm_r ((nI_1 _).trans (by rw [ds_z_t e])) (nm_r (nI_1 i) h)) (fun e => nm_r ((ds_p0 _).trans (by rw [ds_z_f e])) (nm_r (nI_1 i) h))⟩
theorem ds_v79f {post : St1 → Prop} {J : Int32 → Int32 → Int32 → Int32 → Prop} {fd : Int32} {a2 a5 a8 : Nat → Int32} {rc gp i : Nat} (hi : i < 112) (hr : rc < 100) (hg : gp < 100) (hne : ¬ ds_at a6 rc gp i) (h : J (nI (ds_z 0 a6 (i + 1)) + (-1)) (nI (ds_g a6 (i + 1))) (nI (i + 1)) (nI (ds_z 2 a7 (i + 1)))) : wX_findValue_79 post J (nI rc) (nI gp) (nI (ds_z 0 a6 (i + 1)) + (-1)) (nI i) (nI (ds_g a6 (i + 1))) (nI op) (nI bg) (nI en) (nI nc) (nI te) (nI tc) (nI ve) (nI vc) (nI og) (nI ov) (nI gc) fd (nI (ds_z 2 a7 i)) a1 a2 a3 a4 a5 a6 a7 a8 := by
  have b1 := ds_z_le 0 a6 (i + 1)
  have b2 := ds_g_le a6 (i + 1)
  unfold wX_findValue_79
  exact br_c (fun e => br_c (fun e' => absurd ⟨(ds_m1 (by omega) (by omega)).mp e, (nI_eq (by omega) (by omega)).mp e'⟩ hne) (fun _ => ds_v99 hi h)) (fun _ => ds_v99 hi h)
theorem ds_v79t {post : St1 → Prop} {J : Int32 → Int32 → Int32 → Int32 → Prop} {fd : Int32} {a2 a5 a8 : Nat → Int32} {rc gp i : Nat} (hi : i < 112) (hr : rc < 100) (hat : ds_at a6 rc gp i) (h : post (nI op, nI bg, nI en, nI nc, nI te, nI tc, nI ve, nI vc, nI og, nI ov, nI gc, nI i, nI (ds_z 2 a7 i), a1, a2, a3, a4, a5, a6, a7, a8)) : wX_findValue_79 post J (nI rc) (nI gp) (nI (ds_z 0 a6 (i + 1)) + (-1)) (nI i) (nI (ds_g a6 (i + 1))) (nI op) (nI bg) (nI en) (nI nc) (nI te) (nI tc) (nI ve) (nI vc) (nI og) (nI ov) (nI gc) fd (nI (ds_z 2 a7 i)) a1 a2 a3 a4 a5 a6 a7 a8 := by
  have b1 := ds_z_le 0 a6 (i + 1)
  unfold wX_findValue_79
  exact br_t ((ds_m1 (by omega) (by omega)).mpr hat.1) (br_t (by rw [hat.2]) h)
theorem ds_v18 {post : St1 → Prop} {x1 x2 fd : Int32} {a2 a5 a8 : Nat → Int32} {i n : Nat} (hI : ds_I op bg en nc te tc ve vc og ov gc a1 a3 a4 a6 a7) (hi : i < ve) (h : wX_findValue_79 post (wX_findValue_18 post x1 x2 (nI op) (nI bg) (nI en) (nI nc) (nI te) (nI tc) (nI ve) (nI vc) (nI og) (nI ov) (nI gc) fd a1 a2 a3 a4 a5 a6 a7 a8 n) x1 x2 (nI (ds_z 0 a6 (i + 1)) + (-1)) (nI i) (nI (ds_g a6 (i + 1))) (nI op) (nI bg) (nI en) (nI nc) (nI te) (nI tc) (nI ve) (nI vc) (nI og) (nI ov) (nI gc) fd (nI (ds_z 2 a7 i)) a1 a2 a3 a4 a5 a6 a7 a8) : wX_findValue_18 post x1 x2 (nI op) (nI bg) (nI en) (nI nc) (nI te) (nI tc) (nI ve) (nI vc) (nI og) (nI ov) (nI gc) fd a1 a2 a3 a4 a5 a6 a7 a8 (n + 1) (nI (ds_z 0 a6 i) + (-1)) (nI (ds_g a6 i)) (nI i) (nI (ds_z 2 a7 i)) := by
  have bd := ds_bd hI
  have hc : (nI i).toNatClampNeg = i := nI_clamp (by omega)
  refine pk_le ve i (fun z => absurd z (by omega)) (fun _ => ⟨pk_in i 112 (by omega), ?_⟩)
  by_cases e : a6 i = 0
  · refine br_t (by rw [hc]; exact e) ?_
    unfold wX_findValue_43
    refine nm_r (e' := nI (ds_z 0 a6 (i + 1)) + (-1)) (by rw [ds_z_t e]; exact ds_m1t _) ⟨pk_in i 112 (by omega), br_t (by rw [hc]; exact e) ?_⟩
    rw [ds_g_0 e] at h
    exact h
  · refine br_f (by rw [hc]; exact e) ?_
    unfold wX_findValue_43
    refine nm_r (e' := nI (ds_z 0 a6 (i + 1)) + (-1)) (by rw [ds_z_f e]; exact ds_p0 _) ⟨pk_in i 112 (by omega), br_f (by rw [hc]; exact e) ⟨pk_in i 112 (by omega), ?_⟩⟩
    by_cases e1 : a6 i = 1
    · refine br_t (by rw [hc]; exact e1) ?_
      rw [ds_g_1 e1, ← nI_1] at h
      exact h
    · refine br_f (by rw [hc]; exact e1) ?_
      rw [ds_g_2 e e1] at h
      exact h
theorem ds_findValue {post : St1 → Prop} {fd ps : Int32} {a2 a5 a8 : Nat → Int32} {rc gp f : Nat} (hI : ds_I op bg en nc te tc ve vc og ov gc a1 a3 a4 a6 a7) (hr : rc < 100) (hg : gp < 100) (hf : ds_fst a6 ve rc gp f) (H : post (nI op, nI bg, nI en, nI nc, nI te, nI tc, nI ve, nI vc, nI og, nI ov, nI gc, nI f, nI (ds_z 2 a7 f), a1, a2, a3, a4, a5, a6, a7, a8)) : wpX_findValue post (nI op, nI bg, nI en, nI nc, nI te, nI tc, nI ve, nI vc, nI og, nI ov, nI gc, fd, ps, a1, a2, a3, a4, a5, a6, a7, a8) (nI rc) (nI gp) := by
  have bd := ds_bd hI
  obtain ⟨f1, f2, f3⟩ := hf
  obtain ⟨n, hn⟩ := pk_loop (σ := Unit) (fun n i _ => wX_findValue_18 post (nI rc) (nI gp) (nI op) (nI bg) (nI en) (nI nc) (nI te) (nI tc) (nI ve) (nI vc) (nI og) (nI ov) (nI gc) 0 a1 a2 a3 a4 a5 a6 a7 a8 n (nI (ds_z 0 a6 i) + (-1)) (nI (ds_g a6 i)) (nI i) (nI (ds_z 2 a7 i))) (fun _ _ => True) f 0 () (Nat.zero_le f) trivial
    (fun n _ _ => ds_v18 hI f1 (ds_v79t (by omega) hr f2 H))
    (fun n i _ hi _ hw => ds_v18 hI (by omega) (ds_v79f (by omega) hr hg (f3 i hi) (hw () trivial)))
  have hn' : wX_findValue_18 post (nI rc) (nI gp) (nI op) (nI bg) (nI en) (nI nc) (nI te) (nI tc) (nI ve) (nI vc) (nI og) (nI ov) (nI gc) 0 a1 a2 a3 a4 a5 a6 a7 a8 n (nI 0 + (-1)) 0 0 0 := hn
  rw [ds_m0] at hn'
  unfold wpX_findValue
  exact ⟨n, hn'⟩
end
end
section
section
variable {op bg en nc te tc ve vc og ov gc : Nat} {a1 a3 a4 a6 a7 : Nat → Int32}
theorem ds_ended {post : Int32 → Prop} {fd ps : Int32} {a2 a5 a8 : Nat → Int32} {rc : Nat} (hr : rc < 100) (he : en ≤ 12) (h1 : rc < en → post 1) (h0 : en ≤ rc → post 0) : wpX_isEnded post (nI op, nI bg, nI en, nI nc, nI te, nI tc, nI ve, nI vc, nI og, nI ov, nI gc, fd, ps, a1, a2, a3, a4, a5, a6, a7, a8) (nI rc) := by
  unfold wpX_isEnded
  exact br_f (nI_pos (by omega)) (pk_le en rc h0 h1)
/-- how far a run of v goes on -/
theorem ds_runE (a : Nat → Int32) (v : Int32) {s t : Nat} (h : s ≤ t) : ∃ k, s + k ≤ t ∧ (∀ j, j < k → a (s + j) = v) ∧ (s + k < t → ¬ a (s + k) = v) := by
  obtain ⟨k, h1, h2⟩ := pk_least (fun k => t ≤ s + k ∨ ¬ a (s + k) = v) ⟨t - s, Or.inl (by omega)⟩
  refine ⟨k, ?_, fun j hj => ?_, fun hl => ?_⟩
  · rcases Nat.lt_or_ge t (s + k) with z | z
    · exact absurd (Or.inl (by omega)) (h2 (t - s) (by omega))
    · exact z
  · by_cases e : a (s + j) = v
    · exact e
    · exact absurd (Or.inr e) (h2 j hj)
  · rcases h1 with z | z
    · omega
    · exact z
theorem ds_39 {post : Int32 → St1 → Prop} {fd ps : Int32} {a2 a5 a8 : Nat → Int32} {s k : Nat} (hI : ds_I op bg en nc te tc ve vc og ov gc a1 a3 a4 a6 a7) (hs : s + k ≤ te) (hr : ∀ j, j < k → a3 (s + j) = 1) (he : s + k < te → ¬ a3 (s + k) = 1) (H : post (nI (1 + k)) (nI op, nI bg, nI en, nI nc, nI te, nI tc, nI ve, nI vc, nI og, nI ov, nI gc, fd, ps, a1, a2, a3, a4, a5, a6, a7, a8)) : ∃ n, wX_groups_39 post (nI op) (nI bg) (nI en) (nI nc) (nI te) (nI tc) (nI ve) (nI vc) (nI og) (nI ov) (nI gc) fd ps a1 a2 a3 a4 a5 a6 a7 a8 n 1 (nI s) := by
  have bd := ds_bd hI
  exact pk_loop (σ := Unit) (fun n i _ => wX_groups_39 post (nI op) (nI bg) (nI en) (nI nc) (nI te) (nI tc) (nI ve) (nI vc) (nI og) (nI ov) (nI gc) fd ps a1 a2 a3 a4 a5 a6 a7 a8 n (nI (1 + i)) (nI (s + i))) (fun _ _ => True) k 0 () (Nat.zero_le k) trivial
    (fun n _ _ => pk_le te (s + k) (fun _ => H) (fun z => ⟨pk_in (s + k) 52 (by omega), br_t (by
      rw [nI_clamp (by omega)]
      rcases hI.2.1 (s + k) z with e | e
      · rw [e]; decide
      · exact absurd e (he z)) H⟩))
    (fun n i _ hi _ hw => pk_le te (s + i) (fun z => absurd z (by omega)) (fun _ => ⟨pk_in (s + i) 52 (by omega), br_f (by rw [nI_clamp (by omega), hr i hi]; decide) (nm_r (nI_1 (1 + i)) (nm_r (nI_1 (s + i)) (hw () trivial)))⟩))
theorem ds_groups {rc : Nat} (hI : ds_I op bg en nc te tc ve vc og ov gc a1 a3 a4 a6 a7) (hrc : rc < 12) : ∃ r : Int32, (∀ (fd ps : Int32) (a2 a5 a8 : Nat → Int32) (post : Int32 → St1 → Prop), (∀ fd' ps' : Int32, post r (nI op, nI bg, nI en, nI nc, nI te, nI tc, nI ve, nI vc, nI og, nI ov, nI gc, fd', ps', a1, a2, a3, a4, a5, a6, a7, a8)) → wpX_groups post (nI op, nI bg, nI en, nI nc, nI te, nI tc, nI ve, nI vc, nI og, nI ov, nI gc, fd, ps, a1, a2, a3, a4, a5, a6, a7, a8) (nI rc)) ∧ (∀ gp, gp < 4 → ¬ r ≤ nI gp → rc < en ∧ ∃ q, q < te ∧ ds_at a3 rc gp q) := by
  have bd := ds_bd hI
  by_cases h : rc < en
  · obtain ⟨f, hf⟩ := ds_ft0 (a3 := a3) (te := te) (rc := rc) (by omega)
    have f1 := hf.1
    by_cases h4 : a4 f = 0
    · refine ⟨0, fun fd ps a2 a5 a8 post H => ?_, fun gp hg hn => absurd (nI_pos' (by omega)) hn⟩
      unfold wpX_groups
      exact ds_ended (by omega) (by omega) (fun _ => br_f ds_10 (ds_findTag (gp := 0) hI (by omega) (by omega) hf ⟨pk_in f 52 (by omega), br_t (by rw [nI_clamp (by omega)]; exact h4) (H _ _)⟩)) (fun z => absurd z (by omega))
    · obtain ⟨k, k1, k2, k3⟩ := ds_runE a3 1 (show f + 1 ≤ te from f1)
      refine ⟨nI (1 + k), fun fd ps a2 a5 a8 post H => ?_, fun gp hg hn => ⟨h, f + gp, ?_, ?_⟩⟩
      · unfold wpX_groups
        exact ds_ended (by omega) (by omega) (fun _ => br_f ds_10 (ds_findTag (gp := 0) hI (by omega) (by omega) hf ⟨pk_in f 52 (by omega), br_f (by rw [nI_clamp (by omega)]; exact h4) (nm_r (nI_1 f) (ds_39 hI k1 k2 k3 (H _ _)))⟩)) (fun z => absurd z (by omega))
      · rw [nI_leI (by omega) (by omega)] at hn
        omega
      · rw [nI_leI (by omega) (by omega)] at hn
        exact ds_run (te := te) hf.2.1 k2 gp (by omega)
  · refine ⟨-1, fun fd ps a2 a5 a8 post H => ?_, fun gp hg hn => absurd (ds_m1le (by omega)) hn⟩
    unfold wpX_groups
    exact ds_ended (by omega) (by omega) (fun z => absurd z h) (fun _ => br_t rfl (H fd ps))
theorem ds_hasNote {rc : Nat} (hI : ds_I op bg en nc te tc ve vc og ov gc a1 a3 a4 a6 a7) (hrc : rc < 12) : ∃ r : Int32, (∀ (fd ps : Int32) (a2 a5 a8 : Nat → Int32) (post : Int32 → Prop), post r → wpX_hasNote post (nI op, nI bg, nI en, nI nc, nI te, nI tc, nI ve, nI vc, nI og, nI ov, nI gc, fd, ps, a1, a2, a3, a4, a5, a6, a7, a8) (nI rc)) ∧ (r = 1 → rc < en ∧ ¬ a1 rc = 0) := by
  have bd := ds_bd hI
  by_cases h : rc < en
  · by_cases h1 : a1 rc = 0
    · refine ⟨0, fun fd ps a2 a5 a8 post H => ?_, fun z => absurd z (by decide)⟩
      unfold wpX_hasNote
      exact ds_ended (by omega) (by omega) (fun _ => br_f ds_10 ⟨pk_in rc 12 hrc, br_t (by rw [nI_clamp (by omega)]; exact h1) H⟩) (fun z => absurd z (by omega))
    · refine ⟨1, fun fd ps a2 a5 a8 post H => ?_, fun _ => ⟨h, h1⟩⟩
      unfold wpX_hasNote
      exact ds_ended (by omega) (by omega) (fun _ => br_f ds_10 ⟨pk_in rc 12 hrc, br_f (by rw [nI_clamp (by omega)]; exact h1) H⟩) (fun z => absurd z (by omega))
  · refine ⟨-1, fun fd ps a2 a5 a8 post H => ?_, fun z => absurd z (by decide)⟩
    unfold wpX_hasNote
    exact ds_ended (by omega) (by omega) (fun z => absurd z h) (fun _ => br_t rfl H)
theorem ds_isGroup {rc gp : Nat} (hI : ds_I op bg en nc te tc ve vc og ov gc a1 a3 a4 a6 a7) (hrc : rc < 12) (hgp : gp < 4) :
    (∀ (fd ps : Int32) (a2 a5 a8 : Nat → Int32) (post : Int32 → St1 → Prop), (∀ fd' ps' : Int32, post 0 (nI op, nI bg, nI en, nI nc, nI te, nI tc, nI ve, nI vc, nI og, nI ov, nI gc, fd', ps', a1, a2, a3, a4, a5, a6, a7, a8)) → wpX_isGroup post (nI op, nI bg, nI en, nI nc, nI te, nI tc, nI ve, nI vc, nI og, nI ov, nI gc, fd, ps, a1, a2, a3, a4, a5, a6, a7, a8) (nI rc) (nI gp)) ∨
    ((rc < en ∧ ∃ q, q < te ∧ ds_at a3 rc gp q) ∧ ∀ (fd ps : Int32) (a2 a5 a8 : Nat → Int32) (post : Int32 → St1 → Prop), (∀ fd' ps' : Int32, post 1 (nI op, nI bg, nI en, nI nc, nI te, nI tc, nI ve, nI vc, nI og, nI ov, nI gc, fd', ps', a1, a2, a3, a4, a5, a6, a7, a8)) → wpX_isGroup post (nI op, nI bg, nI en, nI nc, nI te, nI tc, nI ve, nI vc, nI og, nI ov, nI gc, fd, ps, a1, a2, a3, a4, a5, a6, a7, a8) (nI rc) (nI gp)) := by
  have bd := ds_bd hI
  obtain ⟨r, hw, hr⟩ := ds_groups hI hrc
  by_cases h : rc < en
  · by_cases hg : r ≤ nI gp
    · refine Or.inl (fun fd ps a2 a5 a8 post H => ?_)
      unfold wpX_isGroup
      exact ds_ended (by omega) (by omega) (fun _ => br_f ds_10 (br_f (nI_pos (by omega)) (hw fd ps a2 a5 a8 _ (fun fd' ps' => br_t hg (H fd' ps'))))) (fun z => absurd z (by omega))
    · refine Or.inr ⟨hr gp hgp hg, fun fd ps a2 a5 a8 post H => ?_⟩
      unfold wpX_isGroup
      exact ds_ended (by omega) (by omega) (fun _ => br_f ds_10 (br_f (nI_pos (by omega)) (hw fd ps a2 a5 a8 _ (fun fd' ps' => br_f hg (H fd' ps'))))) (fun z => absurd z (by omega))
  · refine Or.inl (fun fd ps a2 a5 a8 post H => ?_)
    unfold wpX_isGroup
    exact ds_ended (by omega) (by omega) (fun z => absurd z h) (fun _ => br_t rfl (H fd ps))
theorem ds_42 {post : Int32 → St1 → Prop} {fd ps : Int32} {a2 a5 a8 : Nat → Int32} {s k : Nat} (hI : ds_I op bg en nc te tc ve vc og ov gc a1 a3 a4 a6 a7) (hs : s + k ≤ ve) (hr : ∀ j, j < k → a6 (s + j) = 2) (he : s + k < ve → ¬ a6 (s + k) = 2) (H : post (nI (1 + k)) (nI op, nI bg, nI en, nI nc, nI te, nI tc, nI ve, nI vc, nI og, nI ov, nI gc, fd, ps, a1, a2, a3, a4, a5, a6, a7, a8)) : ∃ n, wX_values_42 post (nI op) (nI bg) (nI en) (nI nc) (nI te) (nI tc) (nI ve) (nI vc) (nI og) (nI ov) (nI gc) fd ps a1 a2 a3 a4 a5 a6 a7 a8 n 1 (nI s) := by
  have bd := ds_bd hI
  exact pk_loop (σ := Unit) (fun n i _ => wX_values_42 post (nI op) (nI bg) (nI en) (nI nc) (nI te) (nI tc) (nI ve) (nI vc) (nI og) (nI ov) (nI gc) fd ps a1 a2 a3 a4 a5 a6 a7 a8 n (nI (1 + i)) (nI (s + i))) (fun _ _ => True) k 0 () (Nat.zero_le k) trivial
    (fun n _ _ => pk_le ve (s + k) (fun _ => H) (fun z => ⟨pk_in (s + k) 112 (by omega), br_f (by rw [nI_clamp (by omega)]; exact he z) H⟩))
    (fun n i _ hi _ hw => pk_le ve (s + i) (fun z => absurd z (by omega)) (fun _ => ⟨pk_in (s + i) 112 (by omega), br_t (by rw [nI_clamp (by omega)]; exact hr i hi) (nm_r (nI_1 (1 + i)) (nm_r (nI_1 (s + i)) (hw () trivial)))⟩))
theorem ds_vrun {a : Nat → Int32} {f : Nat} (h : a f = 2) : ∀ k, (∀ j, j < k → a (f + 1 + j) = 2) → ds_z 2 a (f + 1 + k) = ds_z 2 a f + (1 + k) := by
  intro k
  induction k with
  | zero => intro _; exact ds_z_t h
  | succ k ih =>
    intro hk
    have h1 := ih (fun j hj => hk j (by omega))
    have h2 := ds_z_t (hk k (by omega))
    show ds_z 2 a (f + 1 + k + 1) = _
    omega
theorem ds_values {rc gp : Nat} (hI : ds_I op bg en nc te tc ve vc og ov gc a1 a3 a4 a6 a7) (hrc : rc < 12) (hgp : gp < 4) : ∃ (r : Int32) (n : Nat), n ≤ 60 ∧ (∀ v, v ≤ 60 → (r ≤ nI v ↔ n ≤ v)) ∧
    (∀ (fd ps : Int32) (a2 a5 a8 : Nat → Int32) (post : Int32 → St1 → Prop), (∀ fd' ps' : Int32, post r (nI op, nI bg, nI en, nI nc, nI te, nI tc, nI ve, nI vc, nI og, nI ov, nI gc, fd', ps', a1, a2, a3, a4, a5, a6, a7, a8)) → wpX_values post (nI op, nI bg, nI en, nI nc, nI te, nI tc, nI ve, nI vc, nI og, nI ov, nI gc, fd, ps, a1, a2, a3, a4, a5, a6, a7, a8) (nI rc) (nI gp)) ∧
    (∀ v, v < n → ∃ i, i < vc ∧ ∀ (fd ps : Int32) (a2 a5 a8 : Nat → Int32) (post : Int32 → St1 → Prop), (∀ fd' ps' : Int32, post (a8 i) (nI op, nI bg, nI en, nI nc, nI te, nI tc, nI ve, nI vc, nI og, nI ov, nI gc, fd', ps', a1, a2, a3, a4, a5, a6, a7, a8)) → wpX_valueAt post (nI op, nI bg, nI en, nI nc, nI te, nI tc, nI ve, nI vc, nI og, nI ov, nI gc, fd, ps, a1, a2, a3, a4, a5, a6, a7, a8) (nI rc) (nI gp) (nI v)) := by
  have bd := ds_bd hI
  rcases ds_isGroup hI hrc hgp with hG | ⟨⟨he, q, hq, hat⟩, hG⟩
  · refine ⟨-1, 0, by omega, fun v hv => ⟨fun _ => Nat.zero_le v, fun _ => ds_m1le (by omega)⟩, fun fd ps a2 a5 a8 post H => ?_, fun v hv => absurd hv (Nat.not_lt_zero v)⟩
    unfold wpX_values
    exact hG fd ps a2 a5 a8 _ (fun fd' ps' => br_t rfl (H fd' ps'))
  · obtain ⟨f, hf⟩ := ds_fv0 hI he hq hat
    have f1 := hf.1
    by_cases h7 : 2 ≤ a7 f
    · obtain ⟨k, k1, k2, k3⟩ := ds_runE a6 2 (show f + 1 ≤ ve from f1)
      have e7 := hI.2.2.2.2.1 f f1 h7
      have hz := ds_vrun e7 k (fun j hj => hI.2.2.2.1 (f + 1 + j) (by omega) (k2 j hj))
      have hm := ds_z_mono 2 a7 k1
      have hV : ∀ (fd ps : Int32) (a2 a5 a8 : Nat → Int32) (post : Int32 → St1 → Prop), (∀ fd' ps' : Int32, post (nI (1 + k)) (nI op, nI bg, nI en, nI nc, nI te, nI tc, nI ve, nI vc, nI og, nI ov, nI gc, fd', ps', a1, a2, a3, a4, a5, a6, a7, a8)) → wpX_values post (nI op, nI bg, nI en, nI nc, nI te, nI tc, nI ve, nI vc, nI og, nI ov, nI gc, fd, ps, a1, a2, a3, a4, a5, a6, a7, a8) (nI rc) (nI gp) := by
        intro fd ps a2 a5 a8 post H
        unfold wpX_values
        exact hG fd ps a2 a5 a8 _ (fun fd' ps' => br_f ds_10 (ds_findValue hI (by omega) (by omega) hf ⟨pk_in f 112 (by omega), br_t (by rw [nI_clamp (by omega)]; exact h7) (nm_r (nI_1 f) (ds_42 hI k1 k2 k3 (H _ _)))⟩))
      refine ⟨nI (1 + k), 1 + k, by omega, fun v hv => nI_leI (by omega) (by omega), hV, fun v hv => ⟨ds_z 2 a7 f + v, by omega, fun fd ps a2 a5 a8 post H => ?_⟩⟩
      have hc : (nI (ds_z 2 a7 f) + nI v).toNatClampNeg = ds_z 2 a7 f + v := by
        rw [nI_add, nI_clamp (by omega)]
      unfold wpX_valueAt
      exact hG fd ps a2 a5 a8 _ (fun fd' ps' => br_f ds_10 (br_f (nI_pos (by omega)) (hV fd' ps' a2 a5 a8 _ (fun fd2 ps2 => br_t (nI_lt hv (by omega)) (ds_findValue hI (by omega) (by omega) hf ⟨pk_in (ds_z 2 a7 f + v) 60 (by omega) (nI_add _ _), by rw [hc]; exact H _ _⟩)))))
    · refine ⟨0, 0, by omega, fun v hv => ⟨fun _ => Nat.zero_le v, fun _ => nI_pos' (by omega)⟩, fun fd ps a2 a5 a8 post H => ?_, fun v hv => absurd hv (Nat.not_lt_zero v)⟩
      unfold wpX_values
      exact hG fd ps a2 a5 a8 _ (fun fd' ps' => br_f ds_10 (ds_findValue hI (by omega) (by omega) hf ⟨pk_in f 112 (by omega), br_f (by rw [nI_clamp (by omega)]; exact h7) (H _ _)⟩))
theorem ds_notes {post : Int32 → Prop} {fd ps : Int32} {a2 a5 a8 : Nat → Int32} {rc : Nat} (hrc : rc < 12) (H : post (nI (ds_e 0 a1 rc))) : wpX_notesBefore post (nI op, nI bg, nI en, nI nc, nI te, nI tc, nI ve, nI vc, nI og, nI ov, nI gc, fd, ps, a1, a2, a3, a4, a5, a6, a7, a8) (nI rc) := by
  unfold wpX_notesBefore
  exact pk_loop (σ := Unit) (fun n i _ => wX_notesBefore_4 post (nI rc) (nI op) (nI bg) (nI en) (nI nc) (nI te) (nI tc) (nI ve) (nI vc) (nI og) (nI ov) (nI gc) fd ps a1 a2 a3 a4 a5 a6 a7 a8 n (nI (ds_e 0 a1 i)) (nI i)) (fun _ _ => True) rc 0 () (Nat.zero_le rc) trivial
    (fun n _ _ => pk_le rc rc (fun _ => H) (fun z => absurd z (by omega)))
    (fun n i _ hi _ hw => pk_le rc i (fun z => absurd z (by omega)) (fun _ => ⟨pk_in i 12 (by omega), by
      rw [nI_clamp (show i < 2 ^ 31 by omega)]
      exact br_c (fun e => nm_r ((ds_p0 _).trans (by rw [ds_e_t e])) (nm_r (nI_1 i) (hw () trivial))) (fun e => nm_r ((nI_1 _).trans (by rw [ds_e_f e])) (nm_r (nI_1 i) (hw () trivial)))⟩))
theorem ds_labelN {rc : Nat} (hI : ds_I op bg en nc te tc ve vc og ov gc a1 a3 a4 a6 a7) (hrc : rc < en) (h1 : ¬ a1 rc = 0) : ∃ i, i < nc ∧ ∀ (fd ps : Int32) (a2 a5 a8 : Nat → Int32) (post : Int32 → St1 → Prop), post (a2 i) (nI op, nI bg, nI en, nI nc, nI te, nI tc, nI ve, nI vc, nI og, nI ov, nI gc, fd, ps, a1, a2, a3, a4, a5, a6, a7, a8) → wpX_label post (nI op, nI bg, nI en, nI nc, nI te, nI tc, nI ve, nI vc, nI og, nI ov, nI gc, fd, ps, a1, a2, a3, a4, a5, a6, a7, a8) (nI rc) (-1) := by
  have bd := ds_bd hI
  have hl := ds_e_lt (n := bg) (show rc < bg by omega) h1
  have hb := ds_e_le 0 a1 rc
  refine ⟨ds_e 0 a1 rc, by omega, fun fd ps a2 a5 a8 post H => ?_⟩
  unfold wpX_label
  exact ds_ended (by omega) (by omega) (fun _ => br_f ds_10 (br_t rfl ⟨pk_in rc 12 (by omega), br_f (by rw [nI_clamp (by omega)]; exact h1) (ds_notes (by omega) ⟨pk_in (ds_e 0 a1 rc) 12 (by omega), by rw [nI_clamp (by omega)]; exact H⟩)⟩)) (fun z => absurd z (by omega))
theorem ds_nm1 {n : Nat} (h : n < 2 ^ 31) : ¬ nI n = (-1 : Int32) := by
  intro e
  have h2 : (nI n).toInt = -1 := by rw [e]; decide
  rw [nI_toInt h] at h2
  omega
theorem ds_labelG {rc gp : Nat} (hI : ds_I op bg en nc te tc ve vc og ov gc a1 a3 a4 a6 a7) (hrc : rc < 12) (hgp : gp < 4) :
    (∀ (fd ps : Int32) (a2 a5 a8 : Nat → Int32) (post : Int32 → St1 → Prop), (∀ fd' ps' : Int32, post 0 (nI op, nI bg, nI en, nI nc, nI te, nI tc, nI ve, nI vc, nI og, nI ov, nI gc, fd', ps', a1, a2, a3, a4, a5, a6, a7, a8)) → wpX_label post (nI op, nI bg, nI en, nI nc, nI te, nI tc, nI ve, nI vc, nI og, nI ov, nI gc, fd, ps, a1, a2, a3, a4, a5, a6, a7, a8) (nI rc) (nI gp)) ∨
    (∃ i, i < tc ∧ ∀ (fd ps : Int32) (a2 a5 a8 : Nat → Int32) (post : Int32 → St1 → Prop), (∀ fd' ps' : Int32, post (a5 i) (nI op, nI bg, nI en, nI nc, nI te, nI tc, nI ve, nI vc, nI og, nI ov, nI gc, fd', ps', a1, a2, a3, a4, a5, a6, a7, a8)) → wpX_label post (nI op, nI bg, nI en, nI nc, nI te, nI tc, nI ve, nI vc, nI og, nI ov, nI gc, fd, ps, a1, a2, a3, a4, a5, a6, a7, a8) (nI rc) (nI gp)) := by
  have bd := ds_bd hI
  by_cases h : rc < en
  · rcases ds_isGroup hI hrc hgp with hG | ⟨⟨he, q, hq, hat⟩, hG⟩
    · refine Or.inl (fun fd ps a2 a5 a8 post H => ?_)
      unfold wpX_label
      exact ds_ended (by omega) (by omega) (fun _ => br_f ds_10 (br_f (ds_nm1 (by omega)) (hG fd ps a2 a5 a8 _ (fun fd' ps' => br_t rfl (H fd' ps'))))) (fun z => absurd z (by omega))
    · obtain ⟨f, hf⟩ := ds_fst_of ⟨q, hq, hat⟩
      have f1 := hf.1
      by_cases h4 : a4 f = 2
      · have hl := ds_z_lt f1 h4
        refine Or.inr ⟨ds_z 2 a4 f, by omega, fun fd ps a2 a5 a8 post H => ?_⟩
        have hc : (nI (ds_z 2 a4 f)).toNatClampNeg = ds_z 2 a4 f := nI_clamp (by omega)
        unfold wpX_label
        exact ds_ended (by omega) (by omega) (fun _ => br_f ds_10 (br_f (ds_nm1 (by omega)) (hG fd ps a2 a5 a8 _ (fun fd' ps' => br_f ds_10 (ds_findTag hI (by omega) (by omega) hf ⟨pk_in f 52 (by omega), br_t (by rw [nI_clamp (by omega)]; exact h4) ⟨pk_in (ds_z 2 a4 f) 40 (by omega), by rw [hc]; exact H _ _⟩⟩))))) (fun z => absurd z (by omega))
      · refine Or.inl (fun fd ps a2 a5 a8 post H => ?_)
        unfold wpX_label
        exact ds_ended (by omega) (by omega) (fun _ => br_f ds_10 (br_f (ds_nm1 (by omega)) (hG fd ps a2 a5 a8 _ (fun fd' ps' => br_f ds_10 (ds_findTag hI (by omega) (by omega) hf ⟨pk_in f 52 (by omega), br_f (by rw [nI_clamp (by omega)]; exact h4) (H _ _)⟩))))) (fun z => absurd z (by omega))
  · refine Or.inl (fun fd ps a2 a5 a8 post H => ?_)
    unfold wpX_label
    exact ds_ended (by omega) (by omega) (fun z => absurd z h) (fun _ => br_t rfl (H fd ps))
end
end
section
/-- is the group of the e-th entry of the values wanted (as the walk has it behind that many entries) -/
def ds_w (en : Nat) (a4 a5 a6 : Nat → Int32) (tag : Int32) : Nat → Int32
  | 0 => 0
  | e + 1 => if a6 e = 2 then ds_w en a4 a5 a6 tag e else if a4 (ds_e 2 a6 e) = 2 ∧ a5 (ds_z 2 a4 (ds_e 2 a6 e)) = tag ∧ ¬ nI en ≤ nI (ds_z 0 a6 (e + 1)) + (-1) then 1 else 0
/-- the sum behind so many entries -/
def ds_sm (en : Nat) (a4 a5 a6 a7 a8 : Nat → Int32) (tag : Int32) : Nat → Int32
  | 0 => 0
  | e + 1 => if a7 e = 2 ∧ ¬ ds_w en a4 a5 a6 tag (e + 1) = 0 then ds_sm en a4 a5 a6 a7 a8 tag e + a8 (ds_z 2 a7 e) else ds_sm en a4 a5 a6 a7 a8 tag e
/-- the records counted, and the last one counted -/
def ds_rw (en : Nat) (a6 a7 a8 : Nat → Int32) (lo hi : Int32) : Nat → Int32 × Int32
  | 0 => (0, -1)
  | e + 1 => if a7 e = 2 ∧ ¬ a8 (ds_z 2 a7 e) < lo ∧ ¬ hi < a8 (ds_z 2 a7 e) ∧ ¬ nI (ds_z 0 a6 (e + 1)) + (-1) = (ds_rw en a6 a7 a8 lo hi e).2 ∧ ¬ nI en ≤ nI (ds_z 0 a6 (e + 1)) + (-1) then ((ds_rw en a6 a7 a8 lo hi e).1 + 1, nI (ds_z 0 a6 (e + 1)) + (-1)) else ds_rw en a6 a7 a8 lo hi e
section
variable {op bg en nc te tc ve vc og ov gc : Nat} {a1 a3 a4 a6 a7 : Nat → Int32}
theorem ds_s126 {post : Int32 → Prop} {J : Int32 → Int32 → Int32 → Int32 → Int32 → Int32 → Int32 → Prop} {tag fd ps x3 x4 x6 : Int32} {a2 a5 a8 : Nat → Int32} {e : Nat} (hI : ds_I op bg en nc te tc ve vc og ov gc a1 a3 a4 a6 a7) (he : e < ve) (hJ : J (ds_sm en a4 a5 a6 a7 a8 tag (e + 1)) x3 x4 (nI (ds_z 2 a7 (e + 1))) x6 (ds_w en a4 a5 a6 tag (e + 1)) (nI (e + 1))) : wX_sumByTag_126 post J tag (ds_sm en a4 a5 a6 a7 a8 tag e) x3 x4 (nI (ds_z 2 a7 e)) x6 (ds_w en a4 a5 a6 tag (e + 1)) (nI e) (nI op) (nI bg) (nI en) (nI nc) (nI te) (nI tc) (nI ve) (nI vc) (nI og) (nI ov) (nI gc) fd ps a1 a2 a3 a4 a5 a6 a7 a8 := by
  have bd := ds_bd hI
  unfold wX_sumByTag_126
  rw [nI_clamp (show e < 2 ^ 31 by omega)]
  refine ⟨pk_in e 112 (by omega), ?_⟩
  by_cases h7 : a7 e = 2
  · have hl := ds_z_lt he h7
    refine br_t h7 ?_
    by_cases hw : ds_w en a4 a5 a6 tag (e + 1) = 0
    · have hs : ds_sm en a4 a5 a6 a7 a8 tag (e + 1) = ds_sm en a4 a5 a6 a7 a8 tag e := if_neg (fun z => z.2 hw)
      rw [hs, ds_z_t h7] at hJ
      exact br_t hw (nm_r (ds_p0 _) (nm_r (nI_1 _) (nm_r (nI_1 e) hJ)))
    · have hs : ds_sm en a4 a5 a6 a7 a8 tag (e + 1) = ds_sm en a4 a5 a6 a7 a8 tag e + a8 (ds_z 2 a7 e) := if_pos ⟨h7, hw⟩
      rw [hs, ds_z_t h7] at hJ
      exact br_f hw ⟨pk_in (ds_z 2 a7 e) 60 (by omega), nm_r (by rw [nI_clamp (by omega)]) (nm_r (nI_1 _) (nm_r (nI_1 e) hJ))⟩
  · have hs : ds_sm en a4 a5 a6 a7 a8 tag (e + 1) = ds_sm en a4 a5 a6 a7 a8 tag e := if_neg (fun z => h7 z.1)
    rw [hs, ds_z_f h7] at hJ
    exact br_f h7 (nm_r (nI_1 e) hJ)
theorem ds_s109 {post : Int32 → Prop} {J : Int32 → Int32 → Int32 → Int32 → Int32 → Int32 → Int32 → Prop} {tag fd ps x3 x6 : Int32} {a2 a5 a8 : Nat → Int32} {e t q : Nat} (hI : ds_I op bg en nc te tc ve vc og ov gc a1 a3 a4 a6 a7) (he : e < ve) (ht : t = 0 ∨ t = 1) (hJ : J (ds_sm en a4 a5 a6 a7 a8 tag (e + 1)) x3 (nI (q + t)) (nI (ds_z 2 a7 (e + 1))) x6 (ds_w en a4 a5 a6 tag (e + 1)) (nI (e + 1))) : wX_sumByTag_109 post J tag (ds_sm en a4 a5 a6 a7 a8 tag e) x3 (nI q) (nI (ds_z 2 a7 e)) x6 (nI e) (nI t) (ds_w en a4 a5 a6 tag (e + 1)) (nI op) (nI bg) (nI en) (nI nc) (nI te) (nI tc) (nI ve) (nI vc) (nI og) (nI ov) (nI gc) fd ps a1 a2 a3 a4 a5 a6 a7 a8 := by
  unfold wX_sumByTag_109
  rcases ht with rfl | rfl
  · refine br_t rfl ?_
    unfold wX_sumByTag_123
    exact nm_r (ds_p0 _) (ds_s126 hI he hJ)
  · refine br_f ds_10 ?_
    unfold wX_sumByTag_123
    exact nm_r (nI_1 _) (ds_s126 hI he hJ)
theorem ds_s59 {post : Int32 → Prop} {J : Int32 → Int32 → Int32 → Int32 → Int32 → Int32 → Int32 → Prop} {tag fd ps z0 z1 : Int32} {a2 a5 a8 : Nat → Int32} {e : Nat} (hI : ds_I op bg en nc te tc ve vc og ov gc a1 a3 a4 a6 a7) (he : e < ve) (h6 : ¬ a6 e = 2) (hz : z1 + z0 = nI (ds_z 0 a6 (e + 1)) + (-1)) (hJ : J (ds_sm en a4 a5 a6 a7 a8 tag (e + 1)) (nI (ds_e 2 a6 (e + 1)) + (-1)) (nI (ds_z 2 a4 (ds_e 2 a6 (e + 1)))) (nI (ds_z 2 a7 (e + 1))) (nI (ds_z 0 a6 (e + 1)) + (-1)) (ds_w en a4 a5 a6 tag (e + 1)) (nI (e + 1))) : wX_sumByTag_59 post J tag (ds_sm en a4 a5 a6 a7 a8 tag e) (nI (ds_e 2 a6 e)) (nI (ds_z 2 a4 (ds_e 2 a6 e))) (nI (ds_z 2 a7 e)) (nI e) z0 z1 (nI op) (nI bg) (nI en) (nI nc) (nI te) (nI tc) (nI ve) (nI vc) (nI og) (nI ov) (nI gc) fd ps a1 a2 a3 a4 a5 a6 a7 a8 := by
  have bd := ds_bd hI
  have hE := ds_e_lt he h6
  have hw : ds_w en a4 a5 a6 tag (e + 1) = if a4 (ds_e 2 a6 e) = 2 ∧ a5 (ds_z 2 a4 (ds_e 2 a6 e)) = tag ∧ ¬ nI en ≤ nI (ds_z 0 a6 (e + 1)) + (-1) then 1 else 0 := if_neg h6
  rw [ds_e_f h6, pk_m1] at hJ
  unfold wX_sumByTag_59
  refine nm_r hz ⟨pk_in (ds_e 2 a6 e) 52 (by omega), ?_⟩
  rw [nI_clamp (show ds_e 2 a6 e < 2 ^ 31 by omega)]
  by_cases h4 : a4 (ds_e 2 a6 e) = 2
  · have hT := ds_z_lt (n := te) (by omega) h4
    rw [ds_z_t h4] at hJ
    have hx := ds_s109 (post := post) (fd := fd) (ps := ps) (a2 := a2) (q := ds_z 2 a4 (ds_e 2 a6 e)) hI he (Or.inr rfl) hJ
    refine br_t h4 ?_
    unfold wX_sumByTag_77
    refine br_f ds_10 ⟨pk_in (ds_z 2 a4 (ds_e 2 a6 e)) 40 (by omega), ?_⟩
    rw [nI_clamp (show ds_z 2 a4 (ds_e 2 a6 e) < 2 ^ 31 by omega)]
    by_cases h5 : a5 (ds_z 2 a4 (ds_e 2 a6 e)) = tag
    · by_cases hn : nI en ≤ nI (ds_z 0 a6 (e + 1)) + (-1)
      · rw [hw, if_neg (fun z => z.2.2 hn)] at hx
        refine br_t h5 (br_t hn ?_)
        unfold wX_sumByTag_108
        exact hx
      · rw [hw, if_pos ⟨h4, h5, hn⟩] at hx
        exact br_t h5 (br_f hn hx)
    · rw [hw, if_neg (fun z => h5 z.2.1)] at hx
      refine br_f h5 ?_
      unfold wX_sumByTag_108
      exact hx
  · rw [ds_z_f h4] at hJ
    have hx := ds_s109 (post := post) (fd := fd) (ps := ps) (a2 := a2) (q := ds_z 2 a4 (ds_e 2 a6 e)) (t := 0) hI he (Or.inl rfl) hJ
    rw [hw, if_neg (fun z => h4 z.1)] at hx
    refine br_f h4 ?_
    unfold wX_sumByTag_77
    refine br_t rfl ?_
    unfold wX_sumByTag_108
    exact hx
theorem ds_s19 {post : Int32 → Prop} {tag fd ps : Int32} {a2 a5 a8 : Nat → Int32} {e n : Nat} (hI : ds_I op bg en nc te tc ve vc og ov gc a1 a3 a4 a6 a7) (he : e < ve) (hJ : wX_sumByTag_19 post tag (nI op) (nI bg) (nI en) (nI nc) (nI te) (nI tc) (nI ve) (nI vc) (nI og) (nI ov) (nI gc) fd ps a1 a2 a3 a4 a5 a6 a7 a8 n (ds_sm en a4 a5 a6 a7 a8 tag (e + 1)) (nI (ds_e 2 a6 (e + 1)) + (-1)) (nI (ds_z 2 a4 (ds_e 2 a6 (e + 1)))) (nI (ds_z 2 a7 (e + 1))) (nI (ds_z 0 a6 (e + 1)) + (-1)) (ds_w en a4 a5 a6 tag (e + 1)) (nI (e + 1))) : wX_sumByTag_19 post tag (nI op) (nI bg) (nI en) (nI nc) (nI te) (nI tc) (nI ve) (nI vc) (nI og) (nI ov) (nI gc) fd ps a1 a2 a3 a4 a5 a6 a7 a8 (n + 1) (ds_sm en a4 a5 a6 a7 a8 tag e) (nI (ds_e 2 a6 e) + (-1)) (nI (ds_z 2 a4 (ds_e 2 a6 e))) (nI (ds_z 2 a7 e)) (nI (ds_z 0 a6 e) + (-1)) (ds_w en a4 a5 a6 tag e) (nI e) := by
  have bd := ds_bd hI
  have hc : (nI e).toNatClampNeg = e := nI_clamp (by omega)
  refine pk_le ve e (fun z => absurd z (by omega)) (fun _ => ⟨pk_in e 112 (by omega), ?_⟩)
  by_cases h6 : a6 e = 2
  · have hw : ds_w en a4 a5 a6 tag (e + 1) = ds_w en a4 a5 a6 tag e := if_pos h6
    have hx := ds_s126 (post := post) (fd := fd) (ps := ps) (a2 := a2) hI he hJ
    rw [ds_e_t h6, ds_z_f (show ¬ a6 e = 0 by rw [h6]; exact ds_20), hw] at hx
    exact br_t (by rw [hc, h6]; decide) hx
  · refine br_f (by
      rw [hc]
      rcases hI.2.2.1 e he with z | z | z
      · rw [z]; decide
      · rw [z]; decide
      · exact absurd z h6) (nm_r (ds_m1s _) ⟨pk_in e 112 (by omega), ?_⟩)
    by_cases h0 : a6 e = 0
    · exact br_t (by rw [hc]; exact h0) (ds_s59 hI he h6 (by rw [ds_z_t h0]; exact ds_m1t _) hJ)
    · exact br_f (by rw [hc]; exact h0) (ds_s59 hI he h6 (by rw [ds_z_f h0]; exact ds_p0 _) hJ)
theorem ds_sumByTag {post : Int32 → Prop} {tag fd ps : Int32} {a2 a5 a8 : Nat → Int32} (hI : ds_I op bg en nc te tc ve vc og ov gc a1 a3 a4 a6 a7) (H : post (ds_sm en a4 a5 a6 a7 a8 tag ve)) : wpX_sumByTag post (nI op, nI bg, nI en, nI nc, nI te, nI tc, nI ve, nI vc, nI og, nI ov, nI gc, fd, ps, a1, a2, a3, a4, a5, a6, a7, a8) tag := by
  have bd := ds_bd hI
  obtain ⟨n, hn⟩ := pk_loop (σ := Unit) (fun n e _ => wX_sumByTag_19 post tag (nI op) (nI bg) (nI en) (nI nc) (nI te) (nI tc) (nI ve) (nI vc) (nI og) (nI ov) (nI gc) fd ps a1 a2 a3 a4 a5 a6 a7 a8 n (ds_sm en a4 a5 a6 a7 a8 tag e) (nI (ds_e 2 a6 e) + (-1)) (nI (ds_z 2 a4 (ds_e 2 a6 e))) (nI (ds_z 2 a7 e)) (nI (ds_z 0 a6 e) + (-1)) (ds_w en a4 a5 a6 tag e) (nI e)) (fun _ _ => True) ve 0 () (Nat.zero_le ve) trivial
    (fun n _ _ => pk_le ve ve (fun _ => H) (fun z => absurd z (by omega)))
    (fun n e _ he _ hw => ds_s19 hI he (hw () trivial))
  have hn' : wX_sumByTag_19 post tag (nI op) (nI bg) (nI en) (nI nc) (nI te) (nI tc) (nI ve) (nI vc) (nI og) (nI ov) (nI gc) fd ps a1 a2 a3 a4 a5 a6 a7 a8 n 0 (nI 0 + (-1)) 0 0 (nI 0 + (-1)) 0 0 := hn
  rw [ds_m0] at hn'
  unfold wpX_sumByTag
  exact ⟨n, hn'⟩
theorem ds_r40 {post : Int32 → Prop} {J : Int32 → Int32 → Int32 → Int32 → Int32 → Prop} {lo hi fd ps z0 z1 : Int32} {a2 a5 a8 : Nat → Int32} {e : Nat} (hI : ds_I op bg en nc te tc ve vc og ov gc a1 a3 a4 a6 a7) (he : e < ve) (hz : z1 + z0 = nI (ds_z 0 a6 (e + 1)) + (-1)) (hJ : J (ds_rw en a6 a7 a8 lo hi (e + 1)).1 (nI (ds_z 0 a6 (e + 1)) + (-1)) (nI (ds_z 2 a7 (e + 1))) (ds_rw en a6 a7 a8 lo hi (e + 1)).2 (nI (e + 1))) : wX_recordsWith_40 post J lo hi (ds_rw en a6 a7 a8 lo hi e).1 (nI (ds_z 2 a7 e)) (ds_rw en a6 a7 a8 lo hi e).2 (nI e) z0 z1 (nI op) (nI bg) (nI en) (nI nc) (nI te) (nI tc) (nI ve) (nI vc) (nI og) (nI ov) (nI gc) fd ps a1 a2 a3 a4 a5 a6 a7 a8 := by
  have bd := ds_bd hI
  have hp : (a7 e = 2 ∧ ¬ a8 (ds_z 2 a7 e) < lo ∧ ¬ hi < a8 (ds_z 2 a7 e) ∧ ¬ nI (ds_z 0 a6 (e + 1)) + (-1) = (ds_rw en a6 a7 a8 lo hi e).2 ∧ ¬ nI en ≤ nI (ds_z 0 a6 (e + 1)) + (-1)) → ds_rw en a6 a7 a8 lo hi (e + 1) = ((ds_rw en a6 a7 a8 lo hi e).1 + 1, nI (ds_z 0 a6 (e + 1)) + (-1)) := fun c => if_pos c
  have hq : ¬ (a7 e = 2 ∧ ¬ a8 (ds_z 2 a7 e) < lo ∧ ¬ hi < a8 (ds_z 2 a7 e) ∧ ¬ nI (ds_z 0 a6 (e + 1)) + (-1) = (ds_rw en a6 a7 a8 lo hi e).2 ∧ ¬ nI en ≤ nI (ds_z 0 a6 (e + 1)) + (-1)) → ds_rw en a6 a7 a8 lo hi (e + 1) = ds_rw en a6 a7 a8 lo hi e := fun c => if_neg c
  unfold wX_recordsWith_40
  rw [nI_clamp (show e < 2 ^ 31 by omega)]
  refine nm_r hz ⟨pk_in e 112 (by omega), ?_⟩
  by_cases h7 : a7 e = 2
  · have hl := ds_z_lt he h7
    rw [ds_z_t h7] at hJ
    refine br_t h7 ⟨pk_in (ds_z 2 a7 e) 60 (by omega), nm_r (e' := a8 (ds_z 2 a7 e)) (by rw [nI_clamp (by omega)]) (nm_r (nI_1 _) ?_)⟩
    refine br_c (fun c1 => nm_r (nI_1 e) ?_) (fun c1 => br_c (fun c2 => nm_r (nI_1 e) ?_) (fun c2 => br_c (fun c3 => nm_r (nI_1 e) ?_) (fun c3 => br_c (fun c4 => nm_r (nI_1 e) ?_) (fun c4 => nm_e (nm_r (nI_1 e) ?_)))))
    · rw [hq (fun z => z.2.1 c1)] at hJ
      exact hJ
    · rw [hq (fun z => z.2.2.1 c2)] at hJ
      exact hJ
    · rw [hq (fun z => z.2.2.2.1 c3)] at hJ
      exact hJ
    · rw [hq (fun z => z.2.2.2.2 c4)] at hJ
      exact hJ
    · rw [hp ⟨h7, c1, c2, c3, c4⟩] at hJ
      exact hJ
  · rw [ds_z_f h7, hq (fun z => h7 z.1)] at hJ
    exact br_f h7 (nm_r (nI_1 e) hJ)
theorem ds_recordsWith {post : Int32 → Prop} {lo hi fd ps : Int32} {a2 a5 a8 : Nat → Int32} (hI : ds_I op bg en nc te tc ve vc og ov gc a1 a3 a4 a6 a7) (H : post (ds_rw en a6 a7 a8 lo hi ve).1) : wpX_recordsWith post (nI op, nI bg, nI en, nI nc, nI te, nI tc, nI ve, nI vc, nI og, nI ov, nI gc, fd, ps, a1, a2, a3, a4, a5, a6, a7, a8) lo hi := by
  have bd := ds_bd hI
  obtain ⟨n, hn⟩ := pk_loop (σ := Unit) (fun n e _ => wX_recordsWith_14 post lo hi (nI op) (nI bg) (nI en) (nI nc) (nI te) (nI tc) (nI ve) (nI vc) (nI og) (nI ov) (nI gc) fd ps a1 a2 a3 a4 a5 a6 a7 a8 n (ds_rw en a6 a7 a8 lo hi e).1 (nI (ds_z 0 a6 e) + (-1)) (nI (ds_z 2 a7 e)) (ds_rw en a6 a7 a8 lo hi e).2 (nI e)) (fun _ _ => True) ve 0 () (Nat.zero_le ve) trivial
    (fun n _ _ => pk_le ve ve (fun _ => H) (fun z => absurd z (by omega)))
    (fun n e _ he _ hw => by
      have hc : (nI e).toNatClampNeg = e := nI_clamp (by omega)
      refine pk_le ve e (fun z => absurd z (by omega)) (fun _ => ⟨pk_in e 112 (by omega), ?_⟩)
      by_cases h0 : a6 e = 0
      · exact br_t (by rw [hc]; exact h0) (ds_r40 hI he (by rw [ds_z_t h0]; exact ds_m1t _) (hw () trivial))
      · exact br_f (by rw [hc]; exact h0) (ds_r40 hI he (by rw [ds_z_f h0]; exact ds_p0 _) (hw () trivial)))
  have hn' : wX_recordsWith_14 post lo hi (nI op) (nI bg) (nI en) (nI nc) (nI te) (nI tc) (nI ve) (nI vc) (nI og) (nI ov) (nI gc) fd ps a1 a2 a3 a4 a5 a6 a7 a8 n 0 (nI 0 + (-1)) 0 (-1) 0 := hn
  rw [ds_m0] at hn'
  unfold wpX_recordsWith
  exact ⟨n, hn'⟩
/-! complements -/
theorem ds_cs (x : Int32) : x + (x ^^^ (-1)) = -1 := by
  rw [Int32.xor_neg_one, Int32.not_eq_neg_add]
  grind
theorem ds_cc (x : Int32) : (x ^^^ (-1)) ^^^ (-1) = x := by
  rw [Int32.xor_neg_one, Int32.xor_neg_one, Int32.not_not]
theorem ds_cT (x : Int32) : (x ^^^ (-1)).toInt = -x.toInt - 1 := by
  have h1 := Int32.toInt_lt x
  have h2 := Int32.le_toInt x
  rw [Int32.xor_neg_one, Int32.toInt_not]
  exact Int.bmod_eq_of_le (by omega) (by omega)
theorem ds_clt (x y : Int32) : (x ^^^ (-1)) < (y ^^^ (-1)) ↔ y < x := by
  rw [Int32.lt_iff_toInt_lt, Int32.lt_iff_toInt_lt, ds_cT, ds_cT]
  omega
theorem ds_ceq (x y : Int32) : (x ^^^ (-1)) = (y ^^^ (-1)) ↔ x = y := Int32.xor_left_inj (-1)
/-- the contents of the second store are the complements of the first one's -/
def ds_R (n : Nat) (a b : Nat → Int32) : Prop := ∀ i, i < n → b i = a i ^^^ (-1)
theorem ds_wrel {a5 b5 : Nat → Int32} {tag : Int32} (hI : ds_I op bg en nc te tc ve vc og ov gc a1 a3 a4 a6 a7) (r5 : ds_R tc a5 b5) : ∀ e, e ≤ ve → ds_w en a4 b5 a6 (tag ^^^ (-1)) e = ds_w en a4 a5 a6 tag e := by
  have bd := ds_bd hI
  intro e
  induction e with
  | zero => intro _; rfl
  | succ e ih =>
    intro he
    have ih := ih (by omega)
    show (if a6 e = 2 then ds_w en a4 b5 a6 (tag ^^^ (-1)) e else if a4 (ds_e 2 a6 e) = 2 ∧ b5 (ds_z 2 a4 (ds_e 2 a6 e)) = tag ^^^ (-1) ∧ ¬ nI en ≤ nI (ds_z 0 a6 (e + 1)) + (-1) then 1 else 0) = (if a6 e = 2 then ds_w en a4 a5 a6 tag e else if a4 (ds_e 2 a6 e) = 2 ∧ a5 (ds_z 2 a4 (ds_e 2 a6 e)) = tag ∧ ¬ nI en ≤ nI (ds_z 0 a6 (e + 1)) + (-1) then 1 else 0)
    rw [ih]
    by_cases h6 : a6 e = 2
    · rw [if_pos h6, if_pos h6]
    · rw [if_neg h6, if_neg h6]
      have hE := ds_e_lt (show e < ve from he) h6
      by_cases h4 : a4 (ds_e 2 a6 e) = 2
      · have hT := ds_z_lt (n := te) (by omega) h4
        have e5 := r5 (ds_z 2 a4 (ds_e 2 a6 e)) (by omega)
        have iff : (a4 (ds_e 2 a6 e) = 2 ∧ b5 (ds_z 2 a4 (ds_e 2 a6 e)) = tag ^^^ (-1) ∧ ¬ nI en ≤ nI (ds_z 0 a6 (e + 1)) + (-1)) ↔ (a4 (ds_e 2 a6 e) = 2 ∧ a5 (ds_z 2 a4 (ds_e 2 a6 e)) = tag ∧ ¬ nI en ≤ nI (ds_z 0 a6 (e + 1)) + (-1)) := by
          rw [e5, ds_ceq]
        by_cases c : a4 (ds_e 2 a6 e) = 2 ∧ a5 (ds_z 2 a4 (ds_e 2 a6 e)) = tag ∧ ¬ nI en ≤ nI (ds_z 0 a6 (e + 1)) + (-1)
        · rw [if_pos c, if_pos (iff.mpr c)]
        · rw [if_neg c, if_neg (fun z => c (iff.mp z))]
      · rw [if_neg (fun z => h4 z.1), if_neg (fun z => h4 z.1)]
theorem ds_smrel {a5 b5 a8 b8 : Nat → Int32} {tag : Int32} (hI : ds_I op bg en nc te tc ve vc og ov gc a1 a3 a4 a6 a7) (r5 : ds_R tc a5 b5) (r8 : ds_R vc a8 b8) : ∀ e, e ≤ ve → ∃ k, k ≤ ds_z 2 a7 e ∧ ds_sm en a4 a5 a6 a7 a8 tag e + ds_sm en a4 b5 a6 a7 b8 (tag ^^^ (-1)) e = -nI k := by
  have bd := ds_bd hI
  intro e
  induction e with
  | zero => intro _; exact ⟨0, Nat.le_refl 0, (show (0 : Int32) + 0 = -nI 0 by decide)⟩
  | succ e ih =>
    intro he
    obtain ⟨k, k1, k2⟩ := ih (by omega)
    have hw := ds_wrel (tag := tag) hI r5 (e + 1) he
    have hm := ds_z_1 2 a7 e
    by_cases c : a7 e = 2 ∧ ¬ ds_w en a4 a5 a6 tag (e + 1) = 0
    · have s1 : ds_sm en a4 a5 a6 a7 a8 tag (e + 1) = ds_sm en a4 a5 a6 a7 a8 tag e + a8 (ds_z 2 a7 e) := if_pos c
      have s2 : ds_sm en a4 b5 a6 a7 b8 (tag ^^^ (-1)) (e + 1) = ds_sm en a4 b5 a6 a7 b8 (tag ^^^ (-1)) e + b8 (ds_z 2 a7 e) := if_pos ⟨c.1, by rw [hw]; exact c.2⟩
      have hl := ds_z_lt (show e < ve from he) c.1
      have e8 := r8 (ds_z 2 a7 e) (by omega)
      have hc := ds_cs (a8 (ds_z 2 a7 e))
      refine ⟨k + 1, by rw [ds_z_t c.1]; omega, ?_⟩
      rw [s1, s2, e8, nI_succ]
      grind
    · have s1 : ds_sm en a4 a5 a6 a7 a8 tag (e + 1) = ds_sm en a4 a5 a6 a7 a8 tag e := if_neg c
      have s2 : ds_sm en a4 b5 a6 a7 b8 (tag ^^^ (-1)) (e + 1) = ds_sm en a4 b5 a6 a7 b8 (tag ^^^ (-1)) e := if_neg (fun z => c ⟨z.1, by rw [← hw]; exact z.2⟩)
      exact ⟨k, by omega, by rw [s1, s2]; exact k2⟩
theorem ds_rwrel {a8 b8 : Nat → Int32} {lo hi : Int32} (hI : ds_I op bg en nc te tc ve vc og ov gc a1 a3 a4 a6 a7) (r8 : ds_R vc a8 b8) : ∀ e, e ≤ ve → ds_rw en a6 a7 b8 (hi ^^^ (-1)) (lo ^^^ (-1)) e = ds_rw en a6 a7 a8 lo hi e := by
  have bd := ds_bd hI
  intro e
  induction e with
  | zero => intro _; rfl
  | succ e ih =>
    intro he
    have ih := ih (by omega)
    by_cases c : a7 e = 2 ∧ ¬ a8 (ds_z 2 a7 e) < lo ∧ ¬ hi < a8 (ds_z 2 a7 e) ∧ ¬ nI (ds_z 0 a6 (e + 1)) + (-1) = (ds_rw en a6 a7 a8 lo hi e).2 ∧ ¬ nI en ≤ nI (ds_z 0 a6 (e + 1)) + (-1)
    · have s1 : ds_rw en a6 a7 a8 lo hi (e + 1) = ((ds_rw en a6 a7 a8 lo hi e).1 + 1, nI (ds_z 0 a6 (e + 1)) + (-1)) := if_pos c
      have hl := ds_z_lt (show e < ve from he) c.1
      have e8 := r8 (ds_z 2 a7 e) (by omega)
      have s2 : ds_rw en a6 a7 b8 (hi ^^^ (-1)) (lo ^^^ (-1)) (e + 1) = ((ds_rw en a6 a7 b8 (hi ^^^ (-1)) (lo ^^^ (-1)) e).1 + 1, nI (ds_z 0 a6 (e + 1)) + (-1)) :=
        if_pos ⟨c.1, by rw [e8, ds_clt]; exact c.2.2.1, by rw [e8, ds_clt]; exact c.2.1, by rw [ih]; exact c.2.2.2.1, c.2.2.2.2⟩
      rw [s1, s2, ih]
    · have s1 : ds_rw en a6 a7 a8 lo hi (e + 1) = ds_rw en a6 a7 a8 lo hi e := if_neg c
      have s2 : ds_rw en a6 a7 b8 (hi ^^^ (-1)) (lo ^^^ (-1)) (e + 1) = ds_rw en a6 a7 b8 (hi ^^^ (-1)) (lo ^^^ (-1)) e := by
        refine if_neg (fun z => c ?_)
        obtain ⟨z1, z2, z3, z4, z5⟩ := z
        have hl := ds_z_lt (show e < ve from he) z1
        have e8 := r8 (ds_z 2 a7 e) (by omega)
        rw [e8, ds_clt] at z2 z3
        rw [ih] at z4
        exact ⟨z1, z3, z2, z4, z5⟩
      rw [s1, s2, ih]
end
end
section
section
variable {op bg en nc te tc ve vc og ov gc : Nat} {a1 a3 a4 a6 a7 : Nat → Int32}
theorem ds_156 {post : Int32 → St2 → Prop} {J : Int32 → Int32 → Int32 → Int32 → Int32 → Int32 → Int32 → Int32 → Int32 → Int32 → Int32 → Int32 → Int32 → Int32 → (Nat → Int32) → (Nat → Int32) → (Nat → Int32) → (Nat → Int32) → (Nat → Int32) → (Nat → Int32) → (Nat → Int32) → (Nat → Int32) → Int32 → Int32 → Int32 → Int32 → Int32 → Int32 → Int32 → Int32 → Int32 → Int32 → Int32 → Int32 → Int32 → (Nat → Int32) → (Nat → Int32) → (Nat → Int32) → (Nat → Int32) → (Nat → Int32) → (Nat → Int32) → (Nat → Int32) → (Nat → Int32) → Prop} {lo hi tag fd ps fe pe : Int32} {a2 a5 a8 b2 b5 b8 : Nat → Int32} {rc i : Nat} (hI : ds_I op bg en nc te tc ve vc og ov gc a1 a3 a4 a6 a7) (r2 : ds_R nc a2 b2) (hrc : rc < 12) (hJ : ∀ fd ps fe pe : Int32, J (nI (i + 1)) (nI op) (nI bg) (nI en) (nI nc) (nI te) (nI tc) (nI ve) (nI vc) (nI og) (nI ov) (nI gc) fd ps a1 a2 a3 a4 a5 a6 a7 a8 (nI op) (nI bg) (nI en) (nI nc) (nI te) (nI tc) (nI ve) (nI vc) (nI og) (nI ov) (nI gc) fe pe a1 b2 a3 a4 b5 a6 a7 b8) : wL_alike_156 post J lo hi tag (nI i) (nI rc) (nI op) (nI bg) (nI en) (nI nc) (nI te) (nI tc) (nI ve) (nI vc) (nI og) (nI ov) (nI gc) fd ps a1 a2 a3 a4 a5 a6 a7 a8 (nI op) (nI bg) (nI en) (nI nc) (nI te) (nI tc) (nI ve) (nI vc) (nI og) (nI ov) (nI gc) fe pe a1 b2 a3 a4 b5 a6 a7 b8 := by
  obtain ⟨r, hw, hr⟩ := ds_hasNote hI hrc
  unfold wL_alike_156
  refine hw fd ps a2 a5 a8 _ (br_c (fun h1 => ?_) (fun _ => nm_r (nI_1 i) (hJ _ _ _ _)))
  obtain ⟨he, ha⟩ := hr h1
  obtain ⟨j, j1, hL⟩ := ds_labelN hI he ha
  exact hL fd ps a2 a5 a8 _ (hL fe pe b2 b5 b8 _ (br_t (by rw [r2 j j1, ds_cc]) (nm_r (nI_1 i) (hJ _ _ _ _))))
theorem ds_86x {post : Int32 → St2 → Prop} {J : Int32 → Int32 → Int32 → Int32 → Int32 → Int32 → Int32 → Int32 → Int32 → Int32 → Int32 → Int32 → Int32 → Int32 → (Nat → Int32) → (Nat → Int32) → (Nat → Int32) → (Nat → Int32) → (Nat → Int32) → (Nat → Int32) → (Nat → Int32) → (Nat → Int32) → Int32 → Int32 → Int32 → Int32 → Int32 → Int32 → Int32 → Int32 → Int32 → Int32 → Int32 → Int32 → Int32 → (Nat → Int32) → (Nat → Int32) → (Nat → Int32) → (Nat → Int32) → (Nat → Int32) → (Nat → Int32) → (Nat → Int32) → (Nat → Int32) → Prop} {lo hi tag rv fd ps fe pe : Int32} {a2 a5 a8 b2 b5 b8 : Nat → Int32} {rc gp i v n : Nat} (hI : ds_I op bg en nc te tc ve vc og ov gc a1 a3 a4 a6 a7) (r2 : ds_R nc a2 b2) (r5 : ds_R tc a5 b5) (hrc : rc < 12) (hgp : gp < 4) (hv : rv ≤ nI v) (hJ : ∀ fd ps fe pe : Int32, J (nI (i + 1)) (nI op) (nI bg) (nI en) (nI nc) (nI te) (nI tc) (nI ve) (nI vc) (nI og) (nI ov) (nI gc) fd ps a1 a2 a3 a4 a5 a6 a7 a8 (nI op) (nI bg) (nI en) (nI nc) (nI te) (nI tc) (nI ve) (nI vc) (nI og) (nI ov) (nI gc) fe pe a1 b2 a3 a4 b5 a6 a7 b8) : wL_alike_86 post J lo hi tag (nI i) (nI rc) (nI gp) rv (n + 1) (nI v) (nI op) (nI bg) (nI en) (nI nc) (nI te) (nI tc) (nI ve) (nI vc) (nI og) (nI ov) (nI gc) fd ps a1 a2 a3 a4 a5 a6 a7 a8 (nI op) (nI bg) (nI en) (nI nc) (nI te) (nI tc) (nI ve) (nI vc) (nI og) (nI ov) (nI gc) fe pe a1 b2 a3 a4 b5 a6 a7 b8 := by
  refine br_t hv ?_
  rcases ds_labelG hI hrc hgp with hL | ⟨j, j1, hL⟩
  · exact hL fd ps a2 a5 a8 _ (fun fd1 ps1 => br_t rfl (ds_156 hI r2 hrc hJ))
  · refine hL fd ps a2 a5 a8 _ (fun fd1 ps1 => br_c (fun _ => ds_156 hI r2 hrc hJ) (fun _ => ?_))
    exact hL fe pe b2 b5 b8 _ (fun fe1 pe1 => br_t (r5 j j1) (ds_156 hI r2 hrc hJ))
theorem ds_86 {post : Int32 → St2 → Prop} {J : Int32 → Int32 → Int32 → Int32 → Int32 → Int32 → Int32 → Int32 → Int32 → Int32 → Int32 → Int32 → Int32 → Int32 → (Nat → Int32) → (Nat → Int32) → (Nat → Int32) → (Nat → Int32) → (Nat → Int32) → (Nat → Int32) → (Nat → Int32) → (Nat → Int32) → Int32 → Int32 → Int32 → Int32 → Int32 → Int32 → Int32 → Int32 → Int32 → Int32 → Int32 → Int32 → Int32 → (Nat → Int32) → (Nat → Int32) → (Nat → Int32) → (Nat → Int32) → (Nat → Int32) → (Nat → Int32) → (Nat → Int32) → (Nat → Int32) → Prop} {lo hi tag rv fd ps fe pe : Int32} {a2 a5 a8 b2 b5 b8 : Nat → Int32} {rc gp i nv : Nat} (hI : ds_I op bg en nc te tc ve vc og ov gc a1 a3 a4 a6 a7) (r2 : ds_R nc a2 b2) (r5 : ds_R tc a5 b5) (r8 : ds_R vc a8 b8) (hrc : rc < 12) (hgp : gp < 4) (hn : nv ≤ 60) (hv : ∀ v, v ≤ 60 → (rv ≤ nI v ↔ nv ≤ v))
    (hA : ∀ v, v < nv → ∃ i, i < vc ∧ ∀ (fd ps : Int32) (a2 a5 a8 : Nat → Int32) (post : Int32 → St1 → Prop), (∀ fd' ps' : Int32, post (a8 i) (nI op, nI bg, nI en, nI nc, nI te, nI tc, nI ve, nI vc, nI og, nI ov, nI gc, fd', ps', a1, a2, a3, a4, a5, a6, a7, a8)) → wpX_valueAt post (nI op, nI bg, nI en, nI nc, nI te, nI tc, nI ve, nI vc, nI og, nI ov, nI gc, fd, ps, a1, a2, a3, a4, a5, a6, a7, a8) (nI rc) (nI gp) (nI v))
    (hJ : ∀ fd ps fe pe : Int32, J (nI (i + 1)) (nI op) (nI bg) (nI en) (nI nc) (nI te) (nI tc) (nI ve) (nI vc) (nI og) (nI ov) (nI gc) fd ps a1 a2 a3 a4 a5 a6 a7 a8 (nI op) (nI bg) (nI en) (nI nc) (nI te) (nI tc) (nI ve) (nI vc) (nI og) (nI ov) (nI gc) fe pe a1 b2 a3 a4 b5 a6 a7 b8) : ∃ n, wL_alike_86 post J lo hi tag (nI i) (nI rc) (nI gp) rv n 0 (nI op) (nI bg) (nI en) (nI nc) (nI te) (nI tc) (nI ve) (nI vc) (nI og) (nI ov) (nI gc) fd ps a1 a2 a3 a4 a5 a6 a7 a8 (nI op) (nI bg) (nI en) (nI nc) (nI te) (nI tc) (nI ve) (nI vc) (nI og) (nI ov) (nI gc) fe pe a1 b2 a3 a4 b5 a6 a7 b8 :=
  pk_loop (σ := Int32 × Int32 × Int32 × Int32) (fun n v s => wL_alike_86 post J lo hi tag (nI i) (nI rc) (nI gp) rv n (nI v) (nI op) (nI bg) (nI en) (nI nc) (nI te) (nI tc) (nI ve) (nI vc) (nI og) (nI ov) (nI gc) (s.1) (s.2.1) a1 a2 a3 a4 a5 a6 a7 a8 (nI op) (nI bg) (nI en) (nI nc) (nI te) (nI tc) (nI ve) (nI vc) (nI og) (nI ov) (nI gc) (s.2.2.1) (s.2.2.2) a1 b2 a3 a4 b5 a6 a7 b8) (fun _ _ => True) nv 0 (fd, ps, fe, pe) (Nat.zero_le nv) trivial
    (fun n s _ => ds_86x hI r2 r5 hrc hgp ((hv nv hn).mpr (Nat.le_refl nv)) hJ)
    (fun n v s hlt _ hw => by
      obtain ⟨j, j1, hL⟩ := hA v hlt
      refine br_f (fun z => absurd ((hv v (by omega)).mp z) (by omega)) ?_
      exact hL s.1 s.2.1 a2 a5 a8 _ (fun fd1 ps1 => hL s.2.2.1 s.2.2.2 b2 b5 b8 _ (fun fe1 pe1 => br_t (by rw [r8 j j1, ds_cc]) (nm_r (nI_1 v) (hw (fd1, ps1, fe1, pe1) trivial)))))
theorem ds_n0 {k : Nat} (h : k ≤ 60) : ¬ (0 : Int32) < -nI k := by
  rw [Int32.lt_iff_toInt_lt, sb_negT (by omega)]
  show ¬ (0 : Int) < -(k : Int)
  omega
theorem ds_n60 {k : Nat} (h : k ≤ 60) : (-60 : Int32) ≤ -nI k := by
  rw [Int32.le_iff_toInt_le, sb_negT (by omega)]
  show (-60 : Int) ≤ -(k : Int)
  omega
theorem ds_3x {post : Int32 → St2 → Prop} {lo hi tag fd ps fe pe : Int32} {a2 a5 a8 b2 b5 b8 : Nat → Int32} {n : Nat} (hI : ds_I op bg en nc te tc ve vc og ov gc a1 a3 a4 a6 a7) (r5 : ds_R tc a5 b5) (r8 : ds_R vc a8 b8) (H : post 1 (nI op, nI bg, nI en, nI nc, nI te, nI tc, nI ve, nI vc, nI og, nI ov, nI gc, fd, ps, a1, a2, a3, a4, a5, a6, a7, a8, nI op, nI bg, nI en, nI nc, nI te, nI tc, nI ve, nI vc, nI og, nI ov, nI gc, fe, pe, a1, b2, a3, a4, b5, a6, a7, b8)) : wL_alike_3 post lo hi tag (n + 1) (nI 48) (nI op) (nI bg) (nI en) (nI nc) (nI te) (nI tc) (nI ve) (nI vc) (nI og) (nI ov) (nI gc) fd ps a1 a2 a3 a4 a5 a6 a7 a8 (nI op) (nI bg) (nI en) (nI nc) (nI te) (nI tc) (nI ve) (nI vc) (nI og) (nI ov) (nI gc) fe pe a1 b2 a3 a4 b5 a6 a7 b8 := by
  have bd := ds_bd hI
  obtain ⟨k, k1, k2⟩ := ds_smrel (tag := tag) hI r5 r8 ve (Nat.le_refl ve)
  have hR := ds_rwrel (lo := lo) (hi := hi) hI r8 ve (Nat.le_refl ve)
  refine pk_le 48 48 (fun _ => ?_) (fun z => absurd z (by omega))
  exact ds_sumByTag hI (ds_sumByTag hI (br_f (by rw [k2]; exact ds_n0 (by omega)) (ds_sumByTag hI (ds_sumByTag hI (br_t (by rw [k2]; exact ds_n60 (by omega)) (ds_recordsWith hI (ds_recordsWith hI (br_t (by rw [hR]) H))))))))
theorem ds_alike {post : Int32 → St2 → Prop} {lo hi tag fd ps fe pe : Int32} {a2 a5 a8 b2 b5 b8 : Nat → Int32} (hI : ds_I op bg en nc te tc ve vc og ov gc a1 a3 a4 a6 a7) (r2 : ds_R nc a2 b2) (r5 : ds_R tc a5 b5) (r8 : ds_R vc a8 b8) (H : ∀ fd ps fe pe : Int32, post 1 (nI op, nI bg, nI en, nI nc, nI te, nI tc, nI ve, nI vc, nI og, nI ov, nI gc, fd, ps, a1, a2, a3, a4, a5, a6, a7, a8, nI op, nI bg, nI en, nI nc, nI te, nI tc, nI ve, nI vc, nI og, nI ov, nI gc, fe, pe, a1, b2, a3, a4, b5, a6, a7, b8)) : wpL_alike post (nI op, nI bg, nI en, nI nc, nI te, nI tc, nI ve, nI vc, nI og, nI ov, nI gc, fd, ps, a1, a2, a3, a4, a5, a6, a7, a8, nI op, nI bg, nI en, nI nc, nI te, nI tc, nI ve, nI vc, nI og, nI ov, nI gc, fe, pe, a1, b2, a3, a4, b5, a6, a7, b8) lo hi tag := by
  unfold wpL_alike
  exact pk_loop (σ := Int32 × Int32 × Int32 × Int32) (fun n i s => wL_alike_3 post lo hi tag n (nI i) (nI op) (nI bg) (nI en) (nI nc) (nI te) (nI tc) (nI ve) (nI vc) (nI og) (nI ov) (nI gc) (s.1) (s.2.1) a1 a2 a3 a4 a5 a6 a7 a8 (nI op) (nI bg) (nI en) (nI nc) (nI te) (nI tc) (nI ve) (nI vc) (nI og) (nI ov) (nI gc) (s.2.2.1) (s.2.2.2) a1 b2 a3 a4 b5 a6 a7 b8) (fun _ _ => True) 48 0 (fd, ps, fe, pe) (Nat.zero_le 48) trivial
    (fun n s _ => ds_3x hI r5 r8 (H _ _ _ _))
    (fun n i s hi48 _ hw => by
      obtain ⟨rg, hg, _⟩ := ds_groups (rc := i / 2 ^ 2) hI (by omega)
      obtain ⟨rn, hn, _⟩ := ds_hasNote (rc := i / 2 ^ 2) hI (by omega)
      obtain ⟨rv, nv, v1, v2, hv, hA⟩ := ds_values (rc := i / 2 ^ 2) (gp := i % 2 ^ 2) hI (by omega) (by omega)
      refine pk_le 48 i (fun z => absurd z (by omega)) (fun _ => nm_r (pk_shrN (n := i) (by omega) ((2 : Int32) &&& 31) 2 (by decide)) (nm_r (pk_andN (n := i) (by omega) (m := 3) 2 (by decide)) ?_))
      exact hg s.1 s.2.1 a2 a5 a8 _ (fun fd1 ps1 => hg s.2.2.1 s.2.2.2 b2 b5 b8 _ (fun fe1 pe1 => br_t rfl (hn fd1 ps1 a2 a5 a8 _ (hn fe1 pe1 b2 b5 b8 _ (br_t rfl (hv fd1 ps1 a2 a5 a8 _ (fun fd2 ps2 => hv fe1 pe1 b2 b5 b8 _ (fun fe2 pe2 => br_t rfl (hv fd2 ps2 a2 a5 a8 _ (fun fd3 ps3 => ds_86 hI r2 r5 r8 (by omega) (by omega) v1 v2 hA (fun fd4 ps4 fe4 pe4 => hw (fd4, ps4, fe4, pe4) trivial)))))))))))
    )
end
end
section
/-- the invariant with the number of entries that are still owed (p) given -/
def ds_P (p op bg en nc te tc ve vc og ov gc : Nat) (a1 a3 a4 a6 a7 : Nat → Int32) : Prop :=
  (op ≤ 1 ∧ en + op = bg ∧ bg ≤ 12 ∧ nc = ds_e 0 a1 bg ∧ tc = ds_z 2 a4 te ∧ tc ≤ gc ∧ gc ≤ 40 ∧ te ≤ gc + en ∧ ve + p ≤ vc + gc + en ∧ vc = ds_z 2 a7 ve ∧ vc ≤ 60 ∧ og ≤ 4 ∧ ov ≤ 4 ∧ ds_e 2 a6 ve + p = te ∧ ds_z 0 a3 te = en + ds_rc op og ∧ (op = 1 → 0 < og → a3 (te - 1) = if og ≤ 1 then 0 else 1)) ∧ ds_C te ve a3 a6 a7
section
variable {op bg en nc te tc ve vc og ov gc : Nat} {a1 a3 a4 a6 a7 : Nat → Int32}
theorem ds_IP {p : Nat} (hI : ds_I op bg en nc te tc ve vc og ov gc a1 a3 a4 a6 a7) (h : ds_pd op og ov = p) : ds_P p op bg en nc te tc ve vc og ov gc a1 a3 a4 a6 a7 := by
  rw [← h]
  exact hI
theorem ds_PI {p : Nat} (hP : ds_P p op bg en nc te tc ve vc og ov gc a1 a3 a4 a6 a7) (h : ds_pd op og ov = p) : ds_I op bg en nc te tc ve vc og ov gc a1 a3 a4 a6 a7 := by
  rw [← h] at hP
  exact hP
theorem ds_C_v (hC : ds_C te ve a3 a6 a7) {x y : Int32} (h1 : x = 0 ∨ x = 1 ∨ x = 2) (h2 : x = 2 → y = 2) (h3 : 2 ≤ y → y = 2) (h4 : ¬ x = 2 → x = a3 (ds_e 2 a6 ve)) : ds_C te (ve + 1) a3 (upd a6 ve x) (upd a7 ve y) := by
  obtain ⟨c1, c2, c3, c4, c5⟩ := hC
  refine ⟨c1, fun j hj => ?_, fun j hj => ?_, fun j hj => ?_, fun j hj => ?_⟩
  · by_cases e : j = ve
    · rw [e, pk_us]; exact h1
    · rw [pk_un e]; exact c2 j (by omega)
  · by_cases e : j = ve
    · rw [e, pk_us, pk_us]; exact h2
    · rw [pk_un e, pk_un e]; exact c3 j (by omega)
  · by_cases e : j = ve
    · rw [e, pk_us]; exact h3
    · rw [pk_un e]; exact c4 j (by omega)
  · rw [ds_e_u (show j ≤ ve by omega)]
    by_cases e : j = ve
    · rw [e, pk_us]; exact h4
    · rw [pk_un e]; exact c5 j (by omega)
theorem ds_C_t (hC : ds_C te ve a3 a6 a7) {x : Int32} (h1 : x = 0 ∨ x = 1) (h2 : ds_e 2 a6 ve ≤ te) : ds_C (te + 1) ve (upd a3 te x) a6 a7 := by
  obtain ⟨c1, c2, c3, c4, c5⟩ := hC
  refine ⟨fun j hj => ?_, c2, c3, c4, fun j hj h => ?_⟩
  · by_cases e : j = te
    · rw [e, pk_us]; exact h1
    · rw [pk_un e]; exact c1 j (by omega)
  · have hl := ds_e_lt hj h
    rw [pk_un (by omega)]
    exact c5 j hj h
theorem ds_addV {post : St1 → Prop} {fd ps p0 p1 : Int32} {a2 a5 a8 : Nat → Int32} (hv : ve < 112) (H : post (nI op, nI bg, nI en, nI nc, nI te, nI tc, nI (ve + 1), nI vc, nI og, nI ov, nI gc, fd, ps, a1, a2, a3, a4, a5, upd a6 ve p0, upd a7 ve p1, a8)) : wpX_addValueEntry post (nI op, nI bg, nI en, nI nc, nI te, nI tc, nI ve, nI vc, nI og, nI ov, nI gc, fd, ps, a1, a2, a3, a4, a5, a6, a7, a8) p0 p1 := by
  unfold wpX_addValueEntry
  exact ⟨pk_in ve 112 hv, nm_r (by rw [nI_clamp (by omega)]) ⟨pk_in ve 112 hv, nm_r (by rw [nI_clamp (by omega)]) (nm_r (nI_1 ve) H)⟩⟩
theorem ds_addT {post : St1 → Prop} {fd ps p0 p1 : Int32} {a2 a5 a8 : Nat → Int32} (hv : te < 52) (H : post (nI op, nI bg, nI en, nI nc, nI (te + 1), nI tc, nI ve, nI vc, nI og, nI ov, nI gc, fd, ps, a1, a2, upd a3 te p0, upd a4 te p1, a5, a6, a7, a8)) : wpX_addTagEntry post (nI op, nI bg, nI en, nI nc, nI te, nI tc, nI ve, nI vc, nI og, nI ov, nI gc, fd, ps, a1, a2, a3, a4, a5, a6, a7, a8) p0 p1 := by
  unfold wpX_addTagEntry
  exact ⟨pk_in te 52 hv, nm_r (by rw [nI_clamp (by omega)]) ⟨pk_in te 52 hv, nm_r (by rw [nI_clamp (by omega)]) (nm_r (nI_1 te) H)⟩⟩
/-- the entry that a group without values was still owed -/
theorem ds_closeI {z : Int32} (hP : ds_P 1 op bg en nc te tc ve vc og ov gc a1 a3 a4 a6 a7) (ho : op = 1) (hg : 0 < og) (hz : z = if og ≤ 1 then 0 else 1) : ve < 112 ∧ ds_P 0 op bg en nc te tc (ve + 1) vc og ov gc a1 a3 a4 (upd a6 ve z) (upd a7 ve 1) := by
  obtain ⟨⟨n1, n2, n3, n4, n5, n6, n7, n8, n9, n10, n11, n12, n13, n14, n15, n16⟩, hC⟩ := hP
  have hz2 : z = 0 ∨ z = 1 := by
    rw [hz]
    by_cases h : og ≤ 1
    · rw [if_pos h]; exact Or.inl rfl
    · rw [if_neg h]; exact Or.inr rfl
  have hzn : ¬ z = 2 := by
    rcases hz2 with h | h
    · rw [h]; exact ds_02
    · rw [h]; exact ds_12
  refine ⟨by omega, ⟨n1, n2, n3, n4, n5, n6, n7, n8, by omega, ?_, n11, n12, n13, ?_, n15, n16⟩, ?_⟩
  · rw [ds_z_uf ds_12]; exact n10
  · rw [ds_e_uf hzn]; omega
  · refine ds_C_v hC ?_ (fun h => absurd h hzn) (fun h => absurd h (by decide)) (fun _ => ?_)
    · rcases hz2 with h | h
      · exact Or.inl h
      · exact Or.inr (Or.inl h)
    · rw [hz, ← n16 ho hg, show te - 1 = ds_e 2 a6 ve by omega]
theorem ds_close (hI : ds_I op bg en nc te tc ve vc og ov gc a1 a3 a4 a6 a7) (ho : op = 1) : ∃ (ve' : Nat) (a6' a7' : Nat → Int32), ds_P 0 op bg en nc te tc ve' vc og ov gc a1 a3 a4 a6' a7' ∧ ∀ (fd ps : Int32) (a2 a5 a8 : Nat → Int32) (post : St1 → Prop), post (nI op, nI bg, nI en, nI nc, nI te, nI tc, nI ve', nI vc, nI og, nI ov, nI gc, fd, ps, a1, a2, a3, a4, a5, a6', a7', a8) → wpX_closeGroup post (nI op, nI bg, nI en, nI nc, nI te, nI tc, nI ve, nI vc, nI og, nI ov, nI gc, fd, ps, a1, a2, a3, a4, a5, a6, a7, a8) := by
  have bo := hI.1.2.2.2.2.2.2.2.2.2.2.2
  by_cases hg : og = 0
  · refine ⟨ve, a6, a7, ds_IP hI (ds_pdG hg), fun fd ps a2 a5 a8 post H => ?_⟩
    unfold wpX_closeGroup
    exact pk_le og 0 (fun _ => H) (fun z => absurd z (by omega))
  · by_cases hv : ov = 0
    · obtain ⟨hl, hP⟩ := ds_closeI (ds_IP hI (ds_pd1 ho (by omega) hv)) ho (by omega) rfl
      refine ⟨ve + 1, _, _, hP, fun fd ps a2 a5 a8 post H => ?_⟩
      unfold wpX_closeGroup
      refine pk_le og 0 (fun z => absurd z (by omega)) (fun _ => pk_eq ov 0 (fun _ => pk_le og 1 (fun z => ?_) (fun z => ?_)) (fun z => absurd hv z))
      · rw [if_pos z] at H
        unfold wX_closeGroup_28
        exact ds_addV hl H
      · rw [if_neg (by omega)] at H
        unfold wX_closeGroup_28
        exact ds_addV hl H
    · refine ⟨ve, a6, a7, ds_IP hI (ds_pdV (by omega)), fun fd ps a2 a5 a8 post H => ?_⟩
      unfold wpX_closeGroup
      exact pk_le og 0 (fun z => absurd z (by omega)) (fun _ => pk_eq ov 0 (fun z => absurd z hv) (fun _ => H))
/-! value -/
theorem ds_valI {z : Int32} (hI : ds_I op bg en nc te tc ve vc og ov gc a1 a3 a4 a6 a7) (ho : op = 1) (hg : 0 < og) (hv4 : ov < 4) (hc : vc < 60) (hz : z = if 0 < ov then 2 else if og ≤ 1 then 0 else 1) : ve < 112 ∧ ds_I op bg en nc te tc (ve + 1) (vc + 1) og (ov + 1) gc a1 a3 a4 (upd a6 ve z) (upd a7 ve 2) := by
  have hpd : ds_pd op og (ov + 1) = 0 := ds_pdV (by omega)
  by_cases hv : 0 < ov
  · rw [if_pos hv] at hz
    obtain ⟨⟨n1, n2, n3, n4, n5, n6, n7, n8, n9, n10, n11, n12, n13, n14, n15, n16⟩, hC⟩ := ds_IP hI (ds_pdV hv)
    refine ⟨by omega, ds_PI (p := 0) ⟨⟨n1, n2, n3, n4, n5, n6, n7, n8, by omega, ?_, by omega, n12, by omega, ?_, n15, n16⟩, ?_⟩ hpd⟩
    · rw [ds_z_ut rfl]; omega
    · rw [ds_e_ut hz]; exact n14
    · exact ds_C_v hC (Or.inr (Or.inr hz)) (fun _ => rfl) (fun _ => rfl) (fun h => absurd hz h)
  · rw [if_neg hv] at hz
    obtain ⟨⟨n1, n2, n3, n4, n5, n6, n7, n8, n9, n10, n11, n12, n13, n14, n15, n16⟩, hC⟩ := ds_IP hI (ds_pd1 ho hg (by omega))
    have hz2 : z = 0 ∨ z = 1 := by
      rw [hz]
      by_cases h : og ≤ 1
      · rw [if_pos h]; exact Or.inl rfl
      · rw [if_neg h]; exact Or.inr rfl
    have hzn : ¬ z = 2 := by
      rcases hz2 with h | h
      · rw [h]; exact ds_02
      · rw [h]; exact ds_12
    refine ⟨by omega, ds_PI (p := 0) ⟨⟨n1, n2, n3, n4, n5, n6, n7, n8, by omega, ?_, by omega, n12, by omega, ?_, n15, n16⟩, ?_⟩ hpd⟩
    · rw [ds_z_ut rfl]; omega
    · rw [ds_e_uf hzn]; omega
    · refine ds_C_v hC ?_ (fun _ => rfl) (fun _ => rfl) (fun _ => ?_)
      · rcases hz2 with h | h
        · exact Or.inl h
        · exact Or.inr (Or.inl h)
      · rw [hz, ← n16 ho hg, show te - 1 = ds_e 2 a6 ve by omega]
theorem ds_58 {post : Int32 → St1 → Prop} {fd ps x z : Int32} {a2 a5 a8 : Nat → Int32} (hv : ve < 112) (hc : vc < 60) (H : post (nI (ov + 1)) (nI op, nI bg, nI en, nI nc, nI te, nI tc, nI (ve + 1), nI (vc + 1), nI og, nI (ov + 1), nI gc, fd, ps, a1, a2, a3, a4, a5, upd a6 ve z, upd a7 ve 2, upd a8 vc x)) : wX_value_58 post x z (nI op) (nI bg) (nI en) (nI nc) (nI te) (nI tc) (nI ve) (nI vc) (nI og) (nI ov) (nI gc) fd ps a1 a2 a3 a4 a5 a6 a7 a8 := by
  unfold wX_value_58
  exact ds_addV hv ⟨pk_in vc 60 hc, nm_r (by rw [nI_clamp (by omega)]) (nm_r (nI_1 vc) (nm_r (nI_1 ov) H))⟩
theorem ds_Ru {n : Nat} {a b : Nat → Int32} (x : Int32) (h : ds_R n a b) : ds_R (n + 1) (upd a n x) (upd b n (x ^^^ (-1))) := by
  intro i hi
  by_cases e : i = n
  · rw [e, pk_us, pk_us]
  · rw [pk_un e, pk_un e]
    exact h i (by omega)
theorem ds_value (hI : ds_I op bg en nc te tc ve vc og ov gc a1 a3 a4 a6 a7) : ∃ (r : Int32) (op' bg' en' nc' te' tc' ve' vc' og' ov' gc' : Nat) (a1' a3' a4' a6' a7' : Nat → Int32) (up : (Nat → Int32) → Int32 → Nat → Int32), ds_I op' bg' en' nc' te' tc' ve' vc' og' ov' gc' a1' a3' a4' a6' a7' ∧ nc' = nc ∧ tc' = tc ∧ (∀ a b x, ds_R vc a b → ds_R vc' (up a x) (up b (x ^^^ (-1)))) ∧ ∀ (fd ps x : Int32) (a2 a5 a8 : Nat → Int32) (post : Int32 → St1 → Prop), post r (nI op', nI bg', nI en', nI nc', nI te', nI tc', nI ve', nI vc', nI og', nI ov', nI gc', fd, ps, a1', a2, a3', a4', a5, a6', a7', up a8 x) → wpX_value post (nI op, nI bg, nI en, nI nc, nI te, nI tc, nI ve, nI vc, nI og, nI ov, nI gc, fd, ps, a1, a2, a3, a4, a5, a6, a7, a8) x := by
  have bd := ds_bd hI
  have b1 := hI.1.1
  have b2 := hI.1.2.2.2.2.2.2.2.2.2.2.2.1
  have b3 := hI.1.2.2.2.2.2.2.2.2.2.2.2.2.1
  by_cases c : op = 1 ∧ 0 < og ∧ ov < 4 ∧ vc < 60
  · obtain ⟨hl, hI'⟩ := ds_valI hI c.1 c.2.1 c.2.2.1 c.2.2.2 rfl
    refine ⟨nI (ov + 1), op, bg, en, nc, te, tc, ve + 1, vc + 1, og, ov + 1, gc, a1, a3, a4, _, _, fun a x => upd a vc x, hI', rfl, rfl, fun a b x h => ds_Ru x h, fun fd ps x a2 a5 a8 post H => ?_⟩
    unfold wpX_value
    refine pk_eq op 0 (fun z => absurd z (by omega)) (fun _ => pk_eq og 0 (fun z => absurd z (by omega)) (fun _ => pk_le 4 ov (fun z => absurd z (by omega)) (fun _ => pk_lt vc 60 (fun _ => pk_le ov 0 (fun z => pk_le og 1 (fun z2 => ?_) (fun z2 => ?_)) (fun z => ?_)) (fun z => absurd z (by omega)))))
    · rw [if_neg (by omega), if_pos z2] at H
      exact ds_58 hl c.2.2.2 H
    · rw [if_neg (by omega), if_neg (by omega)] at H
      exact ds_58 hl c.2.2.2 H
    · rw [if_pos z] at H
      exact ds_58 hl c.2.2.2 H
  · refine ⟨-1, op, bg, en, nc, te, tc, ve, vc, og, ov, gc, a1, a3, a4, a6, a7, fun a _ => a, hI, rfl, rfl, fun a b x h => h, fun fd ps x a2 a5 a8 post H => ?_⟩
    unfold wpX_value
    exact pk_eq op 0 (fun _ => H) (fun _ => pk_eq og 0 (fun _ => H) (fun _ => pk_le 4 ov (fun _ => H) (fun _ => pk_lt vc 60 (fun _ => absurd (show op = 1 ∧ 0 < og ∧ ov < 4 ∧ vc < 60 by omega) c) (fun _ => H))))
/-! group -/
theorem ds_grpI {z d : Int32} {t : Nat} (hP : ds_P 0 op bg en nc te tc ve vc og ov gc a1 a3 a4 a6 a7) (ho : op = 1) (hg : og < 4) (hc : gc < 40) (hz : z = if og = 0 then 0 else 1) (hd : (d = 2 ∧ t = 1) ∨ (d = 1 ∧ t = 0)) : te < 52 ∧ tc < 40 ∧ ds_I op bg en nc (te + 1) (tc + t) ve vc (og + 1) 0 (gc + 1) a1 (upd a3 te z) (upd a4 te d) a6 a7 := by
  obtain ⟨⟨n1, n2, n3, n4, n5, n6, n7, n8, n9, n10, n11, n12, n13, n14, n15, n16⟩, hC⟩ := hP
  have hz2 : z = 0 ∨ z = 1 := by
    rw [hz]
    by_cases h : og = 0
    · rw [if_pos h]; exact Or.inl rfl
    · rw [if_neg h]; exact Or.inr rfl
  have ht : t ≤ 1 := by omega
  have hpd : ds_pd op (og + 1) 0 = 1 := ds_pd1 ho (by omega) rfl
  refine ⟨by omega, by omega, ds_PI (p := 1) ⟨⟨n1, n2, n3, n4, ?_, by omega, by omega, by omega, by omega, n10, n11, by omega, by omega, by omega, ?_, ?_⟩, ?_⟩ hpd⟩
  · rcases hd with ⟨h, h'⟩ | ⟨h, h'⟩
    · rw [ds_z_ut h, h']; omega
    · rw [ds_z_uf (by rw [h]; exact ds_12), h']; omega
  · rw [ds_rc1 ho (by omega)]
    by_cases h : og = 0
    · rw [if_pos h] at hz
      rw [ds_rcG h] at n15
      rw [ds_z_ut hz]; omega
    · rw [if_neg h] at hz
      rw [ds_rc1 ho (by omega)] at n15
      rw [ds_z_uf (by rw [hz]; exact ds_10)]; exact n15
  · intro _ _
    rw [show te + 1 - 1 = te from rfl, pk_us, hz]
    by_cases h : og = 0
    · rw [if_pos h, if_pos (by omega)]
    · rw [if_neg h, if_neg (by omega)]
  · exact ds_C_t hC hz2 (by omega)
theorem ds_43a {post : Int32 → St1 → Prop} {fd ps x z : Int32} {a2 a5 a8 : Nat → Int32} (ht : te < 52) (H : post (nI (og + 1)) (nI op, nI bg, nI en, nI nc, nI (te + 1), nI tc, nI ve, nI vc, nI (og + 1), nI 0, nI (gc + 1), fd, ps, a1, a2, upd a3 te z, upd a4 te 1, a5, a6, a7, a8)) : wX_group_43 post 0 x z (nI op) (nI bg) (nI en) (nI nc) (nI te) (nI tc) (nI ve) (nI vc) (nI og) (nI ov) (nI gc) fd ps a1 a2 a3 a4 a5 a6 a7 a8 := by
  unfold wX_group_43
  refine br_t rfl ?_
  unfold wX_group_52
  refine ds_addT ht (br_t rfl ?_)
  unfold wX_group_79
  exact nm_r (nI_1 og) (nm_r (nI_1 gc) H)
theorem ds_43b {post : Int32 → St1 → Prop} {fd ps x z : Int32} {a2 a5 a8 : Nat → Int32} (ht : te < 52) (hc : tc < 40) (H : post (nI (og + 1)) (nI op, nI bg, nI en, nI nc, nI (te + 1), nI (tc + 1), nI ve, nI vc, nI (og + 1), nI 0, nI (gc + 1), fd, ps, a1, a2, upd a3 te z, upd a4 te 2, upd a5 tc x, a6, a7, a8)) : wX_group_43 post 1 x z (nI op) (nI bg) (nI en) (nI nc) (nI te) (nI tc) (nI ve) (nI vc) (nI og) (nI ov) (nI gc) fd ps a1 a2 a3 a4 a5 a6 a7 a8 := by
  unfold wX_group_43
  refine br_f ds_10 ?_
  unfold wX_group_52
  refine ds_addT ht (br_f ds_10 ⟨pk_in tc 40 hc, nm_r (e' := upd a5 tc x) (by rw [nI_clamp (by omega)]) (nm_r (nI_1 tc) ?_)⟩)
  unfold wX_group_79
  exact nm_r (nI_1 og) (nm_r (nI_1 gc) H)
theorem ds_group {has : Int32} (hI : ds_I op bg en nc te tc ve vc og ov gc a1 a3 a4 a6 a7) (hh : has = 0 ∨ has = 1) : ∃ (r : Int32) (op' bg' en' nc' te' tc' ve' vc' og' ov' gc' : Nat) (a1' a3' a4' a6' a7' : Nat → Int32) (up : (Nat → Int32) → Int32 → Nat → Int32), ds_I op' bg' en' nc' te' tc' ve' vc' og' ov' gc' a1' a3' a4' a6' a7' ∧ nc' = nc ∧ vc' = vc ∧ (∀ a b x, ds_R tc a b → ds_R tc' (up a x) (up b (x ^^^ (-1)))) ∧ ∀ (fd ps x : Int32) (a2 a5 a8 : Nat → Int32) (post : Int32 → St1 → Prop), post r (nI op', nI bg', nI en', nI nc', nI te', nI tc', nI ve', nI vc', nI og', nI ov', nI gc', fd, ps, a1', a2, a3', a4', up a5 x, a6', a7', a8) → wpX_group post (nI op, nI bg, nI en, nI nc, nI te, nI tc, nI ve, nI vc, nI og, nI ov, nI gc, fd, ps, a1, a2, a3, a4, a5, a6, a7, a8) has x := by
  have bd := ds_bd hI
  have b1 := hI.1.1
  have b2 := hI.1.2.2.2.2.2.2.2.2.2.2.2.1
  have b3 := hI.1.2.2.2.2.2.2.1
  by_cases c : op = 1 ∧ og < 4 ∧ gc < 40
  · obtain ⟨vy, a6y, a7y, hP, hW⟩ := ds_close hI c.1
    rcases hh with h | h
    · obtain ⟨ht, hc, hI'⟩ := ds_grpI (d := 1) (t := 0) hP c.1 c.2.1 c.2.2 rfl (Or.inr ⟨rfl, rfl⟩)
      refine ⟨nI (og + 1), op, bg, en, nc, te + 1, tc + 0, vy, vc, og + 1, 0, gc + 1, a1, _, _, a6y, a7y, fun a _ => a, hI', rfl, rfl, fun a b x h => h, fun fd ps x a2 a5 a8 post H => ?_⟩
      rw [h]
      unfold wpX_group
      refine pk_eq op 0 (fun z => absurd z (by omega)) (fun _ => pk_le 4 og (fun z => absurd z (by omega)) (fun _ => pk_lt gc 40 (fun _ => hW fd ps a2 a5 a8 _ (pk_eq og 0 (fun z => ?_) (fun z => ?_))) (fun z => absurd z (by omega))))
      · rw [if_pos z] at H
        exact ds_43a ht H
      · rw [if_neg z] at H
        exact ds_43a ht H
    · obtain ⟨ht, hc, hI'⟩ := ds_grpI (d := 2) (t := 1) hP c.1 c.2.1 c.2.2 rfl (Or.inl ⟨rfl, rfl⟩)
      refine ⟨nI (og + 1), op, bg, en, nc, te + 1, tc + 1, vy, vc, og + 1, 0, gc + 1, a1, _, _, a6y, a7y, fun a x => upd a tc x, hI', rfl, rfl, fun a b x h => ds_Ru x h, fun fd ps x a2 a5 a8 post H => ?_⟩
      rw [h]
      unfold wpX_group
      refine pk_eq op 0 (fun z => absurd z (by omega)) (fun _ => pk_le 4 og (fun z => absurd z (by omega)) (fun _ => pk_lt gc 40 (fun _ => hW fd ps a2 a5 a8 _ (pk_eq og 0 (fun z => ?_) (fun z => ?_))) (fun z => absurd z (by omega))))
      · rw [if_pos z] at H
        exact ds_43b ht hc H
      · rw [if_neg z] at H
        exact ds_43b ht hc H
  · refine ⟨-1, op, bg, en, nc, te, tc, ve, vc, og, ov, gc, a1, a3, a4, a6, a7, fun a _ => a, hI, rfl, rfl, fun a b x h => h, fun fd ps x a2 a5 a8 post H => ?_⟩
    unfold wpX_group
    exact pk_eq op 0 (fun _ => H) (fun _ => pk_le 4 og (fun _ => H) (fun _ => pk_lt gc 40 (fun _ => absurd (show op = 1 ∧ og < 4 ∧ gc < 40 by omega) c) (fun _ => H)))
/-! end -/
theorem ds_endA (hP : ds_P 0 op bg en nc te tc ve vc og ov gc a1 a3 a4 a6 a7) (ho : op = 1) (hg : og = 0) : te < 52 ∧ ve < 112 ∧ ds_I 0 bg (en + 1) nc (te + 1) tc (ve + 1) vc og ov gc a1 (upd a3 te 0) (upd a4 te 0) (upd a6 ve 0) (upd a7 ve 0) := by
  obtain ⟨⟨n1, n2, n3, n4, n5, n6, n7, n8, n9, n10, n11, n12, n13, n14, n15, n16⟩, hC⟩ := hP
  rw [ds_rcG hg] at n15
  refine ⟨by omega, by omega, ds_PI (p := 0) ⟨⟨by omega, by omega, n3, n4, ?_, n6, n7, by omega, by omega, ?_, n11, n12, n13, ?_, ?_, fun z => absurd z (by omega)⟩, ?_⟩ (ds_pdO rfl)⟩
  · rw [ds_z_uf ds_02]; exact n5
  · rw [ds_z_uf ds_02]; exact n10
  · rw [ds_e_uf ds_02]; omega
  · rw [ds_z_ut rfl, ds_rcO rfl]; omega
  · exact ds_C_v (ds_C_t hC (Or.inl rfl) (by omega)) (Or.inl rfl) (fun z => absurd z ds_02) (fun z => absurd z (by decide)) (fun _ => by rw [show ds_e 2 a6 ve = te by omega, pk_us])
theorem ds_endB (hP : ds_P 0 op bg en nc te tc ve vc og ov gc a1 a3 a4 a6 a7) (ho : op = 1) (hg : 0 < og) : ds_I 0 bg (en + 1) nc te tc ve vc og ov gc a1 a3 a4 a6 a7 := by
  obtain ⟨⟨n1, n2, n3, n4, n5, n6, n7, n8, n9, n10, n11, n12, n13, n14, n15, n16⟩, hC⟩ := hP
  rw [ds_rc1 ho hg] at n15
  exact ds_PI (p := 0) ⟨⟨by omega, by omega, n3, n4, n5, n6, n7, by omega, by omega, n10, n11, n12, n13, n14, by rw [ds_rcO rfl]; omega, fun z => absurd z (by omega)⟩, hC⟩ (ds_pdO rfl)
theorem ds_end (hI : ds_I op bg en nc te tc ve vc og ov gc a1 a3 a4 a6 a7) : ∃ (r : Int32) (op' bg' en' nc' te' tc' ve' vc' og' ov' gc' : Nat) (a1' a3' a4' a6' a7' : Nat → Int32), ds_I op' bg' en' nc' te' tc' ve' vc' og' ov' gc' a1' a3' a4' a6' a7' ∧ nc' = nc ∧ tc' = tc ∧ vc' = vc ∧ op' = 0 ∧ ∀ (fd ps : Int32) (a2 a5 a8 : Nat → Int32) (post : Int32 → St1 → Prop), post r (nI op', nI bg', nI en', nI nc', nI te', nI tc', nI ve', nI vc', nI og', nI ov', nI gc', fd, ps, a1', a2, a3', a4', a5, a6', a7', a8) → wpX_end post (nI op, nI bg, nI en, nI nc, nI te, nI tc, nI ve, nI vc, nI og, nI ov, nI gc, fd, ps, a1, a2, a3, a4, a5, a6, a7, a8) := by
  have bd := ds_bd hI
  have b1 := hI.1.1
  have b2 := hI.1.2.2.2.2.2.2.2.2.2.2.2.1
  by_cases c : op = 1
  · obtain ⟨vy, a6y, a7y, hP, hW⟩ := ds_close hI c
    by_cases hg : og = 0
    · obtain ⟨ht, hv, hI'⟩ := ds_endA hP c hg
      refine ⟨nI (en + 1), 0, bg, en + 1, nc, te + 1, tc, vy + 1, vc, og, ov, gc, a1, _, _, _, _, hI', rfl, rfl, rfl, rfl, fun fd ps a2 a5 a8 post H => ?_⟩
      unfold wpX_end
      refine pk_eq op 0 (fun z => absurd z (by omega)) (fun _ => hW fd ps a2 a5 a8 _ (pk_eq og 0 (fun _ => ds_addT ht (ds_addV hv ?_)) (fun z => absurd hg z)))
      unfold wX_end_32
      exact nm_r (nI_1 en) H
    · refine ⟨nI (en + 1), 0, bg, en + 1, nc, te, tc, vy, vc, og, ov, gc, a1, a3, a4, a6y, a7y, ds_endB hP c (by omega), rfl, rfl, rfl, rfl, fun fd ps a2 a5 a8 post H => ?_⟩
      unfold wpX_end
      refine pk_eq op 0 (fun z => absurd z (by omega)) (fun _ => hW fd ps a2 a5 a8 _ (pk_eq og 0 (fun z => absurd z hg) (fun _ => ?_)))
      unfold wX_end_32
      exact nm_r (nI_1 en) H
  · refine ⟨-1, op, bg, en, nc, te, tc, ve, vc, og, ov, gc, a1, a3, a4, a6, a7, hI, rfl, rfl, rfl, by omega, fun fd ps a2 a5 a8 post H => ?_⟩
    unfold wpX_end
    exact pk_eq op 0 (fun _ => H) (fun z => absurd (show op = 0 by omega) z)
/-! begin -/
theorem ds_nb : vp_nar .boolean 0 = 0 ∧ vp_nar .boolean 1 = 1 := by decide
theorem ds_begI {x : Int32} {t : Nat} (hI : ds_I op bg en nc te tc ve vc og ov gc a1 a3 a4 a6 a7) (ho : op = 0) (hb : bg < 12) (hx : (x = 0 ∧ t = 0) ∨ (x = 1 ∧ t = 1)) : nc < 12 ∧ ds_I 1 (bg + 1) en (nc + t) te tc ve vc 0 ov gc (upd a1 bg x) a3 a4 a6 a7 := by
  obtain ⟨⟨n1, n2, n3, n4, n5, n6, n7, n8, n9, n10, n11, n12, n13, n14, n15, n16⟩, hC⟩ := ds_IP hI (ds_pdO ho)
  rw [ds_rcO ho] at n15
  have hl := ds_e_le 0 a1 bg
  refine ⟨by omega, ds_PI (p := 0) ⟨⟨by omega, by omega, by omega, ?_, n5, n6, n7, n8, n9, n10, n11, by omega, n13, n14, by rw [ds_rcG rfl]; exact n15, fun _ z => absurd z (by omega)⟩, hC⟩ (ds_pdG rfl)⟩
  rcases hx with ⟨h, h'⟩ | ⟨h, h'⟩
  · rw [ds_e_ut h, h']; omega
  · rw [ds_e_uf (by rw [h]; exact ds_10), h']; omega
theorem ds_begin {has : Int32} (hI : ds_I op bg en nc te tc ve vc og ov gc a1 a3 a4 a6 a7) (hh : has = 0 ∨ has = 1) : ∃ (r : Int32) (op' bg' en' nc' te' tc' ve' vc' og' ov' gc' : Nat) (a1' a3' a4' a6' a7' : Nat → Int32) (up : (Nat → Int32) → Int32 → Nat → Int32), ds_I op' bg' en' nc' te' tc' ve' vc' og' ov' gc' a1' a3' a4' a6' a7' ∧ tc' = tc ∧ vc' = vc ∧ (∀ a b x, ds_R nc a b → ds_R nc' (up a x) (up b (x ^^^ (-1)))) ∧ ∀ (fd ps x : Int32) (a2 a5 a8 : Nat → Int32) (post : Int32 → St1 → Prop), post r (nI op', nI bg', nI en', nI nc', nI te', nI tc', nI ve', nI vc', nI og', nI ov', nI gc', fd, ps, a1', up a2 x, a3', a4', a5, a6', a7', a8) → wpX_begin post (nI op, nI bg, nI en, nI nc, nI te, nI tc, nI ve, nI vc, nI og, nI ov, nI gc, fd, ps, a1, a2, a3, a4, a5, a6, a7, a8) has x := by
  have bd := ds_bd hI
  have b1 := hI.1.1
  by_cases c : op = 0 ∧ bg < 12
  · rcases hh with h | h
    · obtain ⟨hn, hI'⟩ := ds_begI (x := 0) (t := 0) hI c.1 c.2 (Or.inl ⟨rfl, rfl⟩)
      refine ⟨nI (bg + 1) - 1, 1, bg + 1, en, nc + 0, te, tc, ve, vc, 0, ov, gc, _, a3, a4, a6, a7, fun a _ => a, hI', rfl, rfl, fun a b x h => h, fun fd ps x a2 a5 a8 post H => ?_⟩
      rw [h]
      unfold wpX_begin
      refine pk_eq op 0 (fun _ => pk_lt bg 12 (fun _ => ⟨pk_in bg 12 c.2, nm_r (e' := upd a1 bg 0) (by rw [nI_clamp (by omega), ds_nb.1]) (br_t rfl ?_)⟩) (fun z => absurd z (by omega))) (fun z => absurd c.1 z)
      unfold wX_begin_62
      exact nm_r (nI_1 bg) H
    · obtain ⟨hn, hI'⟩ := ds_begI (x := 1) (t := 1) hI c.1 c.2 (Or.inr ⟨rfl, rfl⟩)
      refine ⟨nI (bg + 1) - 1, 1, bg + 1, en, nc + 1, te, tc, ve, vc, 0, ov, gc, _, a3, a4, a6, a7, fun a x => upd a nc x, hI', rfl, rfl, fun a b x h => ds_Ru x h, fun fd ps x a2 a5 a8 post H => ?_⟩
      rw [h]
      unfold wpX_begin
      refine pk_eq op 0 (fun _ => pk_lt bg 12 (fun _ => ⟨pk_in bg 12 c.2, nm_r (e' := upd a1 bg 1) (by rw [nI_clamp (by omega), ds_nb.2]) (br_f ds_10 ⟨pk_in nc 12 hn, nm_r (e' := upd a2 nc x) (by rw [nI_clamp (by omega)]) (nm_r (nI_1 nc) ?_)⟩)⟩) (fun z => absurd z (by omega))) (fun z => absurd c.1 z)
      unfold wX_begin_62
      exact nm_r (nI_1 bg) H
  · refine ⟨-1, op, bg, en, nc, te, tc, ve, vc, og, ov, gc, a1, a3, a4, a6, a7, fun a _ => a, hI, rfl, rfl, fun a b x h => h, fun fd ps x a2 a5 a8 post H => ?_⟩
    unfold wpX_begin
    exact pk_eq op 0 (fun _ => pk_lt bg 12 (fun _ => absurd (show op = 0 ∧ bg < 12 by omega) c) (fun _ => H)) (fun _ => H)
end
end
section
section
variable {op bg en nc te tc ve vc og ov gc : Nat} {a1 a3 a4 a6 a7 : Nat → Int32}
theorem ds_val0 {post : Int32 → St1 → Prop} {fd ps x : Int32} {a2 a5 a8 : Nat → Int32} (ho : op = 0) (H : post (-1) (nI op, nI bg, nI en, nI nc, nI te, nI tc, nI ve, nI vc, nI og, nI ov, nI gc, fd, ps, a1, a2, a3, a4, a5, a6, a7, a8)) : wpX_value post (nI op, nI bg, nI en, nI nc, nI te, nI tc, nI ve, nI vc, nI og, nI ov, nI gc, fd, ps, a1, a2, a3, a4, a5, a6, a7, a8) x := by
  unfold wpX_value
  exact pk_eq op 0 (fun _ => H) (fun z => absurd ho z)
theorem ds_grp0 {post : Int32 → St1 → Prop} {fd ps h x : Int32} {a2 a5 a8 : Nat → Int32} (ho : op = 0) (H : post (-1) (nI op, nI bg, nI en, nI nc, nI te, nI tc, nI ve, nI vc, nI og, nI ov, nI gc, fd, ps, a1, a2, a3, a4, a5, a6, a7, a8)) : wpX_group post (nI op, nI bg, nI en, nI nc, nI te, nI tc, nI ve, nI vc, nI og, nI ov, nI gc, fd, ps, a1, a2, a3, a4, a5, a6, a7, a8) h x := by
  unfold wpX_group
  exact pk_eq op 0 (fun _ => H) (fun z => absurd ho z)
theorem ds_end0 {post : Int32 → St1 → Prop} {fd ps : Int32} {a2 a5 a8 : Nat → Int32} (ho : op = 0) (H : post (-1) (nI op, nI bg, nI en, nI nc, nI te, nI tc, nI ve, nI vc, nI og, nI ov, nI gc, fd, ps, a1, a2, a3, a4, a5, a6, a7, a8)) : wpX_end post (nI op, nI bg, nI en, nI nc, nI te, nI tc, nI ve, nI vc, nI og, nI ov, nI gc, fd, ps, a1, a2, a3, a4, a5, a6, a7, a8) := by
  unfold wpX_end
  exact pk_eq op 0 (fun _ => H) (fun z => absurd ho z)
theorem ds_207 {L : Nat} {xs : Nat → Int32} {J : Int32 → Int32 → Int32 → Int32 → Int32 → Int32 → Int32 → Int32 → Int32 → Int32 → Int32 → Int32 → Int32 → Int32 → (Nat → Int32) → (Nat → Int32) → (Nat → Int32) → (Nat → Int32) → (Nat → Int32) → (Nat → Int32) → (Nat → Int32) → (Nat → Int32) → Int32 → Int32 → Int32 → Int32 → Int32 → Int32 → Int32 → Int32 → Int32 → Int32 → Int32 → Int32 → Int32 → (Nat → Int32) → (Nat → Int32) → (Nat → Int32) → (Nat → Int32) → (Nat → Int32) → (Nat → Int32) → (Nat → Int32) → (Nat → Int32) → Prop} {x5 x6 fd ps fe pe : Int32} {a2 a5 a8 b2 b5 b8 : Nat → Int32} {i kc ks : Nat} (hI : ds_I op bg en nc te tc ve vc og ov gc a1 a3 a4 a6 a7) (r2 : ds_R nc a2 b2) (r5 : ds_R tc a5 b5) (r8 : ds_R vc a8 b8) (hJ : ∀ fd ps fe pe : Int32, J (nI (i + 3)) (nI op) (nI bg) (nI en) (nI nc) (nI te) (nI tc) (nI ve) (nI vc) (nI og) (nI ov) (nI gc) fd ps a1 a2 a3 a4 a5 a6 a7 a8 (nI op) (nI bg) (nI en) (nI nc) (nI te) (nI tc) (nI ve) (nI vc) (nI og) (nI ov) (nI gc) fe pe a1 b2 a3 a4 b5 a6 a7 b8) : wL_law_207 (fun r => r = 1) L xs J (nI i) x5 x6 kc ks (nI op) (nI bg) (nI en) (nI nc) (nI te) (nI tc) (nI ve) (nI vc) (nI og) (nI ov) (nI gc) fd ps a1 a2 a3 a4 a5 a6 a7 a8 (nI op) (nI bg) (nI en) (nI nc) (nI te) (nI tc) (nI ve) (nI vc) (nI og) (nI ov) (nI gc) fe pe a1 b2 a3 a4 b5 a6 a7 b8 := by
  unfold wL_law_207
  exact ds_alike hI r2 r5 r8 (fun fd ps fe pe => br_f ds_10 (nm_r (nI_add i 3) (hJ fd ps fe pe)))
theorem ds_169 {L : Nat} {xs : Nat → Int32} {J : Int32 → Int32 → Int32 → Int32 → Int32 → Int32 → Int32 → Int32 → Int32 → Int32 → Int32 → Int32 → Int32 → Int32 → (Nat → Int32) → (Nat → Int32) → (Nat → Int32) → (Nat → Int32) → (Nat → Int32) → (Nat → Int32) → (Nat → Int32) → (Nat → Int32) → Int32 → Int32 → Int32 → Int32 → Int32 → Int32 → Int32 → Int32 → Int32 → Int32 → Int32 → Int32 → Int32 → (Nat → Int32) → (Nat → Int32) → (Nat → Int32) → (Nat → Int32) → (Nat → Int32) → (Nat → Int32) → (Nat → Int32) → (Nat → Int32) → Prop} {x5 x6 fd ps fe pe : Int32} {a2 a5 a8 b2 b5 b8 : Nat → Int32} {i k kc ks : Nat} (hk : k < 16) (h15 : k = 15 → op = 0) (hI : ds_I op bg en nc te tc ve vc og ov gc a1 a3 a4 a6 a7) (r2 : ds_R nc a2 b2) (r5 : ds_R tc a5 b5) (r8 : ds_R vc a8 b8) (hJ : ∀ fd ps fe pe : Int32, J (nI (i + 3)) (nI op) (nI bg) (nI en) (nI nc) (nI te) (nI tc) (nI ve) (nI vc) (nI og) (nI ov) (nI gc) fd ps a1 a2 a3 a4 a5 a6 a7 a8 (nI op) (nI bg) (nI en) (nI nc) (nI te) (nI tc) (nI ve) (nI vc) (nI og) (nI ov) (nI gc) fe pe a1 b2 a3 a4 b5 a6 a7 b8) : wL_law_169 (fun r => r = 1) L xs J (nI i) (nI k) x5 x6 kc ks (nI op) (nI bg) (nI en) (nI nc) (nI te) (nI tc) (nI ve) (nI vc) (nI og) (nI ov) (nI gc) fd ps a1 a2 a3 a4 a5 a6 a7 a8 (nI op) (nI bg) (nI en) (nI nc) (nI te) (nI tc) (nI ve) (nI vc) (nI og) (nI ov) (nI gc) fe pe a1 b2 a3 a4 b5 a6 a7 b8 := by
  unfold wL_law_169
  exact pk_eq k 15 (fun z => ds_val0 (h15 z) (br_t rfl (ds_grp0 (h15 z) (br_t rfl (ds_end0 (h15 z) (br_t rfl (ds_207 hI r2 r5 r8 hJ))))))) (fun _ => ds_207 hI r2 r5 r8 hJ)
theorem ds_66 {L : Nat} {xs : Nat → Int32} {J : Int32 → Int32 → Int32 → Int32 → Int32 → Int32 → Int32 → Int32 → Int32 → Int32 → Int32 → Int32 → Int32 → Int32 → (Nat → Int32) → (Nat → Int32) → (Nat → Int32) → (Nat → Int32) → (Nat → Int32) → (Nat → Int32) → (Nat → Int32) → (Nat → Int32) → Int32 → Int32 → Int32 → Int32 → Int32 → Int32 → Int32 → Int32 → Int32 → Int32 → Int32 → Int32 → Int32 → (Nat → Int32) → (Nat → Int32) → (Nat → Int32) → (Nat → Int32) → (Nat → Int32) → (Nat → Int32) → (Nat → Int32) → (Nat → Int32) → Prop} {x5 x6 z0 fd ps fe pe : Int32} {a2 a5 a8 b2 b5 b8 : Nat → Int32} {i k kc ks : Nat} (hk : k < 16) (hz : z0 = 0 ∨ z0 = 1) (hI : ds_I op bg en nc te tc ve vc og ov gc a1 a3 a4 a6 a7) (r2 : ds_R nc a2 b2) (r5 : ds_R tc a5 b5) (r8 : ds_R vc a8 b8)
    (hJ : ∀ (op bg en nc te tc ve vc og ov gc : Nat) (a1 a3 a4 a6 a7 : Nat → Int32) (fd ps fe pe : Int32) (a2 a5 a8 b2 b5 b8 : Nat → Int32), ds_I op bg en nc te tc ve vc og ov gc a1 a3 a4 a6 a7 → ds_R nc a2 b2 → ds_R tc a5 b5 → ds_R vc a8 b8 → J (nI (i + 3)) (nI op) (nI bg) (nI en) (nI nc) (nI te) (nI tc) (nI ve) (nI vc) (nI og) (nI ov) (nI gc) fd ps a1 a2 a3 a4 a5 a6 a7 a8 (nI op) (nI bg) (nI en) (nI nc) (nI te) (nI tc) (nI ve) (nI vc) (nI og) (nI ov) (nI gc) fe pe a1 b2 a3 a4 b5 a6 a7 b8) : wL_law_66 (fun r => r = 1) L xs J (nI i) (nI k) x5 x6 z0 kc ks (nI op) (nI bg) (nI en) (nI nc) (nI te) (nI tc) (nI ve) (nI vc) (nI og) (nI ov) (nI gc) fd ps a1 a2 a3 a4 a5 a6 a7 a8 (nI op) (nI bg) (nI en) (nI nc) (nI te) (nI tc) (nI ve) (nI vc) (nI og) (nI ov) (nI gc) fe pe a1 b2 a3 a4 b5 a6 a7 b8 := by
  unfold wL_law_66
  refine pk_lt 2 k (fun _ => pk_lt 5 k (fun _ => pk_lt 11 k (fun _ => ?_) (fun _ => ?_)) (fun _ => ?_)) (fun _ => ?_)
  · obtain ⟨r, op', bg', en', nc', te', tc', ve', vc', og', ov', gc', a1', a3', a4', a6', a7', hI', e1, e2, e3, e4, hW⟩ := ds_end hI
    rw [← e1] at r2
    rw [← e2] at r5
    rw [← e3] at r8
    exact hW fd ps a2 a5 a8 _ (hW fe pe b2 b5 b8 _ (br_t rfl (ds_169 hk (fun _ => e4) hI' r2 r5 r8 (fun fd ps fe pe => hJ _ _ _ _ _ _ _ _ _ _ _ _ _ _ _ _ _ _ _ _ _ _ _ _ _ _ hI' r2 r5 r8))))
  · obtain ⟨r, op', bg', en', nc', te', tc', ve', vc', og', ov', gc', a1', a3', a4', a6', a7', up, hI', e1, e2, hR, hW⟩ := ds_value hI
    rw [← e1] at r2
    rw [← e2] at r5
    have r8 := hR a8 b8 x5 r8
    exact hW fd ps x5 a2 a5 a8 _ (hW fe pe (x5 ^^^ (-1)) b2 b5 b8 _ (br_t rfl (ds_169 hk (fun z => absurd z (by omega)) hI' r2 r5 r8 (fun fd ps fe pe => hJ _ _ _ _ _ _ _ _ _ _ _ _ _ _ _ _ _ _ _ _ _ _ _ _ _ _ hI' r2 r5 r8))))
  · obtain ⟨r, op', bg', en', nc', te', tc', ve', vc', og', ov', gc', a1', a3', a4', a6', a7', up, hI', e1, e2, hR, hW⟩ := ds_group hI hz
    rw [← e1] at r2
    rw [← e2] at r8
    have r5 := hR a5 b5 (x5 &&& 3) r5
    exact hW fd ps (x5 &&& 3) a2 a5 a8 _ (hW fe pe ((x5 &&& 3) ^^^ (-1)) b2 b5 b8 _ (br_t rfl (ds_169 hk (fun z => absurd z (by omega)) hI' r2 r5 r8 (fun fd ps fe pe => hJ _ _ _ _ _ _ _ _ _ _ _ _ _ _ _ _ _ _ _ _ _ _ _ _ _ _ hI' r2 r5 r8))))
  · obtain ⟨r, op', bg', en', nc', te', tc', ve', vc', og', ov', gc', a1', a3', a4', a6', a7', up, hI', e1, e2, hR, hW⟩ := ds_begin hI hz
    rw [← e1] at r5
    rw [← e2] at r8
    have r2 := hR a2 b2 x5 r2
    exact hW fd ps x5 a2 a5 a8 _ (hW fe pe (x5 ^^^ (-1)) b2 b5 b8 _ (br_t rfl (ds_169 hk (fun z => absurd z (by omega)) hI' r2 r5 r8 (fun fd ps fe pe => hJ _ _ _ _ _ _ _ _ _ _ _ _ _ _ _ _ _ _ _ _ _ _ _ _ _ _ hI' r2 r5 r8))))
end
theorem ds_18 {L kc ks : Nat} {xs : Nat → Int32} (hL : L ≤ 260) : ∀ (n i : Nat) (op bg en nc te tc ve vc og ov gc : Nat) (a1 a3 a4 a6 a7 : Nat → Int32) (fd ps fe pe : Int32) (a2 a5 a8 b2 b5 b8 : Nat → Int32), i ≤ L → L < n + i → ds_I op bg en nc te tc ve vc og ov gc a1 a3 a4 a6 a7 → ds_R nc a2 b2 → ds_R tc a5 b5 → ds_R vc a8 b8 → wL_law_18 (fun r => r = 1) L xs kc ks n (nI i) (nI op) (nI bg) (nI en) (nI nc) (nI te) (nI tc) (nI ve) (nI vc) (nI og) (nI ov) (nI gc) fd ps a1 a2 a3 a4 a5 a6 a7 a8 (nI op) (nI bg) (nI en) (nI nc) (nI te) (nI tc) (nI ve) (nI vc) (nI og) (nI ov) (nI gc) fe pe a1 b2 a3 a4 b5 a6 a7 b8 := by
  intro n
  induction n with
  | zero => intros; omega
  | succ n ih =>
    intro i op bg en nc te tc ve vc og ov gc a1 a3 a4 a6 a7 fd ps fe pe a2 a5 a8 b2 b5 b8 hi hn hI r2 r5 r8
    obtain ⟨k, hk, ek⟩ := pk_andE (xs i) (m := 15) 4 (by decide)
    refine pk_lt L (i + 3) (fun _ => rfl) (fun z => ⟨pk_in i L (by omega), nm_r (e' := nI k) (by rw [nI_clamp (by omega)]; exact ek) ⟨pk_in (i + 1) L (by omega) (nI_1 i), nm_e ⟨pk_in (i + 2) L (by omega) (nI_add i 2), nm_e ?_⟩⟩⟩) rfl (nI_add i 3)
    refine br_c (fun _ => ds_66 hk (Or.inl rfl) hI r2 r5 r8 ?_) (fun _ => ds_66 hk (Or.inr rfl) hI r2 r5 r8 ?_)
    · intro op bg en nc te tc ve vc og ov gc a1 a3 a4 a6 a7 fd ps fe pe a2 a5 a8 b2 b5 b8 hI r2 r5 r8
      exact ih (i + 3) _ _ _ _ _ _ _ _ _ _ _ _ _ _ _ _ _ _ _ _ _ _ _ _ _ _ (by omega) (by omega) hI r2 r5 r8
    · intro op bg en nc te tc ve vc og ov gc a1 a3 a4 a6 a7 fd ps fe pe a2 a5 a8 b2 b5 b8 hI r2 r5 r8
      exact ih (i + 3) _ _ _ _ _ _ _ _ _ _ _ _ _ _ _ _ _ _ _ _ _ _ _ _ _ _ (by omega) (by omega) hI r2 r5 r8
theorem ds_I0 : ds_I 0 0 0 0 0 0 0 0 0 0 0 (fun _ => 0) (fun _ => 0) (fun _ => 0) (fun _ => 0) (fun _ => 0) := by
  refine ds_PI (p := 0) ⟨⟨by omega, by omega, by omega, rfl, rfl, by omega, by omega, by omega, by omega, rfl, by omega, by omega, by omega, rfl, rfl, fun h => absurd h (by omega)⟩, ?_⟩ (ds_pdO rfl)
  exact ⟨fun j h => absurd h (by omega), fun j h => absurd h (by omega), fun j h => absurd h (by omega), fun j h => absurd h (by omega), fun j h => absurd h (by omega)⟩
theorem ds_init {post : St1 → Prop} (H : post (0, 0, 0, 0, 0, 0, 0, 0, 0, 0, 0, 0, 0, fun _ => 0, fun _ => 0, fun _ => 0, fun _ => 0, fun _ => 0, fun _ => 0, fun _ => 0, fun _ => 0)) : wpX_init post 8 452 (0, 0, 0, 0, 0, 0, 0, 0, 0, 0, 0, 0, 0) := by
  unfold wpX_init
  exact ⟨by decide, by decide, by decide, by decide, by decide, by decide, by decide, by decide, by decide, by decide, by decide, by decide, by decide, by decide, by decide, by decide, H⟩
theorem i_vc (xs : Nat → Int32) (L : Nat) (hL : L ≤ 260) : wpL_law (fun r => r = 1) L xs := by
  unfold wpL_law
  refine ⟨8, 452, by decide, by decide, ds_init ⟨by decide, by decide, 8, 452, by decide, by decide, ds_init ⟨L + 1, ?_⟩⟩⟩
  exact ds_18 hL (L + 1) 0 0 0 0 0 0 0 0 0 0 0 0 _ _ _ _ _ 0 0 0 0 _ _ _ _ _ _ (Nat.zero_le L) (by omega) ds_I0 (fun i h => absurd h (Nat.not_lt_zero i)) (fun i h => absurd h (Nat.not_lt_zero i)) (fun i h => absurd h (Nat.not_lt_zero i))
end
