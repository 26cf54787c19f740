section
/-! pure pictures: bytes, sums, counts -/
/-- the first 256 places hold bytes -/
def mf_px (a : Nat → Int32) : Prop := ∀ j, j < 256 → ∃ v : Nat, v ≤ 255 ∧ a j = nI v
def mf_v (a : Nat → Int32) (j : Nat) : Nat := (a j).toNatClampNeg
theorem mf_pv {a : Nat → Int32} (h : mf_px a) {j : Nat} (hj : j < 256) : a j = nI (mf_v a j) := by
  obtain ⟨v, hv, e⟩ := h j hj
  unfold mf_v
  rw [e, nI_clamp (by omega)]
theorem mf_pb {a : Nat → Int32} (h : mf_px a) {j : Nat} (hj : j < 256) : mf_v a j ≤ 255 := by
  obtain ⟨v, hv, e⟩ := h j hj
  unfold mf_v
  rw [e, nI_clamp (by omega)]
  exact hv
theorem mf_vc {a b : Nat → Int32} {i j : Nat} (h : a i = b j) : mf_v a i = mf_v b j := by
  unfold mf_v
  rw [h]
theorem mf_vle {a b : Nat → Int32} (ha : mf_px a) (hb : mf_px b) {i j : Nat} (hi : i < 256) (hj : j < 256) : a i ≤ b j ↔ mf_v a i ≤ mf_v b j := by
  have h1 := mf_pb ha hi
  have h2 := mf_pb hb hj
  rw [mf_pv ha hi, mf_pv hb hj, nI_leI (by omega) (by omega)]
/-- a sum of naturals -/
def mf_S (f : Nat → Nat) : Nat → Nat
  | 0 => 0
  | n + 1 => mf_S f n + f n
theorem mf_Ss (f : Nat → Nat) (n : Nat) : mf_S f (n + 1) = mf_S f n + f n := rfl
theorem mf_Scg {f g : Nat → Nat} {n : Nat} (h : ∀ j, j < n → f j = g j) : mf_S f n = mf_S g n := by
  induction n with
  | zero => rfl
  | succ n ih => rw [mf_Ss, mf_Ss, ih (fun j hj => h j (by omega)), h n (by omega)]
theorem mf_Sle {f g : Nat → Nat} {n : Nat} (h : ∀ j, j < n → f j ≤ g j) : mf_S f n ≤ mf_S g n := by
  induction n with
  | zero => exact Nat.le_refl 0
  | succ n ih =>
    have h1 := ih (fun j hj => h j (by omega))
    have h2 := h n (by omega)
    rw [mf_Ss, mf_Ss]
    omega
theorem mf_Sbd {f : Nat → Nat} {c n : Nat} (h : ∀ j, j < n → f j ≤ c) : mf_S f n ≤ c * n := by
  induction n with
  | zero => exact Nat.zero_le _
  | succ n ih =>
    have h1 := ih (fun j hj => h j (by omega))
    have h2 := h n (by omega)
    rw [mf_Ss, Nat.mul_succ]
    omega
theorem mf_Sadd (f g : Nat → Nat) (n : Nat) : mf_S (fun j => f j + g j) n = mf_S f n + mf_S g n := by
  induction n with
  | zero => rfl
  | succ n ih =>
    rw [mf_Ss, mf_Ss, mf_Ss, ih]
    omega
theorem mf_Sk (c n : Nat) : mf_S (fun _ => c) n = c * n := by
  induction n with
  | zero => rfl
  | succ n ih => rw [mf_Ss, ih, Nat.mul_succ]
theorem mf_Sz {f : Nat → Nat} {n : Nat} (h : mf_S f n = 0) : ∀ j, j < n → f j = 0 := by
  induction n with
  | zero => exact fun j hj => absurd hj (by omega)
  | succ n ih =>
    rw [mf_Ss] at h
    intro j hj
    by_cases e : j = n
    · rw [e]; omega
    · exact ih (by omega) j (by omega)
theorem mf_S0 {f : Nat → Nat} {n : Nat} (h : ∀ j, j < n → f j = 0) : mf_S f n = 0 := by
  have h1 := mf_Sbd (c := 0) (fun j hj => Nat.le_of_eq (h j hj))
  omega
theorem mf_Su {f g : Nat → Nat} {k n : Nat} (hk : k < n) (h : ∀ j, j < n → j ≠ k → g j = f j) : mf_S g n + f k = mf_S f n + g k := by
  induction n with
  | zero => exact absurd hk (by omega)
  | succ n ih =>
    rw [mf_Ss, mf_Ss]
    by_cases e : k = n
    · have h1 : mf_S g n = mf_S f n := mf_Scg (fun j hj => h j (by omega) (by omega))
      rw [e, h1]
      omega
    · have h1 := ih (by omega) (fun j hj => h j (by omega))
      have h2 := h n (by omega) (fun z => e z.symm)
      omega
/-- how many of the first n places -/
def mf_C (p : Nat → Bool) (n : Nat) : Nat := mf_S (fun j => (p j).toNat) n
theorem mf_Cs (p : Nat → Bool) (n : Nat) : mf_C p (n + 1) = mf_C p n + (p n).toNat := rfl
theorem mf_Ct {p : Nat → Bool} {i : Nat} (h : p i = true) : mf_C p (i + 1) = mf_C p i + 1 := by
  rw [mf_Cs, h]
  rfl
theorem mf_Cf {p : Nat → Bool} {i : Nat} (h : p i = false) : mf_C p (i + 1) = mf_C p i := by
  rw [mf_Cs, h]
  rfl
theorem mf_Ccg {p q : Nat → Bool} {n : Nat} (h : ∀ j, j < n → p j = q j) : mf_C p n = mf_C q n :=
  mf_Scg (fun j hj => by rw [h j hj])
theorem mf_Cle (p : Nat → Bool) (n : Nat) : mf_C p n ≤ n := by
  have h : mf_C p n ≤ 1 * n := mf_Sbd (fun j _ => Bool.toNat_le (p j))
  omega
theorem mf_Call {p : Nat → Bool} {n : Nat} (h : ∀ j, j < n → p j = true) : mf_C p n = n := by
  have h1 : mf_C p n = mf_S (fun _ => 1) n := mf_Scg (fun j hj => by rw [h j hj]; rfl)
  rw [h1, mf_Sk, Nat.one_mul]
theorem mf_Cno {p : Nat → Bool} {n : Nat} (h : ∀ j, j < n → p j = false) : mf_C p n = 0 :=
  mf_S0 (fun j hj => by rw [h j hj]; rfl)
theorem mf_Cz {p : Nat → Bool} {n : Nat} (h : mf_C p n = 0) : ∀ j, j < n → p j = false := by
  intro j hj
  have h1 : (p j).toNat = 0 := mf_Sz h j hj
  cases e : p j with
  | false => rfl
  | true => rw [e] at h1; exact absurd h1 (by decide)
theorem mf_Cnot (p : Nat → Bool) (n : Nat) : mf_C p n + mf_C (fun j => !p j) n = n := by
  induction n with
  | zero => rfl
  | succ n ih =>
    rw [mf_Cs, mf_Cs]
    have h : (p n).toNat + (!p n).toNat = 1 := by cases p n <;> rfl
    omega
/-- equal places, greater places, changed places -/
def mf_E (a b : Nat → Int32) : Nat := mf_C (fun j => decide (a j = b j)) 256
def mf_A (a b : Nat → Int32) : Nat := mf_C (fun j => !decide (a j ≤ b j)) 256
def mf_D (a b : Nat → Int32) : Nat := mf_C (fun j => !decide (a j = b j)) 256
theorem mf_ED (a b : Nat → Int32) : mf_E a b + mf_D a b = 256 := mf_Cnot (fun j => decide (a j = b j)) 256
theorem mf_Esym (a b : Nat → Int32) : mf_E a b = mf_E b a :=
  mf_Ccg (fun j _ => by rw [decide_eq_decide]; exact ⟨Eq.symm, Eq.symm⟩)
theorem mf_tri (x y : Int32) : (decide (x = y)).toNat + (!decide (x ≤ y)).toNat + (!decide (y ≤ x)).toNat = 1 := by
  by_cases h : x ≤ y
  · by_cases h2 : y ≤ x
    · have e : x = y := Int32.le_antisymm h h2
      subst e
      simp
    · have e : ¬ x = y := fun z => h2 (z ▸ Int32.le_refl x)
      simp [h, h2, e]
  · have h2 : y ≤ x := (Int32.le_total x y).resolve_left h
    have e : ¬ x = y := fun z => h (z ▸ Int32.le_refl x)
    simp [h, h2, e]
theorem mf_EAA (a b : Nat → Int32) : mf_E a b + mf_A a b + mf_A b a = 256 := by
  unfold mf_E mf_A mf_C
  rw [← mf_Sadd, ← mf_Sadd]
  have h : mf_S (fun j => (decide (a j = b j)).toNat + (!decide (a j ≤ b j)).toNat + (!decide (b j ≤ a j)).toNat) 256 = mf_S (fun _ => 1) 256 := mf_Scg (fun j _ => mf_tri (a j) (b j))
  rw [h, mf_Sk]
theorem mf_Ecg {a b c d : Nat → Int32} (h : ∀ j, j < 256 → a j = c j) (k : ∀ j, j < 256 → b j = d j) : mf_E a b = mf_E c d :=
  mf_Ccg (fun j hj => by rw [h j hj, k j hj])
theorem mf_Acg {a b c d : Nat → Int32} (h : ∀ j, j < 256 → a j = c j) (k : ∀ j, j < 256 → b j = d j) : mf_A a b = mf_A c d :=
  mf_Ccg (fun j hj => by rw [h j hj, k j hj])
theorem mf_Dcg {a b c d : Nat → Int32} (h : ∀ j, j < 256 → a j = c j) (k : ∀ j, j < 256 → b j = d j) : mf_D a b = mf_D c d :=
  mf_Ccg (fun j hj => by rw [h j hj, k j hj])
theorem mf_Eall {a b : Nat → Int32} (h : ∀ j, j < 256 → a j = b j) : mf_E a b = 256 :=
  mf_Call (fun j hj => decide_eq_true (h j hj))
theorem mf_D0 {a b : Nat → Int32} (h : ∀ j, j < 256 → a j = b j) : mf_D a b = 0 :=
  mf_Cno (fun j hj => by rw [decide_eq_true (h j hj)]; rfl)
theorem mf_Dz {a b : Nat → Int32} (h : mf_D a b = 0) : ∀ j, j < 256 → a j = b j := by
  intro j hj
  have h1 : (!decide (a j = b j)) = false := mf_Cz h j hj
  by_cases e : a j = b j
  · exact e
  · rw [decide_eq_false e] at h1
    exact absurd h1 (by decide)
theorem mf_A0 {a b : Nat → Int32} (h : ∀ j, j < 256 → a j ≤ b j) : mf_A a b = 0 :=
  mf_Cno (fun j hj => by rw [decide_eq_true (h j hj)]; rfl)
theorem mf_AD {a b : Nat → Int32} (h : ∀ j, j < 256 → b j ≤ a j) : mf_A a b = mf_D a b := by
  have h1 := mf_A0 h
  have h2 := mf_EAA a b
  have h3 := mf_ED a b
  omega
theorem mf_Ale (a b : Nat → Int32) : mf_E a b + mf_A a b ≤ 256 := by
  have h2 := mf_EAA a b
  omega
/-! the raster's sum -/
def mf_T (a : Nat → Int32) : Nat := mf_S (mf_v a) 256
theorem mf_Tb {a : Nat → Int32} (h : mf_px a) : mf_T a ≤ 65280 := by
  have h1 : mf_S (mf_v a) 256 ≤ 255 * 256 := mf_Sbd (fun j hj => mf_pb h hj)
  exact h1
theorem mf_Tcg {a b : Nat → Int32} (h : ∀ j, j < 256 → a j = b j) : mf_T a = mf_T b :=
  mf_Scg (fun j hj => mf_vc (h j hj))
theorem mf_Tle {a b : Nat → Int32} (ha : mf_px a) (hb : mf_px b) (h : ∀ j, j < 256 → a j ≤ b j) : mf_T a ≤ mf_T b :=
  mf_Sle (fun j hj => (mf_vle ha hb hj hj).mp (h j hj))
theorem mf_pxc {a b : Nat → Int32} (ha : mf_px a) (h : ∀ j, j < 256 → b j = a j) : mf_px b := by
  intro j hj
  rw [h j hj]
  exact ha j hj
theorem mf_px0 {a : Nat → Int32} (h : ∀ j, j < 256 → a j = 0) : mf_px a := fun j hj => ⟨0, by omega, h j hj⟩
/-- a filled stretch grows by one -/
theorem mf_fill {f s : Nat → Int32} {i k : Nat} {x : Int32} (hk : k = i) (h : ∀ j, j < i → s j = f j) (hx : x = f i) : ∀ j, j < i + 1 → upd s k x j = f j := by
  intro j hj
  rw [hk]
  by_cases e : j = i
  · rw [e, pk_us, hx]
  · rw [pk_un e]
    exact h j (by omega)
/-- numbers out of comparisons -/
theorem mf_nb {x m : Int32} (n : Nat) (hn : n < 2 ^ 31) (hm : m = nI n) (h1 : ¬ x < 0) (h2 : ¬ m < x) : ∃ r : Nat, r ≤ n ∧ x = nI r := by
  obtain ⟨j, hj, e⟩ := nI_of h1
  refine ⟨j, ?_, e⟩
  rcases Nat.lt_or_ge n j with z | z
  · exact absurd (by rw [hm, e]; exact nI_lt z hj) h2
  · exact z
end
section
/-! the plain methods, walked -/
section
variable {a1 a2 a3 a4 a5 a6 a7 : Nat → Int32}
def mf_in (x y : Int32) : Prop := ∃ r c : Nat, r < 16 ∧ c < 16 ∧ x = nI r ∧ y = nI c
def mf_sz (x y : Int32) : Prop := ∃ w h : Nat, w ≤ 7 ∧ h ≤ 7 ∧ x = nI w ∧ y = nI h
theorem mf_n16 {x : Int32} (h1 : ¬ x < 0) (h2 : ¬ 16 ≤ x) : ∃ r : Nat, r < 16 ∧ x = nI r := by
  rcases pk_ix x (n := 16) (by decide) with h | h | h
  · exact absurd h h1
  · exact absurd h h2
  · exact h
theorem mf_bp0 {post : Int32 → Prop} {r c : Nat} (hr : r < 16) (hc : c < 16) (H : post 0) : wpX_badPixel post () (nI r) (nI c) :=
  br_f (nI_pos (by omega)) (br_f (nI_ge (b := 16) hr (by decide)) (br_f (nI_pos (by omega)) (br_t (nI_lt (b := 16) hc (by decide)) H)))
theorem mf_bp1 {post : Int32 → Prop} {x y : Int32} (h : ¬ mf_in x y) (H : post 1) : wpX_badPixel post () x y := by
  refine br_c (fun _ => H) (fun h1 => br_c (fun _ => H) (fun h2 => br_c (fun _ => H) (fun h3 => br_c (fun h4 => ?_) (fun _ => H))))
  obtain ⟨r, hr, er⟩ := mf_n16 h1 h2
  obtain ⟨c, hc, ec⟩ := mf_n16 h3 (fun z => Int32.lt_irrefl (Int32.lt_of_lt_of_le h4 z))
  exact absurd ⟨r, c, hr, hc, er, ec⟩ h
theorem mf_ix (r c : Nat) : nI r * 16 + nI c = nI (r * 16 + c) := by
  rw [show (16 : Int32) = nI 16 from rfl, pk_mul, nI_add]
theorem mf_pix {post : Int32 → Prop} {r c : Nat} (hr : r < 16) (hc : c < 16) (H : post (a1 (r * 16 + c))) : wpX_pixel post (a1, a2, a3, a4, a5, a6, a7) (nI r) (nI c) := by
  unfold wpX_pixel
  dsimp only
  refine mf_bp0 hr hc (br_t rfl ?_)
  rw [mf_ix, nI_clamp (by omega)]
  exact ⟨vp_in_nI (by omega) (by decide), H⟩
theorem mf_pixx {post : Int32 → Prop} {x y : Int32} (h : ¬ mf_in x y) (H : post (-1)) : wpX_pixel post (a1, a2, a3, a4, a5, a6, a7) x y := by
  unfold wpX_pixel
  dsimp only
  exact mf_bp1 h (br_f (by decide) H)
theorem mf_sum {post : Int32 → Prop} (h : mf_px a1) (H : post (nI (mf_T a1))) : wpX_sum post (a1, a2, a3, a4, a5, a6, a7) :=
  pk_loop (σ := Unit) (fun n i _ => wX_sum_4 post a1 a2 a3 a4 a5 a6 a7 n (nI (mf_S (mf_v a1) i)) (nI i)) (fun _ _ => True) 256 0 () (by omega) trivial
    (fun n _ _ => pk_le 256 256 (fun _ => H) (fun z => absurd z (by omega)))
    (fun n i _ hi _ hw => pk_le 256 i (fun z => absurd z (by omega)) (fun _ => ⟨pk_in i 256 hi, nm_r (by rw [nI_clamp (by omega), mf_Ss, ← nI_add, ← mf_pv h hi]) (nm_r (nI_1 i) (hw () trivial))⟩))
theorem mf_lsum {post : Int32 → Prop} (h : mf_px a1) (H : post (nI (mf_T a1))) : wpL_sum post (a1, a2, a3, a4, a5, a6, a7) := by
  refine pk_loop (σ := Unit) (fun n i _ => wL_sum_4 post a1 a2 a3 a4 a5 a6 a7 n (nI (mf_S (mf_v a1) i)) (nI i)) (fun _ _ => True) 256 0 () (by omega) trivial
    (fun n _ _ => pk_le 256 256 (fun _ => H) (fun z => absurd z (by omega))) (fun n i _ hi _ hw => ?_)
  refine pk_le 256 i (fun z => absurd z (by omega)) (fun _ => ⟨by decide, by decide, ?_⟩)
  have e1 : nI i / 16 = nI (i / 16) := pk_div (d := 16) (by omega) (by decide) (by decide)
  have e2 : nI i - nI i / 16 * 16 = nI (i % 16) := pk_rem (d := 16) (by omega) (by decide) (by decide)
  rw [e2, e1]
  refine mf_pix (by omega) (by omega) (nm_r ?_ (nm_r (nI_1 i) (hw () trivial)))
  rw [show i / 16 * 16 + i % 16 = i by omega, mf_Ss, ← nI_add, ← mf_pv h hi]
theorem mf_equal {post : Int32 → Prop} (H : post (nI (mf_E a1 a2))) : wpX_equal post (a1, a2, a3, a4, a5, a6, a7) := by
  refine pk_loop (σ := Unit) (fun n i _ => wX_equal_4 post a1 a2 a3 a4 a5 a6 a7 n (nI (mf_C (fun j => decide (a1 j = a2 j)) i)) (nI i)) (fun _ _ => True) 256 0 () (by omega) trivial
    (fun n _ _ => pk_le 256 256 (fun _ => H) (fun z => absurd z (by omega))) (fun n i _ hi _ hw => ?_)
  have t : wX_equal_4 post a1 a2 a3 a4 a5 a6 a7 n (nI (mf_C (fun j => decide (a1 j = a2 j)) (i + 1))) (nI (i + 1)) := hw () trivial
  refine pk_le 256 i (fun z => absurd z (by omega)) (fun _ => ⟨pk_in i 256 hi, pk_in i 256 hi, ?_⟩)
  rw [nI_clamp (show i < 2 ^ 31 by omega)]
  refine br_c (fun e => ?_) (fun e => ?_)
  · rw [mf_Ct (decide_eq_true e)] at t
    exact nm_r (nI_1 _) (nm_r (nI_1 i) t)
  · rw [mf_Cf (decide_eq_false e)] at t
    exact nm_r (nI_1 i) t
theorem mf_above {post : Int32 → Prop} (H : post (nI (mf_A a1 a2))) : wpX_above post (a1, a2, a3, a4, a5, a6, a7) := by
  refine pk_loop (σ := Unit) (fun n i _ => wX_above_4 post a1 a2 a3 a4 a5 a6 a7 n (nI (mf_C (fun j => !decide (a1 j ≤ a2 j)) i)) (nI i)) (fun _ _ => True) 256 0 () (by omega) trivial
    (fun n _ _ => pk_le 256 256 (fun _ => H) (fun z => absurd z (by omega))) (fun n i _ hi _ hw => ?_)
  have t : wX_above_4 post a1 a2 a3 a4 a5 a6 a7 n (nI (mf_C (fun j => !decide (a1 j ≤ a2 j)) (i + 1))) (nI (i + 1)) := hw () trivial
  refine pk_le 256 i (fun z => absurd z (by omega)) (fun _ => ⟨pk_in i 256 hi, pk_in i 256 hi, ?_⟩)
  rw [nI_clamp (show i < 2 ^ 31 by omega)]
  refine br_c (fun e => ?_) (fun e => ?_)
  · rw [mf_Cf (by simp [e])] at t
    exact nm_r (nI_1 i) t
  · rw [mf_Ct (by simp [e])] at t
    exact nm_r (nI_1 _) (nm_r (nI_1 i) t)
theorem mf_changed {post : Int32 → Prop} (H : post (nI (mf_D a1 a3))) : wpX_changed post (a1, a2, a3, a4, a5, a6, a7) := by
  refine pk_loop (σ := Unit) (fun n i _ => wX_changed_4 post a1 a2 a3 a4 a5 a6 a7 n (nI (mf_C (fun j => !decide (a1 j = a3 j)) i)) (nI i)) (fun _ _ => True) 256 0 () (by omega) trivial
    (fun n _ _ => pk_le 256 256 (fun _ => H) (fun z => absurd z (by omega))) (fun n i _ hi _ hw => ?_)
  have t : wX_changed_4 post a1 a2 a3 a4 a5 a6 a7 n (nI (mf_C (fun j => !decide (a1 j = a3 j)) (i + 1))) (nI (i + 1)) := hw () trivial
  refine pk_le 256 i (fun z => absurd z (by omega)) (fun _ => ⟨pk_in i 256 hi, pk_in i 256 hi, ?_⟩)
  rw [nI_clamp (show i < 2 ^ 31 by omega)]
  refine br_c (fun e => ?_) (fun e => ?_)
  · rw [mf_Cf (by simp [e])] at t
    exact nm_r (nI_1 i) t
  · rw [mf_Ct (by simp [e])] at t
    exact nm_r (nI_1 _) (nm_r (nI_1 i) t)
theorem mf_keep {post : St1 → Prop} (H : ∀ b2, (∀ j, j < 256 → b2 j = a1 j) → post (a1, b2, a3, a4, a5, a6, a7)) : wpX_keep post (a1, a2, a3, a4, a5, a6, a7) :=
  pk_loop (fun n i s => wX_keep_2 post n (nI i) a1 s a3 a4 a5 a6 a7) (fun i s => ∀ j, j < i → s j = a1 j) 256 0 a2 (by omega) (fun j hj => absurd hj (by omega))
    (fun n s h => pk_le 256 256 (fun _ => H s h) (fun z => absurd z (by omega)))
    (fun n i s hi h hw => pk_le 256 i (fun z => absurd z (by omega)) (fun _ => ⟨pk_in i 256 hi, pk_in i 256 hi, nm_e (nm_r (nI_1 i) (hw _ (mf_fill (nI_clamp (by omega)) h (by rw [nI_clamp (by omega)]))))⟩))
theorem mf_remember {post : St1 → Prop} (H : ∀ b3, (∀ j, j < 256 → b3 j = a1 j) → post (a1, a2, b3, a4, a5, a6, a7)) : wpX_remember post (a1, a2, a3, a4, a5, a6, a7) :=
  pk_loop (fun n i s => wX_remember_2 post n (nI i) a1 a2 s a4 a5 a6 a7) (fun i s => ∀ j, j < i → s j = a1 j) 256 0 a3 (by omega) (fun j hj => absurd hj (by omega))
    (fun n s h => pk_le 256 256 (fun _ => H s h) (fun z => absurd z (by omega)))
    (fun n i s hi h hw => pk_le 256 i (fun z => absurd z (by omega)) (fun _ => ⟨pk_in i 256 hi, pk_in i 256 hi, nm_e (nm_r (nI_1 i) (hw _ (mf_fill (nI_clamp (by omega)) h (by rw [nI_clamp (by omega)]))))⟩))
theorem mf_exch {post : St1 → Prop} (H : ∀ b1 b2, (∀ j, j < 256 → b1 j = a2 j) → (∀ j, j < 256 → b2 j = a1 j) → post (b1, b2, a3, a4, a5, a6, a7)) : wpX_exchange post (a1, a2, a3, a4, a5, a6, a7) := by
  refine pk_loop (σ := (Nat → Int32) × (Nat → Int32)) (fun n i s => wX_exchange_2 post n (nI i) s.1 s.2 a3 a4 a5 a6 a7) (fun i s => (∀ j, j < i → s.1 j = a2 j) ∧ (∀ j, j < i → s.2 j = a1 j) ∧ ∀ j, i ≤ j → s.1 j = a1 j ∧ s.2 j = a2 j) 256 0 (a1, a2) (by omega) ⟨fun j hj => absurd hj (by omega), fun j hj => absurd hj (by omega), fun j _ => ⟨rfl, rfl⟩⟩
    (fun n s h => pk_le 256 256 (fun _ => H s.1 s.2 h.1 h.2.1) (fun z => absurd z (by omega))) (fun n i s hi h hw => ?_)
  obtain ⟨h1, h2, h3⟩ := h
  have t := h3 i (Nat.le_refl i)
  refine pk_le 256 i (fun z => absurd z (by omega)) (fun _ => ⟨pk_in i 256 hi, nm_e ⟨pk_in i 256 hi, pk_in i 256 hi, nm_e ⟨pk_in i 256 hi, nm_e (nm_r (nI_1 i) (hw (_, _) ⟨mf_fill (nI_clamp (by omega)) h1 ?_, mf_fill (nI_clamp (by omega)) h2 ?_, fun j hj => ?_⟩))⟩⟩⟩)
  · rw [nI_clamp (by omega)]; exact t.2
  · rw [nI_clamp (by omega)]; exact t.1
  · have h4 := h3 j (by omega)
    have h5 : j ≠ (nI i).toNatClampNeg := by rw [nI_clamp (by omega)]; omega
    show upd s.1 _ _ j = _ ∧ upd s.2 _ _ j = _
    rw [pk_un h5, pk_un h5]
    exact h4
theorem mf_thr {post : Int32 → St1 → Prop} {x : Int32} (H : ∀ b1, (∀ j, j < 256 → b1 j = if a1 j < x then 0 else 255) → post (nI (mf_C (fun j => !decide (a1 j < x)) 256)) (b1, a2, a3, a4, a5, a6, a7)) : wpX_threshold post (a1, a2, a3, a4, a5, a6, a7) x := by
  refine pk_loop (fun n i s => wX_threshold_4 post x n (nI (mf_C (fun j => !decide (a1 j < x)) i)) (nI i) s a2 a3 a4 a5 a6 a7) (fun i s => (∀ j, j < i → s j = if a1 j < x then 0 else 255) ∧ ∀ j, i ≤ j → s j = a1 j) 256 0 a1 (by omega) ⟨fun j hj => absurd hj (by omega), fun j _ => rfl⟩
    (fun n s h => pk_le 256 256 (fun _ => H s h.1) (fun z => absurd z (by omega))) (fun n i s hi h hw => ?_)
  obtain ⟨h1, h2⟩ := h
  have e := h2 i (Nat.le_refl i)
  have t : ∀ y, (y = if a1 i < x then 0 else 255) → wX_threshold_4 post x n (nI (mf_C (fun j => !decide (a1 j < x)) (i + 1))) (nI (i + 1)) (upd s i y) a2 a3 a4 a5 a6 a7 := fun y hy =>
    hw _ ⟨mf_fill (f := fun j => if a1 j < x then 0 else 255) rfl h1 hy, fun j hj => by rw [pk_un (by omega)]; exact h2 j (by omega)⟩
  refine pk_le 256 i (fun z => absurd z (by omega)) (fun _ => ⟨pk_in i 256 hi, ?_⟩)
  rw [nI_clamp (show i < 2 ^ 31 by omega), e]
  refine br_c (fun g => br_t rfl ⟨pk_in i 256 hi, ?_⟩) (fun g => br_f (by decide) ⟨pk_in i 256 hi, ?_⟩)
  · have t := t 0 (by rw [if_pos g])
    rw [mf_Cf (by simp [g])] at t
    rw [nI_clamp (show i < 2 ^ 31 by omega)]
    exact nm_e (br_t rfl (nm_r (nI_1 i) t))
  · have t := t 255 (by rw [if_neg g])
    rw [mf_Ct (by simp [g])] at t
    rw [nI_clamp (show i < 2 ^ 31 by omega)]
    exact nm_e (br_f (by decide) (nm_r (nI_1 _) (nm_r (nI_1 i) t)))
theorem mf_set {post : Int32 → St1 → Prop} {r c v : Nat} (hr : r < 16) (hc : c < 16) (hv : v ≤ 255) (H : post (a1 (r * 16 + c)) (upd a1 (r * 16 + c) (nI v), a2, a3, a4, a5, a6, a7)) : wpX_set post (a1, a2, a3, a4, a5, a6, a7) (nI r) (nI c) (nI v) := by
  unfold wpX_set
  dsimp only
  refine mf_bp0 hr hc (br_t rfl (br_f (nI_pos (by omega)) (br_t (nI_le (b := 255) hv (by decide)) ?_)))
  rw [mf_ix, nI_clamp (by omega)]
  exact ⟨vp_in_nI (by omega) (by decide), nm_e ⟨vp_in_nI (by omega) (by decide), nm_e H⟩⟩
theorem mf_setv {post : Int32 → St1 → Prop} {r c : Nat} {x : Int32} (hr : r < 16) (hc : c < 16) (hv : x < 0 ∨ 255 < x) (H : post (-2) (a1, a2, a3, a4, a5, a6, a7)) : wpX_set post (a1, a2, a3, a4, a5, a6, a7) (nI r) (nI c) x := by
  unfold wpX_set
  dsimp only
  refine mf_bp0 hr hc (br_t rfl (br_c (fun _ => H) (fun h1 => br_f ?_ H)))
  exact Int32.not_le.mpr (hv.resolve_left h1)
theorem mf_setx {post : Int32 → St1 → Prop} {x y z : Int32} (h : ¬ mf_in x y) (H : post (-1) (a1, a2, a3, a4, a5, a6, a7)) : wpX_set post (a1, a2, a3, a4, a5, a6, a7) x y z := by
  unfold wpX_set
  dsimp only
  exact mf_bp1 h (br_f (by decide) H)
theorem mf_bs0 {post : Int32 → Prop} {w h : Nat} (hw : w ≤ 7) (hh : h ≤ 7) (H : post 0) : wpX_badSize post () (nI w) (nI h) :=
  br_f (nI_pos (by omega)) (br_f (nI_nlt (a := 7) hw (by decide)) (br_f (nI_pos (by omega)) (br_t (nI_le (b := 7) hh (by decide)) H)))
theorem mf_bs1 {post : Int32 → Prop} {x y : Int32} (h : ¬ mf_sz x y) (H : post 1) : wpX_badSize post () x y := by
  refine br_c (fun _ => H) (fun h1 => br_c (fun _ => H) (fun h2 => br_c (fun _ => H) (fun h3 => br_c (fun h4 => ?_) (fun _ => H))))
  obtain ⟨r, hr, er⟩ := mf_nb 7 (by decide) rfl h1 h2
  obtain ⟨c, hc, ec⟩ := mf_nb 7 (m := 7) (by decide) rfl h3 (Int32.not_lt.mpr h4)
  exact absurd ⟨r, c, hr, hc, er, ec⟩ h
def mf_pat (x y : Int32) (j : Nat) : Int32 := (nI (j / 16) * x + nI (j % 16) * y + nI (j / 16) * nI (j % 16)) &&& 255
theorem mf_pattern {post : St1 → Prop} {x y : Int32} (H : ∀ b1, (∀ j, j < 256 → b1 j = mf_pat x y j) → post (b1, a2, a3, a4, a5, a6, a7)) : wpX_pattern post (a1, a2, a3, a4, a5, a6, a7) x y := by
  refine pk_loop (fun n i s => wX_pattern_2 post x y n (nI i) s a2 a3 a4 a5 a6 a7) (fun i s => ∀ j, j < i → s j = mf_pat x y j) 256 0 a1 (by omega) (fun j hj => absurd hj (by omega))
    (fun n s h => pk_le 256 256 (fun _ => H s h) (fun z => absurd z (by omega))) (fun n i s hi h hw => ?_)
  have e1 : nI i / 16 = nI (i / 16) := pk_div (d := 16) (by omega) (by decide) (by decide)
  have e2 : nI i - nI i / 16 * 16 = nI (i % 16) := pk_rem (d := 16) (by omega) (by decide) (by decide)
  exact pk_le 256 i (fun z => absurd z (by omega)) (fun _ => ⟨by decide, nm_r e1 ⟨by decide, nm_r e2 ⟨pk_in i 256 hi, nm_e (nm_r (nI_1 i) (hw _ (mf_fill (nI_clamp (by omega)) h rfl)))⟩⟩⟩)
theorem mf_patpx {x y : Int32} {b : Nat → Int32} (h : ∀ j, j < 256 → b j = mf_pat x y j) : mf_px b := by
  intro j hj
  rw [h j hj]
  unfold mf_pat
  obtain ⟨v, hv, e⟩ := pk_andE (nI (j / 16) * x + nI (j % 16) * y + nI (j / 16) * nI (j % 16)) (m := 255) 8 (by decide)
  exact ⟨v, by omega, e⟩
end
end
section
/-! the order of a filter: 'mf_B g x y': x is as good as y (g = 0: the least, else the greatest) -/
def mf_B (g x y : Int32) : Prop := (g = 0 → x ≤ y) ∧ (¬ g = 0 → y ≤ x)
theorem mf_Br (g x : Int32) : mf_B g x x := ⟨fun _ => Int32.le_refl x, fun _ => Int32.le_refl x⟩
theorem mf_Bt {g x y z : Int32} (h : mf_B g x y) (k : mf_B g y z) : mf_B g x z :=
  ⟨fun e => Int32.le_trans (h.1 e) (k.1 e), fun e => Int32.le_trans (k.2 e) (h.2 e)⟩
theorem mf_Bn {g x y : Int32} (h : ¬ mf_B g x y) : mf_B g y x := by
  by_cases e : g = 0
  · refine ⟨fun _ => ?_, fun z => absurd e z⟩
    rcases Int32.le_total y x with k | k
    · exact k
    · exact absurd ⟨fun _ => k, fun z => absurd e z⟩ h
  · refine ⟨fun z => absurd z e, fun _ => ?_⟩
    rcases Int32.le_total x y with k | k
    · exact k
    · exact absurd ⟨fun z => absurd z e, fun _ => k⟩ h
/-- places in the window of half width w around c -/
def mf_win (w c j : Nat) : Prop := j < 16 ∧ j ≤ c + w ∧ c ≤ j + w
/-- the queue between h and t: places below u and not behind the window's edge, rising, their values falling off, every place of the window outdone by one of them -/
def mf_Q (g : Int32) (ln : Nat → Int32) (w lo u h t : Nat) (Q : Nat → Nat) : Prop :=
  (h ≤ t ∧ t ≤ u ∧ t ≤ 16) ∧
  (∀ k, h ≤ k → k < t → Q k < 16 ∧ Q k < u ∧ lo ≤ Q k + 2 * w) ∧
  (∀ k m, h ≤ k → k < m → m < t → Q k < Q m ∧ mf_B g (ln (Q k)) (ln (Q m))) ∧
  (∀ j, j < 16 → j < u → lo ≤ j + 2 * w → ∃ k, h ≤ k ∧ k < t ∧ j ≤ Q k ∧ mf_B g (ln (Q k)) (ln j))
def mf_nu (Q : Nat → Nat) (k x : Nat) : Nat → Nat := fun j => if j = k then x else Q j
theorem mf_nus {Q : Nat → Nat} {k x : Nat} : mf_nu Q k x k = x := if_pos rfl
theorem mf_nun {Q : Nat → Nat} {k x j : Nat} (h : j ≠ k) : mf_nu Q k x j = Q j := if_neg h
theorem mf_Qstart (g : Int32) (ln : Nat → Int32) (w : Nat) (Q : Nat → Nat) : mf_Q g ln w (0 - 1) 0 0 0 Q :=
  ⟨⟨Nat.le_refl 0, Nat.le_refl 0, by omega⟩, fun k _ h => absurd h (by omega), fun k m _ _ h => absurd h (by omega), fun j _ h => absurd h (by omega)⟩
theorem mf_Qpush {g : Int32} {ln : Nat → Int32} {w i h t s : Nat} {Q : Nat → Nat} (q : mf_Q g ln w (i - 1) i h t Q) (hi : i < 16) (h1 : h ≤ s) (h2 : s ≤ t)
    (h3 : ∀ k, s ≤ k → k < t → mf_B g (ln i) (ln (Q k))) (h4 : h < s → ¬ mf_B g (ln i) (ln (Q (s - 1)))) : mf_Q g ln w (i - 1) (i + 1) h (s + 1) (mf_nu Q s i) := by
  obtain ⟨⟨q1, q2, q3⟩, q4, q5, q6⟩ := q
  refine ⟨⟨by omega, by omega, by omega⟩, fun k k1 k2 => ?_, fun k m k1 k2 k3 => ?_, fun j j1 j2 j3 => ?_⟩
  · by_cases e : k = s
    · rw [e, mf_nus]
      omega
    · rw [mf_nun e]
      have := q4 k k1 (by omega)
      omega
  · have e : k ≠ s := by omega
    rw [mf_nun e]
    by_cases e2 : m = s
    · rw [e2, mf_nus]
      refine ⟨(q4 k k1 (by omega)).2.1, ?_⟩
      have b1 : mf_B g (ln (Q (s - 1))) (ln i) := mf_Bn (h4 (by omega))
      by_cases e3 : k = s - 1
      · rw [e3]; exact b1
      · exact mf_Bt (q5 k (s - 1) k1 (by omega) (by omega)).2 b1
    · rw [mf_nun e2]
      exact q5 k m k1 k2 (by omega)
  · by_cases e : j = i
    · exact ⟨s, h1, by omega, by rw [mf_nus]; omega, by rw [mf_nus, e]; exact mf_Br g (ln i)⟩
    · obtain ⟨k, k1, k2, k3, k4⟩ := q6 j j1 (by omega) j3
      by_cases e2 : k < s
      · exact ⟨k, k1, by omega, by rw [mf_nun (by omega)]; exact k3, by rw [mf_nun (by omega)]; exact k4⟩
      · exact ⟨s, h1, by omega, by rw [mf_nus]; omega, by rw [mf_nus]; exact mf_Bt (h3 k (by omega) k2) k4⟩
theorem mf_Qpast {g : Int32} {ln : Nat → Int32} {w i h t : Nat} {Q : Nat → Nat} (q : mf_Q g ln w (i - 1) i h t Q) (hi : 16 ≤ i) : mf_Q g ln w (i - 1) (i + 1) h t Q := by
  obtain ⟨⟨q1, q2, q3⟩, q4, q5, q6⟩ := q
  exact ⟨⟨q1, by omega, q3⟩, fun k k1 k2 => by have := q4 k k1 k2; omega, q5, fun j j1 j2 j3 => q6 j j1 (by omega) j3⟩
theorem mf_Qhas {g : Int32} {ln : Nat → Int32} {w i h t lo : Nat} {Q : Nat → Nat} (q : mf_Q g ln w lo (i + 1) h t Q) (hl : lo ≤ i) (hi : i ≤ 15 + w) : h < t := by
  obtain ⟨⟨q1, q2, q3⟩, q4, q5, q6⟩ := q
  by_cases e : i < 16
  · obtain ⟨k, k1, k2, _⟩ := q6 i e (by omega) (by omega)
    omega
  · obtain ⟨k, k1, k2, _⟩ := q6 15 (by omega) (by omega) (by omega)
    omega
theorem mf_Qstay {g : Int32} {ln : Nat → Int32} {w i h t : Nat} {Q : Nat → Nat} (q : mf_Q g ln w (i - 1) (i + 1) h t Q) (hi : i ≤ 15 + w) (e : i ≤ Q h + 2 * w) : mf_Q g ln w i (i + 1) h t Q := by
  have hh := mf_Qhas q (by omega) hi
  obtain ⟨⟨q1, q2, q3⟩, q4, q5, q6⟩ := q
  refine ⟨⟨q1, q2, q3⟩, fun k k1 k2 => ?_, q5, fun j j1 j2 j3 => q6 j j1 j2 (by omega)⟩
  have h1 := q4 k k1 k2
  by_cases z : k = h
  · subst z; omega
  · have h2 := (q5 h k (by omega) (by omega) k2).1
    omega
theorem mf_Qpop {g : Int32} {ln : Nat → Int32} {w i h t : Nat} {Q : Nat → Nat} (q : mf_Q g ln w (i - 1) (i + 1) h t Q) (hi : i ≤ 15 + w) (e : Q h + 2 * w < i) : mf_Q g ln w i (i + 1) (h + 1) t Q := by
  have hh := mf_Qhas q (by omega) hi
  obtain ⟨⟨q1, q2, q3⟩, q4, q5, q6⟩ := q
  have h0 := q4 h (by omega) hh
  refine ⟨⟨hh, q2, q3⟩, fun k k1 k2 => ?_, fun k m k1 k2 k3 => q5 k m (by omega) k2 k3, fun j j1 j2 j3 => ?_⟩
  · have h1 := q4 k (by omega) k2
    have h2 := (q5 h k (by omega) (by omega) k2).1
    omega
  · obtain ⟨k, k1, k2, k3, k4⟩ := q6 j j1 j2 (by omega)
    refine ⟨k, ?_, k2, k3, k4⟩
    by_cases z : k = h
    · subst z; omega
    · omega
theorem mf_Qbest {g : Int32} {ln : Nat → Int32} {w i h t c : Nat} {Q : Nat → Nat} (q : mf_Q g ln w i (i + 1) h t Q) (hc : c < 16) (hi : i = c + w) : h < t ∧ mf_win w c (Q h) ∧ ∀ j, mf_win w c j → mf_B g (ln (Q h)) (ln j) := by
  have hh := mf_Qhas q (by omega) (by omega)
  obtain ⟨⟨q1, q2, q3⟩, q4, q5, q6⟩ := q
  have h0 := q4 h (by omega) hh
  refine ⟨hh, ⟨by omega, by omega, by omega⟩, fun j hj => ?_⟩
  obtain ⟨j1, j2, j3⟩ := hj
  obtain ⟨k, k1, k2, k3, k4⟩ := q6 j j1 (by omega) (by omega)
  by_cases z : k = h
  · subst z; exact k4
  · exact mf_Bt (q5 h k (by omega) (by omega) k2).2 k4
/-- the raster while a line is filtered: places done hold the best of their window, all else stands -/
def mf_W (g : Int32) (ln : Nat → Int32) (s t w i : Nat) (a b : Nat → Int32) : Prop :=
  (∀ c, c < 16 → c + w < i → ∃ j, mf_win w c j ∧ b (s + c * t) = ln j ∧ ∀ m, mf_win w c m → mf_B g (ln j) (ln m)) ∧
  (∀ k, (∀ c, c < 16 → k ≠ s + c * t) → b k = a k)
theorem mf_Wput {g : Int32} {ln : Nat → Int32} {s t w i c j : Nat} {a b : Nat → Int32} (W : mf_W g ln s t w i a b) (ht : 0 < t) (hc : c < 16) (hi : i = c + w) (hj : mf_win w c j) (hb : ∀ m, mf_win w c m → mf_B g (ln j) (ln m)) : mf_W g ln s t w (i + 1) a (upd b (s + c * t) (ln j)) := by
  refine ⟨fun d hd h => ?_, fun k hk => ?_⟩
  · by_cases e : d = c
    · rw [e, pk_us]
      exact ⟨j, hj, rfl, hb⟩
    · have e2 : s + d * t ≠ s + c * t := fun z => e (Nat.eq_of_mul_eq_mul_right ht (by omega))
      rw [pk_un e2]
      exact W.1 d hd (by omega)
  · rw [pk_un (hk c hc)]
    exact W.2 k hk
theorem mf_Wskip {g : Int32} {ln : Nat → Int32} {s t w i : Nat} {a b : Nat → Int32} (W : mf_W g ln s t w i a b) (hi : i < w) : mf_W g ln s t w (i + 1) a b :=
  ⟨fun d hd h => absurd h (by omega), W.2⟩
/-- a line filtered -/
def mf_LF (g : Int32) (w s t : Nat) (a b : Nat → Int32) : Prop :=
  (∀ c, c < 16 → ∃ j, mf_win w c j ∧ b (s + c * t) = a (s + j * t) ∧ ∀ m, mf_win w c m → mf_B g (a (s + j * t)) (a (s + m * t))) ∧
  (∀ k, (∀ c, c < 16 → k ≠ s + c * t) → b k = a k)
theorem mf_WLF {g : Int32} {ln : Nat → Int32} {s t w : Nat} {a b : Nat → Int32} (hl : ∀ j, j < 16 → ln j = a (s + j * t)) (W : mf_W g ln s t w (16 + w) a b) : mf_LF g w s t a b := by
  refine ⟨fun c hc => ?_, W.2⟩
  obtain ⟨j, j1, j2, j3⟩ := W.1 c hc (by omega)
  refine ⟨j, j1, by rw [j2, hl j j1.1], fun m hm => ?_⟩
  rw [← hl j j1.1, ← hl m hm.1]
  exact j3 m hm
/-! the walk -/
section
variable {a1 a2 a3 a4 a5 a6 a7 : Nat → Int32}
theorem mf_outd {post : Int32 → Prop} {g : Int32} {i k : Nat} (hi : i < 16) (hk : k < 16) (H1 : mf_B g (a4 i) (a4 k) → post 1) (H0 : ¬ mf_B g (a4 i) (a4 k) → post 0) : wpX_outdoes post (a1, a2, a3, a4, a5, a6, a7) (nI i) (nI k) g := by
  unfold wpX_outdoes
  dsimp only
  rw [nI_clamp (show i < 2 ^ 31 by omega), nI_clamp (show k < 2 ^ 31 by omega)]
  refine br_c (fun e => ⟨pk_in i 16 hi, pk_in k 16 hk, br_c (fun z => H0 (fun b => ?_)) (fun z => H1 ?_)⟩) (fun e => ⟨pk_in i 16 hi, pk_in k 16 hk, br_c (fun z => H0 (fun b => ?_)) (fun z => H1 ?_)⟩)
  · exact Int32.not_le.mpr z (b.1 e)
  · exact ⟨fun _ => Int32.not_lt.mp z, fun n => absurd e n⟩
  · exact Int32.not_le.mpr z (b.2 e)
  · exact ⟨fun n => absurd n e, fun _ => Int32.not_lt.mp z⟩
theorem mf_59 {post : St1 → Prop} {J : Int32 → Int32 → Int32 → (Nat → Int32) → (Nat → Int32) → (Nat → Int32) → (Nat → Int32) → (Nat → Int32) → (Nat → Int32) → (Nat → Int32) → Prop} {x1 x2 x3 g : Int32} {h i : Nat} {Q : Nat → Nat} (hi : i < 16) :
    ∀ t, t ≤ 16 → h ≤ t → (∀ k, h ≤ k → k < t → a5 k = nI (Q k) ∧ Q k < 16) →
    (∀ s, h ≤ s → s ≤ t → (∀ k, s ≤ k → k < t → mf_B g (a4 i) (a4 (Q k))) → (h < s → ¬ mf_B g (a4 i) (a4 (Q (s - 1)))) → wX_filterLine_92 post J x1 x2 x3 g (nI h) (nI s) (nI i) a1 a2 a3 a4 a5 a6 a7) →
    wX_filterLine_59 post J x1 x2 x3 g (nI h) (nI i) a1 a2 a3 a4 a5 a6 a7 (t + 1) (nI t) := by
  intro t
  induction t with
  | zero =>
    intro _ ht _ H
    exact pk_le 0 h (fun _ => H 0 (by omega) (Nat.le_refl 0) (fun k _ z => absurd z (by omega)) (fun z => absurd z (by omega))) (fun z => absurd z (by omega))
  | succ t ih =>
    intro h16 ht hq H
    refine pk_le (t + 1) h (fun z => H (t + 1) (by omega) (Nat.le_refl _) (fun k _ z => absurd z (by omega)) (fun z => absurd z (by omega))) (fun z => ?_)
    rw [nI_pred, nI_clamp (show t < 2 ^ 31 by omega), (hq t (by omega) (by omega)).1]
    refine ⟨pk_in t 16 (by omega), mf_outd hi (hq t (by omega) (by omega)).2 (fun b => br_f (by decide) (nm_r (pk_m1 t) ?_)) (fun b => br_t rfl ?_)⟩
    · refine ih (by omega) (by omega) (fun k k1 k2 => hq k k1 (by omega)) (fun s s1 s2 s3 s4 => H s s1 (by omega) (fun k k1 k2 => ?_) s4)
      by_cases e : k = t
      · rw [e]; exact b
      · exact s3 k k1 (by omega)
    · exact H (t + 1) (by omega) (Nat.le_refl _) (fun k _ z => absurd z (by omega)) (fun _ => b)
def mf_lk (q : Nat → Int32) (Q : Nat → Nat) (h t : Nat) : Prop := ∀ k, h ≤ k → k < t → q k = nI (Q k)
theorem mf_edge {c w q : Nat} (hc : c < 2 ^ 30) (hw : w < 2 ^ 30) (hq : q < 2 ^ 30) : nI c - nI w ≤ nI q ↔ c ≤ q + w := by
  rw [Int32.le_iff_toInt_le, pk_sub_toInt hc hw, nI_toInt (by omega)]
  omega
theorem mf_at {s c t : Nat} (hs : s + 15 * t < 256) (hc : c < 16) : s + c * t < 256 := by
  have h : c * t ≤ 15 * t := Nat.mul_le_mul_right t (by omega)
  omega
theorem mf_132 {post : St1 → Prop} {J : Int32 → Int32 → Int32 → (Nat → Int32) → (Nat → Int32) → (Nat → Int32) → (Nat → Int32) → (Nat → Int32) → (Nat → Int32) → (Nat → Int32) → Prop} {x3 g : Int32} {s st w i h t c : Nat} {Q : Nat → Nat} {a : Nat → Int32}
    (q : mf_Q g a4 w i (i + 1) h t Q) (l : mf_lk a5 Q h t) (W : mf_W g a4 s st w i a a1) (hc : c < 16) (hi : i = c + w) (hs : s + 15 * st < 256) (hst : 0 < st)
    (hJ : ∀ h' t' b1 b5 Q', mf_Q g a4 w i (i + 1) h' t' Q' → mf_lk b5 Q' h' t' → mf_W g a4 s st w (i + 1) a b1 → J (nI h') (nI t') (nI (i + 1)) b1 a2 a3 a4 b5 a6 a7) :
    wX_filterLine_132 post J (nI s) (nI st) x3 g (nI h) (nI t) (nI i) (nI c) a1 a2 a3 a4 a5 a6 a7 := by
  obtain ⟨hh, b1, b2⟩ := mf_Qbest q hc hi
  have e : nI s + nI c * nI st = nI (s + c * st) := by rw [pk_mul, nI_add]
  have h16 := q.1.2.2
  have p := mf_at hs hc
  have q16 := b1.1
  unfold wX_filterLine_132
  rw [e, nI_clamp (show h < 2 ^ 31 by omega), l h (Nat.le_refl h) hh, nI_clamp (show Q h < 2 ^ 31 by omega), nI_clamp (show s + c * st < 2 ^ 31 by omega)]
  exact ⟨pk_in h 16 (by omega), pk_in (Q h) 16 q16, vp_in_nI p (by decide), nm_e (nm_r (nI_1 i) (hJ h t _ _ Q q l (mf_Wput W hst hc hi b1 b2)))⟩
theorem mf_104 {post : St1 → Prop} {J : Int32 → Int32 → Int32 → (Nat → Int32) → (Nat → Int32) → (Nat → Int32) → (Nat → Int32) → (Nat → Int32) → (Nat → Int32) → (Nat → Int32) → Prop} {g : Int32} {s st w i h t : Nat} {Q : Nat → Nat} {a : Nat → Int32}
    (q : mf_Q g a4 w (i - 1) (i + 1) h t Q) (l : mf_lk a5 Q h t) (W : mf_W g a4 s st w i a a1) (hi : i < 16 + w) (hw : w ≤ 7) (hs : s + 15 * st < 256) (hst : 0 < st)
    (hJ : ∀ h' t' b1 b5 Q', mf_Q g a4 w i (i + 1) h' t' Q' → mf_lk b5 Q' h' t' → mf_W g a4 s st w (i + 1) a b1 → J (nI h') (nI t') (nI (i + 1)) b1 a2 a3 a4 b5 a6 a7) :
    wX_filterLine_104 post J (nI s) (nI st) (nI w) g (nI h) (nI t) (nI i) a1 a2 a3 a4 a5 a6 a7 := by
  have hh := mf_Qhas q (by omega) (by omega)
  have h16 := q.1.2.2
  unfold wX_filterLine_104
  by_cases z : i < w
  · exact nm_e (br_t (pk_sneg (by omega) z) (nm_r (nI_1 i) (hJ h t a1 a5 Q (mf_Qstay q (by omega) (by omega)) l (mf_Wskip W z))))
  · refine nm_r (pk_sub (by omega)) (br_f (nI_pos (by omega)) ⟨pk_in h 16 (by omega), ?_⟩)
    rw [nI_clamp (show h < 2 ^ 31 by omega), l h (Nat.le_refl h) hh]
    have q16 := (q.2.1 h (Nat.le_refl h) hh).1
    refine ek_if (mf_edge (by omega) (by omega) (by omega)) (fun e => mf_132 (mf_Qstay q (by omega) (by omega)) l W (by omega) (by omega) hs hst hJ) (fun e => nm_r (nI_1 h) (mf_132 (mf_Qpop q (by omega) (by omega)) (fun k k1 k2 => l k (by omega) k2) W (by omega) (by omega) hs hst hJ))
theorem mf_92 {post : St1 → Prop} {J : Int32 → Int32 → Int32 → (Nat → Int32) → (Nat → Int32) → (Nat → Int32) → (Nat → Int32) → (Nat → Int32) → (Nat → Int32) → (Nat → Int32) → Prop} {g : Int32} {s st w i h t r : Nat} {Q : Nat → Nat} {a : Nat → Int32}
    (q : mf_Q g a4 w (i - 1) i h t Q) (l : mf_lk a5 Q h t) (W : mf_W g a4 s st w i a a1) (hi : i < 16) (hw : w ≤ 7) (hs : s + 15 * st < 256) (hst : 0 < st) (h1 : h ≤ r) (h2 : r ≤ t)
    (h3 : ∀ k, r ≤ k → k < t → mf_B g (a4 i) (a4 (Q k))) (h4 : h < r → ¬ mf_B g (a4 i) (a4 (Q (r - 1))))
    (hJ : ∀ h' t' b1 b5 Q', mf_Q g a4 w i (i + 1) h' t' Q' → mf_lk b5 Q' h' t' → mf_W g a4 s st w (i + 1) a b1 → J (nI h') (nI t') (nI (i + 1)) b1 a2 a3 a4 b5 a6 a7) :
    wX_filterLine_92 post J (nI s) (nI st) (nI w) g (nI h) (nI r) (nI i) a1 a2 a3 a4 a5 a6 a7 := by
  have hb := q.1
  unfold wX_filterLine_92
  rw [nI_clamp (show r < 2 ^ 31 by omega)]
  refine ⟨pk_in r 16 (by omega), nm_e (nm_r (nI_1 r) (mf_104 (mf_Qpush q hi h1 h2 h3 h4) (fun k k1 k2 => ?_) W (by omega) hw hs hst hJ))⟩
  by_cases e : k = r
  · rw [e, pk_us, mf_nus]
  · rw [pk_un e, mf_nun e]
    exact l k k1 (by omega)
theorem mf_43 {post : St1 → Prop} {g : Int32} {s st w : Nat} (hw : w ≤ 7) (hs : s + 15 * st < 256) (hst : 0 < st)
    (H : ∀ b1 b5, mf_W g a4 s st w (16 + w) a1 b1 → post (b1, a2, a3, a4, b5, a6, a7)) :
    ∃ n, wX_filterLine_43 post (nI s) (nI st) (nI w) g n 0 0 0 a1 a2 a3 a4 a5 a6 a7 := by
  refine pk_loop (σ := Nat × Nat × (Nat → Int32) × (Nat → Int32)) (fun n i u => wX_filterLine_43 post (nI s) (nI st) (nI w) g n (nI u.1) (nI u.2.1) (nI i) u.2.2.1 a2 a3 a4 u.2.2.2 a6 a7)
    (fun i u => ∃ Q, mf_Q g a4 w (i - 1) i u.1 u.2.1 Q ∧ mf_lk u.2.2.2 Q u.1 u.2.1 ∧ mf_W g a4 s st w i a1 u.2.2.1) (16 + w) 0 (0, 0, a1, a5) (by omega)
    ⟨fun _ => 0, mf_Qstart g a4 w _, fun k _ z => absurd z (Nat.not_lt_zero k), fun c _ z => absurd z (by omega), fun k _ => rfl⟩
    (fun n u h => ?_) (fun n i u hi h hn => ?_)
  · obtain ⟨Q, h1, h2, h3⟩ := h
    exact pk_le (16 + w) (16 + w) (fun _ => H _ _ h3) (fun z => absurd z (by omega)) (nI_add 16 w)
  · obtain ⟨Q, h1, h2, h3⟩ := h
    obtain ⟨h, t, b1, b5⟩ := u
    have hb := h1.1
    refine pk_le (16 + w) i (fun z => absurd z (by omega)) (fun _ => pk_le 16 i (fun z => ?_) (fun z => ⟨t + 1, ?_⟩)) (nI_add 16 w)
    · exact mf_104 (mf_Qpast h1 z) h2 h3 hi hw hs hst (fun h' t' c1 c5 Q' q l W => hn (h', t', c1, c5) ⟨Q', q, l, W⟩)
    · exact mf_59 z t hb.2.2 hb.1 (fun k k1 k2 => ⟨h2 k k1 k2, (h1.2.1 k k1 k2).1⟩) (fun r r1 r2 r3 r4 => mf_92 h1 h2 h3 z hw hs hst r1 r2 r3 r4 (fun h' t' c1 c5 Q' q l W => hn (h', t', c1, c5) ⟨Q', q, l, W⟩))
theorem mf_fline {post : St1 → Prop} {g : Int32} {s st w : Nat} (hw : w ≤ 7) (hs : s + 15 * st < 256) (hst : 0 < st)
    (H : ∀ b1 b4 b5, mf_LF g w s st a1 b1 → post (b1, a2, a3, b4, b5, a6, a7)) :
    wpX_filterLine post (a1, a2, a3, a4, a5, a6, a7) (nI s) (nI st) (nI w) g := by
  refine pk_loop (fun n i u => wX_filterLine_3 post (nI s) (nI st) (nI w) g n (nI i) a1 a2 a3 u a5 a6 a7) (fun i u => ∀ j, j < i → u j = a1 (s + j * st)) 16 0 a4 (by omega) (fun j hj => absurd hj (by omega))
    (fun n u h => pk_le 16 16 (fun _ => mf_43 hw hs hst (fun b1 b5 W => H b1 u b5 (mf_WLF h W))) (fun z => absurd z (by omega))) (fun n i u hi h hn => ?_)
  have e : nI s + nI i * nI st = nI (s + i * st) := by rw [pk_mul, nI_add]
  have p := mf_at hs hi
  refine pk_le 16 i (fun z => absurd z (by omega)) (fun _ => ?_)
  rw [e, nI_clamp (show s + i * st < 2 ^ 31 by omega)]
  exact ⟨vp_in_nI p (by decide), pk_in i 16 hi, nm_e (nm_r (nI_1 i) (hn _ (mf_fill (f := fun j => a1 (s + j * st)) (nI_clamp (by omega)) h rfl)))⟩
end
end
section
/-! rows, then columns -/
def mf_RF (g : Int32) (w r : Nat) (a b : Nat → Int32) : Prop :=
  (∀ y x, y < r → x < 16 → ∃ j, mf_win w x j ∧ b (y * 16 + x) = a (y * 16 + j) ∧ ∀ m, mf_win w x m → mf_B g (a (y * 16 + j)) (a (y * 16 + m))) ∧
  (∀ y x, r ≤ y → y < 16 → x < 16 → b (y * 16 + x) = a (y * 16 + x))
theorem mf_RF0 (g : Int32) (w : Nat) (a : Nat → Int32) : mf_RF g w 0 a a := ⟨fun y x h => absurd h (by omega), fun y x _ _ _ => rfl⟩
theorem mf_RFs {g : Int32} {w r : Nat} {a b c : Nat → Int32} (R : mf_RF g w r a b) (hr : r < 16) (F : mf_LF g w (r * 16) 1 b c) : mf_RF g w (r + 1) a c := by
  refine ⟨fun y x hy hx => ?_, fun y x h1 h2 hx => ?_⟩
  · by_cases e : y = r
    · subst e
      obtain ⟨j, j1, j2, j3⟩ := F.1 x hx
      rw [Nat.mul_one, Nat.mul_one, R.2 y j (Nat.le_refl _) hr j1.1] at j2
      refine ⟨j, j1, j2, fun m hm => ?_⟩
      have j4 := j3 m hm
      rw [Nat.mul_one, Nat.mul_one, R.2 y j (Nat.le_refl _) hr j1.1, R.2 y m (Nat.le_refl _) hr hm.1] at j4
      exact j4
    · rw [F.2 (y * 16 + x) (fun c hc z => e (by omega))]
      exact R.1 y x (by omega) hx
  · rw [F.2 (y * 16 + x) (fun c hc z => by omega)]
    exact R.2 y x (by omega) h2 hx
def mf_CF (g : Int32) (h c : Nat) (a b : Nat → Int32) : Prop :=
  (∀ y x, x < c → y < 16 → ∃ j, mf_win h y j ∧ b (y * 16 + x) = a (j * 16 + x) ∧ ∀ m, mf_win h y m → mf_B g (a (j * 16 + x)) (a (m * 16 + x))) ∧
  (∀ y x, c ≤ x → x < 16 → y < 16 → b (y * 16 + x) = a (y * 16 + x))
theorem mf_CF0 (g : Int32) (h : Nat) (a : Nat → Int32) : mf_CF g h 0 a a := ⟨fun y x h => absurd h (by omega), fun y x _ _ _ => rfl⟩
theorem mf_CFs {g : Int32} {h c : Nat} {a b d : Nat → Int32} (R : mf_CF g h c a b) (hc : c < 16) (F : mf_LF g h c 16 b d) : mf_CF g h (c + 1) a d := by
  refine ⟨fun y x hx hy => ?_, fun y x h1 h2 hy => ?_⟩
  · by_cases e : x = c
    · subst e
      obtain ⟨j, j1, j2, j3⟩ := F.1 y hy
      rw [Nat.add_comm x (y * 16), Nat.add_comm x (j * 16), R.2 j x (Nat.le_refl _) hc j1.1] at j2
      refine ⟨j, j1, j2, fun m hm => ?_⟩
      have j4 := j3 m hm
      rw [Nat.add_comm x (m * 16), Nat.add_comm x (j * 16), R.2 j x (Nat.le_refl _) hc j1.1, R.2 m x (Nat.le_refl _) hc hm.1] at j4
      exact j4
    · rw [F.2 (y * 16 + x) (fun c hc z => e (by omega))]
      exact R.1 y x (by omega) hy
  · rw [F.2 (y * 16 + x) (fun c hc z => by omega)]
    exact R.2 y x (by omega) h2 hy
/-- the whole raster filtered: the best of a window -/
def mf_FF (g : Int32) (w h : Nat) (a d : Nat → Int32) : Prop := ∀ y x, y < 16 → x < 16 → ∃ p q, mf_win h y p ∧ mf_win w x q ∧ d (y * 16 + x) = a (p * 16 + q) ∧ ∀ m n, mf_win h y m → mf_win w x n → mf_B g (a (p * 16 + q)) (a (m * 16 + n))
theorem mf_FFof {g : Int32} {w h : Nat} {a b d : Nat → Int32} (R : mf_RF g w 16 a b) (C : mf_CF g h 16 b d) : mf_FF g w h a d := by
  intro y x hy hx
  obtain ⟨p, p1, p2, p3⟩ := C.1 y x hx hy
  obtain ⟨q, q1, q2, q3⟩ := R.1 p x p1.1 hx
  refine ⟨p, q, p1, q1, by rw [p2, q2], fun m n hm hn => ?_⟩
  obtain ⟨k, k1, k2, k3⟩ := R.1 m x hm.1 hx
  have s1 := p3 m hm
  rw [q2, k2] at s1
  exact mf_Bt s1 (k3 n hn)
theorem mf_cut {P : Nat → Prop} (h : ∀ y x, y < 16 → x < 16 → P (y * 16 + x)) : ∀ j, j < 256 → P j := by
  intro j hj
  have h1 := h (j / 16) (j % 16) (by omega) (by omega)
  rwa [show j / 16 * 16 + j % 16 = j by omega] at h1
theorem mf_wself {w c : Nat} (h : c < 16) : mf_win w c c := ⟨h, by omega, by omega⟩
theorem mf_wsym {w c j : Nat} (hc : c < 16) (h : mf_win w c j) : mf_win w j c := ⟨hc, h.2.2, h.2.1⟩
theorem mf_FFself {g : Int32} {w h : Nat} {a d : Nat → Int32} (F : mf_FF g w h a d) : ∀ j, j < 256 → mf_B g (d j) (a j) :=
  mf_cut (P := fun j => mf_B g (d j) (a j)) (fun y x hy hx => by
    obtain ⟨p, q, _, _, e, k⟩ := F y x hy hx
    rw [e]
    exact k y x (mf_wself hy) (mf_wself hx))
theorem mf_FFtwo {g g' : Int32} {w h : Nat} {a b d : Nat → Int32} (F : mf_FF g w h a b) (G : mf_FF g' w h b d) : ∀ j, j < 256 → mf_B g (d j) (a j) :=
  mf_cut (P := fun j => mf_B g (d j) (a j)) (fun y x hy hx => by
    obtain ⟨p, q, hp, hq, e, _⟩ := G y x hy hx
    obtain ⟨p', q', _, _, e', k⟩ := F p q hp.1 hq.1
    rw [e, e']
    exact k y x (mf_wsym hy hp) (mf_wsym hx hq))
theorem mf_FFpx {g : Int32} {w h : Nat} {a d : Nat → Int32} (F : mf_FF g w h a d) (ha : mf_px a) : mf_px d :=
  mf_cut (P := fun j => ∃ v : Nat, v ≤ 255 ∧ d j = nI v) (fun y x hy hx => by
    obtain ⟨p, q, hp, hq, e, _⟩ := F y x hy hx
    have h1 := hp.1
    have h2 := hq.1
    rw [e]
    exact ha (p * 16 + q) (by omega))
theorem mf_FFid {g : Int32} {a d : Nat → Int32} (F : mf_FF g 0 0 a d) : ∀ j, j < 256 → d j = a j :=
  mf_cut (P := fun j => d j = a j) (fun y x hy hx => by
    obtain ⟨p, q, hp, hq, e, _⟩ := F y x hy hx
    have h1 : p = y := by
      have := hp.2
      omega
    have h2 : q = x := by
      have := hq.2
      omega
    rw [e, h1, h2])
/-! the walks -/
section
variable {a1 a2 a3 a4 a5 a6 a7 : Nat → Int32}
theorem mf_f31 {post : St1 → Prop} {g : Int32} {h : Nat} (hh : h ≤ 7) (H : ∀ b1 b4 b5, mf_CF g h 16 a1 b1 → post (b1, a2, a3, b4, b5, a6, a7)) : ∃ n, wX_filter_31 post (nI h) g n 0 a1 a2 a3 a4 a5 a6 a7 :=
  pk_loop (σ := (Nat → Int32) × (Nat → Int32) × (Nat → Int32)) (fun n i u => wX_filter_31 post (nI h) g n (nI i) u.1 a2 a3 u.2.1 u.2.2 a6 a7) (fun i u => mf_CF g h i a1 u.1) 16 0 (a1, a4, a5) (by omega) (mf_CF0 g h a1)
    (fun n u hu => pk_le 16 16 (fun _ => H u.1 u.2.1 u.2.2 hu) (fun z => absurd z (by omega)))
    (fun n i u hi hu hn => pk_le 16 i (fun z => absurd z (by omega)) (fun _ => mf_fline (st := 16) hh (by omega) (by omega) (fun b1 b4 b5 F => nm_r (nI_1 i) (hn (b1, b4, b5) (mf_CFs hu hi F)))))
theorem mf_filter {post : St1 → Prop} {g : Int32} {w h : Nat} (hw : w ≤ 7) (hh : h ≤ 7) (H : ∀ b1 b4 b5, mf_FF g w h a1 b1 → post (b1, a2, a3, b4, b5, a6, a7)) : wpX_filter post (a1, a2, a3, a4, a5, a6, a7) (nI w) (nI h) g := by
  refine pk_loop (σ := (Nat → Int32) × (Nat → Int32) × (Nat → Int32)) (fun n i u => wX_filter_3 post (nI w) (nI h) g n (nI i) u.1 a2 a3 u.2.1 u.2.2 a6 a7) (fun i u => mf_RF g w i a1 u.1) 16 0 (a1, a4, a5) (by omega) (mf_RF0 g w a1)
    (fun n u hu => pk_le 16 16 (fun _ => mf_f31 hh (fun b1 b4 b5 C => H b1 b4 b5 (mf_FFof hu C))) (fun z => absurd z (by omega)))
    (fun n i u hi hu hn => pk_le 16 i (fun z => absurd z (by omega)) (fun _ => ?_))
  have e : nI i * 16 = nI (i * 16) := pk_mul i 16
  rw [e]
  exact mf_fline (st := 1) hw (by omega) (by omega) (fun b1 b4 b5 F => nm_r (nI_1 i) (hn (b1, b4, b5) (mf_RFs hu hi F)))
theorem mf_dil {post : Int32 → St1 → Prop} {w h : Nat} (hw : w ≤ 7) (hh : h ≤ 7) (H : ∀ b1 b3 b4 b5, mf_FF 1 w h a1 b1 → post (nI (mf_D b1 a1)) (b1, a2, b3, b4, b5, a6, a7)) : wpX_dilate post (a1, a2, a3, a4, a5, a6, a7) (nI w) (nI h) := by
  unfold wpX_dilate
  dsimp only
  refine mf_bs0 hw hh (br_t rfl (mf_remember (fun b3 e3 => mf_filter hw hh (fun b1 b4 b5 F => mf_changed ?_))))
  rw [mf_Dcg (fun _ _ => rfl) e3]
  exact H b1 b3 b4 b5 F
theorem mf_ero {post : Int32 → St1 → Prop} {w h : Nat} (hw : w ≤ 7) (hh : h ≤ 7) (H : ∀ b1 b3 b4 b5, mf_FF 0 w h a1 b1 → post (nI (mf_D b1 a1)) (b1, a2, b3, b4, b5, a6, a7)) : wpX_erode post (a1, a2, a3, a4, a5, a6, a7) (nI w) (nI h) := by
  unfold wpX_erode
  dsimp only
  refine mf_bs0 hw hh (br_t rfl (mf_remember (fun b3 e3 => mf_filter hw hh (fun b1 b4 b5 F => mf_changed ?_))))
  rw [mf_Dcg (fun _ _ => rfl) e3]
  exact H b1 b3 b4 b5 F
theorem mf_opn {post : Int32 → St1 → Prop} {w h : Nat} (hw : w ≤ 7) (hh : h ≤ 7) (H : ∀ c1 b1 b3 b4 b5, mf_FF 0 w h a1 c1 → mf_FF 1 w h c1 b1 → post (nI (mf_D b1 a1)) (b1, a2, b3, b4, b5, a6, a7)) : wpX_open post (a1, a2, a3, a4, a5, a6, a7) (nI w) (nI h) := by
  unfold wpX_open
  dsimp only
  refine mf_bs0 hw hh (br_t rfl (mf_remember (fun b3 e3 => mf_filter hw hh (fun c1 c4 c5 F => mf_filter hw hh (fun b1 b4 b5 G => mf_changed ?_)))))
  rw [mf_Dcg (fun _ _ => rfl) e3]
  exact H c1 b1 b3 b4 b5 F G
theorem mf_clo {post : Int32 → St1 → Prop} {w h : Nat} (hw : w ≤ 7) (hh : h ≤ 7) (H : ∀ c1 b1 b3 b4 b5, mf_FF 1 w h a1 c1 → mf_FF 0 w h c1 b1 → post (nI (mf_D b1 a1)) (b1, a2, b3, b4, b5, a6, a7)) : wpX_close post (a1, a2, a3, a4, a5, a6, a7) (nI w) (nI h) := by
  unfold wpX_close
  dsimp only
  refine mf_bs0 hw hh (br_t rfl (mf_remember (fun b3 e3 => mf_filter hw hh (fun c1 c4 c5 F => mf_filter hw hh (fun b1 b4 b5 G => mf_changed ?_)))))
  rw [mf_Dcg (fun _ _ => rfl) e3]
  exact H c1 b1 b3 b4 b5 F G
theorem mf_dilx {post : Int32 → St1 → Prop} {x y : Int32} (h : ¬ mf_sz x y) (H : post (-3) (a1, a2, a3, a4, a5, a6, a7)) : wpX_dilate post (a1, a2, a3, a4, a5, a6, a7) x y := by
  unfold wpX_dilate
  dsimp only
  exact mf_bs1 h (br_f (by decide) H)
theorem mf_erox {post : Int32 → St1 → Prop} {x y : Int32} (h : ¬ mf_sz x y) (H : post (-3) (a1, a2, a3, a4, a5, a6, a7)) : wpX_erode post (a1, a2, a3, a4, a5, a6, a7) x y := by
  unfold wpX_erode
  dsimp only
  exact mf_bs1 h (br_f (by decide) H)
theorem mf_opnx {post : Int32 → St1 → Prop} {x y : Int32} (h : ¬ mf_sz x y) (H : post (-3) (a1, a2, a3, a4, a5, a6, a7)) : wpX_open post (a1, a2, a3, a4, a5, a6, a7) x y := by
  unfold wpX_open
  dsimp only
  exact mf_bs1 h (br_f (by decide) H)
theorem mf_clox {post : Int32 → St1 → Prop} {x y : Int32} (h : ¬ mf_sz x y) (H : post (-3) (a1, a2, a3, a4, a5, a6, a7)) : wpX_close post (a1, a2, a3, a4, a5, a6, a7) x y := by
  unfold wpX_close
  dsimp only
  exact mf_bs1 h (br_f (by decide) H)
end
end
section
/-! sums of all pixels above and to the left; means -/
def mf_rs (a : Nat → Int32) (r c : Nat) : Nat := mf_S (fun x => mf_v a (r * 16 + x)) c
def mf_ts (a : Nat → Int32) (r c : Nat) : Nat := mf_S (fun y => mf_rs a y c) r
theorem mf_rss (a : Nat → Int32) (r c : Nat) : mf_rs a r (c + 1) = mf_rs a r c + mf_v a (r * 16 + c) := rfl
theorem mf_tss (a : Nat → Int32) (r c : Nat) : mf_ts a (r + 1) c = mf_ts a r c + mf_rs a r c := rfl
theorem mf_ts0 (a : Nat → Int32) (r : Nat) : mf_ts a r 0 = 0 := mf_S0 (fun _ _ => rfl)
/-- the sums' border -/
def mf_Z (s : Nat → Int32) : Prop := (∀ x, x ≤ 16 → s x = 0) ∧ (∀ y, y ≤ 16 → s (y * 17) = 0)
def mf_G (a : Nat → Int32) (r : Nat) (s : Nat → Int32) : Prop := (∀ y x, y ≤ r → x ≤ 16 → s (y * 17 + x) = nI (mf_ts a y x)) ∧ (∀ y, y ≤ 16 → s (y * 17) = 0)
def mf_G2 (a : Nat → Int32) (r c : Nat) (s : Nat → Int32) : Prop := mf_G a r s ∧ (∀ x, x ≤ c → s ((r + 1) * 17 + x) = nI (mf_ts a (r + 1) x))
theorem mf_G0 {a s : Nat → Int32} (h : mf_Z s) : mf_G a 0 s := by
  refine ⟨fun y x hy hx => ?_, h.2⟩
  have e : y = 0 := by omega
  subst e
  rw [Nat.zero_mul, Nat.zero_add, h.1 x hx]
  rfl
theorem mf_GZ {a s : Nat → Int32} {r : Nat} (h : mf_G a r s) : mf_Z s := by
  refine ⟨fun x hx => ?_, h.2⟩
  have h1 := h.1 0 x (by omega) hx
  rw [Nat.zero_mul, Nat.zero_add] at h1
  rw [h1]
  rfl
theorem mf_G20 {a s : Nat → Int32} {r : Nat} (h : mf_G a r s) (hr : r < 16) : mf_G2 a r 0 s := by
  refine ⟨h, fun x hx => ?_⟩
  have e : x = 0 := by omega
  subst e
  rw [Nat.add_zero, h.2 (r + 1) (by omega), mf_ts0]
  rfl
theorem mf_G2s {a s : Nat → Int32} {r c : Nat} (h : mf_G2 a r c s) (hr : r < 16) (hc : c < 16) : mf_G2 a r (c + 1) (upd s ((r + 1) * 17 + c + 1) (s (r * 17 + c + 1) + nI (mf_rs a r (c + 1)))) := by
  obtain ⟨⟨h1, h2⟩, h3⟩ := h
  refine ⟨⟨fun y x hy hx => ?_, fun y hy => ?_⟩, fun x hx => ?_⟩
  · rw [pk_un (by omega)]
    exact h1 y x hy hx
  · rw [pk_un (by omega)]
    exact h2 y hy
  · by_cases e : x = c + 1
    · rw [e, ← Nat.add_assoc, pk_us, mf_tss, ← nI_add, Nat.add_assoc (r * 17), h1 r (c + 1) (Nat.le_refl r) (by omega)]
    · rw [pk_un (by omega)]
      exact h3 x (by omega)
theorem mf_G2e {a s : Nat → Int32} {r : Nat} (h : mf_G2 a r 16 s) : mf_G a (r + 1) s := by
  obtain ⟨⟨h1, h2⟩, h3⟩ := h
  refine ⟨fun y x hy hx => ?_, h2⟩
  by_cases e : y = r + 1
  · rw [e]; exact h3 x hx
  · exact h1 y x (by omega) hx
/-! the sum of a rectangle -/
theorem mf_rsg {a : Nat → Int32} (ha : mf_px a) {y l : Nat} (hy : y < 16) : ∀ m, l + m ≤ 16 → ∃ e, mf_rs a y (l + m) = mf_rs a y l + e ∧ e ≤ 255 * m := by
  intro m
  induction m with
  | zero => exact fun _ => ⟨0, rfl, by omega⟩
  | succ m ih =>
    intro h
    obtain ⟨e, e1, e2⟩ := ih (by omega)
    have h1 := mf_pb ha (j := y * 16 + (l + m)) (by omega)
    refine ⟨e + mf_v a (y * 16 + (l + m)), ?_, by omega⟩
    rw [← Nat.add_assoc, mf_rss, e1]
    omega
theorem mf_rect {a : Nat → Int32} (ha : mf_px a) {t l m : Nat} (hl : l + m ≤ 16) : ∀ k, t + k ≤ 16 → ∃ D, mf_ts a (t + k) (l + m) + mf_ts a t l = mf_ts a t (l + m) + mf_ts a (t + k) l + D ∧ D ≤ 255 * (k * m) := by
  intro k
  induction k with
  | zero => exact fun _ => ⟨0, rfl, by omega⟩
  | succ k ih =>
    intro h
    obtain ⟨D, d1, d2⟩ := ih (by omega)
    obtain ⟨e, e1, e2⟩ := mf_rsg ha (y := t + k) (l := l) (by omega) m hl
    refine ⟨D + e, ?_, ?_⟩
    · rw [← Nat.add_assoc, mf_tss, mf_tss, e1]
      omega
    · rw [Nat.succ_mul k m, Nat.mul_add]
      omega
theorem mf_tb {a : Nat → Int32} (ha : mf_px a) {r c : Nat} (hr : r ≤ 16) (hc : c ≤ 16) : mf_ts a r c ≤ 65280 := by
  obtain ⟨D, d1, d2⟩ := mf_rect ha (t := 0) (l := 0) (m := c) (by omega) r (by omega)
  have h1 : mf_ts a 0 0 = 0 := rfl
  have h2 : mf_ts a 0 (0 + c) = 0 := rfl
  have h3 := mf_ts0 a (0 + r)
  have h4 : r * c ≤ 16 * 16 := Nat.mul_le_mul hr hc
  rw [h1, h2, h3, Nat.zero_add, Nat.zero_add] at d1
  omega
theorem mf_ring {A B C D E : Nat} (h : A + E = B + C + D) : nI A - nI B - nI C + nI E = nI D := by
  have h1 : nI A + nI E = nI B + nI C + nI D := by rw [nI_add, nI_add, nI_add, h]
  grind
/-! the walks -/
section
variable {a1 a2 a3 a4 a5 a6 a7 : Nat → Int32}
theorem mf_fs12 {post : St1 → Prop} {J : Int32 → (Nat → Int32) → (Nat → Int32) → (Nat → Int32) → (Nat → Int32) → (Nat → Int32) → (Nat → Int32) → (Nat → Int32) → Prop} {r : Nat} (ha : mf_px a1) (hr : r < 16) (hg : mf_G a1 r a6)
    (hJ : ∀ b6, mf_G a1 (r + 1) b6 → J (nI (r + 1)) a1 a2 a3 a4 a5 b6 a7) : ∃ n, wX_fillSums_12 post J (nI r) n 0 0 a1 a2 a3 a4 a5 a6 a7 := by
  refine pk_loop (fun n c s => wX_fillSums_12 post J (nI r) n (nI (mf_rs a1 r c)) (nI c) a1 a2 a3 a4 a5 s a7) (fun c s => mf_G2 a1 r c s) 16 0 a6 (by omega) (mf_G20 hg hr)
    (fun n s h => pk_le 16 16 (fun _ => nm_r (nI_1 r) (hJ s (mf_G2e h))) (fun z => absurd z (by omega))) (fun n c s hc h hn => ?_)
  have e1 : nI r * 16 + nI c = nI (r * 16 + c) := mf_ix r c
  have e2 : nI r * 17 + nI c + 1 = nI (r * 17 + c + 1) := by rw [show (17 : Int32) = nI 17 from rfl, pk_mul, nI_add, nI_1]
  have e3 : (nI r + 1) * 17 + nI c + 1 = nI ((r + 1) * 17 + c + 1) := by rw [show (17 : Int32) = nI 17 from rfl, nI_1, pk_mul, nI_add, nI_1]
  refine pk_le 16 c (fun z => absurd z (by omega)) (fun _ => ?_)
  rw [e1, e2, e3, nI_clamp (show r * 16 + c < 2 ^ 31 by omega), nI_clamp (show r * 17 + c + 1 < 2 ^ 31 by omega), nI_clamp (show (r + 1) * 17 + c + 1 < 2 ^ 31 by omega)]
  refine ⟨vp_in_nI (by omega) (by decide), nm_r (e' := nI (mf_rs a1 r (c + 1))) ?_ ⟨vp_in_nI (by omega) (by decide), vp_in_nI (by omega) (by decide), nm_e (nm_r (nI_1 c) (hn _ (mf_G2s h hr hc)))⟩⟩
  rw [mf_rss, ← nI_add, ← mf_pv ha (by omega)]
theorem mf_fsums {post : St1 → Prop} (ha : mf_px a1) (hz : mf_Z a6) (H : ∀ b6, mf_G a1 16 b6 → post (a1, a2, a3, a4, a5, b6, a7)) : wpX_fillSums post (a1, a2, a3, a4, a5, a6, a7) :=
  pk_loop (fun n r s => wX_fillSums_2 post n (nI r) a1 a2 a3 a4 a5 s a7) (fun r s => mf_G a1 r s) 16 0 a6 (by omega) (mf_G0 hz)
    (fun n s h => pk_le 16 16 (fun _ => H s h) (fun z => absurd z (by omega)))
    (fun n r s hr h hn => pk_le 16 r (fun z => absurd z (by omega)) (fun _ => mf_fs12 ha hr h (fun b6 g => hn b6 g)))
theorem mf_wlo {post : Int32 → Prop} {r h : Nat} (hr : r < 16) (hh : h ≤ 7) (H : post (nI (r - h))) : wpX_within post () (nI r - nI h) := by
  by_cases z : h ≤ r
  · rw [pk_sub z]
    exact br_t (nI_pos' (by omega)) (br_t (nI_le (b := 16) (by omega) (by decide)) H)
  · rw [show r - h = 0 by omega] at H
    exact br_f (Int32.not_le.mpr (pk_sneg (by omega) (by omega))) H
theorem mf_whi {post : Int32 → Prop} {r h : Nat} (hr : r < 16) (hh : h ≤ 7) (H : post (nI (min (r + h + 1) 16))) : wpX_within post () (nI r + nI h + 1) := by
  rw [nI_add, nI_1]
  refine br_t (nI_pos' (by omega)) (pk_le (r + h + 1) 16 (fun z => ?_) (fun z => ?_))
  · rw [show min (r + h + 1) 16 = r + h + 1 by omega] at H
    exact H
  · rw [show min (r + h + 1) 16 = 16 by omega] at H
    exact H
theorem mf_meanAt {post : Int32 → Prop} {a : Nat → Int32} {r c w h : Nat} (ha : mf_px a) (hg : mf_G a 16 a6) (hr : r < 16) (hc : c < 16) (hw : w ≤ 7) (hh : h ≤ 7)
    (H : ∀ v, v ≤ 255 → (w = 0 → h = 0 → nI v = a (r * 16 + c)) → post (nI v)) : wpX_meanAt post (a1, a2, a3, a4, a5, a6, a7) (nI r) (nI c) (nI w) (nI h) := by
  unfold wpX_meanAt
  dsimp only
  refine mf_wlo hr hh (mf_whi hr hh (mf_wlo hc hw (mf_whi hc hw ?_)))
  have e0 : ∃ t k, t + k ≤ 16 ∧ 0 < k ∧ r - h = t ∧ min (r + h + 1) 16 = t + k ∧ (h = 0 → t = r ∧ k = 1) := ⟨r - h, min (r + h + 1) 16 - (r - h), by omega, by omega, rfl, by omega, by omega⟩
  have e1 : ∃ l m, l + m ≤ 16 ∧ 0 < m ∧ c - w = l ∧ min (c + w + 1) 16 = l + m ∧ (w = 0 → l = c ∧ m = 1) := ⟨c - w, min (c + w + 1) 16 - (c - w), by omega, by omega, rfl, by omega, by omega⟩
  obtain ⟨t, k, t1, t2, t3, t4, t5⟩ := e0
  obtain ⟨l, m, l1, l2, l3, l4, l5⟩ := e1
  rw [t3, t4, l3, l4]
  obtain ⟨D, d1, d2⟩ := mf_rect ha (t := t) l1 k t1
  have ix : ∀ y x, nI y * 17 + nI x = nI (y * 17 + x) := fun y x => by rw [show (17 : Int32) = nI 17 from rfl, pk_mul, nI_add]
  have km : k * m ≤ 16 * 16 := Nat.mul_le_mul (by omega) (by omega)
  have kp : 0 < k * m := Nat.mul_pos t2 l2
  rw [pk_sub (show t ≤ t + k by omega), pk_sub (show l ≤ l + m by omega), Nat.add_sub_cancel_left, Nat.add_sub_cancel_left, pk_mul, ix, ix, ix, ix]
  refine nm_e ⟨vp_in_nI (by omega) (by decide), vp_in_nI (by omega) (by decide), vp_in_nI (by omega) (by decide), vp_in_nI (by omega) (by decide), nm_r (e' := nI D) ?_ (br_f (nI_nle kp (by omega)) ⟨nI_ne0 kp (by omega), ?_⟩)⟩
  · rw [nI_clamp (by omega), nI_clamp (by omega), nI_clamp (by omega), nI_clamp (by omega), hg.1 _ _ t1 l1, hg.1 t _ (by omega) l1, hg.1 _ l t1 (by omega), hg.1 t l (by omega) (by omega)]
    exact mf_ring d1
  · rw [pk_div (by omega) kp (by omega)]
    refine H (D / (k * m)) (Nat.div_le_of_le_mul (by rw [Nat.mul_comm]; exact d2)) (fun w0 h0 => ?_)
    obtain ⟨tr, k1⟩ := t5 h0
    obtain ⟨lc, m1⟩ := l5 w0
    subst tr k1 lc m1
    rw [mf_tss, mf_tss, mf_rss] at d1
    rw [Nat.mul_one, Nat.div_one, show D = mf_v a (t * 16 + l) by omega, ← mf_pv ha (by omega)]
theorem mf_mean {post : Int32 → St1 → Prop} {w h : Nat} (ha : mf_px a1) (hz : mf_Z a6) (hw : w ≤ 7) (hh : h ≤ 7)
    (H : ∀ b1 b3 b6, mf_px b1 → mf_Z b6 → (w = 0 → h = 0 → ∀ j, j < 256 → b1 j = a1 j) → post (nI (mf_D b1 a1)) (b1, a2, b3, a4, a5, b6, a7)) : wpX_mean post (a1, a2, a3, a4, a5, a6, a7) (nI w) (nI h) := by
  unfold wpX_mean
  dsimp only
  refine mf_bs0 hw hh (br_t rfl (mf_remember (fun b3 e3 => mf_fsums ha hz (fun b6 hg => ?_))))
  refine pk_loop (fun n i s => wX_mean_21 post (nI w) (nI h) n (nI i) s a2 b3 a4 a5 b6 a7) (fun i s => ∀ j, j < i → (∃ v : Nat, v ≤ 255 ∧ s j = nI v) ∧ (w = 0 → h = 0 → s j = a1 j)) 256 0 a1 (by omega) (fun j hj => absurd hj (by omega))
    (fun n s hs => pk_le 256 256 (fun _ => mf_changed ?_) (fun z => absurd z (by omega))) (fun n i s hi hs hn => ?_)
  · rw [mf_Dcg (fun _ _ => rfl) e3]
    exact H s b3 b6 (fun j hj => (hs j hj).1) (mf_GZ hg) (fun w0 h0 j hj => (hs j hj).2 w0 h0)
  · have e1 : nI i / 16 = nI (i / 16) := pk_div (d := 16) (by omega) (by decide) (by decide)
    have e2 : nI i - nI i / 16 * 16 = nI (i % 16) := pk_rem (d := 16) (by omega) (by decide) (by decide)
    refine pk_le 256 i (fun z => absurd z (by omega)) (fun _ => ⟨by decide, by decide, ?_⟩)
    rw [e2, e1]
    refine mf_meanAt ha hg (by omega) (by omega) hw hh (fun v hv ev => ⟨pk_in i 256 hi, nm_e (nm_r (nI_1 i) (hn _ (fun j hj => ?_)))⟩)
    rw [nI_clamp (by omega)]
    rw [show i / 16 * 16 + i % 16 = i by omega] at ev
    by_cases e : j = i
    · rw [e, pk_us]
      exact ⟨⟨v, hv, rfl⟩, ev⟩
    · rw [pk_un e]
      exact hs j (by omega)
theorem mf_meanx {post : Int32 → St1 → Prop} {x y : Int32} (h : ¬ mf_sz x y) (H : post (-3) (a1, a2, a3, a4, a5, a6, a7)) : wpX_mean post (a1, a2, a3, a4, a5, a6, a7) x y := by
  unfold wpX_mean
  dsimp only
  exact mf_bs1 h (br_f (by decide) H)
end
end
section
/-! labels: every label is at most its place and stays on lit pixels; the answer counts the lit roots -/
def mf_L (a l : Nat → Int32) (m : Nat) : Prop := ∀ k, k < m → ∃ q, q ≤ k ∧ l k = nI q ∧ (¬ a k ≤ 0 → ¬ a q ≤ 0)
def mf_R (a l : Nat → Int32) (m : Nat) : Nat := mf_C (fun k => !decide (a k ≤ 0) && decide (l k = nI k)) m
theorem mf_Ln {a l : Nat → Int32} {i : Nat} (h : mf_L a l i) : mf_L a (upd l i (nI i)) (i + 1) := by
  intro k hk
  by_cases e : k = i
  · rw [e, pk_us]
    exact ⟨i, Nat.le_refl i, rfl, id⟩
  · rw [pk_un e]
    exact h k (by omega)
theorem mf_Rn {a l : Nat → Int32} {i : Nat} : mf_R a (upd l i (nI i)) (i + 1) = mf_R a l i + (!decide (a i ≤ 0)).toNat := by
  unfold mf_R
  rw [mf_Cs, pk_us]
  have h : mf_C (fun k => !decide (a k ≤ 0) && decide (upd l i (nI i) k = nI k)) i = mf_C (fun k => !decide (a k ≤ 0) && decide (l k = nI k)) i :=
    mf_Ccg (fun j hj => by rw [pk_un (by omega)])
  rw [h, decide_eq_true rfl, Bool.and_true]
theorem mf_Lj {a l : Nat → Int32} {m x y : Nat} (h : mf_L a l m) (hy : y < x) (ay : ¬ a y ≤ 0) : mf_L a (upd l x (nI y)) m := by
  intro k hk
  by_cases e : k = x
  · rw [e, pk_us]
    exact ⟨y, by omega, rfl, fun _ => ay⟩
  · rw [pk_un e]
    exact h k hk
theorem mf_Rj {a l : Nat → Int32} {m x y : Nat} (hm : m ≤ 256) (hx : x < m) (hy : y < x) (lx : l x = nI x) (ax : ¬ a x ≤ 0) : mf_R a l m = mf_R a (upd l x (nI y)) m + 1 := by
  have h := mf_Su (f := fun k => (!decide (a k ≤ 0) && decide (l k = nI k)).toNat) (g := fun k => (!decide (a k ≤ 0) && decide (upd l x (nI y) k = nI k)).toNat) hx (fun j _ e => by
    show (!decide (a j ≤ 0) && decide (upd l x (nI y) j = nI j)).toNat = _
    rw [pk_un e])
  have h1 : (!decide (a x ≤ 0) && decide (l x = nI x)).toNat = 1 := by
    rw [decide_eq_false ax, decide_eq_true lx]
    rfl
  have ne : ¬ nI y = nI x := fun z => by
    have := (nI_eq (by omega) (by omega)).mp z
    omega
  have h2 : (!decide (a x ≤ 0) && decide (upd l x (nI y) x = nI x)).toNat = 0 := by
    rw [pk_us, decide_eq_false ne, Bool.and_false]
    rfl
  rw [h1, h2] at h
  unfold mf_R mf_C
  dsimp only
  omega
/-- the bound by pairs of neighbours -/
def mf_U (a : Nat → Int32) (i N : Nat) : Prop := (i % 2 = 0 → N ≤ i / 2) ∧ (a (i - 1) ≤ 0 → N ≤ i / 2) ∧ N ≤ i / 2 + 1
theorem mf_U0 (a : Nat → Int32) : mf_U a 0 0 := ⟨fun _ => by omega, fun _ => by omega, by omega⟩
theorem mf_Udark {a : Nat → Int32} {i N : Nat} (h : mf_U a i N) : mf_U a (i + 1) N := by
  obtain ⟨h1, h2, h3⟩ := h
  by_cases e : i % 2 = 0
  · have := h1 e
    exact ⟨fun z => by omega, fun _ => by omega, by omega⟩
  · exact ⟨fun z => by omega, fun _ => by omega, by omega⟩
theorem mf_Ulit {a : Nat → Int32} {i N M : Nat} (h : mf_U a i N) (ai : ¬ a i ≤ 0) (hM : M ≤ N + 1) (hp : i % 2 = 1 → ¬ a (i - 1) ≤ 0 → M ≤ N) : mf_U a (i + 1) M := by
  obtain ⟨h1, h2, h3⟩ := h
  refine ⟨fun z => ?_, fun z => absurd z ai, ?_⟩
  · by_cases e : a (i - 1) ≤ 0
    · have := h2 e
      omega
    · have := hp (by omega) e
      omega
  · by_cases e : i % 2 = 0
    · have := h1 e
      omega
    · by_cases e2 : a (i - 1) ≤ 0
      · have := h2 e2
        omega
      · have := hp (by omega) e2
        omega
theorem mf_Rzero {a l : Nat → Int32} (h : mf_L a l 256) : mf_R a l 256 = 0 ↔ ∀ j, j < 256 → a j ≤ 0 := by
  constructor
  · intro hz j hj
    by_cases e : a j ≤ 0
    · exact e
    · obtain ⟨k, ⟨k1, k2⟩, k3⟩ := pk_least (fun k => k < 256 ∧ ¬ a k ≤ 0) ⟨j, hj, e⟩
      obtain ⟨q, q1, q2, q3⟩ := h k k1
      have eq : q = k := by
        rcases Nat.lt_or_ge q k with z | z
        · exact absurd ⟨by omega, q3 k2⟩ (k3 q z)
        · omega
      have h1 : (!decide (a k ≤ 0) && decide (l k = nI k)) = false := mf_Cz hz k k1
      rw [decide_eq_false k2, decide_eq_true (show l k = nI k by rw [q2, eq])] at h1
      exact absurd h1 (by decide)
  · intro hz
    exact mf_Cno (fun j hj => by rw [decide_eq_true (hz j hj)]; rfl)
/-! the walks -/
section
variable {a1 a2 a3 a4 a5 a6 a7 : Nat → Int32}
theorem mf_find {post : Int32 → Prop} {m k : Nat} (hm : m ≤ 256) (hL : mf_L a1 a7 m) (hk : k < m) (H : ∀ q, q ≤ k → a7 q = nI q → (¬ a1 k ≤ 0 → ¬ a1 q ≤ 0) → (a7 k = nI k → q = k) → post (nI q)) : wpX_find post (a1, a2, a3, a4, a5, a6, a7) (nI k) := by
  refine loop_m (σ := Nat) (fun n q => wX_find_2 post a1 a2 a3 a4 a5 a6 a7 n (nI q)) (fun q => q ≤ k ∧ (¬ a1 k ≤ 0 → ¬ a1 q ≤ 0) ∧ (a7 k = nI k → q = k)) (fun q => q) (fun n q hq hn => ?_) k ⟨Nat.le_refl k, id, fun _ => rfl⟩
  obtain ⟨q1, q2, q3⟩ := hq
  obtain ⟨p, p1, p2, p3⟩ := hL q (by omega)
  refine ⟨pk_in q 256 (by omega), ?_⟩
  rw [nI_clamp (show q < 2 ^ 31 by omega), p2]
  refine pk_le q p (fun z => ?_) (fun z => ⟨pk_in q 256 (by omega), nm_e (hn p ⟨by omega, fun s => p3 (q2 s), fun s => ?_⟩ z)⟩)
  · have e : p = q := by omega
    exact H q q1 (by rw [p2, e]) q2 q3
  · have e := q3 s
    rw [e, s] at p2
    exact ((nI_eq (by omega) (by omega)).mp p2).symm
theorem mf_join {post : Int32 → St1 → Prop} {m i k : Nat} (hm : m ≤ 256) (hL : mf_L a1 a7 m) (hi : i < m) (hk : k < m) (ai : ¬ a1 i ≤ 0) (ak : ¬ a1 k ≤ 0)
    (H0 : ¬ (a7 i = nI i ∧ k < i) → post 0 (a1, a2, a3, a4, a5, a6, a7))
    (H1 : ∀ x y, y < x → x < m → a7 x = nI x → ¬ a1 x ≤ 0 → ¬ a1 y ≤ 0 → post 1 (a1, a2, a3, a4, a5, a6, upd a7 x (nI y))) : wpX_join post (a1, a2, a3, a4, a5, a6, a7) (nI i) (nI k) := by
  unfold wpX_join
  dsimp only
  refine mf_find hm hL hi (fun x x1 x2 x3 x4 => mf_find hm hL hk (fun y y1 y2 y3 y4 => ?_))
  refine pk_eq x y (fun e => H0 (fun h => ?_)) (fun e => pk_le y x (fun z => ?_) (fun z => ?_))
  · have := x4 h.1
    omega
  · refine ⟨pk_in x 256 (by omega), ?_⟩
    rw [nI_clamp (by omega)]
    exact nm_e (H1 x y (by omega) (by omega) x2 (x3 ai) (y3 ak))
  · refine ⟨pk_in y 256 (by omega), ?_⟩
    rw [nI_clamp (by omega)]
    exact nm_e (H1 y x (by omega) (by omega) y2 (y3 ak) (x3 ai))
theorem mf_62 {post : Int32 → St1 → Prop} {J : Int32 → Int32 → (Nat → Int32) → (Nat → Int32) → (Nat → Int32) → (Nat → Int32) → (Nat → Int32) → (Nat → Int32) → (Nat → Int32) → Prop} {i : Nat} (hi : i < 256) (hL : mf_L a1 a7 (i + 1)) (ai : ¬ a1 i ≤ 0)
    (hJ : ∀ b7, mf_L a1 b7 (i + 1) → mf_R a1 b7 (i + 1) ≤ mf_R a1 a7 (i + 1) → J (nI (mf_R a1 b7 (i + 1))) (nI (i + 1)) a1 a2 a3 a4 a5 a6 b7) :
    wX_patches_62 post J (nI (mf_R a1 a7 (i + 1))) (nI i) a1 a2 a3 a4 a5 a6 a7 := by
  unfold wX_patches_62
  refine pk_lt i 16 (fun z => nm_r (nI_1 i) (hJ a7 hL (Nat.le_refl _))) (fun z => ?_)
  rw [show nI i - 16 = nI (i - 16) from pk_sub z, nI_clamp (show i - 16 < 2 ^ 31 by omega)]
  refine ⟨vp_in_nI (by omega) (by decide), br_c (fun _ => nm_r (nI_1 i) (hJ a7 hL (Nat.le_refl _))) (fun ak => ?_)⟩
  refine mf_join (by omega) hL (by omega) (by omega) ai ak (fun _ => br_t rfl (nm_r (nI_1 i) (hJ a7 hL (Nat.le_refl _)))) (fun x y hy hx lx ax ay => br_f (by decide) (nm_r (e' := nI (mf_R a1 (upd a7 x (nI y)) (i + 1))) ?_ (nm_r (nI_1 i) (hJ _ (mf_Lj hL hy ay) ?_))))
  · rw [mf_Rj (by omega) hx hy lx ax, pk_m1]
  · rw [mf_Rj (by omega) hx hy lx ax]
    omega
theorem mf_patches {post : Int32 → St1 → Prop} (H : ∀ p b7, p ≤ 128 → (p = 0 ↔ ∀ j, j < 256 → a1 j ≤ 0) → post (nI p) (a1, a2, a3, a4, a5, a6, b7)) : wpX_patches post (a1, a2, a3, a4, a5, a6, a7) := by
  refine pk_loop (fun n i s => wX_patches_4 post n (nI (mf_R a1 s i)) (nI i) a1 a2 a3 a4 a5 a6 s) (fun i s => mf_L a1 s i ∧ mf_U a1 i (mf_R a1 s i)) 256 0 a7 (by omega) ⟨fun k hk => absurd hk (by omega), mf_U0 a1⟩
    (fun n s h => pk_le 256 256 (fun _ => H _ s (h.2.1 rfl) (mf_Rzero h.1)) (fun z => absurd z (by omega))) (fun n i s hi h hn => ?_)
  obtain ⟨hL, hU⟩ := h
  have key : ∀ b7, mf_L a1 b7 (i + 1) → mf_U a1 (i + 1) (mf_R a1 b7 (i + 1)) → wX_patches_4 post n (nI (mf_R a1 b7 (i + 1))) (nI (i + 1)) a1 a2 a3 a4 a5 a6 b7 := fun b7 h1 h2 => hn b7 ⟨h1, h2⟩
  have hL1 := mf_Ln hL
  have hR := mf_Rn (a := a1) (l := s) (i := i)
  refine pk_le 256 i (fun z => absurd z (by omega)) (fun _ => ?_)
  rw [show nI i - nI i / 16 * 16 = nI (i % 16) from pk_rem (d := 16) (by omega) (by decide) (by decide), nI_clamp (show i < 2 ^ 31 by omega)]
  refine ⟨pk_in i 256 hi, nm_e ⟨pk_in i 256 hi, br_c (fun ai => nm_r (nI_1 i) ?_) (fun ai => ?_)⟩⟩
  · have e : mf_R a1 (upd s i (nI i)) (i + 1) = mf_R a1 s i := by
      rw [hR, decide_eq_true ai]
      rfl
    have t := key _ hL1 (by rw [e]; exact mf_Udark hU)
    rw [e] at t
    exact t
  · have e : mf_R a1 (upd s i (nI i)) (i + 1) = mf_R a1 s i + 1 := by
      rw [hR, decide_eq_false ai]
      rfl
    refine nm_r (e' := nI (mf_R a1 (upd s i (nI i)) (i + 1))) (by rw [e, nI_1]) ⟨by decide, pk_le (i % 16) 0 (fun z => ?_) (fun z => ?_)⟩
    · exact mf_62 hi hL1 ai (fun b7 g1 g2 => key b7 g1 (mf_Ulit hU ai (by omega) (fun o _ => by omega)))
    · rw [show nI i - 1 = nI (i - 1) from pk_sub (b := 1) (by omega), nI_clamp (show i - 1 < 2 ^ 31 by omega)]
      refine ⟨vp_in_nI (by omega) (by decide), br_c (fun ak => mf_62 hi hL1 ai (fun b7 g1 g2 => key b7 g1 (mf_Ulit hU ai (by omega) (fun _ w => absurd ak w)))) (fun ak => ?_)⟩
      refine mf_join (m := i + 1) (by omega) hL1 (by omega) (by omega) ai ak (fun w => absurd ⟨pk_us, by omega⟩ w) (fun x y hy hx lx ax ay => br_f (by decide) ?_)
      have r := mf_Rj (m := i + 1) (by omega) hx hy lx ax
      refine nm_r (e' := nI (mf_R a1 (upd (upd s i (nI i)) x (nI y)) (i + 1))) (by rw [r, pk_m1]) ?_
      exact mf_62 hi (mf_Lj hL1 hy ay) ai (fun b7 g1 g2 => key b7 g1 (mf_Ulit hU ai (by omega) (fun _ _ => by omega)))
end
end
section
/-! the law's joins -/
theorem mf_nin {x y : Int32} (h : x < 0 ∨ 15 < x ∨ y < 0 ∨ 15 < y) : ¬ mf_in x y := by
  rintro ⟨r, c, hr, hc, rfl, rfl⟩
  rcases h with h | h | h | h
  · exact nI_pos (by omega) h
  · exact nI_nlt (a := 15) (b := r) (by omega) (by decide) h
  · exact nI_pos (by omega) h
  · exact nI_nlt (a := 15) (b := c) (by omega) (by decide) h
theorem mf_inof {x y : Int32} (h1 : ¬ x < 0) (h2 : ¬ 15 < x) (h3 : ¬ y < 0) (h4 : ¬ 15 < y) : mf_in x y := by
  obtain ⟨r, hr, er⟩ := mf_nb 15 (by decide) rfl h1 h2
  obtain ⟨c, hc, ec⟩ := mf_nb 15 (by decide) rfl h3 h4
  exact ⟨r, c, by omega, by omega, er, ec⟩
theorem mf_nsz {x y : Int32} (h : x < 0 ∨ 7 < x ∨ y < 0 ∨ 7 < y) : ¬ mf_sz x y := by
  rintro ⟨r, c, hr, hc, rfl, rfl⟩
  rcases h with h | h | h | h
  · exact nI_pos (by omega) h
  · exact nI_nlt (a := 7) (b := r) (by omega) (by decide) h
  · exact nI_pos (by omega) h
  · exact nI_nlt (a := 7) (b := c) (by omega) (by decide) h
theorem mf_szof {x y : Int32} (h1 : ¬ x < 0) (h2 : ¬ 7 < x) (h3 : ¬ y < 0) (h4 : ¬ 7 < y) : mf_sz x y := by
  obtain ⟨r, hr, er⟩ := mf_nb 7 (by decide) rfl h1 h2
  obtain ⟨c, hc, ec⟩ := mf_nb 7 (by decide) rfl h3 h4
  exact ⟨r, c, by omega, by omega, er, ec⟩
theorem mf_Tz {a : Nat → Int32} (ha : mf_px a) : mf_T a = 0 ↔ ∀ j, j < 256 → a j ≤ 0 := by
  constructor
  · intro h j hj
    rw [mf_pv ha hj, mf_Sz h j hj]
    exact Int32.le_refl 0
  · intro h
    refine mf_S0 (fun j hj => ?_)
    have h1 := h j hj
    have h2 := mf_pb ha hj
    rw [mf_pv ha hj, ← nI_0, nI_leI (by omega) (by omega)] at h1
    omega
theorem mf_Sm (c : Nat) (f : Nat → Nat) (n : Nat) : mf_S (fun j => c * f j) n = c * mf_S f n := by
  induction n with
  | zero => rfl
  | succ n ih => rw [mf_Ss, mf_Ss, ih, Nat.mul_add]
/-- what holds at the law's loop head -/
def mf_K (a1 a2 a6 : Nat → Int32) : Prop := mf_px a1 ∧ mf_px a2 ∧ mf_Z a6
/-- the jump back is served -/
def mf_N (J : Int32 → (Nat → Int32) → (Nat → Int32) → (Nat → Int32) → (Nat → Int32) → (Nat → Int32) → (Nat → Int32) → (Nat → Int32) → Prop) (y : Int32) : Prop := ∀ b1 b2 b3 b4 b5 b6 b7, mf_K b1 b2 b6 → J y b1 b2 b3 b4 b5 b6 b7
section
variable {a1 a2 a3 a4 a5 a6 a7 : Nat → Int32} {post : Int32 → Prop} {L : Nat} {xs : Nat → Int32} {J : Int32 → (Nat → Int32) → (Nat → Int32) → (Nat → Int32) → (Nat → Int32) → (Nat → Int32) → (Nat → Int32) → (Nat → Int32) → Prop} {x2 : Int32} {kc ks : Nat}
theorem mf_886 (hN : mf_N J (x2 + 4)) (k : mf_K a1 a2 a6) : wL_law_886 post L xs J x2 kc ks a1 a2 a3 a4 a5 a6 a7 :=
  mf_pixx (mf_nin (Or.inr (Or.inl (by decide)))) (br_t rfl (mf_pixx (mf_nin (Or.inr (Or.inr (Or.inl (by decide))))) (br_t rfl
    (mf_setx (mf_nin (Or.inl (by decide))) (br_t rfl (mf_dilx (mf_nsz (Or.inr (Or.inl (by decide)))) (br_t rfl
      (mf_clox (mf_nsz (Or.inr (Or.inr (Or.inl (by decide))))) (br_t rfl (nm_e (hN _ _ _ _ _ _ _ k)))))))))))
theorem mf_808 {x4 x5 z : Int32} (hN : mf_N J (x2 + 4)) (k : mf_K a1 a2 a6) : wL_law_808 post L xs J x2 x4 x5 z z kc ks a1 a2 a3 a4 a5 a6 a7 := by
  have hA := mf_Ale a1 a2
  refine br_t rfl (mf_equal (mf_above (br_t (by rw [nI_add]; exact nI_le (b := 256) hA (by decide)) ?_)))
  by_cases h : mf_in x4 x5
  · obtain ⟨r, c, hr, hc, e4, e5⟩ := h
    subst e4 e5
    obtain ⟨v, hv, ev⟩ := k.1 (r * 16 + c) (by omega)
    refine mf_pix hr hc (br_f (nI_pos (by omega)) (br_f (nI_nlt (a := 15) (by omega) (by decide)) (br_f (nI_pos (by omega)) (br_t (nI_le (b := 15) (by omega) (by decide)) ?_))))
    rw [ev]
    exact br_f (nI_pos (by omega)) (br_t (nI_le (b := 255) hv (by decide)) (mf_886 hN k))
  · have t : wL_law_862 post L xs J x2 (-1) kc ks a1 a2 a3 a4 a5 a6 a7 := br_t rfl (mf_886 hN k)
    exact mf_pixx h (br_c (fun _ => t) (fun h1 => br_c (fun _ => t) (fun h2 => br_c (fun _ => t) (fun h3 => br_c (fun h4 => absurd (mf_inof h1 h2 h3 (Int32.not_lt.mpr h4)) h) (fun _ => t)))))
theorem mf_750 {x4 x5 : Int32} (hN : mf_N J (x2 + 4)) (k : mf_K a1 a2 a6) : wL_law_750 post L xs J x2 x4 x5 kc ks a1 a2 a3 a4 a5 a6 a7 := by
  refine mf_sum k.1 (mf_patches (fun p b7 hp hz => mf_lsum k.1 (br_t rfl (br_f (nI_pos (by omega)) (br_f (nI_nlt (a := 128) hp (by decide)) (pk_eq p 0 (fun e => ?_) (fun e => ?_)))))))
  · have h0 : mf_T a1 = 0 := (mf_Tz k.1).mpr (hz.mp e)
    exact br_t (by rw [h0]; rfl) (mf_808 hN k)
  · have hT := mf_Tb k.1
    have h0 : mf_T a1 ≠ 0 := fun w => e (hz.mpr ((mf_Tz k.1).mp w))
    exact br_f (nI_ne0 (by omega) (by omega)) (mf_808 hN k)
/-! set -/
theorem mf_171a {x4 x5 x6 x7 : Int32} (hN : mf_N J (x2 + 4)) (k : mf_K a1 a2 a6) (h : ¬ mf_in x4 x5) : wL_law_171 post L xs J x2 x4 x5 x6 x7 (nI (mf_T a1)) 0 0 kc ks a1 a2 a3 a4 a5 a6 a7 :=
  mf_setx h (br_t rfl (br_t rfl (mf_sum k.1 (br_t rfl (br_t rfl (br_t rfl (mf_750 hN k)))))))
theorem mf_171b {x6 x7 : Int32} {r c : Nat} (hN : mf_N J (x2 + 4)) (k : mf_K a1 a2 a6) (hr : r < 16) (hc : c < 16) (hv : x6 < 0 ∨ 255 < x6) : wL_law_171 post L xs J x2 (nI r) (nI c) x6 x7 (nI (mf_T a1)) 1 0 kc ks a1 a2 a3 a4 a5 a6 a7 :=
  mf_setv hr hc hv (br_f (by decide) (br_t rfl (br_t rfl (mf_sum k.1 (br_t rfl (br_t rfl (br_t rfl (mf_750 hN k))))))))
theorem mf_pxu {a : Nat → Int32} {p v : Nat} (ha : mf_px a) (hv : v ≤ 255) : mf_px (upd a p (nI v)) := by
  intro j hj
  by_cases e : j = p
  · rw [e, pk_us]
    exact ⟨v, hv, rfl⟩
  · rw [pk_un e]
    exact ha j hj
theorem mf_Tu {a : Nat → Int32} {p v : Nat} (ha : mf_px a) (hp : p < 256) (hv : v ≤ 255) : nI (mf_T (upd a p (nI v))) = nI (mf_T a) - a p + nI v := by
  have h := mf_Su (f := mf_v a) (g := mf_v (upd a p (nI v))) hp (fun j _ e => mf_vc (pk_un e))
  have h1 : mf_v (upd a p (nI v)) p = v := by
    unfold mf_v
    rw [pk_us, nI_clamp (by omega)]
  rw [h1] at h
  have h2 : nI (mf_T (upd a p (nI v))) + a p = nI (mf_T a) + nI v := by
    rw [mf_pv ha hp, nI_add, nI_add]
    exact congrArg nI h
  grind
theorem mf_171c {r c v : Nat} (hN : mf_N J (x2 + 4)) (k : mf_K a1 a2 a6) (hr : r < 16) (hc : c < 16) (hv : v ≤ 255) : wL_law_171 post L xs J x2 (nI r) (nI c) (nI v) (a1 (r * 16 + c)) (nI (mf_T a1)) 1 1 kc ks a1 a2 a3 a4 a5 a6 a7 := by
  have kp := mf_pxu (p := r * 16 + c) k.1 hv
  refine mf_set hr hc hv (br_f (by decide) (br_f (by decide) (br_t rfl (mf_sum kp (br_f (by decide) (br_t ?_ (br_f (by decide) (mf_pix hr hc (br_t pk_us (mf_750 hN ⟨kp, k.2⟩))))))))))
  exact mf_Tu k.1 (by omega) hv
theorem mf_op6 {x3 x4 x5 x6 x7 x9 x10 z0 : Int32} (hN : mf_N J (x2 + 4)) (k : mf_K a1 a2 a6) (h3 : ¬ 6 < x3) (h7 : ∀ r c, r < 16 → c < 16 → x4 = nI r → x5 = nI c → x7 = a1 (r * 16 + c)) :
    wL_law_109 post L xs J x2 x3 x4 x5 x6 x7 (nI (mf_T a1)) x9 x10 z0 kc ks a1 a2 a3 a4 a5 a6 a7 := by
  have t : ¬ mf_in x4 x5 → wL_law_145 post L xs J x2 x4 x5 x6 x7 (nI (mf_T a1)) kc ks a1 a2 a3 a4 a5 a6 a7 := fun h => br_t rfl (mf_171a hN k h)
  refine br_f h3 (br_c (fun z => t (mf_nin (Or.inl z))) (fun z1 => br_c (fun z => t (mf_nin (Or.inr (Or.inl z)))) (fun z2 => br_c (fun z => t (mf_nin (Or.inr (Or.inr (Or.inl z))))) (fun z3 => br_c (fun z => t (mf_nin (Or.inr (Or.inr (Or.inr z))))) (fun z4 => ?_)))))
  obtain ⟨r, c, hr, hc, e4, e5⟩ := mf_inof z1 z2 z3 z4
  have e7 := h7 r c hr hc e4 e5
  subst e4 e5 e7
  refine br_f (by decide) (br_c (fun z => mf_171b hN k hr hc (Or.inl z)) (fun v1 => br_c (fun z => mf_171b hN k hr hc (Or.inr z)) (fun v2 => ?_)))
  obtain ⟨v, hv, ev⟩ := mf_nb 255 (by decide) rfl v1 v2
  subst ev
  exact mf_171c hN k hr hc hv
end
end
section
/-! the filters' checks -/
section
variable {a1 a2 a3 a4 a5 a6 a7 : Nat → Int32} {post : Int32 → Prop} {L : Nat} {xs : Nat → Int32} {J : Int32 → (Nat → Int32) → (Nat → Int32) → (Nat → Int32) → (Nat → Int32) → (Nat → Int32) → (Nat → Int32) → (Nat → Int32) → Prop} {x2 : Int32} {kc ks : Nat}
theorem mf_561 {x3 x4 x5 x8 : Int32} (hN : mf_N J (x2 + 4)) (k : mf_K a1 a2 a6) (h8 : x3 = 8 → ¬ nI (mf_T a1) < x8) (h9 : x3 = 9 → nI (mf_T a1) ≤ x8) : wL_law_561 post L xs J x2 x3 x4 x5 x8 kc ks a1 a2 a3 a4 a5 a6 a7 := by
  have t : wL_law_576 post L xs J x2 x3 x4 x5 x8 kc ks a1 a2 a3 a4 a5 a6 a7 := br_c (fun e => mf_sum k.1 (br_t (h9 e) (mf_750 hN k))) (fun _ => mf_750 hN k)
  exact br_c (fun e => mf_sum k.1 (br_f (h8 e) t)) (fun _ => t)
theorem mf_412g {x3 x4 x5 : Int32} (hN : mf_N J (x2 + 4)) (k : mf_K a1 a2 a6) (hu : x3 = 8 ∨ x3 = 11 → ∀ j, j < 256 → a2 j ≤ a1 j) (hd : x3 = 9 ∨ x3 = 10 → ∀ j, j < 256 → a1 j ≤ a2 j) (h0 : x4 = 0 → x5 = 0 → ∀ j, j < 256 → a1 j = a2 j) :
    wL_law_412 post L xs J x2 x3 x4 x5 (nI (mf_T a2)) 1 (nI (mf_D a1 a2)) kc ks a1 a2 a3 a4 a5 a6 a7 := by
  have hED := mf_ED a1 a2
  have hT1 := mf_Tb k.1
  have hT2 := mf_Tb k.2.1
  have t561 : wL_law_561 post L xs J x2 x3 x4 x5 (nI (mf_T a2)) kc ks a1 a2 a3 a4 a5 a6 a7 :=
    mf_561 hN k (fun e => nI_nlt (mf_Tle k.2.1 k.1 (hu (Or.inl e))) (by omega)) (fun e => nI_le (mf_Tle k.1 k.2.1 (hd (Or.inl e))) (by omega))
  have t542 : wL_law_542 post L xs J x2 x3 x4 x5 (nI (mf_T a2)) 1 (nI (mf_D a1 a2)) kc ks a1 a2 a3 a4 a5 a6 a7 :=
    br_f (by decide) (pk_eq (mf_D a1 a2) 0 (fun e => mf_sum k.1 (br_t (by rw [mf_Tcg (mf_Dz e)]) t561)) (fun _ => t561))
  have t526 : (x3 = 8 ∨ x3 = 11) → wL_law_526 post L xs J x2 x3 x4 x5 (nI (mf_T a2)) 1 (nI (mf_D a1 a2)) kc ks a1 a2 a3 a4 a5 a6 a7 := fun h =>
    br_f (by decide) (mf_above (br_t (by rw [mf_AD (hu h)]) t542))
  have t514 : wL_law_514 post L xs J x2 x3 x4 x5 (nI (mf_T a2)) 1 (nI (mf_D a1 a2)) kc ks a1 a2 a3 a4 a5 a6 a7 :=
    br_c (fun e => t526 (Or.inl e)) (fun _ => br_c (fun e => t526 (Or.inr e)) (fun _ => t542))
  have t507 : (x3 = 9 ∨ x3 = 10) → wL_law_507 post L xs J x2 x3 x4 x5 (nI (mf_T a2)) 1 (nI (mf_D a1 a2)) kc ks a1 a2 a3 a4 a5 a6 a7 := fun h =>
    mf_above (br_t (by rw [mf_A0 (hd h)]; rfl) t514)
  have t490 : wL_law_490 post L xs J x2 x3 x4 x5 (nI (mf_T a2)) 1 (nI (mf_D a1 a2)) kc ks a1 a2 a3 a4 a5 a6 a7 :=
    br_f (by decide) (br_c (fun e => t507 (Or.inl e)) (fun _ => br_c (fun e => t507 (Or.inr e)) (fun _ => t514)))
  have t473 : wL_law_473 post L xs J x2 x3 x4 x5 (nI (mf_T a2)) 1 (nI (mf_D a1 a2)) kc ks a1 a2 a3 a4 a5 a6 a7 :=
    br_c (fun e4 => br_c (fun e5 => br_t (by rw [mf_D0 (h0 e4 e5)]; rfl) t490) (fun _ => t490)) (fun _ => t490)
  refine br_f (by decide) (br_f (nI_pos (by omega)) (mf_equal (br_t ?_ (br_f (by decide) t473))))
  rw [show (256 : Int32) = nI 256 from rfl, pk_sub (by omega), show 256 - mf_D a1 a2 = mf_E a1 a2 by omega]
theorem mf_412b {x3 x4 x5 : Int32} (hN : mf_N J (x2 + 4)) (k : mf_K a1 a2 a6) (he : ∀ j, j < 256 → a1 j = a2 j) (hx : ¬ mf_sz x4 x5) :
    wL_law_412 post L xs J x2 x3 x4 x5 (nI (mf_T a1)) 0 (-3) kc ks a1 a2 a3 a4 a5 a6 a7 := by
  have t542 : wL_law_542 post L xs J x2 x3 x4 x5 (nI (mf_T a1)) 0 (-3) kc ks a1 a2 a3 a4 a5 a6 a7 :=
    br_t rfl (mf_561 hN k (fun _ => Int32.lt_irrefl) (fun _ => Int32.le_refl _))
  have t526 : wL_law_526 post L xs J x2 x3 x4 x5 (nI (mf_T a1)) 0 (-3) kc ks a1 a2 a3 a4 a5 a6 a7 := br_t rfl t542
  have t490 : wL_law_490 post L xs J x2 x3 x4 x5 (nI (mf_T a1)) 0 (-3) kc ks a1 a2 a3 a4 a5 a6 a7 :=
    br_t rfl (br_c (fun _ => t526) (fun _ => br_c (fun _ => t526) (fun _ => t542)))
  have t473 : wL_law_473 post L xs J x2 x3 x4 x5 (nI (mf_T a1)) 0 (-3) kc ks a1 a2 a3 a4 a5 a6 a7 :=
    br_c (fun e4 => br_c (fun e5 => absurd ⟨0, 0, by omega, by omega, e4, e5⟩ hx) (fun _ => t490)) (fun _ => t490)
  exact br_t rfl (br_t rfl (mf_sum k.1 (br_t rfl (br_t rfl (mf_equal (br_t (by rw [mf_Eall he]; rfl) t473))))))
/-- a filter's answer, sizes in range: c1 the raster, c2 the copy kept of a0 -/
theorem mf_good {a0 : Nat → Int32} {x3 x4 x5 : Int32} (hN : mf_N J (x2 + 4)) (p0 : mf_px a0) (p1 : mf_px a1) (hz : mf_Z a6) (e2 : ∀ j, j < 256 → a2 j = a0 j)
    (hu : x3 = 8 ∨ x3 = 11 → ∀ j, j < 256 → mf_B 1 (a1 j) (a0 j)) (hd : x3 = 9 ∨ x3 = 10 → ∀ j, j < 256 → mf_B 0 (a1 j) (a0 j)) (h0 : x4 = 0 → x5 = 0 → ∀ j, j < 256 → a1 j = a0 j) :
    wL_law_412 post L xs J x2 x3 x4 x5 (nI (mf_T a0)) 1 (nI (mf_D a1 a0)) kc ks a1 a2 a3 a4 a5 a6 a7 := by
  rw [← mf_Tcg e2, ← mf_Dcg (fun _ _ => rfl) e2]
  refine mf_412g hN ⟨p1, mf_pxc p0 e2, hz⟩ (fun e j hj => ?_) (fun e j hj => ?_) (fun e4 e5 j hj => ?_)
  · rw [e2 j hj]; exact (hu e j hj).2 (by decide)
  · rw [e2 j hj]; exact (hd e j hj).1 rfl
  · rw [e2 j hj]; exact h0 e4 e5 j hj
theorem mf_nz {w : Nat} (hw : w ≤ 7) (e : nI w = 0) : w = 0 := (nI_eq (by omega) (by omega)).mp (e.trans nI_0.symm)
theorem mf_fltg {x6 x7 x9 x10 : Int32} {o w h : Nat} (hN : mf_N J (x2 + 4)) (k : mf_K a1 a2 a6) (h1 : 8 ≤ o) (h2 : o ≤ 12) (hw : w ≤ 7) (hh : h ≤ 7) :
    wL_law_109 post L xs J x2 (nI o) (nI w) (nI h) x6 x7 (nI (mf_T a1)) x9 x10 1 kc ks a1 a2 a3 a4 a5 a6 a7 := by
  refine br_t (nI_lt (a := 6) (by omega) (by omega)) (pk_eq o 7 (fun e => absurd e (by omega)) (fun _ => br_f (nI_nlt (a := 12) h2 (by decide)) (mf_keep (fun b2 e2 => ?_))))
  refine pk_eq o 8 (fun e => ?_) (fun n8 => pk_eq o 9 (fun e => ?_) (fun n9 => pk_eq o 10 (fun e => ?_) (fun n10 => pk_eq o 11 (fun e => ?_) (fun n11 => ?_))))
  · subst e
    refine mf_dil hw hh (fun b1 b3 b4 b5 F => mf_good hN k.1 (mf_FFpx F k.1) k.2.2 e2 (fun _ => mf_FFself F) (fun z => absurd z (by decide)) (fun e4 e5 => ?_))
    have ew := mf_nz hw e4
    have eh := mf_nz hh e5
    subst ew eh
    exact mf_FFid F
  · subst e
    refine mf_ero hw hh (fun b1 b3 b4 b5 F => mf_good hN k.1 (mf_FFpx F k.1) k.2.2 e2 (fun z => absurd z (by decide)) (fun _ => mf_FFself F) (fun e4 e5 => ?_))
    have ew := mf_nz hw e4
    have eh := mf_nz hh e5
    subst ew eh
    exact mf_FFid F
  · subst e
    refine mf_opn hw hh (fun c1 b1 b3 b4 b5 F G => mf_good hN k.1 (mf_FFpx G (mf_FFpx F k.1)) k.2.2 e2 (fun z => absurd z (by decide)) (fun _ => mf_FFtwo F G) (fun e4 e5 => ?_))
    have ew := mf_nz hw e4
    have eh := mf_nz hh e5
    subst ew eh
    exact fun j hj => (mf_FFid G j hj).trans (mf_FFid F j hj)
  · subst e
    refine mf_clo hw hh (fun c1 b1 b3 b4 b5 F G => mf_good hN k.1 (mf_FFpx G (mf_FFpx F k.1)) k.2.2 e2 (fun _ => mf_FFtwo F G) (fun z => absurd z (by decide)) (fun e4 e5 => ?_))
    have ew := mf_nz hw e4
    have eh := mf_nz hh e5
    subst ew eh
    exact fun j hj => (mf_FFid G j hj).trans (mf_FFid F j hj)
  · have e : o = 12 := by omega
    subst e
    exact mf_mean k.1 k.2.2 hw hh (fun b1 b3 b6 p1 hz hi => mf_good hN k.1 p1 hz e2 (fun z => absurd z (by decide)) (fun z => absurd z (by decide)) (fun e4 e5 => hi (mf_nz hw e4) (mf_nz hh e5)))
theorem mf_fltb {x4 x5 x6 x7 x9 x10 : Int32} {o : Nat} (hN : mf_N J (x2 + 4)) (k : mf_K a1 a2 a6) (h1 : 8 ≤ o) (h2 : o ≤ 12) (hx : ¬ mf_sz x4 x5) :
    wL_law_109 post L xs J x2 (nI o) x4 x5 x6 x7 (nI (mf_T a1)) x9 x10 0 kc ks a1 a2 a3 a4 a5 a6 a7 := by
  refine br_t (nI_lt (a := 6) (by omega) (by omega)) (pk_eq o 7 (fun e => absurd e (by omega)) (fun _ => br_f (nI_nlt (a := 12) h2 (by decide)) (mf_keep (fun b2 e2 => ?_))))
  have t : wL_law_412 post L xs J x2 (nI o) x4 x5 (nI (mf_T a1)) 0 (-3) kc ks a1 b2 a3 a4 a5 a6 a7 := mf_412b hN ⟨k.1, mf_pxc k.1 e2, k.2.2⟩ (fun j hj => (e2 j hj).symm) hx
  exact br_c (fun _ => mf_dilx hx t) (fun _ => br_c (fun _ => mf_erox hx t) (fun _ => br_c (fun _ => mf_opnx hx t) (fun _ => br_c (fun _ => mf_clox hx t) (fun _ => mf_meanx hx t))))
end
end
section
/-! the other operations, one turn, the loop -/
section
variable {a1 a2 a3 a4 a5 a6 a7 : Nat → Int32} {post : Int32 → Prop} {L : Nat} {xs : Nat → Int32} {J : Int32 → (Nat → Int32) → (Nat → Int32) → (Nat → Int32) → (Nat → Int32) → (Nat → Int32) → (Nat → Int32) → (Nat → Int32) → Prop} {x2 : Int32} {kc ks : Nat}
theorem mf_op7 {x4 x5 x6 x7 x8 x9 x10 z0 : Int32} (hN : mf_N J (x2 + 4)) (k : mf_K a1 a2 a6) : wL_law_109 post L xs J x2 7 x4 x5 x6 x7 x8 x9 x10 z0 kc ks a1 a2 a3 a4 a5 a6 a7 := by
  refine br_t (by decide) (br_t rfl (mf_pattern (fun b1 hb => mf_pix (r := 3) (c := 5) (by decide) (by decide) (br_t ?_ (mf_pix (r := 15) (c := 0) (by decide) (by decide) (br_t ?_ (mf_pix (r := 0) (c := 0) (by decide) (by decide) (br_t ?_ (mf_750 hN ⟨mf_patpx hb, k.2⟩)))))))))
  · rw [hb _ (by decide)]
    rfl
  · rw [hb _ (by decide)]
    show (nI 15 * x4 + nI 0 * x5 + nI 15 * nI 0) &&& 255 = _
    rw [nI_0, Int32.zero_mul, Int32.mul_zero, Int32.add_zero, Int32.add_zero]
    rfl
  · rw [hb _ (by decide)]
    show (nI 0 * x4 + nI 0 * x5 + nI 0 * nI 0) &&& 255 = _
    rw [nI_0, Int32.zero_mul, Int32.zero_mul, Int32.zero_mul]
    decide
theorem mf_op13 {x4 x5 x6 x7 x8 x9 x10 z0 : Int32} (hN : mf_N J (x2 + 4)) (k : mf_K a1 a2 a6) : wL_law_109 post L xs J x2 13 x4 x5 x6 x7 x8 x9 x10 z0 kc ks a1 a2 a3 a4 a5 a6 a7 := by
  refine br_t (by decide) (br_f (by decide) (br_t (by decide) (br_t rfl (mf_thr (fun b1 hb => ?_)))))
  have hC := mf_Cle (fun j => !decide (a1 j < x4)) 256
  have pb : mf_px b1 := fun j hj => by
    rw [hb j hj]
    by_cases e : a1 j < x4
    · rw [if_pos e]; exact ⟨0, by omega, rfl⟩
    · rw [if_neg e]; exact ⟨255, by omega, rfl⟩
  have hT : mf_T b1 = 255 * mf_C (fun j => !decide (a1 j < x4)) 256 := by
    unfold mf_C
    rw [← mf_Sm]
    refine mf_Scg (fun j hj => ?_)
    unfold mf_v
    rw [hb j hj]
    dsimp only
    by_cases e : a1 j < x4
    · rw [if_pos e, decide_eq_true e]; rfl
    · rw [if_neg e, decide_eq_false e]; rfl
  have t : wL_law_649 post L xs J x2 x4 x5 (nI (mf_C (fun j => !decide (a1 j < x4)) 256)) kc ks b1 a2 a3 a4 a5 a6 a7 := by
    refine br_c (fun _ => mf_750 hN ⟨pb, k.2⟩) (fun z => br_t ?_ (mf_750 hN ⟨pb, k.2⟩))
    have h0 : mf_C (fun j => !decide (a1 j < x4)) 256 = 0 := mf_Cno (fun j hj => by
      have h1 : a1 j ≤ 255 := by
        rw [mf_pv k.1 hj]
        exact nI_le (b := 255) (mf_pb k.1 hj) (by decide)
      rw [decide_eq_true (Int32.lt_of_le_of_lt h1 (Int32.not_le.mp z))]
      rfl)
    rw [h0]
    rfl
  refine br_f (nI_pos (by omega)) (br_f (nI_nlt (a := 256) hC (by decide)) (mf_sum pb (br_t ?_ (br_c (fun _ => t) (fun z => br_t ?_ t)))))
  · rw [hT, show (255 : Int32) = nI 255 from rfl, pk_mul]
  · have h0 : mf_C (fun j => !decide (a1 j < x4)) 256 = 256 := mf_Call (fun j hj => by
      have h1 : 0 ≤ a1 j := by
        have := mf_pb k.1 hj
        rw [mf_pv k.1 hj]
        exact nI_pos' (by omega)
      rw [decide_eq_false (Int32.not_lt.mpr (Int32.le_trans (Int32.not_lt.mp z) h1))]
      rfl)
    rw [h0]
    rfl
theorem mf_op14 {x4 x5 x6 x7 x8 z0 : Int32} (hN : mf_N J (x2 + 4)) (k : mf_K a1 a2 a6) : wL_law_109 post L xs J x2 14 x4 x5 x6 x7 x8 (nI (mf_E a1 a2)) (nI (mf_A a1 a2)) z0 kc ks a1 a2 a3 a4 a5 a6 a7 := by
  have hE := mf_EAA a1 a2
  refine br_t (by decide) (br_f (by decide) (br_t (by decide) (br_f (by decide) (br_t rfl (mf_exch (fun b1 b2 h1 h2 => mf_equal (br_t ?_ (mf_above (br_t ?_ (br_c (fun _ => mf_750 hN ⟨mf_pxc k.2.1 h1, mf_pxc k.1 h2, k.2.2⟩) (fun _ => mf_exch (fun c1 c2 g1 g2 => mf_750 hN ⟨mf_pxc (mf_pxc k.1 h2) g1, mf_pxc (mf_pxc k.2.1 h1) g2, k.2.2⟩))))))))))))
  · rw [mf_Ecg h1 h2, mf_Esym]
  · rw [mf_Acg h1 h2, show (256 : Int32) = nI 256 from rfl, pk_sub (by omega), pk_sub (by omega), show 256 - mf_E a1 a2 - mf_A a1 a2 = mf_A a2 a1 by omega]
theorem mf_op15 {x4 x5 x6 x7 x9 x10 z0 : Int32} (hN : mf_N J (x2 + 4)) (k : mf_K a1 a2 a6) : wL_law_109 post L xs J x2 15 x4 x5 x6 x7 (nI (mf_T a1)) x9 x10 z0 kc ks a1 a2 a3 a4 a5 a6 a7 := by
  refine br_t (by decide) (br_f (by decide) (br_t (by decide) (br_f (by decide) (br_f (by decide) (mf_keep (fun b2 h2 => mf_equal (br_t ?_ (mf_above (br_t ?_ (mf_sum k.1 (br_t rfl (mf_750 hN ⟨k.1, mf_pxc k.1 h2, k.2.2⟩))))))))))))
  · rw [mf_Eall (fun j hj => (h2 j hj).symm)]
    rfl
  · rw [mf_A0 (fun j hj => by rw [h2 j hj]; exact Int32.le_refl _)]
    rfl
theorem mf_109 {x4 x5 x6 x7 z : Int32} {o : Nat} (ho : o < 16) (hN : mf_N J (x2 + 4)) (k : mf_K a1 a2 a6) (h7 : ∀ r c, r < 16 → c < 16 → x4 = nI r → x5 = nI c → x7 = a1 (r * 16 + c)) (hz : (z = 1 ∧ mf_sz x4 x5) ∨ (z = 0 ∧ ¬ mf_sz x4 x5)) :
    wL_law_109 post L xs J x2 (nI o) x4 x5 x6 x7 (nI (mf_T a1)) (nI (mf_E a1 a2)) (nI (mf_A a1 a2)) z kc ks a1 a2 a3 a4 a5 a6 a7 := by
  by_cases e6 : o ≤ 6
  · exact mf_op6 hN k (nI_nlt (a := 6) e6 (by decide)) h7
  · by_cases e12 : 8 ≤ o ∧ o ≤ 12
    · rcases hz with ⟨rfl, w, h, hw, hh, rfl, rfl⟩ | ⟨rfl, hx⟩
      · exact mf_fltg hN k e12.1 e12.2 hw hh
      · exact mf_fltb hN k e12.1 e12.2 hx
    · have c : o = 7 ∨ o = 13 ∨ o = 14 ∨ o = 15 := by omega
      rcases c with rfl | rfl | rfl | rfl
      · exact mf_op7 hN k
      · exact mf_op13 hN k
      · exact mf_op14 hN k
      · exact mf_op15 hN k
end
theorem mf_size {A B : Prop} {x4 x5 : Int32} (fA : ¬ mf_sz x4 x5 → A) (fB : mf_sz x4 x5 → B) : (x4 < 0 → A) ∧ (¬ x4 < 0 → (7 < x4 → A) ∧ (¬ 7 < x4 → (x5 < 0 → A) ∧ (¬ x5 < 0 → (7 < x5 → A) ∧ (¬ 7 < x5 → B)))) :=
  br_c (fun z => fA (mf_nsz (Or.inl z))) (fun z1 => br_c (fun z => fA (mf_nsz (Or.inr (Or.inl z)))) (fun z2 => br_c (fun z => fA (mf_nsz (Or.inr (Or.inr (Or.inl z))))) (fun z3 => br_c (fun z => fA (mf_nsz (Or.inr (Or.inr (Or.inr z))))) (fun z4 => fB (mf_szof z1 z2 z3 z4)))))
/-- the loop's invariant -/
def mf_I (x2 : Int32) (b1 b2 _b3 _b4 _b5 b6 _b7 : Nat → Int32) : Prop := ∃ i : Nat, x2 = nI i ∧ i ≤ 103 ∧ mf_K b1 b2 b6
theorem mf_end {L i : Nat} (hL : L ≤ 260) (hi : i ≤ 103) : Int32.ofNat L - 4 < nI i ↔ L < i + 4 := by
  show nI L - nI 4 < nI i ↔ _
  rw [Int32.lt_iff_toInt_lt, pk_sub_toInt (by omega) (by omega), nI_toInt (by omega)]
  omega
theorem mf_loop (xs : Nat → Int32) (L kc ks : Nat) (hL : L ≤ 260) (b1 b2 b3 b4 b5 b6 b7 : Nat → Int32) (k : mf_K b1 b2 b6) : ∃ n, wL_law_10 (fun r => r = 1) L xs kc ks n 0 b1 b2 b3 b4 b5 b6 b7 := by
  refine lp8 (wL_law_10 (fun r => r = 1) L xs kc ks) mf_I (fun x2 _ _ _ _ _ _ _ => 200 - x2.toNatClampNeg) ?_ 0 b1 b2 b3 b4 b5 b6 b7 ⟨0, rfl, by omega, k⟩
  rintro n _ b1 b2 b3 b4 b5 b6 b7 ⟨i, rfl, hi, k⟩ hn
  have hN : i < 100 → mf_N (wL_law_10 (fun r => r = 1) L xs kc ks n) (nI i + 4) := fun h c1 c2 c3 c4 c5 c6 c7 k' => by
    rw [show nI i + 4 = nI (i + 4) from nI_add i 4]
    refine hn (nI (i + 4)) c1 c2 c3 c4 c5 c6 c7 ⟨i + 4, rfl, by omega, k'⟩ ?_
    show 200 - (nI (i + 4)).toNatClampNeg < 200 - (nI i).toNatClampNeg
    rw [nI_clamp (by omega), nI_clamp (by omega)]
    omega
  refine ek_if (mf_end hL hi) (fun _ => rfl) (fun z => pk_le 100 i (fun _ => rfl) (fun z2 => ⟨pk_in i L (by omega), fun x3 e3 => ⟨pk_in (i + 1) L (by omega) (nI_1 i), fun x4 e4 => ⟨pk_in (i + 2) L (by omega) (nI_add i 2), fun x5 e5 => ⟨pk_in (i + 3) L (by omega) (nI_add i 3), fun x6 e6 => ?_⟩⟩⟩⟩))
  obtain ⟨o, ho, eo⟩ := pk_andE (xs (nI i).toNatClampNeg) (m := 15) 4 (by decide)
  rw [eo] at e3
  subst e3
  by_cases h : mf_in x4 x5
  · obtain ⟨r, c, hr, hc, f4, f5⟩ := h
    have h7 : ∀ r' c', r' < 16 → c' < 16 → x4 = nI r' → x5 = nI c' → b1 (r * 16 + c) = b1 (r' * 16 + c') := fun r' c' hr' hc' g4 g5 => by
      have q1 : r = r' := (nI_eq (by omega) (by omega)).mp (f4.symm.trans g4)
      have q2 : c = c' := (nI_eq (by omega) (by omega)).mp (f5.symm.trans g5)
      rw [q1, q2]
    rw [f4, f5]
    refine mf_pix hr hc (mf_sum k.1 (mf_equal (mf_above ?_)))
    rw [← f4, ← f5]
    exact mf_size (fun w => mf_109 ho (hN z2) k h7 (Or.inr ⟨rfl, w⟩)) (fun w => mf_109 ho (hN z2) k h7 (Or.inl ⟨rfl, w⟩))
  · have h7 : ∀ r c, r < 16 → c < 16 → x4 = nI r → x5 = nI c → (-1 : Int32) = b1 (r * 16 + c) := fun r c hr hc g4 g5 => absurd ⟨r, c, hr, hc, g4, g5⟩ h
    exact mf_pixx h (mf_sum k.1 (mf_equal (mf_above (mf_size (fun w => mf_109 ho (hN z2) k h7 (Or.inr ⟨rfl, w⟩)) (fun w => mf_109 ho (hN z2) k h7 (Or.inl ⟨rfl, w⟩))))))
theorem i_vc (xs : Nat → Int32) (L : Nat) (hL : L ≤ 260) : wpL_law (fun r => r = 1) L xs := by
  have u0 : ∀ j, upd (fun _ => (0 : Int32)) 0 0 j = 0 := fun j => by
    by_cases e : j = 0
    · rw [e, pk_us]
    · rw [pk_un e]
  have k : mf_K (upd (fun _ => 0) 0 0) (fun _ => 0) (fun _ => 0) := ⟨mf_px0 (fun j _ => u0 j), mf_px0 (fun _ _ => rfl), fun _ _ => rfl, fun _ _ => rfl⟩
  exact ⟨7, 1345, by decide, by decide, by decide, by decide, by decide, by decide, by decide, by decide, by decide, by decide, by decide, by decide, by decide, by decide, by decide, by decide, nm_e (mf_loop xs L (1 + 7) (7 + 1345) hL _ _ _ _ _ _ _ k)⟩
end
