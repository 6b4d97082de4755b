section
/-! numbers, stores -/
theorem ej_us {f : Nat → Int32} {k : Nat} {x : Int32} : upd f k x k = x := if_pos rfl
theorem ej_un {f : Nat → Int32} {k j : Nat} {x : Int32} (h : j ≠ k) : upd f k x j = f j := if_neg h
theorem ej_b0 : vp_nar .boolean 0 = 0 := by decide
theorem ej_b1 : vp_nar .boolean 1 = 1 := by decide
theorem ej_by {k : Nat} (h : k < 128) : vp_nar .byte (nI k).toInt8.toInt32 = nI k := by
  have e : (nI k).toInt = (k : Int) := nI_toInt (by omega)
  have e2 : (nI k).toInt8.toInt32 = nI k := lg_i2b_small (by rw [e]; omega) (by rw [e]; omega)
  rw [vp_nar_byte, e2, e2]
theorem ej_sub {a b : Nat} (h : b ≤ a) : nI a - nI b = nI (a - b) := by
  obtain ⟨c, rfl⟩ : ∃ c, a = c + b := ⟨a - b, by omega⟩
  rw [← nI_add, Int32.add_sub_cancel, Nat.add_sub_cancel]
theorem ej_m1 (n : Nat) : nI (n + 1) + (-1) = nI n := by
  rw [← nI_1, Int32.add_assoc, show (1 : Int32) + (-1) = 0 from rfl, Int32.add_zero]
theorem pk_shr (a s : Int32) (k : Nat) (hs : (s.toBitVec.smod 32).toNat = k) : (a >>> s).toInt = a.toInt >>> k := by
  show (a.toBitVec.sshiftRight (s.toBitVec.smod 32).toNat).toInt = _
  rw [hs, BitVec.toInt_sshiftRight]
  rfl
theorem pk_shrN {n : Nat} (h : n < 2 ^ 31) (s : Int32) (k : Nat) (hs : (s.toBitVec.smod 32).toNat = k) : nI n >>> s = nI (n / 2 ^ k) := by
  apply Int32.toInt_inj.mp
  have h2 : n / 2 ^ k ≤ n := Nat.div_le_self _ _
  rw [pk_shr _ _ k hs, nI_toInt h, nI_toInt (by omega), Int.shiftRight_eq_div_pow]
  rfl
theorem ej_half {n : Nat} (h : n < 1000) : nI n >>> ((1 : Int32) &&& 31) = nI (n / 2) := pk_shrN (by omega) _ 1 (by decide)
/-! ints of any sign -/
def ej_z (z : Int) : Int32 := Int32.ofInt z
theorem ej_zT {z : Int} (h : -1000000 ≤ z) (h2 : z ≤ 1000000) : (ej_z z).toInt = z := Int32.toInt_ofInt_of_le (by omega) (by omega)
theorem ej_zn (n : Nat) : nI n = ej_z n := Int32.ofInt_eq_ofNat.symm
theorem ej_zle {a b : Int} (ha : -1000000 ≤ a) (ha2 : a ≤ 1000000) (hb : -1000000 ≤ b) (hb2 : b ≤ 1000000) : ej_z a ≤ ej_z b ↔ a ≤ b := by
  rw [Int32.le_iff_toInt_le, ej_zT ha ha2, ej_zT hb hb2]
theorem ej_zlt {a b : Int} (ha : -1000000 ≤ a) (ha2 : a ≤ 1000000) (hb : -1000000 ≤ b) (hb2 : b ≤ 1000000) : ej_z a < ej_z b ↔ a < b := by
  rw [Int32.lt_iff_toInt_lt, ej_zT ha ha2, ej_zT hb hb2]
theorem ej_zadd (a b : Int) : ej_z a + ej_z b = ej_z (a + b) := (Int32.ofInt_add a b).symm
theorem ej_zsub (a b : Int) : ej_z a - ej_z b = ej_z (a - b) := (Int32.ofInt_sub a b).symm
theorem ej_z0 : ej_z 0 = 0 := by decide
theorem ej_zm1 : ej_z (-1) = -1 := by decide
theorem ej_z1 : ej_z 1 = 1 := by decide
/-- the encoded number: v stands for v - 1 -/
def ej_e (v : Nat) : Int32 := ej_z ((v : Int) - 1)
theorem ej_e0 : ej_e 0 = -1 := by decide
theorem ej_es (v : Nat) : ej_e (v + 1) = nI v := by
  rw [ej_zn]; unfold ej_e; congr 1; omega
theorem ej_ele {a b : Nat} (ha : a ≤ 1000) (hb : b ≤ 1000) : ej_e a ≤ ej_e b ↔ a ≤ b := by
  unfold ej_e; rw [ej_zle (by omega) (by omega) (by omega) (by omega)]; omega
theorem ej_nle {a b : Nat} (ha : a ≤ 1000) (hb : b ≤ 1000) : nI a ≤ ej_e b ↔ a < b := by
  unfold ej_e; rw [ej_zn, ej_zle (by omega) (by omega) (by omega) (by omega)]; omega
theorem ej_0le {b : Nat} (hb : b ≤ 1000) : 0 ≤ ej_e b ↔ 0 < b := by
  rw [← nI_0, ej_nle (by omega) hb]
theorem ej_lt0 {b : Nat} (hb : b ≤ 1000) : ej_e b < 0 ↔ b = 0 := by
  unfold ej_e; rw [← ej_z0, ej_zlt (by omega) (by omega) (by omega) (by omega)]; omega
theorem ej_b01 {r : Int32} (h : r = 0 ∨ r = 1) : narrow .boolean (.int r) = .int r := by
  rcases h with rfl | rfl
  · exact narrow_b0
  · exact narrow_b1
/-- the natural number in a cell -/
def ej_cl (f : Nat → Int32) (j : Nat) : Nat := (f j).toNatClampNeg
theorem ej_cle {f : Nat → Int32} {j r : Nat} (h : f j = nI r) (hr : r ≤ 1000) : ej_cl f j = r := by
  unfold ej_cl; rw [h]; exact nI_clamp (by omega)
/-- a function of naturals with one value changed -/
def ej_up (f : Nat → Nat) (k x : Nat) : Nat → Nat := fun j => if j = k then x else f j
theorem ej_ups {f : Nat → Nat} {k x : Nat} : ej_up f k x k = x := if_pos rfl
theorem ej_upn {f : Nat → Nat} {k j x : Nat} (h : j ≠ k) : ej_up f k x j = f j := if_neg h
end
section
/-! schedules: jobs j with S j, windows lo hi, forbidden starts B, length p -/
def ej_Is (p : Nat) (B S : Nat → Prop) (lo hi s : Nat → Nat) : Prop :=
  (∀ j, S j → lo j ≤ s j ∧ s j + p ≤ hi j ∧ ¬ B (s j)) ∧ ∀ i j, S i → S j → i ≠ j → s i + p ≤ s j ∨ s j + p ≤ s i
def ej_Sch (p : Nat) (B S : Nat → Prop) (lo hi : Nat → Nat) : Prop := ∃ s, ej_Is p B S lo hi s
theorem ej_IsM {p : Nat} {B B' S S' : Nat → Prop} {lo hi lo' hi' s : Nat → Nat} (h : ej_Is p B S lo hi s)
    (hB : ∀ t, B' t → B t) (hS : ∀ j, S' j → S j) (hl : ∀ j, S' j → lo' j ≤ lo j) (hh : ∀ j, S' j → hi j ≤ hi' j) : ej_Is p B' S' lo' hi' s := by
  obtain ⟨h1, h2⟩ := h
  refine ⟨fun j hj => ?_, fun i j hi hj => h2 i j (hS i hi) (hS j hj)⟩
  obtain ⟨a1, a2, a3⟩ := h1 j (hS j hj)
  have a := hl j hj
  have b := hh j hj
  exact ⟨by omega, by omega, fun z => a3 (hB _ z)⟩
theorem ej_mo {p : Nat} {B B' S S' : Nat → Prop} {lo hi lo' hi' : Nat → Nat} (h : ej_Sch p B S lo hi)
    (hB : ∀ t, B' t → B t) (hS : ∀ j, S' j → S j) (hl : ∀ j, S' j → lo' j ≤ lo j) (hh : ∀ j, S' j → hi j ≤ hi' j) : ej_Sch p B' S' lo' hi' := by
  obtain ⟨s, hs⟩ := h
  exact ⟨s, ej_IsM hs hB hS hl hh⟩
theorem ej_cg {p : Nat} {B B' S S' : Nat → Prop} {lo hi lo' hi' : Nat → Nat}
    (hB : ∀ t, B' t ↔ B t) (hS : ∀ j, S' j ↔ S j) (hl : ∀ j, S j → lo' j = lo j) (hh : ∀ j, S j → hi' j = hi j) : ej_Sch p B S lo hi ↔ ej_Sch p B' S' lo' hi' := by
  constructor
  · intro h
    exact ej_mo h (fun t => (hB t).mp) (fun j => (hS j).mp) (fun j hj => Nat.le_of_eq (hl j ((hS j).mp hj))) (fun j hj => Nat.le_of_eq (hh j ((hS j).mp hj)).symm)
  · intro h
    exact ej_mo h (fun t => (hB t).mpr) (fun j => (hS j).mpr) (fun j hj => Nat.le_of_eq (hl j hj).symm) (fun j hj => Nat.le_of_eq (hh j hj))
theorem ej_tr {p m : Nat} {B S : Nat → Prop} {lo hi R D e g : Nat → Nat}
    (he : ∀ i, i < m → S (e i) ∧ g (e i) = i ∧ R i = lo (e i) ∧ D i = hi (e i)) (hg : ∀ j, S j → g j < m ∧ e (g j) = j) :
    ej_Sch p B (fun i => i < m) R D ↔ ej_Sch p B S lo hi := by
  constructor
  · intro ⟨s, h1, h2⟩
    refine ⟨fun j => s (g j), fun j hj => ?_, fun i j hi hj hn => ?_⟩
    · obtain ⟨a, b⟩ := hg j hj
      obtain ⟨c1, c2, c3⟩ := h1 (g j) a
      obtain ⟨_, _, e3, e4⟩ := he (g j) a
      rw [b] at e3 e4
      rw [e3] at c1
      rw [e4] at c2
      exact ⟨c1, c2, c3⟩
    · obtain ⟨a, b⟩ := hg i hi
      obtain ⟨a', b'⟩ := hg j hj
      refine h2 (g i) (g j) a a' (fun z => hn ?_)
      rw [← b, ← b', z]
  · intro ⟨s, h1, h2⟩
    refine ⟨fun i => s (e i), fun i hi => ?_, fun i j hi hj hn => ?_⟩
    · obtain ⟨a, _, e3, e4⟩ := he i hi
      obtain ⟨c1, c2, c3⟩ := h1 (e i) a
      rw [← e3] at c1
      rw [← e4] at c2
      exact ⟨c1, c2, c3⟩
    · obtain ⟨a, b, _⟩ := he i hi
      obtain ⟨a', b', _⟩ := he j hj
      refine h2 (e i) (e j) a a' (fun z => hn ?_)
      rw [← b, ← b', z]
/-! counting -/
def ej_cn (P : Nat → Bool) : Nat → Nat
  | 0 => 0
  | m + 1 => ej_cn P m + (if P m = true then 1 else 0)
theorem ej_cns (P : Nat → Bool) (m : Nat) : ej_cn P (m + 1) = ej_cn P m + (if P m = true then 1 else 0) := rfl
theorem ej_cn_le (P : Nat → Bool) : ∀ m, ej_cn P m ≤ m := by
  intro m
  induction m with
  | zero => exact Nat.le_refl _
  | succ m ih =>
    rw [ej_cns]
    by_cases a : P m = true
    · rw [if_pos a]; omega
    · rw [if_neg a]; omega
theorem ej_cn_mono {P Q : Nat → Bool} : ∀ m, (∀ i, i < m → P i = true → Q i = true) → ej_cn P m ≤ ej_cn Q m := by
  intro m
  induction m with
  | zero => intro _; exact Nat.le_refl _
  | succ m ih =>
    intro h
    have h1 := ih (fun i hi => h i (by omega))
    have h2 := h m (by omega)
    rw [ej_cns, ej_cns]
    by_cases a : P m = true
    · rw [if_pos a, if_pos (h2 a)]; omega
    · rw [if_neg a]; omega
theorem ej_cn_del (P : Nat → Bool) (i0 : Nat) : ∀ m, ej_cn P m ≤ ej_cn (fun i => P i && decide (i ≠ i0)) m + 1 := by
  intro m
  induction m with
  | zero => exact Nat.zero_le _
  | succ m ih =>
    rw [ej_cns, ej_cns]
    by_cases e : m = i0
    · have h1 : ej_cn P m ≤ ej_cn (fun i => P i && decide (i ≠ i0)) m := by
        apply ej_cn_mono
        intro i hi hp
        have : i ≠ i0 := by omega
        simp [hp, this]
      have h2 : (if P m = true then 1 else 0) ≤ 1 := by
        by_cases a : P m = true
        · rw [if_pos a]; exact Nat.le_refl _
        · rw [if_neg a]; exact Nat.zero_le _
      omega
    · have h2 : (if P m = true then 1 else 0) = (if (P m && decide (m ≠ i0)) = true then 1 else 0) := by
        have : decide (m ≠ i0) = true := decide_eq_true e
        rw [this, Bool.and_true]
      rw [← h2]
      omega
theorem ej_cn_put {P Q : Nat → Bool} {i0 : Nat} (hp : P i0 = false) (hq : Q i0 = true) : ∀ m, i0 < m → (∀ i, i < m → i ≠ i0 → P i = Q i) → ej_cn Q m = ej_cn P m + 1 := by
  intro m
  induction m with
  | zero => intro h; omega
  | succ m ih =>
    intro h hE
    rw [ej_cns, ej_cns]
    by_cases e : i0 = m
    · subst e
      have h1 : ej_cn P i0 ≤ ej_cn Q i0 := ej_cn_mono i0 (fun i hi z => by rw [← hE i (by omega) (by omega)]; exact z)
      have h2 : ej_cn Q i0 ≤ ej_cn P i0 := ej_cn_mono i0 (fun i hi z => by rw [hE i (by omega) (by omega)]; exact z)
      rw [if_pos hq, if_neg (by rw [hp]; exact Bool.false_ne_true)]
      omega
    · have h1 := ih (by omega) (fun i hi => hE i (by omega))
      rw [hE m (by omega) (by omega)]
      omega
theorem ej_cn_add {P Q : Nat → Bool} {i0 : Nat} (hp : P i0 = false) (hq : Q i0 = true) : ∀ m, i0 < m → (∀ i, i < m → P i = true → Q i = true) → ej_cn P m + 1 ≤ ej_cn Q m := by
  intro m
  induction m with
  | zero => intro h; omega
  | succ m ih =>
    intro h hE
    rw [ej_cns, ej_cns]
    by_cases e : i0 = m
    · subst e
      have h1 : ej_cn P i0 ≤ ej_cn Q i0 := ej_cn_mono i0 (fun i hi => hE i (by omega))
      rw [if_pos hq, if_neg (by rw [hp]; exact Bool.false_ne_true)]
      omega
    · have h1 := ih (by omega) (fun i hi => hE i (by omega))
      have h2 := hE m (by omega)
      by_cases a : P m = true
      · rw [if_pos a, if_pos (h2 a)]; omega
      · rw [if_neg a]; omega
theorem ej_cn_pos {P : Nat → Bool} : ∀ m, 0 < ej_cn P m → ∃ i, i < m ∧ P i = true := by
  intro m
  induction m with
  | zero => intro h; exact absurd h (Nat.lt_irrefl 0)
  | succ m ih =>
    intro h
    rw [ej_cns] at h
    by_cases a : P m = true
    · exact ⟨m, by omega, a⟩
    · rw [if_neg a] at h
      obtain ⟨i, hi, z⟩ := ih (by omega)
      exact ⟨i, by omega, z⟩
theorem ej_cn_one {P : Nat → Bool} {m i : Nat} (hi : i < m) (h : P i = true) : 0 < ej_cn P m := by
  have := ej_cn_add (P := fun _ => false) (Q := P) (i0 := i) rfl h m hi (fun j _ z => absurd z Bool.false_ne_true)
  omega
theorem ej_cn_full {P : Nat → Bool} : ∀ m, ej_cn P m = m → ∀ i, i < m → P i = true := by
  intro m
  induction m with
  | zero => intro _ i hi; omega
  | succ m ih =>
    intro h i hi
    rw [ej_cns] at h
    have hl := ej_cn_le P m
    by_cases a : P m = true
    · rw [if_pos a] at h
      by_cases e : i = m
      · rw [e]; exact a
      · exact ih (by omega) i (by omega)
    · rw [if_neg a] at h; omega
theorem ej_cn_lt {P : Nat → Bool} : ∀ m, ej_cn P m < m → ∃ i, i < m ∧ P i = false := by
  intro m
  induction m with
  | zero => intro h; omega
  | succ m ih =>
    intro h
    rw [ej_cns] at h
    by_cases a : P m = true
    · rw [if_pos a] at h
      obtain ⟨i, hi, z⟩ := ih (by omega)
      exact ⟨i, by omega, z⟩
    · exact ⟨m, by omega, by simpa using a⟩
theorem ej_cn_0 {P : Nat → Bool} : ∀ m, (∀ i, i < m → P i = false) → ej_cn P m = 0 := by
  intro m
  induction m with
  | zero => intro _; rfl
  | succ m ih =>
    intro h
    rw [ej_cns, ih (fun i hi => h i (by omega)), if_neg (by rw [h m (by omega)]; exact Bool.false_ne_true)]
theorem ej_amax {A : Nat → Bool} {s : Nat → Nat} : ∀ m, (∃ i, i < m ∧ A i = true) → ∃ i, i < m ∧ A i = true ∧ ∀ j, j < m → A j = true → s j ≤ s i := by
  intro m
  induction m with
  | zero => intro ⟨i, hi, _⟩; omega
  | succ m ih =>
    intro ⟨i, hi, ha⟩
    by_cases z : ∃ i, i < m ∧ A i = true
    · obtain ⟨k, hk, hA, hm⟩ := ih z
      by_cases a : A m = true
      · by_cases c : s k ≤ s m
        · refine ⟨m, by omega, a, fun j hj hAj => ?_⟩
          by_cases e : j = m
          · rw [e]; exact Nat.le_refl _
          · have := hm j (by omega) hAj; omega
        · refine ⟨k, by omega, hA, fun j hj hAj => ?_⟩
          by_cases e : j = m
          · rw [e]; omega
          · exact hm j (by omega) hAj
      · refine ⟨k, by omega, hA, fun j hj hAj => ?_⟩
        by_cases e : j = m
        · rw [e] at hAj; exact absurd hAj a
        · exact hm j (by omega) hAj
    · have e : i = m := by
        by_cases e : i = m
        · exact e
        · exact absurd ⟨i, by omega, ha⟩ z
      subst e
      refine ⟨i, hi, ha, fun j hj hAj => ?_⟩
      by_cases e : j = i
      · rw [e]; exact Nat.le_refl _
      · exact absurd ⟨j, by omega, hAj⟩ z
theorem ej_amin {A : Nat → Bool} {s : Nat → Nat} {N : Nat} (m : Nat) (hN : ∀ i, i < m → s i ≤ N) (h : ∃ i, i < m ∧ A i = true) : ∃ i, i < m ∧ A i = true ∧ ∀ j, j < m → A j = true → s i ≤ s j := by
  obtain ⟨i, hi, ha, hm⟩ := ej_amax (s := fun i => N - s i) m h
  refine ⟨i, hi, ha, fun j hj hAj => ?_⟩
  have h1 := hm j hj hAj
  have h2 := hN i hi
  have h3 := hN j hj
  omega
end
section
/-! packing backwards; numbers encoded plus 1 -/
def ej_ob (sh : Nat → Int32) : Nat → Nat
  | 0 => 0
  | k + 1 => if sh k = 0 then k + 1 else ej_ob sh k
theorem ej_obs (sh : Nat → Int32) (k : Nat) : ej_ob sh (k + 1) = if sh k = 0 then k + 1 else ej_ob sh k := rfl
theorem ej_ob_le (sh : Nat → Int32) : ∀ k, ej_ob sh k ≤ k := by
  intro k
  induction k with
  | zero => exact Nat.le_refl _
  | succ k ih =>
    rw [ej_obs]
    by_cases h : sh k = 0
    · rw [if_pos h]; exact Nat.le_refl _
    · rw [if_neg h]; omega
theorem ej_ob_op {sh : Nat → Int32} {w : Nat} : ∀ k, ej_ob sh k = w + 1 → sh w = 0 := by
  intro k
  induction k with
  | zero => intro h; exact absurd h (by show ¬ 0 = w + 1; omega)
  | succ k ih =>
    rw [ej_obs]
    by_cases h : sh k = 0
    · rw [if_pos h]; intro e
      have : k = w := by omega
      rw [← this]; exact h
    · rw [if_neg h]; exact ih
theorem ej_ob_ge {sh : Nat → Int32} {w : Nat} (hw : sh w = 0) : ∀ k, w < k → w < ej_ob sh k := by
  intro k
  induction k with
  | zero => intro h; omega
  | succ k ih =>
    intro h
    rw [ej_obs]
    by_cases z : sh k = 0
    · rw [if_pos z]; exact h
    · rw [if_neg z]
      have : w ≠ k := fun e => z (e ▸ hw)
      exact ih (by omega)
theorem ej_ob_ag {sh sh' : Nat → Int32} {r : Nat} (ha : ∀ t, r ≤ t → sh' t = sh t) : ∀ k, r < ej_ob sh k → ej_ob sh' k = ej_ob sh k := by
  intro k
  induction k with
  | zero => intro _; rfl
  | succ k ih =>
    rw [ej_obs, ej_obs]
    by_cases z : sh k = 0
    · rw [if_pos z]; intro hr
      rw [ha k (by omega), if_pos z]
    · rw [if_neg z]; intro hr
      have := ej_ob_le sh k
      rw [ha k (by omega), if_neg z]
      exact ih hr
def ej_bk (sh : Nat → Int32) (p : Nat) : Nat → Nat → Nat
  | 0, v => v
  | n + 1, v => ej_bk sh p n (ej_ob sh (v - p))
theorem ej_bks (sh : Nat → Int32) (p n v : Nat) : ej_bk sh p (n + 1) v = ej_bk sh p n (ej_ob sh (v - p)) := rfl
theorem ej_bk_le (sh : Nat → Int32) (p : Nat) : ∀ n v, ej_bk sh p n v ≤ v := by
  intro n
  induction n with
  | zero => intro v; exact Nat.le_refl _
  | succ n ih =>
    intro v
    rw [ej_bks]
    have h1 := ih (ej_ob sh (v - p))
    have h2 := ej_ob_le sh (v - p)
    omega
theorem ej_bk_add (sh : Nat → Int32) (p k : Nat) : ∀ n v, ej_bk sh p (n + k) v = ej_bk sh p k (ej_bk sh p n v) := by
  intro n
  induction n with
  | zero => intro v; rw [Nat.zero_add]; rfl
  | succ n ih =>
    intro v
    rw [Nat.add_right_comm, ej_bks, ih]
    rfl
theorem ej_bk_mono {sh : Nat → Int32} {p n n' v : Nat} (h : n ≤ n') : ej_bk sh p n' v ≤ ej_bk sh p n v := by
  obtain ⟨k, rfl⟩ : ∃ k, n' = n + k := ⟨n' - n, by omega⟩
  rw [ej_bk_add]
  exact ej_bk_le sh p k _
theorem ej_bk_ag {sh sh' : Nat → Int32} {p r : Nat} (ha : ∀ t, r ≤ t → sh' t = sh t) : ∀ n v, r < ej_bk sh p n v → ej_bk sh' p n v = ej_bk sh p n v := by
  intro n
  induction n with
  | zero => intro v _; rfl
  | succ n ih =>
    intro v hr
    rw [ej_bks] at hr
    rw [ej_bks, ej_bks]
    have h1 := ej_bk_le sh p n (ej_ob sh (v - p))
    rw [ej_ob_ag ha (v - p) (by omega)]
    exact ih _ hr
theorem ej_SB {p m : Nat} {sh : Nat → Int32} {s : Nat → Nat} (hp : 0 < p)
    (hd : ∀ i j, i < m → j < m → i ≠ j → s i + p ≤ s j ∨ s j + p ≤ s i) (ho : ∀ i, i < m → sh (s i) = 0) :
    ∀ n v (A : Nat → Bool), n + 1 ≤ ej_cn A m → (∀ i, i < m → A i = true → s i + p < v) → ∃ i, i < m ∧ A i = true ∧ s i < ej_bk sh p (n + 1) v := by
  intro n
  induction n with
  | zero =>
    intro v A hn hv
    obtain ⟨i, hi, ha⟩ := ej_cn_pos m (by omega : 0 < ej_cn A m)
    refine ⟨i, hi, ha, ?_⟩
    have := hv i hi ha
    exact ej_ob_ge (ho i hi) (v - p) (by omega)
  | succ n ih =>
    intro v A hn hv
    obtain ⟨i, hi, ha⟩ := ej_cn_pos m (by omega : 0 < ej_cn A m)
    obtain ⟨i0, hi0, ha0, hm⟩ := ej_amax (s := s) m ⟨i, hi, ha⟩
    have h0 := hv i0 hi0 ha0
    have h1 : s i0 < ej_ob sh (v - p) := ej_ob_ge (ho i0 hi0) (v - p) (by omega)
    have h2 := ej_cn_del A i0 m
    obtain ⟨j, hj, haj, hs⟩ := ih (ej_ob sh (v - p)) (fun i => A i && decide (i ≠ i0)) (by omega) (fun j hj haj => by
      simp only [Bool.and_eq_true, decide_eq_true_eq] at haj
      have h3 := hm j hj haj.1
      have h4 := hd j i0 hj hi0 haj.2
      omega)
    simp only [Bool.and_eq_true, decide_eq_true_eq] at haj
    exact ⟨j, hj, haj.1, hs⟩
/-! the rounds of feasible -/
def ej_wi (R D : Nat → Nat) (r d : Nat) : Nat → Bool := fun i => decide (r ≤ R i ∧ D i ≤ d)
def ej_nw (R D : Nat → Nat) (m r d : Nat) : Nat := ej_cn (ej_wi R D r d) m
def ej_bd (R D : Nat → Nat) (sh : Nat → Int32) (m p r d : Nat) : Nat := ej_bk sh p (ej_nw R D m r d) (d + 1)
def ej_PR (m p : Nat) (R D : Nat → Nat) (sh : Nat → Int32) (r : Nat) : Prop :=
  ∀ j, j < m → 0 < ej_nw R D m r (D j) → r < ej_bd R D sh m p r (D j) ∧ ∀ t, ej_bd R D sh m p r (D j) ≤ t + p → t < r → ¬ sh t = 0
def ej_MC (m p : Nat) (R D : Nat → Nat) (sh : Nat → Int32) (r C : Nat) : Prop :=
  (∀ j, j < m → 0 < ej_nw R D m r (D j) → C ≤ ej_bd R D sh m p r (D j)) ∧ (C = 42 ∨ ∃ j, j < m ∧ 0 < ej_nw R D m r (D j) ∧ C = ej_bd R D sh m p r (D j))
def ej_FI (m p : Nat) (B : Nat → Prop) (R D : Nat → Nat) (sh : Nat → Int32) (ab : Nat) : Prop :=
  (∀ s, ej_Is p B (fun i => i < m) R D s → ∀ i, i < m → sh (s i) = 0) ∧ (∀ t, t < 48 → sh t = 0 → ¬ B t) ∧ ∀ i, i < m → ab ≤ R i → ej_PR m p R D sh (R i)
theorem ej_first {m p : Nat} {B : Nat → Prop} {R D s : Nat → Nat} {sh : Nat → Int32} {r j : Nat} (hp : 0 < p) (hs : ej_Is p B (fun i => i < m) R D s)
    (ho : ∀ i, i < m → sh (s i) = 0) (hj : j < m) (hn : 0 < ej_nw R D m r (D j)) : ∃ i, i < m ∧ r ≤ R i ∧ s i < ej_bd R D sh m p r (D j) := by
  obtain ⟨n, hn'⟩ : ∃ n, ej_nw R D m r (D j) = n + 1 := ⟨ej_nw R D m r (D j) - 1, by omega⟩
  obtain ⟨i, hi, ha, hb⟩ := ej_SB hp (fun i j hi hj => hs.2 i j hi hj) ho n (D j + 1) (ej_wi R D r (D j)) (Nat.le_of_eq hn'.symm) (fun i hi ha => by
    simp only [ej_wi, decide_eq_true_eq] at ha
    have := (hs.1 i hi).2.1
    omega)
  simp only [ej_wi, decide_eq_true_eq] at ha
  refine ⟨i, hi, ha.1, ?_⟩
  unfold ej_bd
  rw [hn']
  exact hb
theorem ej_FI_no {m p : Nat} {B : Nat → Prop} {R D : Nat → Nat} {sh : Nat → Int32} {ab r C : Nat} (hp : 0 < p) (hF : ej_FI m p B R D sh ab) (hr : r ≤ 40)
    (hC : ej_MC m p R D sh r C) (hc : C ≤ r) : ¬ ej_Sch p B (fun i => i < m) R D := by
  intro ⟨s, hs⟩
  rcases hC.2 with e | ⟨j, hj, hn, e⟩
  · omega
  · obtain ⟨i, hi, h1, h2⟩ := ej_first hp hs (hF.1 s hs) hj hn
    have := (hs.1 i hi).1
    omega
theorem ej_FI_go {m p : Nat} {B : Nat → Prop} {R D : Nat → Nat} {sh sh' : Nat → Int32} {ab r C : Nat} (hp : 0 < p) (hF : ej_FI m p B R D sh ab) (hra : r < ab)
    (hr : ∃ i, i < m ∧ R i = r) (hM : ∀ i, i < m → R i < ab → R i ≤ r) (hD : ∀ i, i < m → D i ≤ 40)
    (hC : ej_MC m p R D sh r C) (hc : r < C) (hsh : ∀ t, sh' t = if C ≤ t + p ∧ t < r then 1 else sh t) : ej_FI m p B R D sh' r := by
  have hag : ∀ t, r ≤ t → sh' t = sh t := fun t ht => by rw [hsh, if_neg (by omega)]
  have h0 : ∀ t, sh' t = 0 → sh t = 0 ∧ ¬ (C ≤ t + p ∧ t < r) := fun t ht => by
    rw [hsh] at ht
    by_cases z : C ≤ t + p ∧ t < r
    · rw [if_pos z] at ht; exact absurd ht (by decide)
    · rw [if_neg z] at ht; exact ⟨ht, z⟩
  refine ⟨fun s hs i hi => ?_, fun t ht h => hF.2.1 t ht (h0 t h).1, fun i hi hri => ?_⟩
  · have ho := hF.1 s hs
    obtain ⟨i1, hi1, e1⟩ := hr
    have hn1 : 0 < ej_nw R D m r (D i1) := ej_cn_one hi1 (by simp only [ej_wi, decide_eq_true_eq]; omega)
    have hb1 := hC.1 i1 hi1 hn1
    have hb2 := ej_bk_le sh p (ej_nw R D m r (D i1)) (D i1 + 1)
    have hd1 := hD i1 hi1
    rw [hsh]
    by_cases z : C ≤ s i + p ∧ s i < r
    · exfalso
      rcases hC.2 with e | ⟨j, hj, hn, e⟩
      · unfold ej_bd at hb1; omega
      · obtain ⟨k, hk, h1, h2⟩ := ej_first hp hs ho hj hn
        have h3 := (hs.1 k hk).1
        have hne : i ≠ k := fun e => by rw [← e] at h3 h1; omega
        have h4 := hs.2 i k hi hk hne
        omega
    · rw [if_neg z]; exact ho i hi
  · intro j hj hn
    by_cases hab : ab ≤ R i
    · obtain ⟨g1, g2⟩ := hF.2.2 i hi hab j hj hn
      have e : ej_bd R D sh' m p (R i) (D j) = ej_bd R D sh m p (R i) (D j) := ej_bk_ag hag _ _ (by unfold ej_bd at g1; omega)
      rw [e]
      exact ⟨g1, fun t h1 h2 h3 => g2 t h1 h2 (h0 t h3).1⟩
    · have e0 : R i = r := by have := hM i hi (by omega); omega
      rw [e0] at hn ⊢
      have g := hC.1 j hj hn
      have e : ej_bd R D sh' m p r (D j) = ej_bd R D sh m p r (D j) := ej_bk_ag hag _ _ (by unfold ej_bd at g; omega)
      rw [e]
      exact ⟨by omega, fun t h1 h2 h3 => (h0 t h3).2 ⟨by omega, h2⟩⟩
end
section
/-! dispatch -/
def ej_Q (sh : Nat → Int32) (p n a t : Nat) : Prop := ∀ v, a < ej_bk sh p n v → t < v
def ej_pc (R D : Nat → Nat) (pl : Nat → Int32) (b d : Nat) : Nat → Bool := fun i => decide (¬ pl i = 0 ∧ b ≤ R i ∧ D i ≤ d)
def ej_SG (m p : Nat) (R D : Nat → Nat) (sh pl : Nat → Int32) (t z d : Nat) : Prop :=
  ∃ a b n : Nat, ej_Q sh p n a t ∧ n ≤ ej_cn (ej_pc R D pl b d) m ∧ (∀ i, i < m → pl i = 0 → D i ≤ d → b ≤ R i) ∧
    ((b = a ∧ (n = 0 → z = 0)) ∨ ∃ t', b = t' + 1 ∧ a = t' + p ∧ sh t' = 0 ∧ ∃ i, i < m ∧ d < D i)
def ej_ps (m p : Nat) (R D : Nat → Nat) (sh pl : Nat → Int32) (t : Nat) : Prop :=
  ∃ s : Nat → Nat, (∀ i, i < m → ¬ pl i = 0 → R i ≤ s i ∧ s i + p ≤ D i ∧ sh (s i) = 0 ∧ s i + p ≤ t) ∧
    ∀ i j, i < m → j < m → ¬ pl i = 0 → ¬ pl j = 0 → i ≠ j → s i + p ≤ s j ∨ s j + p ≤ s i
def ej_DI (m p : Nat) (R D : Nat → Nat) (sh pl : Nat → Int32) (k t : Nat) : Prop :=
  ej_cn (fun i => decide (¬ pl i = 0)) m = k ∧ t ≤ 40 ∧ ej_ps m p R D sh pl t ∧ ∀ d, ej_SG m p R D sh pl t t d
theorem ej_DI_0 {m p : Nat} {R D : Nat → Nat} {sh pl : Nat → Int32} (h : ∀ i, i < m → pl i = 0) : ej_DI m p R D sh pl 0 0 := by
  refine ⟨ej_cn_0 m (fun i hi => by simp [h i hi]), by omega, ⟨fun _ => 0, fun i hi hp => absurd (h i hi) hp, fun i j hi hj hp => absurd (h i hi) hp⟩, fun d => ?_⟩
  exact ⟨0, 0, 0, fun v hv => hv, Nat.zero_le _, fun i hi _ _ => Nat.zero_le _, Or.inl ⟨rfl, fun _ => rfl⟩⟩
theorem ej_DI_w {m p : Nat} {R D : Nat → Nat} {sh pl : Nat → Int32} {k t : Nat} (h : ej_DI m p R D sh pl k t) (hk : k < m) : ∃ i, i < m ∧ pl i = 0 := by
  obtain ⟨i, hi, z⟩ := ej_cn_lt m (by rw [h.1]; exact hk)
  exact ⟨i, hi, by simpa using z⟩
theorem ej_mid {m p : Nat} {R D : Nat → Nat} {sh pl : Nat → Int32} {k t rd x : Nat} (h : ej_DI m p R D sh pl k t)
    (hr : ∀ i, i < m → pl i = 0 → rd ≤ R i) (hx : (rd ≤ t ∧ x = t) ∨ (t < rd ∧ x = rd)) (d : Nat) : ej_SG m p R D sh pl x 0 d := by
  rcases hx with ⟨_, rfl⟩ | ⟨_, rfl⟩
  · obtain ⟨a, b, n, h1, h2, h3, h4⟩ := h.2.2.2 d
    refine ⟨a, b, n, h1, h2, h3, ?_⟩
    rcases h4 with ⟨e, _⟩ | h4
    · exact Or.inl ⟨e, fun _ => rfl⟩
    · exact Or.inr h4
  · exact ⟨x, x, 0, fun v hv => hv, Nat.zero_le _, fun i hi hw _ => hr i hi hw, Or.inl ⟨rfl, fun _ => rfl⟩⟩
theorem ej_Qs {sh : Nat → Int32} {p n a x t1 : Nat} (h : ej_Q sh p n a x) (ht : ∀ y, x ≤ y → y < t1 → ¬ sh y = 0) : ej_Q sh p (n + 1) a (t1 + p) := by
  intro v hv
  rw [ej_bks] at hv
  have h1 := h _ hv
  obtain ⟨w, hw⟩ : ∃ w, ej_ob sh (v - p) = w + 1 := ⟨ej_ob sh (v - p) - 1, by omega⟩
  have h2 := ej_ob_op (v - p) hw
  have h3 := ej_ob_le sh (v - p)
  have h4 : t1 ≤ w := by
    rcases Nat.lt_or_ge w t1 with z | z
    · exact absurd h2 (ht w (by omega) z)
    · exact z
  omega
theorem ej_fail {m p : Nat} {R D : Nat → Nat} {sh pl : Nat → Int32} {x t1 j : Nat} (hR : ∀ i, i < m → R i ≤ 40)
    (hP : ∀ i, i < m → ej_PR m p R D sh (R i)) (hj : j < m) (hw : pl j = 0) (hS : ej_SG m p R D sh pl x 0 (D j))
    (ht : ∀ y, x ≤ y → y < t1 → ¬ sh y = 0) (hf : D j < t1 + p) : False := by
  obtain ⟨a, b, n, h1, h2, h3, h4⟩ := hS
  have hb := h3 j hj hw (Nat.le_refl _)
  have hQ := ej_Qs h1 ht
  have hk : ej_bk sh p (n + 1) (D j + 1) ≤ a := by
    rcases Nat.lt_or_ge a (ej_bk sh p (n + 1) (D j + 1)) with z | z
    · have := hQ _ z; omega
    · exact z
  obtain ⟨i0, hi0, ha0, hm⟩ := ej_amin (A := fun i => decide (b ≤ R i ∧ D i ≤ D j)) (s := R) (N := 40) m hR ⟨j, hj, by simp only [decide_eq_true_eq]; omega⟩
  simp only [decide_eq_true_eq] at ha0 hm
  have hn : n + 1 ≤ ej_nw R D m (R i0) (D j) := by
    have := ej_cn_add (P := ej_pc R D pl b (D j)) (Q := ej_wi R D (R i0) (D j)) (i0 := j) (by simp [ej_pc, hw])
      (by simp only [ej_wi, decide_eq_true_eq]; exact ⟨hm j hj ⟨hb, Nat.le_refl _⟩, Nat.le_refl _⟩) m hj (fun i hi hPi => by
        simp only [ej_pc, decide_eq_true_eq] at hPi
        simp only [ej_wi, decide_eq_true_eq]
        exact ⟨hm i hi hPi.2, hPi.2.2⟩)
    unfold ej_nw
    omega
  obtain ⟨g1, g2⟩ := hP i0 hi0 j hj (by omega)
  have hC : ej_bd R D sh m p (R i0) (D j) ≤ ej_bk sh p (n + 1) (D j + 1) := ej_bk_mono hn
  rcases h4 with ⟨e, _⟩ | ⟨t', e1, e2, e3, _⟩
  · omega
  · exact g2 t' (by omega) (by omega) e3
theorem ej_step {m p : Nat} {R D : Nat → Nat} {sh pl : Nat → Int32} {k t x t1 j : Nat} (h : ej_DI m p R D sh pl k t) (hD : D j ≤ 40)
    (hj : j < m) (hw : pl j = 0) (hS : ∀ d, ej_SG m p R D sh pl x 0 d) (hx : t ≤ x) (hxt : x ≤ t1)
    (ht : ∀ y, x ≤ y → y < t1 → ¬ sh y = 0) (ho : sh t1 = 0) (hRj : R j ≤ t1)
    (hu : ∀ i, i < m → pl i = 0 → R i ≤ t1 → D j ≤ D i) (hf : t1 + p ≤ D j) : ej_DI m p R D sh (upd pl j 1) (k + 1) (t1 + p) := by
  have hun : ∀ i, i ≠ j → upd pl j 1 i = pl i := fun i hi => ej_un hi
  have hus : upd pl j 1 j = 1 := ej_us
  have h10 : ¬ (1 : Int32) = 0 := by decide
  refine ⟨?_, by omega, ?_, fun d => ?_⟩
  · rw [← h.1]
    refine ej_cn_put (i0 := j) (by simp [hw]) (by rw [hus]; decide) m hj (fun i hi hn => by rw [hun i hn])
  · obtain ⟨s, s1, s2⟩ := h.2.2.1
    refine ⟨ej_up s j t1, fun i hi hp => ?_, fun i i' hi hi' hp hp' hn => ?_⟩
    · by_cases e : i = j
      · rw [e, ej_ups]; exact ⟨hRj, hf, ho, Nat.le_refl _⟩
      · rw [ej_upn e]
        rw [hun i e] at hp
        obtain ⟨a1, a2, a3, a4⟩ := s1 i hi hp
        exact ⟨a1, a2, a3, by omega⟩
    · by_cases e : i = j
      · have e' : i' ≠ j := fun z => hn (e.trans z.symm)
        rw [e, ej_ups, ej_upn e']
        rw [hun i' e'] at hp'
        have := (s1 i' hi' hp').2.2.2
        omega
      · rw [ej_upn e]
        rw [hun i e] at hp
        by_cases e' : i' = j
        · rw [e', ej_ups]
          have := (s1 i hi hp).2.2.2
          omega
        · rw [ej_upn e']
          rw [hun i' e'] at hp'
          exact s2 i i' hi hi' hp hp' hn
  · by_cases hd : D j ≤ d
    · obtain ⟨a, b, n, h1, h2, h3, h4⟩ := hS d
      refine ⟨a, b, n + 1, ej_Qs h1 ht, ?_, fun i hi hp hdi => ?_, ?_⟩
      · have := ej_cn_add (P := ej_pc R D pl b d) (Q := ej_pc R D (upd pl j 1) b d) (i0 := j) (by simp [ej_pc, hw])
          (by simp only [ej_pc, decide_eq_true_eq]; exact ⟨by rw [hus]; exact h10, h3 j hj hw hd, hd⟩) m hj (fun i hi hPi => by
            simp only [ej_pc, decide_eq_true_eq] at hPi ⊢
            refine ⟨?_, hPi.2⟩
            have : i ≠ j := fun z => hPi.1 (by rw [z]; exact hw)
            rw [hun i this]; exact hPi.1)
        omega
      · have : i ≠ j := fun z => by rw [z, hus] at hp; exact h10 hp
        rw [hun i this] at hp
        exact h3 i hi hp hdi
      · rcases h4 with ⟨e, _⟩ | h4
        · exact Or.inl ⟨e, fun z => by omega⟩
        · exact Or.inr h4
    · refine ⟨t1 + p, t1 + 1, 0, fun v hv => hv, Nat.zero_le _, fun i hi hp hdi => ?_, Or.inr ⟨t1, rfl, rfl, ho, j, hj, by omega⟩⟩
      have : i ≠ j := fun z => by rw [z, hus] at hp; exact h10 hp
      rw [hun i this] at hp
      rcases Nat.lt_or_ge t1 (R i) with z | z
      · exact z
      · have := hu i hi hp z; omega
/-- the end of dispatch -/
theorem ej_end {m p : Nat} {B : Nat → Prop} {R D : Nat → Nat} {sh pl : Nat → Int32} {ab t : Nat} (hp : 0 < p) (hF : ej_FI m p B R D sh ab)
    (hD : ∀ i, i < m → D i ≤ 40) (h : ej_DI m p R D sh pl m t) :
    ej_Sch p B (fun i => i < m) R (fun i => min (D i) t) ∧ ∀ E, ej_Sch p B (fun i => i < m) R (fun i => min (D i) E) → t ≤ E := by
  have hall : ∀ i, i < m → ¬ pl i = 0 := fun i hi => by simpa using ej_cn_full m h.1 i hi
  have ht := h.2.1
  constructor
  · obtain ⟨s, s1, s2⟩ := h.2.2.1
    refine ⟨s, fun i hi => ?_, fun i j hi hj hn => s2 i j hi hj (hall i hi) (hall j hj) hn⟩
    obtain ⟨a1, a2, a3, a4⟩ := s1 i hi (hall i hi)
    exact ⟨a1, by dsimp only; omega, hF.2.1 _ (by omega) a3⟩
  · intro E ⟨s, hs⟩
    have hs' : ej_Is p B (fun i => i < m) R D s := ej_IsM hs (fun _ z => z) (fun _ z => z) (fun _ _ => Nat.le_refl _) (fun i _ => Nat.min_le_left _ _)
    have ho := hF.1 s hs'
    obtain ⟨a, b, n, h1, h2, h3, h4⟩ := h.2.2.2 40
    rcases h4 with ⟨e, h4⟩ | ⟨t', _, _, _, i, hi, h4⟩
    · rcases Nat.eq_zero_or_pos n with z | z
      · rw [h4 z]; exact Nat.zero_le _
      · obtain ⟨n', rfl⟩ : ∃ n', n = n' + 1 := ⟨n - 1, by omega⟩
        obtain ⟨i, hi, ha, hb⟩ := ej_SB hp (fun i j hi hj => hs.2 i j hi hj) ho n' (E + 1) (ej_pc R D pl b 40) h2 (fun i hi _ => by
          have := (hs.1 i hi).2.1
          dsimp only at this
          omega)
        simp only [ej_pc, decide_eq_true_eq] at ha
        have h5 := (hs.1 i hi).1
        have := h1 (E + 1) (by omega)
        omega
    · have := hD i hi; omega
end
section
/-! the reference's table -/
def ej_CP (p : Nat) (B : Nat → Prop) (A : Nat) (l h : Nat → Nat) (t a : Nat) : Prop :=
  (∀ j, a.testBit j = true → A.testBit j = true) ∧ ej_Sch p B (fun j => a.testBit j = true) l (fun j => min (h j) t)
def ej_tg (p : Nat) (B : Nat → Prop) (A : Nat) (l h : Nat → Nat) (t a x : Nat) : Prop :=
  (t < 40 ∧ x = (t + 1) * 128 + a) ∨ (t + p ≤ 40 ∧ ¬ B t ∧ ∃ j, j < 7 ∧ A.testBit j = true ∧ a.testBit j = false ∧ l j ≤ t ∧ t + p ≤ h j ∧ x = (t + p) * 128 + (a ||| 2 ^ j))
theorem ej_sub_le {a A : Nat} (h : ∀ j, a.testBit j = true → A.testBit j = true) : a ≤ A := by
  have e : a &&& A = a := by
    apply Nat.eq_of_testBit_eq
    intro i
    rw [Nat.testBit_and]
    by_cases z : a.testBit i = true
    · rw [z, h i z]; rfl
    · have : a.testBit i = false := by simpa using z
      rw [this, Bool.false_and]
  rw [← e]
  exact Nat.and_le_right
theorem ej_bit_lt {A j : Nat} (hA : A < 128) (h : A.testBit j = true) : j < 7 := by
  rcases Nat.lt_or_ge j 7 with z | z
  · exact z
  · have : A < 2 ^ j := Nat.lt_of_lt_of_le hA (Nat.pow_le_pow_right (n := 2) (by omega) z)
    rw [Nat.testBit_lt_two_pow this] at h
    exact absurd h Bool.false_ne_true
theorem ej_pow7 {j : Nat} (h : j < 7) : 2 ^ j < 128 := Nat.pow_lt_pow_right (a := 2) (n := 7) (by omega) h
theorem ej_or7 {a j : Nat} (ha : a < 128) (h : j < 7) : a ||| 2 ^ j < 128 := Nat.or_lt_two_pow (n := 7) ha (ej_pow7 h)
theorem ej_tor (a j i : Nat) : (a ||| 2 ^ j).testBit i = true ↔ a.testBit i = true ∨ i = j := by
  rw [Nat.testBit_or, Nat.testBit_two_pow, Bool.or_eq_true, decide_eq_true_eq, eq_comm (a := j)]
theorem ej_CP0 {p : Nat} {B : Nat → Prop} {A : Nat} {l h : Nat → Nat} : ej_CP p B A l h 0 0 := by
  refine ⟨fun j hj => ?_, fun _ => 0, fun j hj => ?_, fun i j hi => ?_⟩
  · rw [Nat.zero_testBit] at hj; exact absurd hj Bool.false_ne_true
  · dsimp only at hj; rw [Nat.zero_testBit] at hj; exact absurd hj Bool.false_ne_true
  · dsimp only at hi; rw [Nat.zero_testBit] at hi; exact absurd hi Bool.false_ne_true
theorem ej_CPw {p : Nat} {B : Nat → Prop} {A : Nat} {l h : Nat → Nat} {t t' a : Nat} (ht : t ≤ t') (c : ej_CP p B A l h t a) : ej_CP p B A l h t' a :=
  ⟨c.1, ej_mo c.2 (fun _ z => z) (fun _ z => z) (fun _ _ => Nat.le_refl _) (fun j _ => by omega)⟩
theorem ej_CPj {p : Nat} {B : Nat → Prop} {A : Nat} {l h : Nat → Nat} {t a j : Nat} (c : ej_CP p B A l h t a) (hj : A.testBit j = true)
    (hB : ¬ B t) (hl : l j ≤ t) (hh : t + p ≤ h j) : ej_CP p B A l h (t + p) (a ||| 2 ^ j) := by
  obtain ⟨c1, s, s1, s2⟩ := c
  refine ⟨fun i hi => ?_, ej_up s j t, fun i hi => ?_, fun i i' hi hi' hn => ?_⟩
  · rcases (ej_tor a j i).mp hi with z | z
    · exact c1 i z
    · rw [z]; exact hj
  · by_cases e : i = j
    · rw [e, ej_ups]; exact ⟨hl, by dsimp only; omega, hB⟩
    · rw [ej_upn e]
      rcases (ej_tor a j i).mp hi with z | z
      · obtain ⟨a1, a2, a3⟩ := s1 i z
        dsimp only at a2 ⊢
        exact ⟨a1, by omega, a3⟩
      · exact absurd z e
  · by_cases e : i = j
    · have e' : i' ≠ j := fun z => hn (e.trans z.symm)
      rw [e, ej_ups, ej_upn e']
      rcases (ej_tor a j i').mp hi' with z | z
      · have := (s1 i' z).2.1
        dsimp only at this
        omega
      · exact absurd z e'
    · rw [ej_upn e]
      have zi : a.testBit i = true := by
        rcases (ej_tor a j i).mp hi with z | z
        · exact z
        · exact absurd z e
      by_cases e' : i' = j
      · rw [e', ej_ups]
        have := (s1 i zi).2.1
        dsimp only at this
        omega
      · rw [ej_upn e']
        rcases (ej_tor a j i').mp hi' with z | z
        · exact s2 i i' zi z hn
        · exact absurd z e'
theorem ej_complete {p : Nat} {B : Nat → Prop} {A : Nat} {l h : Nat → Nat} {cn : Nat → Int32} (hp : 0 < p) (hA : A < 128) (h0 : ¬ cn 0 = 0)
    (hc : ∀ t a, t ≤ 40 → a ≤ A → ¬ cn (t * 128 + a) = 0 → ∀ x, ej_tg p B A l h t a x → ¬ cn x = 0) :
    ∀ N t, t < N → t ≤ 40 → ∀ a, ej_CP p B A l h t a → ¬ cn (t * 128 + a) = 0 := by
  intro N
  induction N with
  | zero => intro t ht; omega
  | succ N ih =>
    intro t ht ht4 a c
    rcases Nat.eq_zero_or_pos t with rfl | hpos
    · have ha : a = 0 := by
        apply Nat.eq_of_testBit_eq
        intro i
        rw [Nat.zero_testBit]
        rcases hb : a.testBit i with _ | _
        · rfl
        · obtain ⟨s, s1, _⟩ := c.2
          have := (s1 i hb).2.1
          dsimp only at this
          omega
      rw [ha]; exact h0
    · by_cases c' : ej_CP p B A l h (t - 1) a
      · have h1 := ih (t - 1) (by omega) (by omega) a c'
        have h2 := hc (t - 1) a (by omega) (ej_sub_le c.1) h1 ((t - 1 + 1) * 128 + a) (Or.inl ⟨by omega, rfl⟩)
        rw [show t - 1 + 1 = t from by omega] at h2
        exact h2
      · obtain ⟨c1, s, s1, s2⟩ := c
        have hex : ∃ j, a.testBit j = true ∧ s j + p = t := by
          apply Classical.byContradiction
          intro hn
          refine c' ⟨c1, s, fun j hj => ?_, s2⟩
          obtain ⟨a1, a2, a3⟩ := s1 j hj
          dsimp only at a2 ⊢
          have : s j + p ≠ t := fun z => hn ⟨j, hj, z⟩
          exact ⟨a1, by omega, a3⟩
        obtain ⟨j, hj, hjt⟩ := hex
        obtain ⟨a1, a2, a3⟩ := s1 j hj
        dsimp only at a2
        have hbx : ∀ i, (a ^^^ 2 ^ j).testBit i = true ↔ a.testBit i = true ∧ i ≠ j := by
          intro i
          rw [Nat.testBit_xor, Nat.testBit_two_pow]
          by_cases e : j = i
          · subst e; simp [hj]
          · have e' : i ≠ j := fun z => e z.symm
            simp [e, e']
        have c2 : ej_CP p B A l h (s j) (a ^^^ 2 ^ j) := by
          refine ⟨fun i hi => c1 i ((hbx i).mp hi).1, s, fun i hi => ?_, fun i i' hi hi' hn => s2 i i' ((hbx i).mp hi).1 ((hbx i').mp hi').1 hn⟩
          obtain ⟨b1, b2, b3⟩ := s1 i ((hbx i).mp hi).1
          have := s2 i j ((hbx i).mp hi).1 hj ((hbx i).mp hi).2
          dsimp only at b2 ⊢
          exact ⟨b1, by omega, b3⟩
        have h1 := ih (s j) (by omega) (by omega) _ c2
        have hbj : (a ^^^ 2 ^ j).testBit j = false := by
          rcases hb : (a ^^^ 2 ^ j).testBit j with _ | _
          · rfl
          · exact absurd rfl ((hbx j).mp hb).2
        have h2 := hc (s j) (a ^^^ 2 ^ j) (by omega) (ej_sub_le c2.1) h1 ((s j + p) * 128 + (a ^^^ 2 ^ j ||| 2 ^ j))
          (Or.inr ⟨by omega, a3, j, ej_bit_lt hA (c1 j hj), c1 j hj, hbj, a1, by omega, rfl⟩)
        have e : (a ^^^ 2 ^ j ||| 2 ^ j) = a := by
          apply Nat.eq_of_testBit_eq
          intro i
          apply Bool.eq_iff_iff.mpr
          rw [ej_tor, hbx]
          by_cases e : i = j
          · subst e; simp [hj]
          · simp [e]
        rw [e, hjt] at h2
        exact h2
/-- the table while it is filled: cells before (t0, a0) are done -/
def ej_YI (p : Nat) (B : Nat → Prop) (A : Nat) (l h : Nat → Nat) (cn : Nat → Int32) (t0 a0 : Nat) : Prop :=
  (∀ t a, t ≤ 40 → a ≤ A → cn (t * 128 + a) = 0 ∨ (cn (t * 128 + a) = 1 ∧ ej_CP p B A l h t a)) ∧ ¬ cn 0 = 0 ∧
  ∀ t a, t ≤ 40 → a ≤ A → (t < t0 ∨ (t = t0 ∧ a < a0)) → ¬ cn (t * 128 + a) = 0 → ∀ x, ej_tg p B A l h t a x → ¬ cn x = 0
def ej_EX (p : Nat) (B : Nat → Prop) (A : Nat) (l h : Nat → Nat) (t a : Nat) (cn cn' : Nat → Int32) : Prop :=
  (∀ x, cn' x = cn x ∨ (cn' x = 1 ∧ ej_tg p B A l h t a x)) ∧ ∀ x, ej_tg p B A l h t a x → cn' x = 1
theorem ej_YI0 {p : Nat} {B : Nat → Prop} {A : Nat} {l h : Nat → Nat} {cn : Nat → Int32} (hA : A < 128) (hz : ∀ t a, t ≤ 40 → a ≤ A → cn (t * 128 + a) = 0) :
    ej_YI p B A l h (upd cn 0 1) 0 0 := by
  refine ⟨fun t a ht ha => ?_, ?_, fun t a _ _ hl => by omega⟩
  · by_cases e : t * 128 + a = 0
    · have e1 : t = 0 := by omega
      have e2 : a = 0 := by omega
      subst e1 e2
      exact Or.inr ⟨ej_us, ej_CP0⟩
    · rw [ej_un e]; exact Or.inl (hz t a ht ha)
  · rw [ej_us]; decide
theorem ej_YIz {p : Nat} {B : Nat → Prop} {A : Nat} {l h : Nat → Nat} {cn : Nat → Int32} {t0 a0 : Nat} (Y : ej_YI p B A l h cn t0 a0) (hz : cn (t0 * 128 + a0) = 0) :
    ej_YI p B A l h cn t0 (a0 + 1) := by
  refine ⟨Y.1, Y.2.1, fun t a ht ha hl hn => ?_⟩
  by_cases e : t = t0 ∧ a = a0
  · rw [e.1, e.2] at hn; exact absurd hz hn
  · exact Y.2.2 t a ht ha (by omega) hn
theorem ej_YIr {p : Nat} {B : Nat → Prop} {A : Nat} {l h : Nat → Nat} {cn : Nat → Int32} {t0 a0 : Nat} (Y : ej_YI p B A l h cn t0 a0) (hz : A < a0) :
    ej_YI p B A l h cn (t0 + 1) 0 := by
  refine ⟨Y.1, Y.2.1, fun t a ht ha hl hn => Y.2.2 t a ht ha (by omega) hn⟩
theorem ej_tgt {p : Nat} {B : Nat → Prop} {A : Nat} {l h : Nat → Nat} {t0 a0 x : Nat} (hp : 0 < p) (hA : A < 128) (ha0 : a0 ≤ A) (g : ej_tg p B A l h t0 a0 x) :
    ∃ t a, t0 < t ∧ a < 128 ∧ x = t * 128 + a ∧ (ej_CP p B A l h t0 a0 → ej_CP p B A l h t a) := by
  rcases g with ⟨_, e⟩ | ⟨_, hB, j, hj, hA1, _, h1, h2, e⟩
  · exact ⟨t0 + 1, a0, by omega, by omega, e, ej_CPw (by omega)⟩
  · exact ⟨t0 + p, a0 ||| 2 ^ j, by omega, ej_or7 (by omega) hj, e, fun c => ej_CPj c hA1 hB h1 h2⟩
theorem ej_YIs {p : Nat} {B : Nat → Prop} {A : Nat} {l h : Nat → Nat} {cn cn' : Nat → Int32} {t0 a0 : Nat} (hp : 0 < p) (hA : A < 128) (ht0 : t0 ≤ 40) (ha0 : a0 ≤ A)
    (Y : ej_YI p B A l h cn t0 a0) (hn0 : ¬ cn (t0 * 128 + a0) = 0) (E : ej_EX p B A l h t0 a0 cn cn') : ej_YI p B A l h cn' t0 (a0 + 1) := by
  have hc0 : ej_CP p B A l h t0 a0 := by
    rcases Y.1 t0 a0 ht0 ha0 with z | z
    · exact absurd z hn0
    · exact z.2
  have h10 : ¬ (1 : Int32) = 0 := by decide
  have hk : ∀ x, ¬ cn x = 0 → ¬ cn' x = 0 := fun x hx => by
    rcases E.1 x with z | z
    · rw [z]; exact hx
    · rw [z.1]; exact h10
  refine ⟨fun t a ht ha => ?_, hk 0 Y.2.1, fun t a ht ha hl hn x hx => ?_⟩
  · rcases E.1 (t * 128 + a) with z | ⟨z, g⟩
    · rw [z]; exact Y.1 t a ht ha
    · obtain ⟨t', a', h1, h2, h3, h4⟩ := ej_tgt hp hA ha0 g
      have e1 : t = t' := by omega
      have e2 : a = a' := by omega
      subst e1 e2
      exact Or.inr ⟨z, h4 hc0⟩
  · have hsame : cn' (t * 128 + a) = cn (t * 128 + a) := by
      rcases E.1 (t * 128 + a) with z | ⟨z, g⟩
      · exact z
      · obtain ⟨t', a', h1, h2, h3, h4⟩ := ej_tgt hp hA ha0 g
        exfalso
        omega
    by_cases e : t = t0 ∧ a = a0
    · rw [e.1, e.2] at hx
      rw [E.2 x hx]; exact h10
    · rw [hsame] at hn
      exact hk x (Y.2.2 t a ht ha (by omega) hn x hx)
theorem ej_YIe {p : Nat} {B : Nat → Prop} {A : Nat} {l h : Nat → Nat} {cn : Nat → Int32} {a0 : Nat} (hp : 0 < p) (hA : A < 128)
    (Y : ej_YI p B A l h cn 41 a0) : (cn (5120 + A) = 1 ∧ ej_CP p B A l h 40 A) ∨ (cn (5120 + A) = 0 ∧ ¬ ej_CP p B A l h 40 A) := by
  rcases Y.1 40 A (by omega) (Nat.le_refl _) with z | z
  · refine Or.inr ⟨z, fun c => ?_⟩
    exact ej_complete hp hA Y.2.1 (fun t a ht ha hn => Y.2.2 t a ht ha (by omega) hn) 41 40 (by omega) (by omega) A c z
  · exact Or.inl z
end
section
theorem ej_if {c d A B : Prop} (e : c ↔ d) (f : d → A) (g : ¬ d → B) : (c → A) ∧ (¬ c → B) := ⟨fun h => f (e.mp h), fun h => g (fun z => h (e.mpr z))⟩
/-- the windows asked about -/
def ej_AW (m : Nat) (R D : Nat → Nat) (af au : Nat → Int32) : Prop := m ≤ 7 ∧ ∀ i, i < m → af i = nI (R i) ∧ R i ≤ 40 ∧ au i = nI (D i) ∧ D i ≤ 40
section XR
variable {L C ak en kn : Int32} {us fr un bu bf bt af au pl sh pn : Nat → Int32}
theorem ej_grb {post : Int32 → Prop} {m p ab : Nat} {R D : Nat → Nat} (hA : ej_AW m R D af au) (hab : ab ≤ 41)
    (K : ∀ b, b ≤ 41 → (b = 0 ∨ ∃ i, i < m ∧ R i + 1 = b ∧ R i < ab) → (∀ i, i < m → R i < ab → R i < b) → post (ej_e b)) :
    ∀ n i b, m < n + i → i ≤ m → b ≤ 41 → (b = 0 ∨ ∃ i, i < m ∧ R i + 1 = b ∧ R i < ab) → (∀ j, j < i → R j < ab → R j < b) →
      wX_greatestReleaseBelow_4 post (nI ab) (nI p) C (nI m) en kn us fr un bu bf bt af au pl sh pn n (ej_e b) (nI i) := by
  intro n
  have hm := hA.1
  induction n with
  | zero => intro i b hn; omega
  | succ n ih =>
    intro i b hn hi hb h1 h2
    by_cases h : m ≤ i
    · have : i = m := by omega
      subst this
      exact br_t (nI_le h (by omega)) (K b hb h1 h2)
    · obtain ⟨e1, e2, e3, e4⟩ := hA.2 i (by omega)
      have ec : (nI i).toNatClampNeg = i := nI_clamp (by omega)
      rw [wX_greatestReleaseBelow_4]; dsimp only; rw [ec, e1]
      refine br_f (nI_ge (by omega) (by omega)) ⟨vp_in_nI (by omega) (by omega), ?_⟩
      refine ej_if (nI_leI (by omega) (by omega)) (fun g1 => ?_) (fun g1 => ⟨vp_in_nI (by omega) (by omega), ?_⟩)
      · refine nm_r (nI_1 i) (ih (i + 1) b (by omega) (by omega) hb h1 (fun j hj hr => ?_))
        by_cases e : j = i
        · subst e; omega
        · exact h2 j (by omega) hr
      · refine ej_if (ej_nle (by omega) (by omega)) (fun g2 => ?_) (fun g2 => ⟨vp_in_nI (by omega) (by omega), ?_⟩)
        · refine nm_r (nI_1 i) (ih (i + 1) b (by omega) (by omega) hb h1 (fun j hj hr => ?_))
          by_cases e : j = i
          · subst e; exact g2
          · exact h2 j (by omega) hr
        · refine nm_r (ej_es (R i)).symm (nm_r (nI_1 i) (ih (i + 1) (R i + 1) (by omega) (by omega) (by omega) (Or.inr ⟨i, by omega, rfl, by omega⟩) (fun j hj hr => ?_)))
          by_cases e : j = i
          · subst e; omega
          · have := h2 j (by omega) hr; omega
theorem ej_grbw {post : Int32 → Prop} {m p ab : Nat} {R D : Nat → Nat} (hA : ej_AW m R D af au) (hab : ab ≤ 41)
    (K : ∀ b, b ≤ 41 → (b = 0 ∨ ∃ i, i < m ∧ R i + 1 = b ∧ R i < ab) → (∀ i, i < m → R i < ab → R i < b) → post (ej_e b)) :
    wpX_greatestReleaseBelow post (nI p, C, nI m, en, kn, us, fr, un, bu, bf, bt, af, au, pl, sh, pn) (nI ab) :=
  ⟨m + 1, ej_grb hA hab K (m + 1) 0 0 (by omega) (by omega) (by omega) (Or.inl rfl) (fun j hj => by omega)⟩
theorem ej_lwr {post : Int32 → Prop} {m p : Nat} {R D : Nat → Nat} (hA : ej_AW m R D af au)
    (K : ∀ b, b ≤ 41 → (b = 41 ∨ ∃ i, i < m ∧ pl i = 0 ∧ R i = b) → (∀ i, i < m → pl i = 0 → b ≤ R i) → post (nI b)) :
    ∀ n i b, m < n + i → i ≤ m → b ≤ 41 → (b = 41 ∨ ∃ i, i < m ∧ pl i = 0 ∧ R i = b) → (∀ j, j < i → pl j = 0 → b ≤ R j) →
      wX_leastWaitingRelease_5 post (nI p) C (nI m) en kn us fr un bu bf bt af au pl sh pn n (nI b) (nI i) := by
  intro n
  have hm := hA.1
  induction n with
  | zero => intro i b hn; omega
  | succ n ih =>
    intro i b hn hi hb h1 h2
    by_cases h : m ≤ i
    · have : i = m := by omega
      subst this
      exact br_t (nI_le h (by omega)) (K b hb h1 h2)
    · obtain ⟨e1, e2, e3, e4⟩ := hA.2 i (by omega)
      have ec : (nI i).toNatClampNeg = i := nI_clamp (by omega)
      rw [wX_leastWaitingRelease_5]; dsimp only; rw [ec, e1]
      refine br_f (nI_ge (by omega) (by omega)) ⟨vp_in_nI (by omega) (by omega), ?_⟩
      refine br_c (fun g1 => ⟨vp_in_nI (by omega) (by omega), ?_⟩) (fun g1 => ?_)
      · refine ej_if (nI_leI (by omega) (by omega)) (fun g2 => ?_) (fun g2 => ⟨vp_in_nI (by omega) (by omega), ?_⟩)
        · refine nm_r (nI_1 i) (ih (i + 1) b (by omega) (by omega) hb h1 (fun j hj hr => ?_))
          by_cases e : j = i
          · subst e; exact g2
          · exact h2 j (by omega) hr
        · refine nm_e (nm_r (nI_1 i) (ih (i + 1) (R i) (by omega) (by omega) (by omega) (Or.inr ⟨i, by omega, g1, rfl⟩) (fun j hj hr => ?_)))
          by_cases e : j = i
          · subst e; omega
          · have := h2 j (by omega) hr; omega
      · refine nm_r (nI_1 i) (ih (i + 1) b (by omega) (by omega) hb h1 (fun j hj hr => ?_))
        by_cases e : j = i
        · subst e; exact absurd hr g1
        · exact h2 j (by omega) hr
theorem ej_lwrw {post : Int32 → Prop} {m p : Nat} {R D : Nat → Nat} (hA : ej_AW m R D af au)
    (K : ∀ b, b ≤ 41 → (b = 41 ∨ ∃ i, i < m ∧ pl i = 0 ∧ R i = b) → (∀ i, i < m → pl i = 0 → b ≤ R i) → post (nI b)) :
    wpX_leastWaitingRelease post (nI p, C, nI m, en, kn, us, fr, un, bu, bf, bt, af, au, pl, sh, pn) :=
  ⟨m + 1, ej_lwr hA K (m + 1) 0 41 (by omega) (by omega) (by omega) (Or.inl rfl) (fun j hj => by omega)⟩
theorem ej_oaa {post : Int32 → Prop} {x : Nat}
    (K : ∀ t, x ≤ t → t ≤ 47 → (∀ y, x ≤ y → y < t → ¬ sh y = 0) → (t = 47 ∨ sh t = 0) → post (nI t)) :
    ∀ n i, 47 < n + i → x ≤ i → i ≤ 47 → (∀ y, x ≤ y → y < i → ¬ sh y = 0) → wX_openAtOrAfter_2 post L C ak en kn us fr un bu bf bt af au pl sh pn n (nI i) := by
  intro n
  induction n with
  | zero => intro i hn; omega
  | succ n ih =>
    intro i hn hx hi h1
    have ec : (nI i).toNatClampNeg = i := nI_clamp (by omega)
    rw [wX_openAtOrAfter_2]; dsimp only; rw [ec]
    refine ej_if (nI_leI (a := 47) (by omega) (by omega)) (fun g1 => K i hx hi h1 (Or.inl (by omega))) (fun g1 => ⟨vp_in_nI (by omega) (by omega), ?_⟩)
    refine br_c (fun g2 => K i hx hi h1 (Or.inr g2)) (fun g2 => nm_r (nI_1 i) (ih (i + 1) (by omega) (by omega) (by omega) (fun y hy hy2 => ?_)))
    by_cases e : y = i
    · subst e; exact g2
    · exact h1 y hy (by omega)
theorem ej_oaaw {post : Int32 → Prop} {x : Nat} (hx : x ≤ 47)
    (K : ∀ t, x ≤ t → t ≤ 47 → (∀ y, x ≤ y → y < t → ¬ sh y = 0) → (t = 47 ∨ sh t = 0) → post (nI t)) :
    wpX_openAtOrAfter post (L, C, ak, en, kn, us, fr, un, bu, bf, bt, af, au, pl, sh, pn) (nI x) :=
  ⟨48, ej_oaa K 48 x (by omega) (Nat.le_refl _) hx (fun y h1 h2 => by omega)⟩
/-- b encodes the most urgent job among the first i -/
def ej_mu (R D : Nat → Nat) (pl : Nat → Int32) (t i b : Nat) : Prop :=
  (b = 0 ∧ ∀ j, j < i → pl j = 0 → ¬ R j ≤ t) ∨ ∃ j, b = j + 1 ∧ j < i ∧ pl j = 0 ∧ R j ≤ t ∧ ∀ k, k < i → pl k = 0 → R k ≤ t → D j ≤ D k
theorem ej_mu_s {R D : Nat → Nat} {pl : Nat → Int32} {t i b : Nat} (h : ej_mu R D pl t i b) (hs : pl i = 0 → R i ≤ t → ∃ j, b = j + 1 ∧ D j ≤ D i) : ej_mu R D pl t (i + 1) b := by
  rcases h with ⟨e, h⟩ | ⟨j, e, h1, h2, h3, h4⟩
  · refine Or.inl ⟨e, fun j hj hp hr => ?_⟩
    by_cases ej : j = i
    · subst ej
      obtain ⟨j', e', _⟩ := hs hp hr
      omega
    · exact h j (by omega) hp hr
  · refine Or.inr ⟨j, e, by omega, h2, h3, fun k hk hp hr => ?_⟩
    by_cases ej : k = i
    · subst ej
      obtain ⟨j', e', h5⟩ := hs hp hr
      have : j = j' := by omega
      subst this
      exact h5
    · exact h4 k (by omega) hp hr
theorem ej_mu_n {R D : Nat → Nat} {pl : Nat → Int32} {t i b : Nat} (h : ej_mu R D pl t i b) (hp : pl i = 0) (hr : R i ≤ t) (hb : ∀ j, b = j + 1 → D i ≤ D j) : ej_mu R D pl t (i + 1) (i + 1) := by
  refine Or.inr ⟨i, rfl, by omega, hp, hr, fun k hk hpk hrk => ?_⟩
  by_cases ej : k = i
  · subst ej; exact Nat.le_refl _
  · rcases h with ⟨e, h⟩ | ⟨j, e, h1, h2, h3, h4⟩
    · exact absurd hrk (h k (by omega) hpk)
    · have g1 := h4 k (by omega) hpk hrk
      have g2 := hb j e
      omega
theorem ej_mur {post : Int32 → Prop} {m p t : Nat} {R D : Nat → Nat} (hA : ej_AW m R D af au) (ht : t ≤ 100)
    (K : ∀ b, b ≤ 8 → ej_mu R D pl t m b → post (ej_e b)) :
    ∀ n i b, m < n + i → i ≤ m → b ≤ i → ej_mu R D pl t i b → wX_mostUrgent_4 post (nI t) (nI p) C (nI m) en kn us fr un bu bf bt af au pl sh pn n (ej_e b) (nI i) := by
  intro n
  have hm := hA.1
  induction n with
  | zero => intro i b hn; omega
  | succ n ih =>
    intro i b hn hi hb h1
    by_cases h : m ≤ i
    · have : i = m := by omega
      subst this
      exact br_t (nI_le h (by omega)) (K b (by omega) h1)
    · obtain ⟨e1, e2, e3, e4⟩ := hA.2 i (by omega)
      have ec : (nI i).toNatClampNeg = i := nI_clamp (by omega)
      rw [wX_mostUrgent_4]; dsimp only; rw [ec, e1, e3]
      refine br_f (nI_ge (by omega) (by omega)) ⟨vp_in_nI (by omega) (by omega), ?_⟩
      refine br_c (fun g1 => ⟨vp_in_nI (by omega) (by omega), ?_⟩) (fun g1 => ?_)
      · refine ej_if (nI_ltI (by omega) (by omega)) (fun g2 => ?_) (fun g2 => ?_)
        · exact nm_r (nI_1 i) (ih (i + 1) b (by omega) (by omega) (by omega) (ej_mu_s h1 (fun _ hr => by omega)))
        · refine ej_if (ej_lt0 (by omega)) (fun g3 => ?_) (fun g3 => ⟨vp_in_nI (by omega) (by omega), ?_⟩)
          · have K1 := ih (i + 1) (i + 1) (by omega) (by omega) (by omega) (ej_mu_n h1 g1 (by omega) (fun j ej => by omega))
            rw [ej_es] at K1
            exact nm_r (nI_1 i) K1
          · obtain ⟨j, rfl⟩ : ∃ j, b = j + 1 := ⟨b - 1, by omega⟩
            have ecj : (nI j).toNatClampNeg = j := nI_clamp (by omega)
            obtain ⟨f1, f2, f3, f4⟩ := hA.2 j (by omega)
            rw [ej_es, ecj, f3]
            refine ⟨vp_in_nI (by omega) (by omega), ?_⟩
            refine ej_if (nI_leI (by omega) (by omega)) (fun g4 => ?_) (fun g4 => ?_)
            · have K1 := ih (i + 1) (j + 1) (by omega) (by omega) (by omega) (ej_mu_s h1 (fun _ _ => ⟨j, rfl, g4⟩))
              rw [ej_es] at K1
              exact nm_r (nI_1 i) K1
            · have K1 := ih (i + 1) (i + 1) (by omega) (by omega) (by omega) (ej_mu_n h1 g1 (by omega) (fun j' ej => by
                have : j' = j := by omega
                subst this; omega))
              rw [ej_es] at K1
              exact nm_r (nI_1 i) K1
      · exact nm_r (nI_1 i) (ih (i + 1) b (by omega) (by omega) (by omega) (ej_mu_s h1 (fun hp _ => absurd hp g1)))
theorem ej_murw {post : Int32 → Prop} {m p t : Nat} {R D : Nat → Nat} (hA : ej_AW m R D af au) (ht : t ≤ 100)
    (K : ∀ b, b ≤ 8 → ej_mu R D pl t m b → post (ej_e b)) : wpX_mostUrgent post (nI p, C, nI m, en, kn, us, fr, un, bu, bf, bt, af, au, pl, sh, pn) (nI t) :=
  ⟨m + 1, ej_mur hA ht K (m + 1) 0 0 (by omega) (by omega) (by omega) (Or.inl ⟨rfl, fun j hj => by omega⟩)⟩
theorem ej_cw {post : Int32 → Prop} {m p r d : Nat} {R D : Nat → Nat} (hA : ej_AW m R D af au) (hr : r ≤ 40) (hd : d ≤ 40)
    (K : post (nI (ej_nw R D m r d))) :
    ∀ n i, m < n + i → i ≤ m → wX_countWithin_5 post (nI r) (nI d) (nI p) C (nI m) en kn us fr un bu bf bt af au pl sh pn n (nI (ej_cn (ej_wi R D r d) i)) (nI i) := by
  intro n
  have hm := hA.1
  induction n with
  | zero => intro i hn; omega
  | succ n ih =>
    intro i hn hi
    by_cases h : m ≤ i
    · have : i = m := by omega
      subst this
      exact br_t (nI_le h (by omega)) K
    · obtain ⟨e1, e2, e3, e4⟩ := hA.2 i (by omega)
      have ec : (nI i).toNatClampNeg = i := nI_clamp (by omega)
      have K1 := ih (i + 1) (by omega) (by omega)
      rw [ej_cns] at K1
      rw [wX_countWithin_5]; dsimp only; rw [ec, e1, e3]
      refine br_f (nI_ge (by omega) (by omega)) ⟨vp_in_nI (by omega) (by omega), ?_⟩
      refine ej_if (nI_ltI (by omega) (by omega)) (fun g1 => ?_) (fun g1 => ⟨vp_in_nI (by omega) (by omega), ?_⟩)
      · rw [if_neg (by simp only [ej_wi, decide_eq_true_eq]; omega)] at K1
        exact nm_r (nI_1 i) K1
      · refine ej_if (nI_ltI (by omega) (by omega)) (fun g2 => ?_) (fun g2 => ?_)
        · rw [if_neg (by simp only [ej_wi, decide_eq_true_eq]; omega)] at K1
          exact nm_r (nI_1 i) K1
        · rw [if_pos (by simp only [ej_wi, decide_eq_true_eq]; omega)] at K1
          exact nm_r (nI_1 _) (nm_r (nI_1 i) K1)
theorem ej_cww {post : Int32 → Prop} {m p r d : Nat} {R D : Nat → Nat} (hA : ej_AW m R D af au) (hr : r ≤ 40) (hd : d ≤ 40)
    (K : post (nI (ej_nw R D m r d))) : wpX_countWithin post (nI p, C, nI m, en, kn, us, fr, un, bu, bf, bt, af, au, pl, sh, pn) (nI r) (nI d) :=
  ⟨m + 1, ej_cw hA hr hd K (m + 1) 0 (by omega) (by omega)⟩
theorem ej_oab {post : Int32 → Prop} : ∀ k n, k ≤ 48 → k < n → post (ej_e (ej_ob sh k)) → wX_openAtOrBefore_2 post L C ak en kn us fr un bu bf bt af au pl sh pn n (ej_e k) := by
  intro k
  induction k with
  | zero =>
    intro n hk hn K
    obtain ⟨n, rfl⟩ : ∃ n', n = n' + 1 := ⟨n - 1, by omega⟩
    rw [wX_openAtOrBefore_2]; dsimp only; rw [ej_e0]
    refine br_t (by decide) ?_
    unfold wX_openAtOrBefore_21
    refine br_f (by decide) ?_
    exact ej_e0 ▸ K
  | succ k ih =>
    intro n hk hn K
    obtain ⟨n, rfl⟩ : ∃ n', n = n' + 1 := ⟨n - 1, by omega⟩
    have ec : (nI k).toNatClampNeg = k := nI_clamp (by omega)
    rw [ej_obs] at K
    rw [wX_openAtOrBefore_2]; dsimp only; rw [ej_es, ec]
    refine br_f (nI_pos (by omega)) ⟨vp_in_nI (by omega) (by omega), ?_⟩
    refine br_c (fun g => ?_) (fun g => ?_)
    · rw [if_pos g, ej_es] at K
      unfold wX_openAtOrBefore_21
      exact br_t (nI_pos' (by omega)) K
    · rw [if_neg g] at K
      have K1 := ih n (by omega) (by omega) K
      have e : nI k + (-1) = ej_e k := by
        unfold ej_e
        rw [ej_zn, ← ej_zm1, ej_zadd]
        rfl
      exact nm_r e K1
theorem ej_oabw {post : Int32 → Prop} {z : Int} (hz : -100 ≤ z) (hz2 : z ≤ 47) (K : post (ej_e (ej_ob sh (z + 1).toNat))) : wpX_openAtOrBefore post (L, C, ak, en, kn, us, fr, un, bu, bf, bt, af, au, pl, sh, pn) (ej_z z) := by
  by_cases h : z < 0
  · have e : (z + 1).toNat = 0 := by omega
    rw [e] at K
    have hn : ej_z z < 0 := by rw [← ej_z0, ej_zlt (by omega) (by omega) (by omega) (by omega)]; exact h
    refine ⟨1, ?_⟩
    rw [wX_openAtOrBefore_2]; dsimp only
    refine br_t hn ?_
    unfold wX_openAtOrBefore_21
    refine br_f (by rw [← ej_z0, ej_zle (by omega) (by omega) (by omega) (by omega)]; omega) ?_
    exact ej_e0 ▸ K
  · have e : ej_z z = ej_e (z + 1).toNat := by unfold ej_e; congr 1; omega
    rw [e]
    exact ⟨50, ej_oab _ 50 (by omega) (by omega) K⟩
theorem ej_bf {post : Int32 → Prop} {p cnt : Nat} (hp : p ≤ 6) (hc : cnt ≤ 8) :
    ∀ n k w, cnt < n + k → k ≤ cnt → w ≤ 48 → post (ej_e (ej_bk sh p (cnt - k) w)) → wX_backFrom_12 post (nI cnt) (nI p) C ak en kn us fr un bu bf bt af au pl sh pn n (ej_e w) (nI k) := by
  intro n
  induction n with
  | zero => intro k w hn; omega
  | succ n ih =>
    intro k w hn hk hw K
    by_cases h : cnt ≤ k
    · have : cnt - k = 0 := by omega
      rw [this] at K
      exact br_t (nI_le h (by omega)) K
    · obtain ⟨q, hq⟩ : ∃ q, cnt - k = q + 1 := ⟨cnt - k - 1, by omega⟩
      rw [hq, ej_bks] at K
      have e : ej_e w - nI p = ej_z ((w : Int) - 1 - p) := by unfold ej_e; rw [ej_zn, ej_zsub]
      rw [wX_backFrom_12]; dsimp only; rw [e]
      refine br_f (nI_ge (by omega) (by omega)) (ej_oabw (by omega) (by omega) ?_)
      have e2 : ((w : Int) - 1 - p + 1).toNat = w - p := by omega
      rw [e2]
      have hl := ej_ob_le sh (w - p)
      refine nm_r (nI_1 k) (ih (k + 1) _ (by omega) (by omega) (by omega) ?_)
      rw [show cnt - (k + 1) = q from by omega]
      exact K
theorem ej_bfw {post : Int32 → Prop} {p cnt d : Nat} (hp : p ≤ 6) (hc : cnt ≤ 8) (hd : d ≤ 40) (K0 : cnt = 0 → post 41) (K : 0 < cnt → post (ej_e (ej_bk sh p cnt (d + 1)))) :
    wpX_backFrom post (nI p, C, ak, en, kn, us, fr, un, bu, bf, bt, af, au, pl, sh, pn) (nI d) (nI cnt) := by
  rcases Nat.eq_zero_or_pos cnt with h | h
  · subst h
    exact br_t rfl (K0 rfl)
  · refine br_f (nI_ne0 h (by omega)) ⟨cnt + 1, ?_⟩
    have K1 := ej_bf (post := post) (p := p) (cnt := cnt) (sh := sh) (C := C) (ak := ak) (en := en) (kn := kn) (us := us) (fr := fr) (un := un) (bu := bu) (bf := bf) (bt := bt) (af := af) (au := au) (pl := pl) (pn := pn) hp hc (cnt + 1) 0 (d + 1) (by omega) (by omega) (by omega) (K h)
    rw [ej_es] at K1
    exact K1
end XR
end
section
section XF
variable {L C ak en kn : Int32} {us fr un bu bf bt af au pl sh pn : Nat → Int32}
theorem ej_sbl {post : SX → Prop} {h : Nat} (hh : h ≤ 47) :
    ∀ n i (sh : Nat → Int32), h < n + i → i ≤ 200 → (∀ sh' : Nat → Int32, (∀ t, sh' t = if i ≤ t ∧ t < h then 1 else sh t) → post (L, C, ak, en, kn, us, fr, un, bu, bf, bt, af, au, pl, sh', pn)) → 0 < n →
      wX_shutBetween_12 post (nI h) L C ak en kn n (nI i) us fr un bu bf bt af au pl sh pn := by
  intro n
  induction n with
  | zero => intro i sh _ _ _ h0; omega
  | succ n ih =>
    intro i sh hn hi K _
    by_cases g : h ≤ i
    · exact br_t (nI_le g (by omega)) (K sh (fun t => by rw [if_neg (by omega)]))
    · have ec : (nI i).toNatClampNeg = i := nI_clamp (by omega)
      rw [wX_shutBetween_12]; dsimp only; rw [ec, ej_b1]
      refine br_f (nI_ge (by omega) (by omega)) (br_f (nI_ge (b := 48) (by omega) (by omega)) ⟨vp_in_nI (by omega) (by omega), nm_e (nm_r (nI_1 i) ?_)⟩)
      refine ih (i + 1) (upd sh i 1) (by omega) (by omega) (fun sh' hs => K sh' (fun t => ?_)) (by omega)
      rw [hs t]
      by_cases e : t = i
      · rw [if_neg (by omega), if_pos (by omega), e]; exact ej_us
      · rw [ej_un e]
        by_cases g2 : i ≤ t ∧ t < h
        · rw [if_pos g2, if_pos (by omega)]
        · rw [if_neg g2, if_neg (by omega)]
theorem ej_sbw {post : SX → Prop} {h : Nat} {z : Int} (hz : -100 ≤ z) (hz2 : z ≤ 100) (hh : h ≤ 47)
    (K : ∀ sh' : Nat → Int32, (∀ t : Nat, sh' t = if z < (t : Int) ∧ t < h then 1 else sh t) → post (L, C, ak, en, kn, us, fr, un, bu, bf, bt, af, au, pl, sh', pn)) : wpX_shutBetween post (L, C, ak, en, kn, us, fr, un, bu, bf, bt, af, au, pl, sh, pn) (ej_z z) (nI h) := by
  by_cases g : 0 ≤ z
  · have e : ej_z z + 1 = nI (z + 1).toNat := by
      rw [← ej_z1, ej_zadd, ej_zn]; congr 1; omega
    refine br_t (by rw [← ej_z0, ej_zle (by omega) (by omega) (by omega) (by omega)]; exact g) (nm_r e ⟨h + 1, ej_sbl hh (h + 1) (z + 1).toNat sh (by omega) (by omega) (fun sh' hs => K sh' (fun t => ?_)) (by omega)⟩)
    rw [hs t]
    by_cases g2 : z < (t : Int) ∧ t < h
    · rw [if_pos g2, if_pos (by omega)]
    · rw [if_neg g2, if_neg (by omega)]
  · refine br_f (by rw [← ej_z0, ej_zle (by omega) (by omega) (by omega) (by omega)]; exact g) ⟨h + 1, ej_sbl hh (h + 1) 0 sh (by omega) (by omega) (fun sh' hs => K sh' (fun t => ?_)) (by omega)⟩
    rw [hs t]
    by_cases g2 : z < (t : Int) ∧ t < h
    · rw [if_pos g2, if_pos (by omega)]
    · rw [if_neg g2, if_neg (by omega)]
/-- a start that runs into a block -/
def ej_BB (p : Nat) (bu bf bt : Nat → Int32) (t : Nat) : Prop := ∃ k, k < 4 ∧ ¬ bu k = 0 ∧ ej_cl bf k < t + p ∧ t < ej_cl bt k
def ej_BW (bu bf bt : Nat → Int32) : Prop := ∀ k, k < 4 → ¬ bu k = 0 → ∃ a b : Nat, bf k = nI a ∧ bt k = nI b ∧ a ≤ 40 ∧ b ≤ 40
theorem ej_bl {post : SX → Prop} {p : Nat} (hp : p ≤ 6) (hB : ej_BW bu bf bt) (K : ∀ sh : Nat → Int32, (∀ t, t < 48 → (sh t = 0 ↔ ¬ ej_BB p bu bf bt t)) → post (nI p, C, ak, en, kn, us, fr, un, bu, bf, bt, af, au, pl, sh, pn)) :
    ∀ n k (sh : Nat → Int32), 4 < n + k → k ≤ 4 → (∀ t, t < 48 → (sh t = 0 ↔ ¬ ∃ k', k' < k ∧ ¬ bu k' = 0 ∧ ej_cl bf k' < t + p ∧ t < ej_cl bt k')) →
      wX_shutBlocks_23 post n (nI k) (nI p) C ak en kn us fr un bu bf bt af au pl sh pn := by
  intro n
  induction n with
  | zero => intro k sh hn; omega
  | succ n ih =>
    intro k sh hn hk hs
    by_cases g : 4 ≤ k
    · have : k = 4 := by omega
      subst this
      exact br_t (nI_le (a := 4) g (by omega)) (K sh hs)
    · have ec : (nI k).toNatClampNeg = k := nI_clamp (by omega)
      rw [wX_shutBlocks_23]; dsimp only; rw [ec]
      refine br_f (nI_ge (b := 4) (by omega) (by omega)) ⟨vp_in_nI (by omega) (by omega), ?_⟩
      refine br_c (fun g1 => ?_) (fun g1 => ?_)
      · refine nm_r (nI_1 k) (ih (k + 1) sh (by omega) (by omega) (fun t ht => (hs t ht).trans ?_))
        refine not_congr ⟨fun ⟨k', a1, a2⟩ => ⟨k', by omega, a2⟩, fun ⟨k', a1, a2⟩ => ⟨k', ?_, a2⟩⟩
        have : k' ≠ k := fun e => by subst e; exact a2.1 g1
        omega
      · obtain ⟨a, b, e1, e2, ha, hb⟩ := hB k (by omega) g1
        have e3 : nI a - nI p = ej_z ((a : Int) - p) := by rw [ej_zn, ej_zn, ej_zsub]
        rw [e1, e2, e3]
        refine ⟨vp_in_nI (by omega) (by omega), vp_in_nI (by omega) (by omega), ?_⟩
        refine ej_sbw (by omega) (by omega) (by omega) (fun sh' h' => ?_)
        refine nm_r (nI_1 k) (ih (k + 1) sh' (by omega) (by omega) (fun t ht => ?_))
        have c1 : ej_cl bf k = a := ej_cle e1 (by omega)
        have c2 : ej_cl bt k = b := ej_cle e2 (by omega)
        rw [h' t]
        by_cases g2 : (a : Int) - p < (t : Int) ∧ t < b
        · rw [if_pos g2]
          refine ⟨fun z => absurd z (by decide), fun z => absurd ⟨k, by omega, g1, by omega, by omega⟩ z⟩
        · rw [if_neg g2]
          refine (hs t ht).trans (not_congr ⟨fun ⟨k', a1, a2⟩ => ⟨k', by omega, a2⟩, fun ⟨k', a1, a2⟩ => ⟨k', ?_, a2⟩⟩)
          have : k' ≠ k := fun e => by
            subst e
            rw [c1, c2] at a2
            omega
          omega
theorem ej_blw {post : SX → Prop} {p : Nat} (hp : p ≤ 6) (hB : ej_BW bu bf bt) (K : ∀ sh : Nat → Int32, (∀ t, t < 48 → (sh t = 0 ↔ ¬ ej_BB p bu bf bt t)) → post (nI p, C, ak, en, kn, us, fr, un, bu, bf, bt, af, au, pl, sh, pn)) :
    wpX_shutBlocks post (nI p, C, ak, en, kn, us, fr, un, bu, bf, bt, af, au, pl, sh, pn) := by
  have key : ∀ n i (sh : Nat → Int32), 48 < n + i → i ≤ 48 → (∀ t, t < i → sh t = 0) → wX_shutBlocks_2 post (nI p) C ak en kn n (nI i) us fr un bu bf bt af au pl sh pn := by
    intro n
    induction n with
    | zero => intro i sh hn; omega
    | succ n ih =>
      intro i sh hn hi hs
      by_cases g : 48 ≤ i
      · refine br_t (nI_le (a := 48) g (by omega)) ⟨5, ej_bl hp hB K 5 0 sh (by omega) (by omega) (fun t ht => ⟨fun _ ⟨k', a1, _⟩ => by omega, fun _ => hs t (by omega)⟩)⟩
      · have ec : (nI i).toNatClampNeg = i := nI_clamp (by omega)
        rw [wX_shutBlocks_2]; dsimp only; rw [ec, ej_b0]
        refine br_f (nI_ge (b := 48) (by omega) (by omega)) ⟨vp_in_nI (by omega) (by omega), nm_e (nm_r (nI_1 i) (ih (i + 1) _ (by omega) (by omega) (fun t ht => ?_)))⟩
        by_cases e : t = i
        · rw [e]; exact ej_us
        · rw [ej_un e]; exact hs t (by omega)
  exact ⟨49, key 49 0 sh (by omega) (by omega) (fun t ht => by omega)⟩
theorem ej_sf {post : Int32 → SX → Prop} {m p r : Nat} {R D : Nat → Nat} (hp : p ≤ 6) (hA : ej_AW m R D af au) (hr : r ≤ 40)
    (K0 : ∀ Z, ej_MC m p R D sh r Z → Z ≤ r → post 0 (nI p, C, nI m, en, kn, us, fr, un, bu, bf, bt, af, au, pl, sh, pn))
    (K1 : ∀ Z (sh' : Nat → Int32), ej_MC m p R D sh r Z → r < Z → (∀ t, sh' t = if Z ≤ t + p ∧ t < r then 1 else sh t) → post 1 (nI p, C, nI m, en, kn, us, fr, un, bu, bf, bt, af, au, pl, sh', pn)) :
    ∀ n i Z, m < n + i → i ≤ m → Z ≤ 42 → (∀ j, j < i → 0 < ej_nw R D m r (D j) → Z ≤ ej_bd R D sh m p r (D j)) →
      (Z = 42 ∨ ∃ j, j < m ∧ 0 < ej_nw R D m r (D j) ∧ Z = ej_bd R D sh m p r (D j)) → wX_shutBefore_5 post (nI r) (nI p) C (nI m) en kn us fr un bu bf bt af au pl sh pn n (ej_e Z) (nI i) := by
  intro n
  have hm := hA.1
  induction n with
  | zero => intro i Z hn; omega
  | succ n ih =>
    intro i Z hn hi hZ h1 h2
    by_cases h : m ≤ i
    · have : i = m := by omega
      subst this
      rw [wX_shutBefore_5]; dsimp only
      refine br_t (nI_le h (by omega)) (ej_if (ej_nle (by omega) (by omega)) (fun g1 => ?_) (fun g1 => K0 Z ⟨h1, h2⟩ (by omega)))
      rw [nI_add]
      refine ej_if (ej_nle (by omega) (by omega)) (fun g2 => ?_) (fun g2 => ?_)
      · refine K1 Z sh ⟨h1, h2⟩ g1 (fun t => ?_)
        rw [if_neg (by omega)]
      · have e : ej_e Z - nI p = ej_z ((Z : Int) - 1 - p) := by unfold ej_e; rw [ej_zn, ej_zsub]
        rw [e]
        refine ej_sbw (by omega) (by omega) (by omega) (fun sh' hs => K1 Z sh' ⟨h1, h2⟩ g1 (fun t => ?_))
        rw [hs t]
        by_cases g3 : Z ≤ t + p ∧ t < r
        · rw [if_pos g3, if_pos (by omega)]
        · rw [if_neg g3, if_neg (by omega)]
    · obtain ⟨e1, e2, e3, e4⟩ := hA.2 i (by omega)
      have ec : (nI i).toNatClampNeg = i := nI_clamp (by omega)
      have hcn : ej_nw R D m r (D i) ≤ m := ej_cn_le _ m
      rw [wX_shutBefore_5]; dsimp only; rw [ec, e3]
      refine br_f (nI_ge (by omega) (by omega)) ⟨vp_in_nI (by omega) (by omega), nm_e (ej_cww hA hr e4 (ej_bfw hp (by omega) e4 (fun hz => ?_) (fun hz => ?_)))⟩
      · have e41 : (41 : Int32) = ej_e 42 := by decide
        rw [e41]
        refine ej_if (ej_ele (by omega) (by omega)) (fun _ => ?_) (fun g => by omega)
        refine nm_r (nI_1 i) (ih (i + 1) Z (by omega) (by omega) hZ (fun j hj hn => ?_) h2)
        by_cases e : j = i
        · subst e; omega
        · exact h1 j (by omega) hn
      · have hb : ej_bk sh p (ej_nw R D m r (D i)) (D i + 1) ≤ D i + 1 := ej_bk_le _ _ _ _
        refine ej_if (ej_ele (by omega) (by omega)) (fun g => ?_) (fun g => ?_)
        · refine nm_r (nI_1 i) (ih (i + 1) Z (by omega) (by omega) hZ (fun j hj hn => ?_) h2)
          by_cases e : j = i
          · subst e; exact g
          · exact h1 j (by omega) hn
        · refine nm_r (nI_1 i) (ih (i + 1) _ (by omega) (by omega) (by omega) (fun j hj hn => ?_) (Or.inr ⟨i, by omega, hz, rfl⟩))
          by_cases e : j = i
          · subst e; exact Nat.le_refl _
          · have := h1 j (by omega) hn; omega
theorem ej_sfw {post : Int32 → SX → Prop} {m p r : Nat} {R D : Nat → Nat} (hp : p ≤ 6) (hA : ej_AW m R D af au) (hr : r ≤ 40)
    (K0 : ∀ Z, ej_MC m p R D sh r Z → Z ≤ r → post 0 (nI p, C, nI m, en, kn, us, fr, un, bu, bf, bt, af, au, pl, sh, pn))
    (K1 : ∀ Z (sh' : Nat → Int32), ej_MC m p R D sh r Z → r < Z → (∀ t, sh' t = if Z ≤ t + p ∧ t < r then 1 else sh t) → post 1 (nI p, C, nI m, en, kn, us, fr, un, bu, bf, bt, af, au, pl, sh', pn)) :
    wpX_shutBefore post (nI p, C, nI m, en, kn, us, fr, un, bu, bf, bt, af, au, pl, sh, pn) (nI r) := by
  have e41 : (41 : Int32) = ej_e 42 := by decide
  refine ⟨m + 1, ?_⟩
  rw [e41]
  exact ej_sf hp hA hr K0 K1 (m + 1) 0 42 (by omega) (by omega) (by omega) (fun j hj => by omega) (Or.inl rfl)
theorem ej_dp {post : Int32 → SX → Prop} {m p ab : Nat} {B : Nat → Prop} {R D : Nat → Nat} (hp : 0 < p) (hp6 : p ≤ 6) (hA : ej_AW m R D af au)
    (hF : ej_FI m p B R D sh ab) (hP : ∀ i, i < m → ab ≤ R i)
    (K : ∀ (T : Nat) (pl : Nat → Int32), T ≤ 40 → ej_Sch p B (fun i => i < m) R (fun i => min (D i) T) → (∀ E, ej_Sch p B (fun i => i < m) R (fun i => min (D i) E) → T ≤ E) → post 1 (nI p, C, nI m, nI T, kn, us, fr, un, bu, bf, bt, af, au, pl, sh, pn)) :
    ∀ n k t (pl : Nat → Int32), m < n + k → k ≤ m → ej_DI m p R D sh pl k t → wX_dispatch_27 post (nI p) C (nI m) en kn n (nI t) (nI k) us fr un bu bf bt af au pl sh pn := by
  intro n
  have hm := hA.1
  have hD : ∀ i, i < m → D i ≤ 40 := fun i hi => (hA.2 i hi).2.2.2
  have hR : ∀ i, i < m → R i ≤ 40 := fun i hi => (hA.2 i hi).2.1
  induction n with
  | zero => intro k t pl hn; omega
  | succ n ih =>
    intro k t pl hn hk hI
    by_cases h : m ≤ k
    · have : k = m := by omega
      subst this
      obtain ⟨K1, K2⟩ := ej_end hp hF hD hI
      exact br_t (nI_le h (by omega)) (K t pl hI.2.1 K1 K2)
    · have ht := hI.2.1
      have step : ∀ rd x, rd ≤ 41 → (∀ i, i < m → pl i = 0 → rd ≤ R i) → (rd = 41 ∨ ∃ i, i < m ∧ pl i = 0 ∧ R i = rd) → ((rd ≤ t ∧ x = t) ∨ (t < rd ∧ x = rd)) →
          wX_dispatch_51 post (wX_dispatch_27 post (nI p) C (nI m) en kn n) (nI k) (nI x) (nI p) C (nI m) en kn us fr un bu bf bt af au pl sh pn := by
        intro rd x hrd h1 h2 hx
        have hS := ej_mid hI h1 hx
        have hw : ∃ i, i < m ∧ pl i = 0 ∧ R i = rd := by
          rcases h2 with e | h2
          · obtain ⟨i, hi, hpi⟩ := ej_DI_w hI (by omega)
            have := h1 i hi hpi
            have := hR i hi
            omega
          · exact h2
        unfold wX_dispatch_51
        refine ej_oaaw (by omega) (fun t1 q1 q2 q3 q4 => ?_)
        refine ej_murw hA (by omega) (fun b hb hmu => ?_)
        rcases hmu with ⟨_, hno⟩ | ⟨j, rfl, hj, hpj, hrj, hu⟩
        · obtain ⟨i, hi, hpi, e⟩ := hw
          exact absurd (by omega) (hno i hi hpi)
        · obtain ⟨f1, f2, f3, f4⟩ := hA.2 j hj
          have ec : (nI j).toNatClampNeg = j := nI_clamp (by omega)
          rw [ej_es, ec, f3, nI_add]
          refine br_f (nI_pos (by omega)) ⟨vp_in_nI (by omega) (by omega), ?_⟩
          refine ej_if (nI_leI (by omega) (by omega)) (fun g => ?_) (fun g => ?_)
          · rw [ej_b1]
            refine ⟨vp_in_nI (by omega) (by omega), nm_e (nm_e (nm_r (nI_1 k) (ih (k + 1) (t1 + p) _ (by omega) (by omega) ?_)))⟩
            refine ej_step (x := x) hI f4 hj hpj hS (by omega) q1 q3 ?_ hrj hu g
            rcases q4 with z | z
            · omega
            · exact z
          · exact (ej_fail hR (fun i hi => hF.2.2 i hi (hP i hi)) hj hpj (hS (D j)) q3 (by omega)).elim
      rw [wX_dispatch_27]; dsimp only
      refine br_f (nI_ge (by omega) (by omega)) (ej_lwrw hA (fun rd hb h2 h1 => ?_))
      exact ej_if (nI_leI (by omega) (by omega)) (fun g => step rd t hb h1 h2 (Or.inl ⟨g, rfl⟩)) (fun g => step rd rd hb h1 h2 (Or.inr ⟨by omega, rfl⟩))
theorem ej_dpw {post : Int32 → SX → Prop} {m p ab : Nat} {B : Nat → Prop} {R D : Nat → Nat} (hp : 0 < p) (hp6 : p ≤ 6) (hA : ej_AW m R D af au)
    (hF : ej_FI m p B R D sh ab) (hP : ∀ i, i < m → ab ≤ R i)
    (K : ∀ (T : Nat) (pl : Nat → Int32), T ≤ 40 → ej_Sch p B (fun i => i < m) R (fun i => min (D i) T) → (∀ E, ej_Sch p B (fun i => i < m) R (fun i => min (D i) E) → T ≤ E) → post 1 (nI p, C, nI m, nI T, kn, us, fr, un, bu, bf, bt, af, au, pl, sh, pn)) :
    wpX_dispatch post (nI p, C, nI m, en, kn, us, fr, un, bu, bf, bt, af, au, pl, sh, pn) := by
  have hm := hA.1
  have key : ∀ n i (pl : Nat → Int32), m < n + i → i ≤ m → (∀ t, t < i → pl t = 0) → wX_dispatch_2 post (nI p) C (nI m) en kn n (nI i) us fr un bu bf bt af au pl sh pn := by
    intro n
    induction n with
    | zero => intro i pl hn; omega
    | succ n ih =>
      intro i pl hn hi hs
      by_cases g : m ≤ i
      · refine br_t (nI_le g (by omega)) ⟨m + 1, ej_dp hp hp6 hA hF hP K (m + 1) 0 0 pl (by omega) (by omega) (ej_DI_0 (fun t ht => hs t (by omega)))⟩
      · have ec : (nI i).toNatClampNeg = i := nI_clamp (by omega)
        rw [wX_dispatch_2]; dsimp only; rw [ec, ej_b0]
        refine br_f (nI_ge (by omega) (by omega)) ⟨vp_in_nI (by omega) (by omega), nm_e (nm_r (nI_1 i) (ih (i + 1) _ (by omega) (by omega) (fun t ht => ?_)))⟩
        by_cases e : t = i
        · rw [e]; exact ej_us
        · rw [ej_un e]; exact hs t (by omega)
  exact ⟨m + 1, key (m + 1) 0 pl (by omega) (by omega) (fun t ht => by omega)⟩
/-- what feasible answers, over indices -/
def ej_FA (p : Nat) (B S : Nat → Prop) (lo hi : Nat → Nat) (r en : Int32) : Prop :=
  (r = 1 ∧ ej_Sch p B S lo hi ∧ ∃ T, en = nI T ∧ T ≤ 40 ∧ ej_Sch p B S lo (fun i => min (hi i) T) ∧ ∀ E, ej_Sch p B S lo (fun i => min (hi i) E) → T ≤ E) ∨ (r = 0 ∧ ¬ ej_Sch p B S lo hi)
theorem ej_fe {post : Int32 → SX → Prop} {m p : Nat} {B : Nat → Prop} {R D : Nat → Nat} (hp : 0 < p) (hp6 : p ≤ 6) (hA : ej_AW m R D af au)
    (K : ∀ (r en : Int32) (pl sh : Nat → Int32), ej_FA p B (fun i => i < m) R D r en → post r (nI p, C, nI m, en, kn, us, fr, un, bu, bf, bt, af, au, pl, sh, pn)) :
    ∀ n x ab (sh : Nat → Int32), 8 < n + x → x + ej_cn (fun i => decide (R i < ab)) m ≤ 7 → ab ≤ 41 → ej_FI m p B R D sh ab → wX_feasible_9 post n (nI ab) (nI x) (nI p) C (nI m) en kn us fr un bu bf bt af au pl sh pn := by
  intro n
  have hm := hA.1
  have hD : ∀ i, i < m → D i ≤ 40 := fun i hi => (hA.2 i hi).2.2.2
  induction n with
  | zero => intro x ab sh hn hx; omega
  | succ n ih =>
    intro x ab sh hn hx hab hF
    rw [wX_feasible_9]; dsimp only
    refine br_f (nI_ge (b := 8) (by omega) (by omega)) ?_
    refine ej_grbw hA hab (fun b hb h1 h2 => ?_)
    refine ej_if (ej_0le (by omega)) (fun g => ?_) (fun g => ?_)
    · obtain ⟨i, hi, e1, e2⟩ : ∃ i, i < m ∧ R i + 1 = b ∧ R i < ab := by
        rcases h1 with z | z
        · omega
        · exact z
      subst e1
      rw [ej_es]
      have hRi := (hA.2 i hi).2.1
      refine ej_sfw hp6 hA hRi (fun Z hZ hz => ?_) (fun Z sh' hZ hz hs => ?_)
      · refine br_t rfl (K 0 _ _ _ (Or.inr ⟨rfl, ej_FI_no hp hF hRi hZ hz⟩))
      · refine br_f (by decide) (nm_r (nI_1 x) (ih (x + 1) (R i) sh' (by omega) ?_ (by omega) (ej_FI_go hp hF e2 ⟨i, hi, rfl⟩ (fun j hj hr => by have := h2 j hj hr; omega) hD hZ hz hs)))
        have := ej_cn_add (P := fun j => decide (R j < R i)) (Q := fun j => decide (R j < ab)) (i0 := i) (by simp) (by simpa using e2) m hi (fun j hj hr => by
          simp only [decide_eq_true_eq] at hr ⊢
          omega)
        omega
    · have hP : ∀ i, i < m → ab ≤ R i := fun i hi => by
        rcases Nat.lt_or_ge (R i) ab with z | z
        · have := h2 i hi z; omega
        · exact z
      refine ej_dpw hp hp6 hA hF hP (fun T pl hT K1 K2 => ⟨narrow_b1, K 1 _ _ _ (Or.inl ⟨rfl, ?_, T, rfl, hT, K1, K2⟩)⟩)
      exact ej_mo K1 (fun _ z => z) (fun _ z => z) (fun _ _ => Nat.le_refl _) (fun i _ => Nat.min_le_left _ _)
theorem ej_few {post : Int32 → SX → Prop} {m p : Nat} {R D : Nat → Nat} (hp : 0 < p) (hp6 : p ≤ 6) (hA : ej_AW m R D af au) (hB : ej_BW bu bf bt)
    (K : ∀ (r en : Int32) (pl sh : Nat → Int32), ej_FA p (ej_BB p bu bf bt) (fun i => i < m) R D r en → post r (nI p, C, nI m, en, kn, us, fr, un, bu, bf, bt, af, au, pl, sh, pn)) : wpX_feasible post (nI p, C, nI m, en, kn, us, fr, un, bu, bf, bt, af, au, pl, sh, pn) := by
  have hm := hA.1
  refine ej_blw hp6 hB (fun sh hs => ⟨9, ?_⟩)
  refine ej_fe (B := ej_BB p bu bf bt) hp hp6 hA K 9 0 41 sh (by omega) ?_ (by omega) ⟨fun s h i hi => ?_, fun t ht => (hs t ht).mp, fun i hi h => ?_⟩
  · have := ej_cn_le (fun i => decide (R i < 41)) m
    omega
  · obtain ⟨a1, a2, a3⟩ := h.1 i hi
    have := (hA.2 i hi).2.2.2
    exact (hs (s i) (by omega)).mpr a3
  · have := (hA.2 i hi).2.1
    omega
end XF
end
section
/-- the windows asked about, by job numbers -/
def ej_QX (m : Nat) (af au : Nat → Int32) (S : Nat → Prop) (lo hi : Nat → Nat) : Prop :=
  ∃ e g : Nat → Nat, (∀ i, i < m → S (e i) ∧ g (e i) = i ∧ af i = nI (lo (e i)) ∧ au i = nI (hi (e i))) ∧ ∀ j, S j → g j < m ∧ e (g j) = j
theorem ej_QX0 {af au : Nat → Int32} {S : Nat → Prop} {lo hi : Nat → Nat} (h : ∀ j, ¬ S j) : ej_QX 0 af au S lo hi :=
  ⟨id, id, fun i hi => by omega, fun j hj => absurd hj (h j)⟩
theorem ej_QXc {m : Nat} {af au : Nat → Int32} {S S' : Nat → Prop} {lo hi lo' hi' : Nat → Nat} (q : ej_QX m af au S lo hi) (hS : ∀ j, S' j ↔ S j)
    (hl : ∀ j, S j → lo' j = lo j) (hh : ∀ j, S j → hi' j = hi j) : ej_QX m af au S' lo' hi' := by
  obtain ⟨e, g, he, hg⟩ := q
  refine ⟨e, g, fun i hi => ?_, fun j hj => hg j ((hS j).mp hj)⟩
  obtain ⟨a1, a2, a3, a4⟩ := he i hi
  exact ⟨(hS _).mpr a1, a2, by rw [hl _ a1]; exact a3, by rw [hh _ a1]; exact a4⟩
theorem ej_QXa {m j r d : Nat} {af au : Nat → Int32} {S S' : Nat → Prop} {lo hi lo' hi' : Nat → Nat} (q : ej_QX m af au S lo hi) (hj : ¬ S j)
    (hS : ∀ i, S' i ↔ S i ∨ i = j) (hl : ∀ i, S i → lo' i = lo i) (hh : ∀ i, S i → hi' i = hi i) (hlj : lo' j = r) (hhj : hi' j = d) :
    ej_QX (m + 1) (upd af m (nI r)) (upd au m (nI d)) S' lo' hi' := by
  obtain ⟨e, g, he, hg⟩ := q
  refine ⟨ej_up e m j, ej_up g j m, fun i hi => ?_, fun i hi => ?_⟩
  · by_cases z : i = m
    · subst z
      rw [ej_ups, ej_ups, ej_us, ej_us, hlj, hhj]
      exact ⟨(hS j).mpr (Or.inr rfl), rfl, rfl, rfl⟩
    · obtain ⟨a1, a2, a3, a4⟩ := he i (by omega)
      have hne : e i ≠ j := fun z => hj (z ▸ a1)
      rw [ej_upn z, ej_upn hne, ej_un z, ej_un z, hl _ a1, hh _ a1]
      exact ⟨(hS _).mpr (Or.inl a1), a2, a3, a4⟩
  · by_cases z : i = j
    · subst z
      rw [ej_ups, ej_ups]
      exact ⟨by omega, rfl⟩
    · rcases (hS i).mp hi with a | a
      · obtain ⟨a1, a2⟩ := hg i a
        rw [ej_upn z, ej_upn (by omega)]
        exact ⟨by omega, a2⟩
      · exact absurd a z
section XA
variable {L C ak en kn : Int32} {us fr un bu bf bt af au pl sh pn : Nat → Int32}
theorem ej_fq {post : Int32 → SX → Prop} {m p : Nat} {S : Nat → Prop} {lo hi : Nat → Nat} (hp : 0 < p) (hp6 : p ≤ 6) (hm : m ≤ 7) (q : ej_QX m af au S lo hi)
    (hw : ∀ j, S j → lo j ≤ 40 ∧ hi j ≤ 40) (hB : ej_BW bu bf bt)
    (K : ∀ (r en : Int32) (pl sh : Nat → Int32), ej_FA p (ej_BB p bu bf bt) S lo hi r en → post r (nI p, C, nI m, en, kn, us, fr, un, bu, bf, bt, af, au, pl, sh, pn)) : wpX_feasible post (nI p, C, nI m, en, kn, us, fr, un, bu, bf, bt, af, au, pl, sh, pn) := by
  obtain ⟨e, g, he, hg⟩ := q
  have T : ∀ h : Nat → Nat, ej_Sch p (ej_BB p bu bf bt) (fun i => i < m) (fun i => lo (e i)) (fun i => h (e i)) ↔ ej_Sch p (ej_BB p bu bf bt) S lo h :=
    fun h => ej_tr (fun i hi => ⟨(he i hi).1, (he i hi).2.1, rfl, rfl⟩) hg
  refine ej_few (R := fun i => lo (e i)) (D := fun i => hi (e i)) hp hp6 ⟨hm, fun i hi => ?_⟩ hB (fun r en pl sh h => K r en pl sh ?_)
  · obtain ⟨a1, a2, a3, a4⟩ := he i hi
    have := hw _ a1
    exact ⟨a3, this.1, a4, this.2⟩
  · rcases h with ⟨h1, h2, Tm, h3, h4, h5, h6⟩ | ⟨h1, h2⟩
    · exact Or.inl ⟨h1, (T hi).mp h2, Tm, h3, h4, (T (fun i => min (hi i) Tm)).mp h5, fun E hE => h6 E ((T (fun i => min (hi i) E)).mpr hE)⟩
    · exact Or.inr ⟨h1, fun z => h2 ((T hi).mpr z)⟩
theorem ej_ask {post : SX → Prop} {m p r d : Nat} {x y : Int32} (hm : m < 8) (hx : x = nI r) (hy : y = nI d) (hr : r < 128) (hd : d < 128)
    (K : post (nI p, C, nI (m + 1), en, kn, us, fr, un, bu, bf, bt, upd af m (nI r), upd au m (nI d), pl, sh, pn)) : wpX_ask post (nI p, C, nI m, en, kn, us, fr, un, bu, bf, bt, af, au, pl, sh, pn) x y := by
  subst hx hy
  have e1 : upd af (nI m).toNatClampNeg (vp_nar .byte (nI r).toInt8.toInt32) = upd af m (nI r) := by rw [nI_clamp (by omega), ej_by hr]
  have e2 : upd au (nI m).toNatClampNeg (vp_nar .byte (nI d).toInt8.toInt32) = upd au m (nI d) := by rw [nI_clamp (by omega), ej_by hd]
  exact br_f (nI_ge (b := 8) hm (by omega)) ⟨vp_in_nI hm (by omega), nm_r e1 ⟨vp_in_nI hm (by omega), nm_r e2 (nm_r (nI_1 m) K)⟩⟩
/-- what askPinned puts together -/
def ej_PW (p c pins : Nat) (id : Int32) (us fr un pn : Nat → Int32) (lo hi : Nat → Nat) : Prop :=
  ∀ j, j < c → ¬ us j = 0 → ¬ nI j = id → (j < pins → pn j = nI (lo j) ∧ hi j = lo j + p) ∧ (pins ≤ j → fr j = nI (lo j) ∧ un j = nI (hi j)) ∧ lo j ≤ 40 ∧ hi j ≤ 40
theorem ej_apl {post : SX → Prop} {p c pins : Nat} {id : Int32} {lo hi : Nat → Nat} (hc : c ≤ 6) (hpn : pins ≤ 6) (hW : ej_PW p c pins id us fr un pn lo hi)
    (K : ∀ (m : Nat) (af au : Nat → Int32), m ≤ c → ej_QX m af au (fun j => j < c ∧ ¬ us j = 0 ∧ ¬ nI j = id) lo hi → post (nI p, nI c, nI m, en, kn, us, fr, un, bu, bf, bt, af, au, pl, sh, pn)) :
    ∀ n i m (af au : Nat → Int32), c < n + i → i ≤ c → m ≤ i → ej_QX m af au (fun j => j < i ∧ ¬ us j = 0 ∧ ¬ nI j = id) lo hi →
      wX_askPinned_7 post id (nI pins) n (nI i) (nI p) (nI c) (nI m) en kn us fr un bu bf bt af au pl sh pn := by
  intro n
  induction n with
  | zero => intro i m af au hn; omega
  | succ n ih =>
    intro i m af au hn hic hmi q
    by_cases g : c ≤ i
    · have : i = c := by omega
      subst this
      exact br_t (nI_le g (by omega)) (K m af au hmi q)
    · have ec : (nI i).toNatClampNeg = i := nI_clamp (by omega)
      rw [wX_askPinned_7]; dsimp only; rw [ec]
      refine br_f (nI_ge (by omega) (by omega)) ⟨vp_in_nI (by omega) (by omega), ?_⟩
      refine br_c (fun g1 => ?_) (fun g1 => ?_)
      · refine nm_r (nI_1 i) (ih (i + 1) m af au (by omega) (by omega) (by omega) (ej_QXc q (fun j => ?_) (fun _ _ => rfl) (fun _ _ => rfl)))
        refine ⟨fun ⟨a1, a2, a3⟩ => ⟨?_, a2, a3⟩, fun ⟨a1, a2, a3⟩ => ⟨by omega, a2, a3⟩⟩
        have : j ≠ i := fun z => by subst z; exact a2 g1
        omega
      · refine br_c (fun g2 => ?_) (fun g2 => ?_)
        · refine nm_r (nI_1 i) (ih (i + 1) m af au (by omega) (by omega) (by omega) (ej_QXc q (fun j => ?_) (fun _ _ => rfl) (fun _ _ => rfl)))
          refine ⟨fun ⟨a1, a2, a3⟩ => ⟨?_, a2, a3⟩, fun ⟨a1, a2, a3⟩ => ⟨by omega, a2, a3⟩⟩
          have : j ≠ i := fun z => by subst z; exact a3 g2
          omega
        · obtain ⟨w1, w2, w3, w4⟩ := hW i (by omega) g1 g2
          have qn : ej_QX (m + 1) (upd af m (nI (lo i))) (upd au m (nI (hi i))) (fun j => j < i + 1 ∧ ¬ us j = 0 ∧ ¬ nI j = id) lo hi := by
            refine ej_QXa (j := i) q (fun z => by omega) (fun j => ?_) (fun _ _ => rfl) (fun _ _ => rfl) rfl rfl
            refine ⟨fun ⟨a1, a2, a3⟩ => ?_, fun z => ?_⟩
            · by_cases z : j = i
              · exact Or.inr z
              · exact Or.inl ⟨by omega, a2, a3⟩
            · rcases z with ⟨a1, a2, a3⟩ | z
              · exact ⟨by omega, a2, a3⟩
              · subst z; exact ⟨by omega, g1, g2⟩
          have nx := ih (i + 1) (m + 1) _ _ (by omega) (by omega) (by omega) qn
          refine ej_if (nI_leI (by omega) (by omega)) (fun g3 => ?_) (fun g3 => ?_)
          · obtain ⟨f1, f2⟩ := w2 g3
            unfold wX_askPinned_39
            refine br_t rfl ⟨vp_in_nI (by omega) (by omega), ?_⟩
            unfold wX_askPinned_61
            refine br_t rfl ⟨vp_in_nI (by omega) (by omega), ?_⟩
            unfold wX_askPinned_88
            exact ej_ask (r := lo i) (d := hi i) (by omega) (by rw [ec]; exact f1) (by rw [ec]; exact f2) (by omega) (by omega) (nm_r (nI_1 i) nx)
          · obtain ⟨f1, f2⟩ := w1 (by omega)
            unfold wX_askPinned_39
            refine br_f (by decide) ⟨vp_in_nI (by omega) (by omega), ?_⟩
            unfold wX_askPinned_61
            refine br_f (by decide) ⟨vp_in_nI (by omega) (by omega), ?_⟩
            unfold wX_askPinned_88
            exact ej_ask (r := lo i) (d := hi i) (by omega) (by rw [ec]; exact f1) (by rw [ec, f1, nI_add, f2]) (by omega) (by omega) (nm_r (nI_1 i) nx)
theorem ej_ap {post : SX → Prop} {p c pins : Nat} {id : Int32} {lo hi : Nat → Nat} (hc : c ≤ 6) (hpn : pins ≤ 6) (hW : ej_PW p c pins id us fr un pn lo hi)
    (K : ∀ (m : Nat) (af au : Nat → Int32), m ≤ c → ej_QX m af au (fun j => j < c ∧ ¬ us j = 0 ∧ ¬ nI j = id) lo hi → post (nI p, nI c, nI m, en, kn, us, fr, un, bu, bf, bt, af, au, pl, sh, pn)) :
    wpX_askPinned post (nI p, nI c, ak, en, kn, us, fr, un, bu, bf, bt, af, au, pl, sh, pn) id (nI pins) :=
  ⟨c + 1, ej_apl hc hpn hW K (c + 1) 0 0 af au (by omega) (by omega) (by omega) (ej_QX0 (fun j z => by omega))⟩
theorem ej_aab {post : SX → Prop} {p c : Nat} {id : Int32} {lo hi : Nat → Nat} (hc : c ≤ 6) (hW : ej_PW p c 0 id us fr un pn lo hi)
    (K : ∀ (m : Nat) (af au : Nat → Int32), m ≤ c → ej_QX m af au (fun j => j < c ∧ ¬ us j = 0 ∧ ¬ nI j = id) lo hi → post (nI p, nI c, nI m, en, kn, us, fr, un, bu, bf, bt, af, au, pl, sh, pn)) :
    wpX_askAllBut post (nI p, nI c, ak, en, kn, us, fr, un, bu, bf, bt, af, au, pl, sh, pn) id := by
  unfold wpX_askAllBut
  exact ej_ap (pins := 0) hc (by omega) hW (fun m af au h q => K m af au h q)
theorem ej_aa {post : SX → Prop} {p c : Nat} {lo hi : Nat → Nat} (hc : c ≤ 6) (hW : ej_PW p c 0 (-1) us fr un pn lo hi)
    (K : ∀ (m : Nat) (af au : Nat → Int32), m ≤ c → ej_QX m af au (fun j => j < c ∧ ¬ us j = 0) lo hi → post (nI p, nI c, nI m, en, kn, us, fr, un, bu, bf, bt, af, au, pl, sh, pn)) :
    wpX_askAll post (nI p, nI c, ak, en, kn, us, fr, un, bu, bf, bt, af, au, pl, sh, pn) := by
  unfold wpX_askAll
  refine ej_aab hc hW (fun m af au h q => K m af au h (ej_QXc q (fun j => ?_) (fun _ _ => rfl) (fun _ _ => rfl)))
  refine ⟨fun ⟨a1, a2⟩ => ⟨a1, a2, fun z => ?_⟩, fun ⟨a1, a2, _⟩ => ⟨a1, a2⟩⟩
  have h := nI_pos (n := j) (by omega)
  rw [z] at h
  exact h (by decide)
theorem ej_ra {post : SX → Prop} {m p c t : Nat} {R : Nat → Nat} (hm : m ≤ 7) (ht : t ≤ 40) (hR : ∀ i, i < m → R i ≤ 40)
    (K : ∀ af : Nat → Int32, (∀ i, i < m → af i = nI (max (R i) t)) → post (nI p, nI c, nI m, en, kn, us, fr, un, bu, bf, bt, af, au, pl, sh, pn)) :
    ∀ n i (af : Nat → Int32), m < n + i → i ≤ m → (∀ j, j < i → af j = nI (max (R j) t)) → (∀ j, i ≤ j → j < m → af j = nI (R j)) → wX_raise_2 post (nI t) (nI p) (nI c) (nI m) en kn n (nI i) us fr un bu bf bt af au pl sh pn := by
  intro n
  induction n with
  | zero => intro i af hn; omega
  | succ n ih =>
    intro i af hn hi h1 h2
    by_cases g : m ≤ i
    · have : i = m := by omega
      subst this
      exact br_t (nI_le g (by omega)) (K af h1)
    · have ec : (nI i).toNatClampNeg = i := nI_clamp (by omega)
      have e1 := h2 i (Nat.le_refl _) (by omega)
      have e2 := hR i (by omega)
      rw [wX_raise_2]; dsimp only; rw [ec, e1, ej_by (by omega)]
      refine br_f (nI_ge (by omega) (by omega)) ⟨vp_in_nI (by omega) (by omega), ?_⟩
      refine ej_if (nI_leI (by omega) (by omega)) (fun g1 => ?_) (fun g1 => ⟨vp_in_nI (by omega) (by omega), nm_e ?_⟩)
      · refine nm_r (nI_1 i) (ih (i + 1) af (by omega) (by omega) (fun j hj => ?_) (fun j hj hj2 => h2 j (by omega) hj2))
        by_cases z : j = i
        · subst z; rw [e1, Nat.max_eq_left g1]
        · exact h1 j (by omega)
      · refine nm_r (nI_1 i) (ih (i + 1) _ (by omega) (by omega) (fun j hj => ?_) (fun j hj hj2 => ?_))
        · by_cases z : j = i
          · subst z; rw [ej_us, Nat.max_eq_right (by omega)]
          · rw [ej_un z]; exact h1 j (by omega)
        · rw [ej_un (by omega)]; exact h2 j (by omega) hj2
theorem ej_raw {post : SX → Prop} {m p c t : Nat} {S : Nat → Prop} {lo hi : Nat → Nat} (hm : m ≤ 7) (ht : t ≤ 40) (q : ej_QX m af au S lo hi) (hw : ∀ j, S j → lo j ≤ 40)
    (K : ∀ af : Nat → Int32, ej_QX m af au S (fun j => max (lo j) t) hi → post (nI p, nI c, nI m, en, kn, us, fr, un, bu, bf, bt, af, au, pl, sh, pn)) : wpX_raise post (nI p, nI c, nI m, en, kn, us, fr, un, bu, bf, bt, af, au, pl, sh, pn) (nI t) := by
  obtain ⟨e, g, he, hg⟩ := q
  refine ⟨m + 1, ej_ra (R := fun i => lo (e i)) hm ht (fun i hi => hw _ (he i hi).1) (fun af' h => K af' ⟨e, g, fun i hi => ?_, hg⟩) (m + 1) 0 af (by omega) (by omega) (fun j hj => by omega) (fun j _ hj => (he j hj).2.2.1)⟩
  exact ⟨(he i hi).1, (he i hi).2.1, h i hi, (he i hi).2.2.2⟩
end XA
end
section
/-! bits -/
theorem ej_or' : ∀ a, a < 128 → ∀ j, j < 7 → nI a ||| ((1 : Int32) <<< (nI j &&& 31)) = nI (a ||| 2 ^ j) := by decide +kernel
theorem ej_tb' : ∀ a, a < 128 → ∀ j, j < 7 → ((nI a >>> (nI j &&& 31)) &&& 1) = if a.testBit j = true then 1 else 0 := by decide +kernel
theorem ej_a127 : ∀ a, a < 128 → nI a &&& 127 = nI a := by decide +kernel
theorem ej_mul (a b : Nat) : nI a * nI b = nI (a * b) := (Int32.ofNat_mul a b).symm
theorem ej_tb1 {a j : Nat} (ha : a < 128) (hj : j < 7) : ((nI a >>> (nI j &&& 31)) &&& 1) = 1 ↔ a.testBit j = true := by
  rw [ej_tb' a ha j hj]
  by_cases h : a.testBit j = true
  · rw [if_pos h]; exact ⟨fun _ => h, fun _ => rfl⟩
  · rw [if_neg h]; exact ⟨fun z => absurd z (by decide), fun z => absurd z h⟩
theorem ej_tb0 {a j : Nat} (ha : a < 128) (hj : j < 7) : ((nI a >>> (nI j &&& 31)) &&& 1) = 0 ↔ a.testBit j = false := by
  rw [ej_tb' a ha j hj]
  by_cases h : a.testBit j = true
  · rw [if_pos h, h]; exact ⟨fun z => absurd z (by decide), fun z => absurd z (by decide)⟩
  · rw [if_neg h]; exact ⟨fun _ => by simpa using h, fun _ => rfl⟩
/-- the reference's question -/
def ej_YQ (A : Nat) (lo hi : Nat → Int32) (S : Nat → Prop) (l h : Nat → Nat) : Prop :=
  A < 128 ∧ (∀ j, A.testBit j = true ↔ S j) ∧ ∀ j, S j → lo j = nI (l j) ∧ hi j = nI (h j)
theorem ej_YQ0 {lo hi : Nat → Int32} {S : Nat → Prop} {l h : Nat → Nat} (hS : ∀ j, ¬ S j) : ej_YQ 0 lo hi S l h :=
  ⟨by omega, fun j => ⟨fun z => by rw [Nat.zero_testBit] at z; exact absurd z Bool.false_ne_true, fun z => absurd z (hS j)⟩, fun j z => absurd z (hS j)⟩
theorem ej_YQc {A : Nat} {lo hi : Nat → Int32} {S S' : Nat → Prop} {l h l' h' : Nat → Nat} (q : ej_YQ A lo hi S l h) (hS : ∀ j, S' j ↔ S j)
    (hl : ∀ j, S j → l' j = l j) (hh : ∀ j, S j → h' j = h j) : ej_YQ A lo hi S' l' h' := by
  refine ⟨q.1, fun j => (q.2.1 j).trans (hS j).symm, fun j hj => ?_⟩
  have hj' := (hS j).mp hj
  rw [hl j hj', hh j hj']
  exact q.2.2 j hj'
theorem ej_YQa {A j r d : Nat} {lo hi : Nat → Int32} {S S' : Nat → Prop} {l h l' h' : Nat → Nat} (q : ej_YQ A lo hi S l h) (hj : j < 7)
    (hS : ∀ i, S' i ↔ S i ∨ i = j) (hl : ∀ i, S i → i ≠ j → l' i = l i) (hh : ∀ i, S i → i ≠ j → h' i = h i) (hlj : l' j = r) (hhj : h' j = d) :
    ej_YQ (A ||| 2 ^ j) (upd lo j (nI r)) (upd hi j (nI d)) S' l' h' := by
  refine ⟨ej_or7 q.1 hj, fun i => ?_, fun i hi => ?_⟩
  · rw [ej_tor, hS, q.2.1]
  · by_cases e : i = j
    · subst e; rw [ej_us, ej_us, hlj, hhj]; exact ⟨rfl, rfl⟩
    · rcases (hS i).mp hi with z | z
      · rw [ej_un e, ej_un e, hl i z e, hh i z e]; exact q.2.2 i z
      · exact absurd z e
section YW
variable {L C al : Int32} {us fr un bu bf bt lo hi cn : Nat → Int32}
theorem ej_ycl {post : Int32 → Prop} {p t : Nat} (hp : p ≤ 6) (ht : t ≤ 40) (hB : ej_BW bu bf bt) (K0 : ej_BB p bu bf bt t → post 0) (K1 : ¬ ej_BB p bu bf bt t → post 1) :
    ∀ n k (v : Int32), 4 < n + k → k ≤ 4 → ((v = 1 ∧ ¬ ∃ k', k' < k ∧ ¬ bu k' = 0 ∧ ej_cl bf k' < t + p ∧ t < ej_cl bt k') ∨ (v = 0 ∧ ∃ k', k' < k ∧ ¬ bu k' = 0 ∧ ej_cl bf k' < t + p ∧ t < ej_cl bt k')) →
      wY_clear_4 post (nI t) (nI p) C al us fr un bu bf bt lo hi cn n v (nI k) := by
  intro n
  induction n with
  | zero => intro k v hn; omega
  | succ n ih =>
    intro k v hn hk hv
    by_cases g : 4 ≤ k
    · have : k = 4 := by omega
      subst this
      rw [wY_clear_4]; dsimp only
      rcases hv with ⟨rfl, h⟩ | ⟨rfl, h⟩
      · exact br_t (nI_le (a := 4) g (by omega)) ⟨narrow_b1, K1 h⟩
      · exact br_t (nI_le (a := 4) g (by omega)) ⟨narrow_b0, K0 h⟩
    · have ec : (nI k).toNatClampNeg = k := nI_clamp (by omega)
      have keep : (bu k = 0 ∨ ¬ (ej_cl bf k < t + p ∧ t < ej_cl bt k)) → wY_clear_4 post (nI t) (nI p) C al us fr un bu bf bt lo hi cn n v (nI (k + 1)) := by
        intro hno
        have hiff : (∃ k', k' < k + 1 ∧ ¬ bu k' = 0 ∧ ej_cl bf k' < t + p ∧ t < ej_cl bt k') ↔ (∃ k', k' < k ∧ ¬ bu k' = 0 ∧ ej_cl bf k' < t + p ∧ t < ej_cl bt k') := by
          refine ⟨fun ⟨k', a1, a2, a3⟩ => ⟨k', ?_, a2, a3⟩, fun ⟨k', a1, a2⟩ => ⟨k', by omega, a2⟩⟩
          have : k' ≠ k := fun e => by
            subst e
            rcases hno with z | z
            · exact a2 z
            · exact z a3
          omega
        refine ih (k + 1) v (by omega) (by omega) ?_
        rcases hv with ⟨e, h⟩ | ⟨e, h⟩
        · exact Or.inl ⟨e, fun z => h (hiff.mp z)⟩
        · exact Or.inr ⟨e, hiff.mpr h⟩
      rw [wY_clear_4]; dsimp only; rw [ec]
      refine br_f (nI_ge (b := 4) (by omega) (by omega)) ⟨vp_in_nI (by omega) (by omega), ?_⟩
      refine br_c (fun g1 => nm_r (nI_1 k) (keep (Or.inl g1))) (fun g1 => ⟨vp_in_nI (by omega) (by omega), ?_⟩)
      obtain ⟨a, b, e1, e2, ha, hb⟩ := hB k (by omega) g1
      have c1 : ej_cl bf k = a := ej_cle e1 (by omega)
      have c2 : ej_cl bt k = b := ej_cle e2 (by omega)
      rw [e1, e2, nI_add]
      refine ej_if (nI_leI (by omega) (by omega)) (fun g2 => nm_r (nI_1 k) (keep (Or.inr (by omega)))) (fun g2 => ⟨vp_in_nI (by omega) (by omega), ?_⟩)
      refine ej_if (nI_leI (by omega) (by omega)) (fun g3 => nm_r (nI_1 k) (keep (Or.inr (by omega)))) (fun g3 => ?_)
      exact nm_r (nI_1 k) (ih (k + 1) 0 (by omega) (by omega) (Or.inr ⟨rfl, k, by omega, g1, by omega, by omega⟩))
theorem ej_yclw {post : Int32 → Prop} {p t : Nat} (hp : p ≤ 6) (ht : t ≤ 40) (hB : ej_BW bu bf bt) (K0 : ej_BB p bu bf bt t → post 0) (K1 : ¬ ej_BB p bu bf bt t → post 1) :
    wpY_clear post (nI p, C, al, us, fr, un, bu, bf, bt, lo, hi, cn) (nI t) :=
  ⟨5, ej_ycl hp ht hB K0 K1 5 0 1 (by omega) (by omega) (Or.inl ⟨rfl, fun ⟨k', a, _⟩ => by omega⟩)⟩
/-- job j may follow the set a at t -/
def ej_jc (p A : Nat) (l h : Nat → Nat) (t a j : Nat) : Prop := A.testBit j = true ∧ a.testBit j = false ∧ l j ≤ t ∧ t + p ≤ h j
theorem ej_yel {post : SY → Prop} {p t a A : Nat} {S : Nat → Prop} {l h : Nat → Nat} {cn0 : Nat → Int32} (q : ej_YQ A lo hi S l h) (hw : ∀ j, S j → l j ≤ 40 ∧ h j ≤ 40) (htp : t + p ≤ 40) (ha : a < 128)
    (K : ∀ cn : Nat → Int32, (∀ x, cn x = cn0 x ∨ (cn x = 1 ∧ ∃ j, j < 7 ∧ ej_jc p A l h t a j ∧ x = (t + p) * 128 + (a ||| 2 ^ j))) →
      (∀ j, j < 7 → ej_jc p A l h t a j → cn ((t + p) * 128 + (a ||| 2 ^ j)) = 1) → post (nI p, C, nI A, us, fr, un, bu, bf, bt, lo, hi, cn)) :
    ∀ n j (cn : Nat → Int32), 7 < n + j → j ≤ 7 → (∀ x, cn x = cn0 x ∨ (cn x = 1 ∧ ∃ j', j' < j ∧ ej_jc p A l h t a j' ∧ x = (t + p) * 128 + (a ||| 2 ^ j'))) →
      (∀ j', j' < j → ej_jc p A l h t a j' → cn ((t + p) * 128 + (a ||| 2 ^ j')) = 1) → wY_extend_43 post (nI t) (nI a) (nI p) C (nI A) n (nI j) us fr un bu bf bt lo hi cn := by
  intro n
  have hA := q.1
  induction n with
  | zero => intro j cn hn; omega
  | succ n ih =>
    intro j cn hn hj h1 h2
    by_cases g : 7 ≤ j
    · have : j = 7 := by omega
      subst this
      exact br_t (nI_le (a := 7) g (by omega)) (K cn h1 h2)
    · have ec : (nI j).toNatClampNeg = j := nI_clamp (by omega)
      have keep : ¬ ej_jc p A l h t a j → wY_extend_43 post (nI t) (nI a) (nI p) C (nI A) n (nI (j + 1)) us fr un bu bf bt lo hi cn := by
        intro hno
        refine ih (j + 1) cn (by omega) (by omega) (fun x => ?_) (fun j' hj' hc => ?_)
        · rcases h1 x with z | ⟨z, j', a1, a2⟩
          · exact Or.inl z
          · exact Or.inr ⟨z, j', by omega, a2⟩
        · have : j' ≠ j := fun e => by subst e; exact hno hc
          exact h2 j' (by omega) hc
      rw [wY_extend_43]; dsimp only
      refine br_f (nI_ge (b := 7) (by omega) (by omega)) (ej_if (ej_tb1 hA (by omega)) (fun g1 => ?_) (fun g1 => ?_))
      · obtain ⟨el, eh⟩ := q.2.2 j ((q.2.1 j).mp g1)
        obtain ⟨bl, bh⟩ := hw j ((q.2.1 j).mp g1)
        refine ej_if (ej_tb0 ha (by omega)) (fun g2 => ?_) (fun g2 => ?_)
        · unfold wY_extend_74
          rw [ec, el, eh, nI_add]
          refine br_f (by decide) ⟨vp_in_nI (by omega) (by omega), ?_⟩
          refine ej_if (nI_ltI (by omega) (by omega)) (fun g3 => nm_r (nI_1 j) (keep (fun z => by have := z.2.2.1; omega))) (fun g3 => ⟨vp_in_nI (by omega) (by omega), ?_⟩)
          refine ej_if (nI_ltI (by omega) (by omega)) (fun g4 => nm_r (nI_1 j) (keep (fun z => by have := z.2.2.2; omega))) (fun g4 => ?_)
          have hc : ej_jc p A l h t a j := ⟨g1, g2, by omega, by omega⟩
          have ha2 := ej_or7 ha (by omega : j < 7)
          have ex : nI (t + p) * 128 + (nI a ||| ((1 : Int32) <<< (nI j &&& 31))) = nI ((t + p) * 128 + (a ||| 2 ^ j)) := by
            rw [ej_or' a ha j (by omega), show (128 : Int32) = nI 128 from rfl, ej_mul, nI_add]
          rw [ex, nI_clamp (by omega), ej_b1]
          refine ⟨vp_in_nI (by omega) (by omega), nm_e (nm_r (nI_1 j) (ih (j + 1) _ (by omega) (by omega) (fun x => ?_) (fun j' hj' hc' => ?_)))⟩
          · by_cases e : x = (t + p) * 128 + (a ||| 2 ^ j)
            · rw [e]; exact Or.inr ⟨ej_us, j, by omega, hc, rfl⟩
            · rw [ej_un e]
              rcases h1 x with z | ⟨z, j', a1, a2⟩
              · exact Or.inl z
              · exact Or.inr ⟨z, j', by omega, a2⟩
          · by_cases e : (t + p) * 128 + (a ||| 2 ^ j') = (t + p) * 128 + (a ||| 2 ^ j)
            · rw [e]; exact ej_us
            · rw [ej_un e]
              have : j' ≠ j := fun z => e (by rw [z])
              exact h2 j' (by omega) hc'
        · unfold wY_extend_73 wY_extend_74
          exact br_t rfl (nm_r (nI_1 j) (keep (fun z => g2 z.2.1)))
      · unfold wY_extend_73 wY_extend_74
        exact br_t rfl (nm_r (nI_1 j) (keep (fun z => g1 z.1)))
theorem ej_ye1 {post : SY → Prop} {p t a A : Nat} {S : Nat → Prop} {l h : Nat → Nat} {cn0 : Nat → Int32} (hp : p ≤ 6) (ht : t ≤ 40) (q : ej_YQ A lo hi S l h) (hw : ∀ j, S j → l j ≤ 40 ∧ h j ≤ 40) (ha : a < 128) (hB : ej_BW bu bf bt)
    (c1 : ∀ x, cn x = cn0 x ∨ (cn x = 1 ∧ t < 40 ∧ x = (t + 1) * 128 + a)) (c2 : t < 40 → cn ((t + 1) * 128 + a) = 1)
    (K : ∀ cn : Nat → Int32, ej_EX p (ej_BB p bu bf bt) A l h t a cn0 cn → post (nI p, C, nI A, us, fr, un, bu, bf, bt, lo, hi, cn)) : wY_extend_21 post (nI t) (nI a) (nI p) C (nI A) us fr un bu bf bt lo hi cn := by
  have stop : (40 < t + p ∨ ej_BB p bu bf bt t) → post (nI p, C, nI A, us, fr, un, bu, bf, bt, lo, hi, cn) := by
    intro hno
    refine K cn ⟨fun x => ?_, fun x hx => ?_⟩
    · rcases c1 x with z | ⟨z, z1, z2⟩
      · exact Or.inl z
      · exact Or.inr ⟨z, Or.inl ⟨z1, z2⟩⟩
    · rcases hx with ⟨z1, z2⟩ | ⟨z1, z2, _⟩
      · rw [z2]; exact c2 z1
      · rcases hno with w | w
        · omega
        · exact absurd w z2
  unfold wY_extend_21
  rw [nI_add]
  refine ej_if (nI_ltI (a := 40) (by omega) (by omega)) (fun g => stop (Or.inl g)) (fun g => ?_)
  refine ej_yclw hp ht hB (fun gB => br_t rfl (stop (Or.inr gB))) (fun gB => br_f (by decide) ⟨8, ?_⟩)
  refine ej_yel (cn0 := cn) q hw (by omega) ha (fun cn' h1 h2 => K cn' ⟨fun x => ?_, fun x hx => ?_⟩) 8 0 cn (by omega) (by omega) (fun x => Or.inl rfl) (fun j' hj' => by omega)
  · rcases h1 x with z | ⟨z, j, hj, ⟨b1, b2, b3, b4⟩, e⟩
    · rw [z]
      rcases c1 x with z | ⟨z, z1, z2⟩
      · exact Or.inl z
      · exact Or.inr ⟨z, Or.inl ⟨z1, z2⟩⟩
    · exact Or.inr ⟨z, Or.inr ⟨by omega, gB, j, hj, b1, b2, b3, b4, e⟩⟩
  · rcases hx with ⟨z1, z2⟩ | ⟨z1, z2, j, hj, b1, b2, b3, b4, e⟩
    · rcases h1 x with z | ⟨z, _⟩
      · rw [z, z2]; exact c2 z1
      · exact z
    · rw [e]; exact h2 j hj ⟨b1, b2, b3, b4⟩
theorem ej_yew {post : SY → Prop} {p t a A : Nat} {S : Nat → Prop} {l h : Nat → Nat} (hp : p ≤ 6) (ht : t ≤ 40) (q : ej_YQ A lo hi S l h) (hw : ∀ j, S j → l j ≤ 40 ∧ h j ≤ 40) (ha : a < 128) (hB : ej_BW bu bf bt)
    (K : ∀ cn' : Nat → Int32, ej_EX p (ej_BB p bu bf bt) A l h t a cn cn' → post (nI p, C, nI A, us, fr, un, bu, bf, bt, lo, hi, cn')) : wpY_extend post (nI p, C, nI A, us, fr, un, bu, bf, bt, lo, hi, cn) (nI t) (nI a) := by
  unfold wpY_extend
  refine ej_if (nI_leI (a := 40) (by omega) (by omega)) (fun g => ?_) (fun g => ?_)
  · exact ej_ye1 (cn0 := cn) hp ht q hw ha hB (fun x => Or.inl rfl) (fun z => by omega) K
  · have ex : (nI t + 1) * 128 + nI a = nI ((t + 1) * 128 + a) := by
      rw [nI_1, show (128 : Int32) = nI 128 from rfl, ej_mul, nI_add]
    rw [ex, nI_clamp (by omega), ej_b1]
    refine ⟨vp_in_nI (by omega) (by omega), nm_e ?_⟩
    refine ej_ye1 (cn0 := cn) hp ht q hw ha hB (fun x => ?_) (fun z => ej_us) K
    by_cases e : x = (t + 1) * 128 + a
    · rw [e]; exact Or.inr ⟨ej_us, by omega, rfl⟩
    · rw [ej_un e]; exact Or.inl rfl
end YW
end
section
section YF
variable {L C al : Int32} {us fr un bu bf bt lo hi cn : Nat → Int32}
theorem ej_y10 {post : Int32 → SY → Prop} {J : Int32 → (Nat → Int32) → (Nat → Int32) → (Nat → Int32) → (Nat → Int32) → (Nat → Int32) → (Nat → Int32) → (Nat → Int32) → (Nat → Int32) → (Nat → Int32) → Prop}
    {p A t : Nat} {cn0 : Nat → Int32} (hA : A < 128) (ht : t ≤ 40)
    (K : ∀ cn : Nat → Int32, (∀ a, a ≤ A → cn (t * 128 + a) = 0) → (∀ x, x < t * 128 → cn x = cn0 x) → J (nI (t + 1)) us fr un bu bf bt lo hi cn) :
    ∀ n a (cn : Nat → Int32), A + 1 < n + a → a ≤ A + 1 → (∀ b, b < a → cn (t * 128 + b) = 0) → (∀ x, x < t * 128 → cn x = cn0 x) →
      wY_fits_10 post J (nI t) (nI p) C (nI A) n (nI a) us fr un bu bf bt lo hi cn := by
  intro n
  induction n with
  | zero => intro a cn hn; omega
  | succ n ih =>
    intro a cn hn ha h1 h2
    rw [wY_fits_10]; dsimp only
    refine ej_if (nI_ltI (by omega) (by omega)) (fun g => nm_r (nI_1 t) (K cn (fun b hb => h1 b (by omega)) h2)) (fun g => ?_)
    have ex : nI t * 128 + nI a = nI (t * 128 + a) := by
      rw [show (128 : Int32) = nI 128 from rfl, ej_mul, nI_add]
    rw [ex, nI_clamp (by omega), ej_b0]
    refine br_f (nI_ge (b := 128) (by omega) (by omega)) ⟨vp_in_nI (by omega) (by omega), nm_e (nm_r (nI_1 a) (ih (a + 1) _ (by omega) (by omega) (fun b hb => ?_) (fun x hx => ?_)))⟩
    · by_cases e : b = a
      · rw [e]; exact ej_us
      · rw [ej_un (by omega)]; exact h1 b (by omega)
    · rw [ej_un (by omega)]; exact h2 x hx
theorem ej_y2 {post : Int32 → SY → Prop} {p A : Nat} (hA : A < 128)
    (K : ∀ cn : Nat → Int32, (∀ t a, t ≤ 40 → a ≤ A → cn (t * 128 + a) = 0) → ∃ n, wY_fits_59 post n 0 (nI p) C (nI A) us fr un bu bf bt lo hi (upd cn 0 1)) :
    ∀ n t (cn : Nat → Int32), 41 < n + t → t ≤ 41 → (∀ t' a, t' < t → a ≤ A → cn (t' * 128 + a) = 0) → wY_fits_2 post (nI p) C (nI A) n (nI t) us fr un bu bf bt lo hi cn := by
  intro n
  induction n with
  | zero => intro t cn hn; omega
  | succ n ih =>
    intro t cn hn ht h1
    rw [wY_fits_2]; dsimp only; rw [ej_b1]
    refine ej_if (nI_ltI (a := 40) (by omega) (by omega)) (fun g => nm_e (K cn (fun t' a ht' ha => h1 t' a (by omega) ha))) (fun g => ⟨A + 2, ?_⟩)
    refine ej_y10 (cn0 := cn) hA (by omega) (fun cn' g1 g2 => ih (t + 1) cn' (by omega) (by omega) (fun t' a ht' ha => ?_)) (A + 2) 0 cn (by omega) (by omega) (fun b hb => by omega) (fun x hx => rfl)
    by_cases e : t' = t
    · rw [e]; exact g1 a ha
    · rw [g2 _ (by omega)]; exact h1 t' a (by omega) ha
theorem ej_y67 {post : Int32 → SY → Prop} {J : Int32 → Int32 → Int32 → Int32 → (Nat → Int32) → (Nat → Int32) → (Nat → Int32) → (Nat → Int32) → (Nat → Int32) → (Nat → Int32) → (Nat → Int32) → (Nat → Int32) → (Nat → Int32) → Prop}
    {p A t : Nat} {S : Nat → Prop} {l h : Nat → Nat} (hp : 0 < p) (hp6 : p ≤ 6) (ht : t ≤ 40) (q : ej_YQ A lo hi S l h) (hw : ∀ j, S j → l j ≤ 40 ∧ h j ≤ 40) (hB : ej_BW bu bf bt)
    (K : ∀ cn : Nat → Int32, ej_YI p (ej_BB p bu bf bt) A l h cn (t + 1) 0 → J (nI (t + 1)) (nI p) C (nI A) us fr un bu bf bt lo hi cn) :
    ∀ n a (cn : Nat → Int32), A + 1 < n + a → a ≤ A + 1 → ej_YI p (ej_BB p bu bf bt) A l h cn t a → wY_fits_67 post J (nI t) n (nI a) (nI p) C (nI A) us fr un bu bf bt lo hi cn := by
  intro n
  have hA := q.1
  induction n with
  | zero => intro a cn hn; omega
  | succ n ih =>
    intro a cn hn ha Y
    rw [wY_fits_67]; dsimp only
    refine ej_if (nI_ltI (by omega) (by omega)) (fun g => nm_r (nI_1 t) (K cn (ej_YIr Y g))) (fun g => ?_)
    have ex : nI t * 128 + nI a = nI (t * 128 + a) := by
      rw [show (128 : Int32) = nI 128 from rfl, ej_mul, nI_add]
    rw [ex, nI_clamp (by omega)]
    refine br_f (nI_ge (b := 128) (by omega) (by omega)) ⟨vp_in_nI (by omega) (by omega), ?_⟩
    refine br_c (fun g1 => nm_r (nI_1 a) (ih (a + 1) cn (by omega) (by omega) (ej_YIz Y g1))) (fun g1 => ?_)
    refine ej_yew hp6 ht q hw (by omega) hB (fun cn' E => ?_)
    exact nm_r (nI_1 a) (ih (a + 1) cn' (by omega) (by omega) (ej_YIs hp hA ht (by omega) Y g1 E))
theorem ej_y59 {post : Int32 → SY → Prop} {p A : Nat} {S : Nat → Prop} {l h : Nat → Nat} (hp : 0 < p) (hp6 : p ≤ 6) (q : ej_YQ A lo hi S l h) (hw : ∀ j, S j → l j ≤ 40 ∧ h j ≤ 40) (hB : ej_BW bu bf bt)
    (K : ∀ (r : Int32) (cn : Nat → Int32), (r = 1 ∧ ej_CP p (ej_BB p bu bf bt) A l h 40 A) ∨ (r = 0 ∧ ¬ ej_CP p (ej_BB p bu bf bt) A l h 40 A) → post r (nI p, C, nI A, us, fr, un, bu, bf, bt, lo, hi, cn)) :
    ∀ n t (cn : Nat → Int32), 41 < n + t → t ≤ 41 → ej_YI p (ej_BB p bu bf bt) A l h cn t 0 → wY_fits_59 post n (nI t) (nI p) C (nI A) us fr un bu bf bt lo hi cn := by
  intro n
  have hA := q.1
  induction n with
  | zero => intro t cn hn; omega
  | succ n ih =>
    intro t cn hn ht Y
    rw [wY_fits_59]; dsimp only
    refine ej_if (nI_ltI (a := 40) (by omega) (by omega)) (fun g => ?_) (fun g => ⟨A + 2, ?_⟩)
    · have e : t = 41 := by omega
      subst e
      rw [ej_a127 A hA, show (5120 : Int32) = nI 5120 from rfl, nI_add, nI_clamp (by omega)]
      have h := ej_YIe hp hA Y
      refine ⟨vp_in_nI (by omega) (by omega), ej_b01 ?_, K _ _ h⟩
      rcases h with z | z
      · exact Or.inr z.1
      · exact Or.inl z.1
    · exact ej_y67 hp hp6 (by omega) q hw hB (fun cn' Y' => ih (t + 1) cn' (by omega) (by omega) Y') (A + 2) 0 cn (by omega) (by omega) Y
/-- fits answers the question -/
theorem ej_yf {post : Int32 → SY → Prop} {p A : Nat} {S : Nat → Prop} {l h : Nat → Nat} (hp : 0 < p) (hp6 : p ≤ 6) (q : ej_YQ A lo hi S l h) (hw : ∀ j, S j → l j ≤ 40 ∧ h j ≤ 40) (hB : ej_BW bu bf bt)
    (K : ∀ (r : Int32) (cn : Nat → Int32), (r = 1 ∧ ej_Sch p (ej_BB p bu bf bt) S l h) ∨ (r = 0 ∧ ¬ ej_Sch p (ej_BB p bu bf bt) S l h) → post r (nI p, C, nI A, us, fr, un, bu, bf, bt, lo, hi, cn)) :
    wpY_fits post (nI p, C, nI A, us, fr, un, bu, bf, bt, lo, hi, cn) := by
  have hA := q.1
  have e : ej_CP p (ej_BB p bu bf bt) A l h 40 A ↔ ej_Sch p (ej_BB p bu bf bt) S l h := by
    have e2 : ej_Sch p (ej_BB p bu bf bt) S l h ↔ ej_Sch p (ej_BB p bu bf bt) (fun j => A.testBit j = true) l (fun j => min (h j) 40) :=
      ej_cg (fun _ => Iff.rfl) (fun j => q.2.1 j) (fun _ _ => rfl) (fun j hj => by have := (hw j hj).2; omega)
    exact ⟨fun z => e2.mpr z.2, fun z => ⟨fun _ z => z, e2.mp z⟩⟩
  refine ⟨42, ej_y2 hA (fun cn hz => ⟨42, ?_⟩) 42 0 cn (by omega) (by omega) (fun t' a ht' => by omega)⟩
  refine ej_y59 hp hp6 q hw hB (fun r cn' h' => K r cn' ?_) 42 0 _ (by omega) (by omega) (ej_YI0 hA hz)
  rcases h' with ⟨z1, z2⟩ | ⟨z1, z2⟩
  · exact Or.inl ⟨z1, e.mp z2⟩
  · exact Or.inr ⟨z1, fun z => z2 (e.mpr z)⟩
theorem ej_ywin {post : SY → Prop} {p A j : Nat} {x y z : Int32} (hA : A < 128) (hj : j < 7) (hx : x = nI j)
    (K : post (nI p, C, nI (A ||| 2 ^ j), us, fr, un, bu, bf, bt, upd lo j y, upd hi j z, cn)) : wpY_window post (nI p, C, nI A, us, fr, un, bu, bf, bt, lo, hi, cn) x y z := by
  subst hx
  have ec : (nI j).toNatClampNeg = j := nI_clamp (by omega)
  unfold wpY_window
  rw [ec]
  exact nm_r (ej_or' A hA j hj) ⟨vp_in_nI hj (by omega), nm_e ⟨vp_in_nI hj (by omega), nm_e K⟩⟩
/-- windows well formed -/
def ej_WW (p c : Nat) (us fr un : Nat → Int32) : Prop :=
  (∀ j, c ≤ j → j < 6 → us j = 0) ∧ ∀ j, j < 6 → ¬ us j = 0 → ∃ r d : Nat, fr j = nI r ∧ un j = nI d ∧ r + p ≤ d ∧ d ≤ 40
theorem ej_yal {post : SY → Prop} {p c b e : Nat} (hb : b ≤ 40) (he : e ≤ 40) (hW : ej_WW p c us fr un)
    (K : ∀ (A : Nat) (lo hi : Nat → Int32), ej_YQ A lo hi (fun j => j < 6 ∧ ¬ us j = 0) (fun j => max (ej_cl fr j) b) (fun j => min (ej_cl un j) e) → post (nI p, C, nI A, us, fr, un, bu, bf, bt, lo, hi, cn)) :
    ∀ n i A (lo hi : Nat → Int32), 6 < n + i → i ≤ 6 → ej_YQ A lo hi (fun j => j < i ∧ ¬ us j = 0) (fun j => max (ej_cl fr j) b) (fun j => min (ej_cl un j) e) →
      wY_ask_7 post (nI b) (nI e) (nI p) C n (nI i) (nI A) us fr un bu bf bt lo hi cn := by
  intro n
  induction n with
  | zero => intro i A lo hi hn; omega
  | succ n ih =>
    intro i A lo hi hn hi6 q
    by_cases g : 6 ≤ i
    · have : i = 6 := by omega
      subst this
      exact br_t (nI_le (a := 6) g (by omega)) (K A lo hi q)
    · have ec : (nI i).toNatClampNeg = i := nI_clamp (by omega)
      rw [wY_ask_7]; dsimp only; rw [ec]
      refine br_f (nI_ge (b := 6) (by omega) (by omega)) ⟨vp_in_nI (by omega) (by omega), ?_⟩
      refine br_c (fun g1 => ?_) (fun g1 => nm_r (ej_or' A q.1 i (by omega)) ⟨vp_in_nI (by omega) (by omega), ?_⟩)
      · refine nm_r (nI_1 i) (ih (i + 1) A lo hi (by omega) (by omega) (ej_YQc q (fun j => ?_) (fun _ _ => rfl) (fun _ _ => rfl)))
        refine ⟨fun ⟨a1, a2⟩ => ⟨?_, a2⟩, fun ⟨a1, a2⟩ => ⟨by omega, a2⟩⟩
        have : j ≠ i := fun z => by subst z; exact a2 g1
        omega
      · obtain ⟨r, d, e1, e2, h1, h2⟩ := hW.2 i (by omega) g1
        have c1 : ej_cl fr i = r := ej_cle e1 (by omega)
        have c2 : ej_cl un i = d := ej_cle e2 (by omega)
        have nx := ih (i + 1) (A ||| 2 ^ i) (upd lo i (nI (max r b))) (upd hi i (nI (min d e))) (by omega) (by omega) (by
          refine ej_YQa q (by omega) (fun j => ?_) (fun _ _ _ => rfl) (fun _ _ _ => rfl) (by rw [c1]) (by rw [c2])
          refine ⟨fun ⟨a1, a2⟩ => ?_, fun z => ?_⟩
          · by_cases z : j = i
            · exact Or.inr z
            · exact Or.inl ⟨by omega, a2⟩
          · rcases z with ⟨a1, a2⟩ | z
            · exact ⟨by omega, a2⟩
            · subst z; exact ⟨by omega, g1⟩)
        have k59 : ∀ z0 : Int32, z0 = nI (max r b) → wY_ask_59 post (wY_ask_7 post (nI b) (nI e) (nI p) C n) (nI b) (nI e) (nI i) z0 (nI i) (nI p) C (nI (A ||| 2 ^ i)) us fr un bu bf bt lo hi cn := by
          intro z0 hz
          subst hz
          unfold wY_ask_59
          rw [ec, e2]
          refine ⟨vp_in_nI (by omega) (by omega), nm_e ⟨vp_in_nI (by omega) (by omega), ?_⟩⟩
          refine ej_if (nI_leI (by omega) (by omega)) (fun g2 => ?_) (fun g2 => ?_)
          · rw [Nat.min_eq_right g2] at nx
            exact ⟨vp_in_nI (by omega) (by omega), nm_e (nm_r (nI_1 i) nx)⟩
          · rw [Nat.min_eq_left (by omega)] at nx
            exact ⟨vp_in_nI (by omega) (by omega), vp_in_nI (by omega) (by omega), nm_e (nm_r (nI_1 i) nx)⟩
        rw [e1]
        refine ej_if (nI_leI (by omega) (by omega)) (fun g2 => k59 _ (by rw [Nat.max_eq_right g2])) (fun g2 => ⟨vp_in_nI (by omega) (by omega), k59 _ (by rw [Nat.max_eq_left (by omega)])⟩)
theorem ej_ya {post : SY → Prop} {p c b e : Nat} (hb : b ≤ 40) (he : e ≤ 40) (hW : ej_WW p c us fr un)
    (K : ∀ (A : Nat) (lo hi : Nat → Int32), ej_YQ A lo hi (fun j => j < 6 ∧ ¬ us j = 0) (fun j => max (ej_cl fr j) b) (fun j => min (ej_cl un j) e) → post (nI p, C, nI A, us, fr, un, bu, bf, bt, lo, hi, cn)) :
    wpY_ask post (nI p, C, al, us, fr, un, bu, bf, bt, lo, hi, cn) (nI b) (nI e) :=
  ⟨7, ej_yal hb he hW K 7 0 0 lo hi (by omega) (by omega) (ej_YQ0 (fun j z => by omega))⟩
end YF
end
section
/-- the jobs that are there -/
def ej_S (us : Nat → Int32) (j : Nat) : Prop := j < 6 ∧ ¬ us j = 0
def ej_IN (p c : Nat) (us fr un bu bf bt : Nat → Int32) : Prop :=
  1 ≤ p ∧ p ≤ 6 ∧ 1 ≤ c ∧ c ≤ 6 ∧ ej_WW p c us fr un ∧ ej_BW bu bf bt ∧ ej_Sch p (ej_BB p bu bf bt) (ej_S us) (ej_cl fr) (ej_cl un)
/-- windows with the jobs below j pinned to their planned starts, job j to s -/
def ej_lo (g : Nat → Nat) (j : Nat) (f : Nat → Nat) : Nat → Nat := fun i => if i < j then g i else f i
def ej_hi (p : Nat) (g : Nat → Nat) (j : Nat) (f : Nat → Nat) : Nat → Nat := fun i => if i < j then g i + p else f i
def ej_F (p : Nat) (B S : Nat → Prop) (lo hi : Nat → Nat) (j s : Nat) : Prop := ej_Sch p B S (ej_up lo j s) (ej_up hi j (s + p))
def ej_PV (p : Nat) (B S : Nat → Prop) (lo hi g : Nat → Nat) (k : Nat) : Prop :=
  ∀ j, j < k → S j → lo j ≤ g j ∧ g j + p ≤ hi j ∧ ej_F p B S (ej_lo g j lo) (ej_hi p g j hi) j (g j) ∧ ∀ s, lo j ≤ s → s < g j → ¬ ej_F p B S (ej_lo g j lo) (ej_hi p g j hi) j s
def ej_PP (p : Nat) (us fr un bu bf bt pn : Nat → Int32) : Prop :=
  ∃ g : Nat → Nat, ej_PV p (ej_BB p bu bf bt) (ej_S us) (ej_cl fr) (ej_cl un) g 6 ∧ ∀ j, ej_S us j → pn j = nI (g j)
def i_Rel (k : Nat) (u : SX) (v : SY) : Prop := match u, v with
  | (L, C, ak, en, kn, us, fr, un, bu, bf, bt, af, au, pl, sh, pn), (L', C', al, us', fr', un', bu', bf', bt', lo, hi, cn) =>
    L' = L ∧ C' = C ∧ us' = us ∧ fr' = fr ∧ un' = un ∧ bu' = bu ∧ bf' = bf ∧ bt' = bt ∧
    ∃ p c : Nat, L = nI p ∧ C = nI c ∧ ej_IN p c us fr un bu bf bt ∧ (¬ kn = 0 → ej_PP p us fr un bu bf bt pn)
theorem ej_el {k : Nat} {u : SX} {v : SY} {P : SX → SY → Prop}
    (h : ∀ (p c : Nat) (ak en kn : Int32) (us fr un bu bf bt af au pl sh pn : Nat → Int32) (al : Int32) (lo hi cn : Nat → Int32),
      ej_IN p c us fr un bu bf bt → (¬ kn = 0 → ej_PP p us fr un bu bf bt pn) → P (nI p, nI c, ak, en, kn, us, fr, un, bu, bf, bt, af, au, pl, sh, pn) (nI p, nI c, al, us, fr, un, bu, bf, bt, lo, hi, cn)) (I : i_Rel k u v) : P u v := by
  obtain ⟨L, C, ak, en, kn, us, fr, un, bu, bf, bt, af, au, pl, sh, pn⟩ := u
  obtain ⟨L', C', al, us', fr', un', bu', bf', bt', lo, hi, cn⟩ := v
  obtain ⟨e1, e2, e3, e4, e5, e6, e7, e8, p, c, e9, e10, h1, h2⟩ := I
  subst e1 e2 e3 e4 e5 e6 e7 e8 e9 e10
  exact h p c ak en kn us' fr' un' bu' bf' bt' af au pl sh pn al lo hi cn h1 h2
theorem ej_in {k p c : Nat} {ak en kn al : Int32} {us fr un bu bf bt af au pl sh pn lo hi cn : Nat → Int32}
    (h1 : ej_IN p c us fr un bu bf bt) (h2 : ¬ kn = 0 → ej_PP p us fr un bu bf bt pn) : i_Rel k (nI p, nI c, ak, en, kn, us, fr, un, bu, bf, bt, af, au, pl, sh, pn) (nI p, nI c, al, us, fr, un, bu, bf, bt, lo, hi, cn) :=
  ⟨rfl, rfl, rfl, rfl, rfl, rfl, rfl, rfl, p, c, rfl, rfl, h1, h2⟩
theorem i_up {k : Nat} {u : SX} {v : SY} (h : i_Rel k u v) : i_Rel (k + 4) u v := h
section RL
variable {p c : Nat} {L C ak en kn al : Int32} {us fr un bu bf bt af au pl sh pn lo hi cn : Nat → Int32}
theorem ej_sn {j c : Nat} (hc : c ≤ 6) (hW : ej_WW p c us fr un) : ej_S us j ↔ j < c ∧ ¬ us j = 0 := by
  refine ⟨fun ⟨a, b⟩ => ⟨?_, b⟩, fun ⟨a, b⟩ => ⟨by omega, b⟩⟩
  rcases Nat.lt_or_ge j c with z | z
  · exact z
  · exact absurd (hW.1 j z a) b
theorem ej_wj {j : Nat} (hW : ej_WW p c us fr un) (hj : ej_S us j) : fr j = nI (ej_cl fr j) ∧ un j = nI (ej_cl un j) ∧ ej_cl fr j + p ≤ ej_cl un j ∧ ej_cl un j ≤ 40 := by
  obtain ⟨r, d, e1, e2, h1, h2⟩ := hW.2 j hj.1 hj.2
  rw [ej_cle e1 (by omega), ej_cle e2 (by omega)]
  exact ⟨e1, e2, h1, h2⟩
theorem ej_win (hp : 1 ≤ p) (hp6 : p ≤ 6) (v1 v2 : Int32) :
    (∃ r d : Nat, v1 = nI r ∧ v2 = nI d ∧ r + p ≤ d ∧ d ≤ 40 ∧ (∀ post : Int32 → Prop, post 1 → wpX_windowOk post (nI p, nI c, ak, en, kn, us, fr, un, bu, bf, bt, af, au, pl, sh, pn) v1 v2) ∧ (∀ post : Int32 → Prop, post 0 → wpY_badWindow post (nI p, nI c, al, us, fr, un, bu, bf, bt, lo, hi, cn) v1 v2)) ∨
    ((∀ post : Int32 → Prop, post 0 → wpX_windowOk post (nI p, nI c, ak, en, kn, us, fr, un, bu, bf, bt, af, au, pl, sh, pn) v1 v2) ∧ (∀ post : Int32 → Prop, post 1 → wpY_badWindow post (nI p, nI c, al, us, fr, un, bu, bf, bt, lo, hi, cn) v1 v2)) := by
  by_cases h1 : v1 < 0
  · exact Or.inr ⟨fun post h => br_t h1 h, fun post h => br_t h1 h⟩
  by_cases h2 : 40 < v2
  · exact Or.inr ⟨fun post h => br_f h1 (br_t h2 h), fun post h => br_f h1 (br_t h2 h)⟩
  by_cases h3 : 40 < v1
  · exact Or.inr ⟨fun post h => br_f h1 (br_f h2 (br_t h3 h)), fun post h => br_f h1 (br_f h2 (br_t h3 h))⟩
  by_cases h4 : v2 < 0
  · exact Or.inr ⟨fun post h => br_f h1 (br_f h2 (br_f h3 (br_t h4 h))), fun post h => br_f h1 (br_f h2 (br_f h3 (br_t h4 h)))⟩
  obtain ⟨r, hr, rfl⟩ := nI_of2 (M := 40) (n := 40) (by decide) h1 (Int32.not_lt.mp h3)
  obtain ⟨d, hd, rfl⟩ := nI_of2 (M := 40) (n := 40) (by decide) h4 (Int32.not_lt.mp h2)
  have e : nI d - nI r = ej_z ((d : Int) - r) := by rw [ej_zn, ej_zn, ej_zsub]
  have l1 : nI d - nI r < nI p ↔ (d : Int) - r < p := by rw [e, ej_zn p, ej_zlt (by omega) (by omega) (by omega) (by omega)]
  have l2 : nI p ≤ nI d - nI r ↔ (p : Int) ≤ (d : Int) - r := by rw [e, ej_zn p, ej_zle (by omega) (by omega) (by omega) (by omega)]
  by_cases h5 : r + p ≤ d
  · refine Or.inl ⟨r, d, rfl, rfl, h5, hd, fun post h => br_f h1 (br_f h2 (br_f h3 (br_f h4 (br_f ?_ h)))), fun post h => br_f h1 (br_f h2 (br_f h3 (br_f h4 (br_t ?_ h))))⟩
    · rw [l1]; omega
    · rw [l2]; omega
  · refine Or.inr ⟨fun post h => br_f h1 (br_f h2 (br_f h3 (br_f h4 (br_t ?_ h)))), fun post h => br_f h1 (br_f h2 (br_f h3 (br_f h4 (br_f ?_ h))))⟩
    · rw [l1]; omega
    · rw [l2]; omega
theorem ej_hold (hc : c ≤ 6) (hW : ej_WW p c us fr un) (v1 : Int32) :
    (∃ j : Nat, v1 = nI j ∧ j < c ∧ ¬ us j = 0 ∧ (∀ post : Int32 → Prop, post 1 → wpX_holds post (nI p, nI c, ak, en, kn, us, fr, un, bu, bf, bt, af, au, pl, sh, pn) v1) ∧ (∀ post : Int32 → Prop, post 1 → wpY_there post (nI p, nI c, al, us, fr, un, bu, bf, bt, lo, hi, cn) v1)) ∨
    ((∀ post : Int32 → Prop, post 0 → wpX_holds post (nI p, nI c, ak, en, kn, us, fr, un, bu, bf, bt, af, au, pl, sh, pn) v1) ∧ (∀ post : Int32 → Prop, post 0 → wpY_there post (nI p, nI c, al, us, fr, un, bu, bf, bt, lo, hi, cn) v1)) := by
  by_cases h0 : v1 < 0
  · exact Or.inr ⟨fun post h => br_t h0 h, fun post h => br_t h0 h⟩
  obtain ⟨j, hj, rfl⟩ := nI_of h0
  have ec : (nI j).toNatClampNeg = j := nI_clamp hj
  by_cases h6 : j < 6
  · by_cases hu : us j = 0
    · refine Or.inr ⟨fun post h => ?_, fun post h => ?_⟩
      · unfold wpX_holds
        rw [ec]
        exact br_f h0 (ej_if (nI_leI (by omega) (by omega)) (fun _ => h) (fun g => ⟨vp_in_nI (by omega) (by omega), br_t hu h⟩))
      · unfold wpY_there
        rw [ec]
        exact br_f h0 (br_f (nI_ge (b := 6) h6 (by omega)) ⟨vp_in_nI (by omega) (by omega), br_t hu h⟩)
    · have hjc : j < c := by
        rcases Nat.lt_or_ge j c with z | z
        · exact z
        · exact absurd (hW.1 j z h6) hu
      refine Or.inl ⟨j, rfl, hjc, hu, fun post h => ?_, fun post h => ?_⟩
      · unfold wpX_holds
        rw [ec]
        exact br_f h0 (br_f (nI_ge hjc (by omega)) ⟨vp_in_nI (by omega) (by omega), br_f hu h⟩)
      · unfold wpY_there
        rw [ec]
        exact br_f h0 (br_f (nI_ge (b := 6) h6 (by omega)) ⟨vp_in_nI (by omega) (by omega), br_f hu h⟩)
  · refine Or.inr ⟨fun post h => ?_, fun post h => ?_⟩
    · exact br_f h0 (br_t (nI_le (by omega) (by omega)) h)
    · exact br_f h0 (br_t (nI_le (a := 6) (by omega) (by omega)) h)
theorem ej_fn (hc : c ≤ 6) : ∀ d i, i + d = c → (∀ j, j < i → ¬ us j = 0) →
    (∃ k, k < c ∧ us k = 0 ∧ (∀ j, j < k → ¬ us j = 0) ∧ ∀ post : Int32 → Prop, post (nI k) → wX_freeNumber_2 post (nI p) (nI c) ak en kn us fr un bu bf bt af au pl sh pn (d + 1) (nI i)) ∨
    ((∀ j, j < c → ¬ us j = 0) ∧ ∀ post : Int32 → Prop, post (-1) → wX_freeNumber_2 post (nI p) (nI c) ak en kn us fr un bu bf bt af au pl sh pn (d + 1) (nI i)) := by
  intro d
  induction d with
  | zero =>
    intro i hi h
    have : i = c := by omega
    subst this
    exact Or.inr ⟨h, fun post hp => br_t (nI_le (Nat.le_refl _) (by omega)) hp⟩
  | succ d ih =>
    intro i hi h
    have ec : (nI i).toNatClampNeg = i := nI_clamp (by omega)
    have hg : ¬ nI c ≤ nI i := nI_ge (by omega) (by omega)
    have hv : vp_in (nI i) 8 := vp_in_nI (by omega) (by omega)
    by_cases z : us i = 0
    · refine Or.inl ⟨i, by omega, z, h, fun post hp => ?_⟩
      rw [wX_freeNumber_2]; dsimp only; rw [ec]
      exact br_f hg ⟨hv, br_t z hp⟩
    · have h' : ∀ j, j < i + 1 → ¬ us j = 0 := fun j hj => by
        by_cases e : j = i
        · rw [e]; exact z
        · exact h j (by omega)
      rcases ih (i + 1) (by omega) h' with ⟨k, k1, k2, k3, k4⟩ | ⟨k1, k2⟩
      · refine Or.inl ⟨k, k1, k2, k3, fun post hp => ?_⟩
        rw [wX_freeNumber_2]; dsimp only; rw [ec]
        exact br_f hg ⟨hv, br_f z (nm_r (nI_1 i) (k4 post hp))⟩
      · refine Or.inr ⟨k1, fun post hp => ?_⟩
        rw [wX_freeNumber_2]; dsimp only; rw [ec]
        exact br_f hg ⟨hv, br_f z (nm_r (nI_1 i) (k2 post hp))⟩
theorem ej_lfA {post : Int32 → Prop} (hc : c ≤ 6) (hW : ej_WW p c us fr un) (hall : ∀ j, j < c → ¬ us j = 0) (K : post 6) :
    ∀ i q (w : Int32), i ≤ 6 → q = c - i → wY_leastFree_7 post (nI p) (nI c) al us fr un bu bf bt lo hi cn (i + 1) w (nI q) (ej_e i) := by
  intro i
  induction i with
  | zero =>
    intro q w hi hq
    rw [wY_leastFree_7]; dsimp only
    refine br_t (by rw [ej_lt0 (by omega)]) (br_f (nI_nlt (by omega) (by omega)) K)
  | succ i ih =>
    intro q w hi hq
    have ec : (nI i).toNatClampNeg = i := nI_clamp (by omega)
    have e1 : nI i + (-1) = ej_e i := by unfold ej_e; rw [ej_zn, ← ej_zm1, ej_zadd]; rfl
    rw [wY_leastFree_7]; dsimp only; rw [ej_es, ec]
    refine br_f (nI_pos (by omega)) ⟨vp_in_nI (by omega) (by omega), br_c (fun g => ?_) (fun g => ?_)⟩
    · refine nm_r e1 (ih q (nI i) (by omega) ?_)
      have : ¬ i < c := fun z => hall i z g
      omega
    · refine nm_r (nI_1 q) (nm_r e1 (ih (q + 1) w (by omega) ?_))
      have : i < c := by
        rcases Nat.lt_or_ge i c with z | z
        · exact z
        · exact absurd (hW.1 i z (by omega)) g
      omega
theorem ej_lfB {post : Int32 → Prop} {k : Nat} (hc : c ≤ 6) (hW : ej_WW p c us fr un) (hk : k < c) (hk0 : us k = 0) (hall : ∀ j, j < k → ¬ us j = 0) (K : post (nI k)) :
    ∀ i q (w : Int32), i ≤ 6 → q ≤ c - i → (i ≤ k → q + 1 ≤ c - i ∧ w = nI k) → wY_leastFree_7 post (nI p) (nI c) al us fr un bu bf bt lo hi cn (i + 1) w (nI q) (ej_e i) := by
  intro i
  induction i with
  | zero =>
    intro q w hi hq hw
    obtain ⟨h1, rfl⟩ := hw (by omega)
    rw [wY_leastFree_7]; dsimp only
    refine br_t (by rw [ej_lt0 (by omega)]) (br_t (nI_lt (by omega) (by omega)) K)
  | succ i ih =>
    intro q w hi hq hw
    have ec : (nI i).toNatClampNeg = i := nI_clamp (by omega)
    have e1 : nI i + (-1) = ej_e i := by unfold ej_e; rw [ej_zn, ← ej_zm1, ej_zadd]; rfl
    rw [wY_leastFree_7]; dsimp only; rw [ej_es, ec]
    refine br_f (nI_pos (by omega)) ⟨vp_in_nI (by omega) (by omega), br_c (fun g => ?_) (fun g => ?_)⟩
    · refine nm_r e1 (ih q (nI i) (by omega) (by omega) (fun hik => ?_))
      by_cases e : i = k
      · subst e; exact ⟨by omega, rfl⟩
      · exact absurd g (hall i (by omega))
    · have hic : i < c := by
        rcases Nat.lt_or_ge i c with z | z
        · exact z
        · exact absurd (hW.1 i z (by omega)) g
      refine nm_r (nI_1 q) (nm_r e1 (ih (q + 1) w (by omega) (by omega) (fun hik => ?_)))
      have e : i ≠ k := fun z => g (by rw [z]; exact hk0)
      obtain ⟨h1, h2⟩ := hw (by omega)
      exact ⟨by omega, h2⟩
theorem ej_free (hc : c ≤ 6) (hW : ej_WW p c us fr un) :
    (∃ k : Nat, k < c ∧ us k = 0 ∧ (∀ post : Int32 → Prop, post (nI k) → wpX_freeNumber post (nI p, nI c, ak, en, kn, us, fr, un, bu, bf, bt, af, au, pl, sh, pn)) ∧ (∀ post : Int32 → Prop, post (nI k) → wpY_leastFree post (nI p, nI c, al, us, fr, un, bu, bf, bt, lo, hi, cn))) ∨
    ((∀ post : Int32 → Prop, post (-1) → wpX_freeNumber post (nI p, nI c, ak, en, kn, us, fr, un, bu, bf, bt, af, au, pl, sh, pn)) ∧ (∀ post : Int32 → Prop, post 6 → wpY_leastFree post (nI p, nI c, al, us, fr, un, bu, bf, bt, lo, hi, cn))) := by
  have e5 : (5 : Int32) = ej_e 6 := by decide
  rcases ej_fn (c := c) (p := p) (ak := ak) (en := en) (kn := kn) (us := us) (fr := fr) (un := un) (bu := bu) (bf := bf) (bt := bt) (af := af) (au := au) (pl := pl) (sh := sh) (pn := pn) hc c 0 (by omega) (fun j hj => by omega) with ⟨k, k1, k2, k3, k4⟩ | ⟨k1, k2⟩
  · refine Or.inl ⟨k, k1, k2, fun post h => ⟨_, k4 post h⟩, fun post h => ⟨7, ?_⟩⟩
    rw [e5]
    exact ej_lfB hc hW k1 k2 k3 h 6 0 6 (by omega) (by omega) (fun z => by omega)
  · refine Or.inr ⟨fun post h => ⟨_, k2 post h⟩, fun post h => ⟨7, ?_⟩⟩
    rw [e5]
    exact ej_lfA hc hW k1 h 6 0 6 (by omega) (by omega)
end RL
end
section
theorem ej_clu {f : Nat → Int32} {k r j : Nat} (hr : r ≤ 1000) : ej_cl (upd f k (nI r)) j = ej_up (ej_cl f) k r j := by
  by_cases e : j = k
  · subst e; rw [ej_ups]; exact ej_cle ej_us hr
  · rw [ej_upn e]; unfold ej_cl; rw [ej_un e]
theorem ej_uw {S : Nat → Prop} {lo hi : Nat → Nat} {k r d : Nat} (h : ∀ j, S j → lo j ≤ 40 ∧ hi j ≤ 40) (hr : r ≤ 40) (hd : d ≤ 40) :
    ∀ j, (S j ∨ j = k) → ej_up lo k r j ≤ 40 ∧ ej_up hi k d j ≤ 40 := by
  intro j hj
  by_cases e : j = k
  · subst e; rw [ej_ups, ej_ups]; exact ⟨hr, hd⟩
  · rw [ej_upn e, ej_upn e]
    rcases hj with z | z
    · exact h j z
    · exact absurd z e
theorem ej_FA1 {p : Nat} {B S : Nat → Prop} {lo hi : Nat → Nat} {r en : Int32} (h : ej_FA p B S lo hi r en) (hs : ej_Sch p B S lo hi) : r = 1 := by
  rcases h with z | z
  · exact z.1
  · exact absurd hs z.2
theorem ej_FA0 {p : Nat} {B S : Nat → Prop} {lo hi : Nat → Nat} {r en : Int32} (h : ej_FA p B S lo hi r en) (hs : ¬ ej_Sch p B S lo hi) : r = 0 := by
  rcases h with z | z
  · exact absurd z.2.1 hs
  · exact z.1
theorem ej_YA1 {P : Prop} {r : Int32} (h : (r = 1 ∧ P) ∨ (r = 0 ∧ ¬ P)) (hs : P) : r = 1 := by
  rcases h with z | z
  · exact z.1
  · exact absurd hs z.2
theorem ej_YA0 {P : Prop} {r : Int32} (h : (r = 1 ∧ P) ∨ (r = 0 ∧ ¬ P)) (hs : ¬ P) : r = 0 := by
  rcases h with z | z
  · exact absurd z.2 hs
  · exact z.1
/-- the question with job k at [r, d] -/
def ej_T (p : Nat) (us fr un bu bf bt : Nat → Int32) (k r d : Nat) : Prop :=
  ej_Sch p (ej_BB p bu bf bt) (fun j => ej_S us j ∨ j = k) (ej_up (ej_cl fr) k r) (ej_up (ej_cl un) k d)
section EZ
variable {p c : Nat} {L C ak en kn al : Int32} {us fr un bu bf bt af au pl sh pn lo hi cn : Nat → Int32}
theorem ej_w40 (hW : ej_WW p c us fr un) : ∀ j, ej_S us j → ej_cl fr j ≤ 40 ∧ ej_cl un j ≤ 40 := fun j hj => by
  have := ej_wj hW hj
  omega
theorem ej_pw0 {id : Int32} (hc : c ≤ 6) (hW : ej_WW p c us fr un) : ej_PW p c 0 id us fr un pn (ej_cl fr) (ej_cl un) := by
  intro j hj hu _
  have hS : ej_S us j := ⟨by omega, hu⟩
  obtain ⟨e1, e2, h1, h2⟩ := ej_wj hW hS
  exact ⟨fun z => by omega, fun _ => ⟨e1, e2⟩, by omega, h2⟩
theorem ej_xqa {m k r d : Nat} {lo hi : Nat → Nat} (hc : c ≤ 6) (hW : ej_WW p c us fr un) (hk : k < 7) (q : ej_QX m af au (fun j => j < c ∧ ¬ us j = 0 ∧ ¬ nI j = nI k) lo hi) :
    ej_QX (m + 1) (upd af m (nI r)) (upd au m (nI d)) (fun j => ej_S us j ∨ j = k) (ej_up lo k r) (ej_up hi k d) := by
  refine ej_QXa q (fun z => z.2.2 rfl) (fun i => ?_) (fun i hi => ej_upn (fun z => hi.2.2 (by rw [z]))) (fun i hi => ej_upn (fun z => hi.2.2 (by rw [z]))) ej_ups ej_ups
  by_cases e : i = k
  · exact ⟨fun _ => Or.inr e, fun _ => Or.inr e⟩
  · refine ⟨fun z => ?_, fun z => ?_⟩
    · rcases z with z | z
      · obtain ⟨a, b⟩ := (ej_sn hc hW).mp z
        exact Or.inl ⟨a, b, fun w => e ((nI_eq (by omega) (by omega)).mp w)⟩
      · exact absurd z e
    · rcases z with ⟨a, b, _⟩ | z
      · exact Or.inl ((ej_sn hc hW).mpr ⟨a, b⟩)
      · exact absurd z e
theorem ej_xqb {m k r d : Nat} {lo hi : Nat → Nat} (hc : c ≤ 6) (hW : ej_WW p c us fr un) (hk : k < 7) (hn : ¬ ej_S us k) (q : ej_QX m af au (fun j => j < c ∧ ¬ us j = 0) lo hi) :
    ej_QX (m + 1) (upd af m (nI r)) (upd au m (nI d)) (fun j => ej_S us j ∨ j = k) (ej_up lo k r) (ej_up hi k d) := by
  refine ej_xqa hc hW hk (ej_QXc q (fun j => ?_) (fun _ _ => rfl) (fun _ _ => rfl))
  refine ⟨fun z => ⟨z.1, z.2.1⟩, fun z => ⟨z.1, z.2, fun w => hn ?_⟩⟩
  have : j = k := (nI_eq (by omega) (by omega)).mp w
  subst this
  exact (ej_sn hc hW).mpr z
theorem ej_xqs {m : Nat} {lo hi : Nat → Nat} (hc : c ≤ 6) (hW : ej_WW p c us fr un) (q : ej_QX m af au (fun j => j < c ∧ ¬ us j = 0) lo hi) : ej_QX m af au (ej_S us) lo hi :=
  ej_QXc q (fun j => ej_sn hc hW) (fun _ _ => rfl) (fun _ _ => rfl)
theorem ej_yqa {A k r d : Nat} {l h : Nat → Nat} (hk : k < 7) (q : ej_YQ A lo hi (ej_S us) l h) :
    ej_YQ (A ||| 2 ^ k) (upd lo k (nI r)) (upd hi k (nI d)) (fun j => ej_S us j ∨ j = k) (ej_up l k r) (ej_up h k d) :=
  ej_YQa q hk (fun _ => Iff.rfl) (fun _ _ e => ej_upn e) (fun _ _ e => ej_upn e) ej_ups ej_ups
theorem ej_ya0 {post : SY → Prop} (hW : ej_WW p c us fr un)
    (K : ∀ (A : Nat) (lo hi : Nat → Int32), A < 128 → ej_YQ A lo hi (ej_S us) (ej_cl fr) (ej_cl un) → post (nI p, nI c, nI A, us, fr, un, bu, bf, bt, lo, hi, cn)) : wpY_ask post (nI p, nI c, al, us, fr, un, bu, bf, bt, lo, hi, cn) 0 40 :=
  ej_ya (b := 0) (e := 40) (by omega) (by omega) hW (fun A lo hi q => K A lo hi q.1 (ej_YQc q (fun _ => Iff.rfl) (fun j hj => by omega) (fun j hj => by
    have := ej_w40 hW j hj
    omega)))
theorem ej_ya40 {post : SY → Prop} {k : Nat} {x : Int32} (hW : ej_WW p c us fr un) (hk : k < 7) (hx : x = nI k) {r d : Nat} {y z : Int32} (hy : y = nI r) (hz : z = nI d)
    (K : ∀ (A : Nat) (lo hi : Nat → Int32), ej_YQ A lo hi (fun j => ej_S us j ∨ j = k) (ej_up (ej_cl fr) k r) (ej_up (ej_cl un) k d) → post (nI p, nI c, nI A, us, fr, un, bu, bf, bt, lo, hi, cn)) :
    wpY_ask (fun u => wpY_window post u x y z) (nI p, nI c, al, us, fr, un, bu, bf, bt, lo, hi, cn) 0 40 := by
  subst hy hz
  refine ej_ya0 hW (fun A lo hi hA q => ?_)
  exact ej_ywin hA hk hx (K _ _ _ (ej_yqa hk q))
theorem ej_probe (h : ej_IN p c us fr un bu bf bt) (v1 v2 : Int32) : ∃ r : Int32,
    (r < 0 ∨ ∃ id a b : Nat, r = nI id ∧ id < c ∧ us id = 0 ∧ v1 = nI a ∧ v2 = nI b ∧ a + p ≤ b ∧ b ≤ 40 ∧ ej_T p us fr un bu bf bt id a b) ∧
    (∀ post : Int32 → SX → Prop, (∀ (ak en : Int32) (af au pl sh : Nat → Int32), post r (nI p, nI c, ak, en, kn, us, fr, un, bu, bf, bt, af, au, pl, sh, pn)) → wpX_probe post (nI p, nI c, ak, en, kn, us, fr, un, bu, bf, bt, af, au, pl, sh, pn) v1 v2) ∧
    (∀ post : Int32 → SY → Prop, (∀ (al : Int32) (lo hi cn : Nat → Int32), post r (nI p, nI c, al, us, fr, un, bu, bf, bt, lo, hi, cn)) → wpY_probe post (nI p, nI c, al, us, fr, un, bu, bf, bt, lo, hi, cn) v1 v2) := by
  obtain ⟨hp, hp6, hc1, hc6, hW, hB, hS⟩ := h
  rcases ej_win (c := c) (ak := ak) (en := en) (kn := kn) (al := al) (us := us) (fr := fr) (un := un) (bu := bu) (bf := bf) (bt := bt) (af := af) (au := au) (pl := pl) (sh := sh) (pn := pn) (lo := lo) (hi := hi) (cn := cn) hp hp6 v1 v2 with ⟨r, d, rfl, rfl, hrd, hd, wx, wy⟩ | ⟨wx, wy⟩
  · rcases ej_free (c := c) (ak := ak) (en := en) (kn := kn) (al := al) (us := us) (fr := fr) (un := un) (bu := bu) (bf := bf) (bt := bt) (af := af) (au := au) (pl := pl) (sh := sh) (pn := pn) (lo := lo) (hi := hi) (cn := cn) hc6 hW with ⟨k, hk, hk0, fx, fy⟩ | ⟨fx, fy⟩
    · have hkS : ¬ ej_S us k := fun z => z.2 hk0
      have hne : ¬ nI k = 6 := fun z => by
        have := (nI_eq (a := k) (b := 6) (by omega) (by omega)).mp z
        omega
      have hw := ej_uw (k := k) (ej_w40 hW) (by omega : r ≤ 40) hd
      by_cases hT : ej_T p us fr un bu bf bt k r d
      · refine ⟨nI k, Or.inr ⟨k, r, d, rfl, hk, hk0, rfl, rfl, hrd, hd, hT⟩, fun post K => ?_, fun post K => ?_⟩
        · unfold wpX_probe
          refine wx _ (br_f (by decide) (fx _ (br_t (nI_pos' (by omega)) ?_)))
          refine ej_aa hc6 (ej_pw0 hc6 hW) (fun m af au hm q => ?_)
          refine ej_ask (by omega) rfl rfl (by omega) (by omega) ?_
          refine ej_fq hp hp6 (by omega) (ej_xqb hc6 hW (by omega) hkS q) hw hB (fun r en pl sh h => ?_)
          rw [ej_FA1 h hT]
          exact br_f (by decide) (K _ _ _ _ _ _)
        · unfold wpY_probe
          refine wy _ (br_t rfl (fy _ (br_f hne ?_)))
          refine ej_ya0 hW (fun A lo hi hA q => ?_)
          refine ej_ywin hA (by omega) rfl ?_
          refine ej_yf hp hp6 (ej_yqa (by omega) q) hw hB (fun r cn h => ?_)
          rw [ej_YA1 h hT]
          exact br_f (by decide) (K _ _ _ _)
      · refine ⟨-3, Or.inl (by decide), fun post K => ?_, fun post K => ?_⟩
        · unfold wpX_probe
          refine wx _ (br_f (by decide) (fx _ (br_t (nI_pos' (by omega)) ?_)))
          refine ej_aa hc6 (ej_pw0 hc6 hW) (fun m af au hm q => ?_)
          refine ej_ask (by omega) rfl rfl (by omega) (by omega) ?_
          refine ej_fq hp hp6 (by omega) (ej_xqb hc6 hW (by omega) hkS q) hw hB (fun r en pl sh h => ?_)
          rw [ej_FA0 h hT]
          exact br_t rfl (K _ _ _ _ _ _)
        · unfold wpY_probe
          refine wy _ (br_t rfl (fy _ (br_f hne ?_)))
          refine ej_ya0 hW (fun A lo hi hA q => ?_)
          refine ej_ywin hA (by omega) rfl ?_
          refine ej_yf hp hp6 (ej_yqa (by omega) q) hw hB (fun r cn h => ?_)
          rw [ej_YA0 h hT]
          exact br_t rfl (K _ _ _ _)
    · refine ⟨-2, Or.inl (by decide), fun post K => ?_, fun post K => ?_⟩
      · unfold wpX_probe
        exact wx _ (br_f (by decide) (fx _ (br_f (by decide) (K _ _ _ _ _ _))))
      · unfold wpY_probe
        exact wy _ (br_t rfl (fy _ (br_t rfl (K _ _ _ _))))
  · refine ⟨-1, Or.inl (by decide), fun post K => ?_, fun post K => ?_⟩
    · unfold wpX_probe
      exact wx _ (br_t rfl (K _ _ _ _ _ _))
    · unfold wpY_probe
      exact wy _ (br_f (by decide) (K _ _ _ _))
end EZ
end
section
section VA
variable {p c : Nat} {L C ak en kn al : Int32} {us fr un bu bf bt af au pl sh pn lo hi cn : Nat → Int32}
theorem ej_INo {id a b : Nat} (h : ej_IN p c us fr un bu bf bt) (hid : id < c) (hab : a + p ≤ b) (hb : b ≤ 40) (hT : ej_T p us fr un bu bf bt id a b) :
    ej_IN p c (upd us id 1) (upd fr id (nI a)) (upd un id (nI b)) bu bf bt := by
  obtain ⟨hp, hp6, hc1, hc6, hW, hB, hS⟩ := h
  refine ⟨hp, hp6, hc1, hc6, ⟨fun j hj hj6 => ?_, fun j hj hu => ?_⟩, hB, ?_⟩
  · rw [ej_un (by omega)]; exact hW.1 j hj hj6
  · by_cases e : j = id
    · subst e; exact ⟨a, b, ej_us, ej_us, hab, hb⟩
    · rw [ej_un e] at hu
      rw [ej_un e, ej_un e]
      exact hW.2 j hj hu
  · refine ej_mo hT (fun _ z => z) (fun j hj => ?_) (fun j _ => Nat.le_of_eq (ej_clu (by omega))) (fun j _ => Nat.le_of_eq (ej_clu (by omega)).symm)
    by_cases e : j = id
    · exact Or.inr e
    · have h2 := hj.2
      rw [ej_un e] at h2
      exact Or.inl ⟨hj.1, h2⟩
theorem ej_INm {id a b : Nat} (h : ej_IN p c us fr un bu bf bt) (hab : a + p ≤ b) (hb : b ≤ 40) (hT : ej_T p us fr un bu bf bt id a b) :
    ej_IN p c us (upd fr id (nI a)) (upd un id (nI b)) bu bf bt := by
  obtain ⟨hp, hp6, hc1, hc6, hW, hB, hS⟩ := h
  refine ⟨hp, hp6, hc1, hc6, ⟨hW.1, fun j hj hu => ?_⟩, hB, ?_⟩
  · by_cases e : j = id
    · subst e; exact ⟨a, b, ej_us, ej_us, hab, hb⟩
    · rw [ej_un e, ej_un e]
      exact hW.2 j hj hu
  · exact ej_mo hT (fun _ z => z) (fun j hj => Or.inl hj) (fun j _ => Nat.le_of_eq (ej_clu (by omega))) (fun j _ => Nat.le_of_eq (ej_clu (by omega)).symm)
theorem ej_INw {id : Nat} (h : ej_IN p c us fr un bu bf bt) : ej_IN p c (upd us id 0) fr un bu bf bt := by
  obtain ⟨hp, hp6, hc1, hc6, hW, hB, hS⟩ := h
  have hk : ∀ j, ¬ upd us id 0 j = 0 → ¬ us j = 0 := fun j hj => by
    by_cases e : j = id
    · subst e; exact absurd ej_us hj
    · rw [ej_un e] at hj; exact hj
  refine ⟨hp, hp6, hc1, hc6, ⟨fun j hj hj6 => ?_, fun j hj hu => hW.2 j hj (hk j hu)⟩, hB, ej_mo hS (fun _ z => z) (fun j hj => ⟨hj.1, hk j hj.2⟩) (fun _ _ => Nat.le_refl _) (fun _ _ => Nat.le_refl _)⟩
  by_cases e : j = id
  · subst e; exact ej_us
  · rw [ej_un e]; exact hW.1 j hj hj6
theorem ej_BBm {k : Nat} : ∀ t, ej_BB p (upd bu k 0) bf bt t → ej_BB p bu bf bt t := fun t ⟨k', a1, a2, a3⟩ => by
  by_cases e : k' = k
  · subst e; exact absurd ej_us a2
  · rw [ej_un e] at a2; exact ⟨k', a1, a2, a3⟩
theorem ej_INu {k : Nat} (h : ej_IN p c us fr un bu bf bt) : ej_IN p c us fr un (upd bu k 0) bf bt := by
  obtain ⟨hp, hp6, hc1, hc6, hW, hB, hS⟩ := h
  refine ⟨hp, hp6, hc1, hc6, hW, fun k' hk' hu => hB k' hk' ?_, ej_mo hS ej_BBm (fun _ z => z) (fun _ _ => Nat.le_refl _) (fun _ _ => Nat.le_refl _)⟩
  by_cases e : k' = k
  · subst e; exact absurd ej_us hu
  · rw [ej_un e] at hu; exact hu
theorem ej_BWb {k a b : Nat} (hB : ej_BW bu bf bt) (ha : a ≤ 40) (hb : b ≤ 40) : ej_BW (upd bu k 1) (upd bf k (nI a)) (upd bt k (nI b)) := by
  intro k' hk' hu
  by_cases e : k' = k
  · subst e; exact ⟨a, b, ej_us, ej_us, ha, hb⟩
  · rw [ej_un e] at hu
    rw [ej_un e, ej_un e]; exact hB k' hk' hu
theorem ej_BWr {k : Nat} {x y z : Int32} (hB : ej_BW bu bf bt) : ej_BW (upd (upd bu k z) k 0) (upd bf k x) (upd bt k y) := by
  intro k' hk' hu
  by_cases e : k' = k
  · subst e; exact absurd ej_us hu
  · rw [ej_un e, ej_un e] at hu
    rw [ej_un e, ej_un e]; exact hB k' hk' hu
theorem ej_BBr {k : Nat} {x y z : Int32} (hk : bu k = 0) : ej_BB p (upd (upd bu k z) k 0) (upd bf k x) (upd bt k y) = ej_BB p bu bf bt := by
  funext t
  have hcl : ∀ (f : Nat → Int32) (w : Int32) (k' : Nat), k' ≠ k → ej_cl (upd f k w) k' = ej_cl f k' := fun f w k' e => by unfold ej_cl; rw [ej_un e]
  refine propext ⟨fun ⟨k', a1, a2, a3⟩ => ?_, fun ⟨k', a1, a2, a3⟩ => ?_⟩
  · by_cases e : k' = k
    · subst e; exact absurd ej_us a2
    · rw [ej_un e, ej_un e] at a2
      rw [hcl _ _ _ e, hcl _ _ _ e] at a3
      exact ⟨k', a1, a2, a3⟩
  · by_cases e : k' = k
    · subst e; exact absurd hk a2
    · refine ⟨k', a1, ?_, ?_⟩
      · rw [ej_un e, ej_un e]; exact a2
      · rw [hcl _ _ _ e, hcl _ _ _ e]; exact a3
theorem ej_blk : ∀ d i, i + d = 4 → ∃ k, k ≤ 4 ∧ (k = 4 ∨ bu k = 0) ∧
    (∀ (post : Int32 → SX → Prop) (v1 v2 : Int32), wX_block_39 post v1 v2 (nI k) (nI p) (nI c) ak en kn us fr un bu bf bt af au pl sh pn → wX_block_19 post v1 v2 (nI p) (nI c) ak en kn us fr un bu bf bt af au pl sh pn (d + 1) (nI i)) ∧
    (∀ (post : Int32 → SY → Prop) (v1 v2 : Int32), wY_block_39 post v1 v2 (nI k) (nI p) (nI c) al us fr un bu bf bt lo hi cn → wY_block_19 post v1 v2 (nI p) (nI c) al us fr un bu bf bt lo hi cn (d + 1) (nI i)) := by
  intro d
  induction d with
  | zero =>
    intro i hi
    have : i = 4 := by omega
    subst this
    exact ⟨4, by omega, Or.inl rfl, fun post v1 v2 h => br_t (nI_le (a := 4) (b := 4) (by omega) (by omega)) h, fun post v1 v2 h => br_t (nI_le (a := 4) (b := 4) (by omega) (by omega)) h⟩
  | succ d ih =>
    intro i hi
    have ec : (nI i).toNatClampNeg = i := nI_clamp (by omega)
    have hg : ¬ (4 : Int32) ≤ nI i := nI_ge (b := 4) (by omega) (by omega)
    have hv : vp_in (nI i) 4 := vp_in_nI (by omega) (by omega)
    by_cases z : bu i = 0
    · refine ⟨i, by omega, Or.inr z, fun post v1 v2 h => ?_, fun post v1 v2 h => ?_⟩
      · rw [wX_block_19]; dsimp only; rw [ec]
        exact br_f hg ⟨hv, br_t z h⟩
      · rw [wY_block_19]; dsimp only; rw [ec]
        exact br_f hg ⟨hv, br_t z h⟩
    · obtain ⟨k, k1, k2, k3, k4⟩ := ih (i + 1) (by omega)
      refine ⟨k, k1, k2, fun post v1 v2 h => ?_, fun post v1 v2 h => ?_⟩
      · rw [wX_block_19]; dsimp only; rw [ec]
        exact br_f hg ⟨hv, br_f z (nm_r (nI_1 i) (k3 post v1 v2 h))⟩
      · rw [wY_block_19]; dsimp only; rw [ec]
        exact br_f hg ⟨hv, br_f z (nm_r (nI_1 i) (k4 post v1 v2 h))⟩
theorem ej_jb {post : Int32 → Prop} (hc : c ≤ 6) (K : ∀ a, a < 128 → (∀ j, a.testBit j = true ↔ j < c ∧ ¬ us j = 0) → post (nI a)) :
    ∀ n i a, c < n + i → i ≤ c → a < 128 → (∀ j, a.testBit j = true ↔ j < i ∧ ¬ us j = 0) → wX_jobs_4 post (nI p) (nI c) ak en kn us fr un bu bf bt af au pl sh pn n (nI a) (nI i) := by
  intro n
  induction n with
  | zero => intro i a hn; omega
  | succ n ih =>
    intro i a hn hi ha hb
    by_cases g : c ≤ i
    · have : i = c := by omega
      subst this
      exact br_t (nI_le g (by omega)) (K a ha hb)
    · have ec : (nI i).toNatClampNeg = i := nI_clamp (by omega)
      rw [wX_jobs_4]; dsimp only; rw [ec]
      refine br_f (nI_ge (by omega) (by omega)) ⟨vp_in_nI (by omega) (by omega), br_c (fun g1 => ?_) (fun g1 => ?_)⟩
      · refine nm_r (nI_1 i) (ih (i + 1) a (by omega) (by omega) ha (fun j => (hb j).trans ?_))
        refine ⟨fun ⟨a1, a2⟩ => ⟨by omega, a2⟩, fun ⟨a1, a2⟩ => ⟨?_, a2⟩⟩
        have : j ≠ i := fun z => by subst z; exact a2 g1
        omega
      · refine nm_r (ej_or' a ha i (by omega)) (nm_r (nI_1 i) (ih (i + 1) _ (by omega) (by omega) (ej_or7 ha (by omega)) (fun j => ?_)))
        rw [ej_tor, hb j]
        refine ⟨fun z => ?_, fun ⟨a1, a2⟩ => ?_⟩
        · rcases z with ⟨a1, a2⟩ | z
          · exact ⟨by omega, a2⟩
          · subst z; exact ⟨by omega, g1⟩
        · by_cases z : j = i
          · exact Or.inr z
          · exact Or.inl ⟨by omega, a2⟩
end VA
end
section
theorem ej_ini (k0 : Int32) : ∃ p : Nat, 1 ≤ p ∧ p ≤ 6 ∧
    (∀ (post : SX → Prop) (k1 : Int32), wX_init_111 post k1 (nI p) 0 0 0 0 0 (fun _ => 0) (fun _ => 0) (fun _ => 0) (fun _ => 0) (fun _ => 0) (fun _ => 0) (fun _ => 0) (fun _ => 0) (fun _ => 0) (fun _ => 0) (fun _ => 0) → wpX_init post k0 k1) ∧
    (∀ (post : SY → Prop) (k1 : Int32), wY_init_96 post k1 (nI p) 0 0 0 (fun _ => 0) (fun _ => 0) (fun _ => 0) (fun _ => 0) (fun _ => 0) (fun _ => 0) (fun _ => 0) (fun _ => 0) (fun _ => 0) → wpY_init post k0 k1) := by
  by_cases h1 : 1 ≤ k0
  · by_cases h6 : k0 ≤ 6
    · obtain ⟨p, hp, rfl⟩ := nI_of2 (x := k0) (M := 6) (n := 6) (by decide) (fun z => by
        rw [Int32.le_iff_toInt_le] at h1
        rw [Int32.lt_iff_toInt_lt] at z
        have a : (1 : Int32).toInt = 1 := by decide
        have b : (0 : Int32).toInt = 0 := by decide
        omega) h6
      have := (nI_leI (a := 1) (b := p) (by omega) (by omega)).mp h1
      exact ⟨p, this, hp, fun post k1 h => br_t h1 (br_t h6 h), fun post k1 h => br_t h1 (br_t h6 h)⟩
    · exact ⟨6, by omega, by omega, fun post k1 h => br_t h1 (br_f h6 h), fun post k1 h => br_t h1 (br_f h6 h)⟩
  · exact ⟨1, by omega, by omega, fun post k1 h => br_f h1 h, fun post k1 h => br_f h1 h⟩
theorem ej_IN0 {p c : Nat} (hp : 1 ≤ p) (hp6 : p ≤ 6) (hc : 1 ≤ c) (hc6 : c ≤ 6) : ej_IN p c (fun _ => 0) (fun _ => 0) (fun _ => 0) (fun _ => 0) (fun _ => 0) (fun _ => 0) :=
  ⟨hp, hp6, hc, hc6, ⟨fun _ _ _ => rfl, fun _ _ h => absurd rfl h⟩, fun _ _ h => absurd rfl h, fun _ => 0, fun _ h => absurd rfl h.2, fun _ _ h => absurd rfl h.2⟩
theorem i_vc0 (k0 : Int32) (k1 : Int32) : wpX_init (fun u => wpY_init (fun v => i_Rel 2 u v) k0 k1) k0 k1 := by
  obtain ⟨p, hp, hp6, X, Y⟩ := ej_ini k0
  refine X _ k1 ?_
  have fin : ∀ c : Nat, 1 ≤ c → c ≤ 6 → ∀ v : SY, v = (nI p, nI c, 0, (fun _ => 0), (fun _ => 0), (fun _ => 0), (fun _ => 0), (fun _ => 0), (fun _ => 0), (fun _ => 0), (fun _ => 0), (fun _ => 0)) →
      i_Rel 2 (nI p, nI c, 0, 0, 0, (fun _ => 0), (fun _ => 0), (fun _ => 0), (fun _ => 0), (fun _ => 0), (fun _ => 0), (fun _ => 0), (fun _ => 0), (fun _ => 0), (fun _ => 0), (fun _ => 0)) v := by
    intro c hc hc6 v hv
    subst hv
    exact ej_in (ej_IN0 hp hp6 hc hc6) (fun z => absurd rfl z)
  unfold wX_init_111
  by_cases h1 : 1 ≤ k1
  · by_cases h6 : k1 ≤ 6
    · refine br_t h1 (br_t h6 (Y _ k1 ?_))
      unfold wY_init_96
      obtain ⟨c, hc, rfl⟩ := nI_of2 (x := k1) (M := 6) (n := 6) (by decide) (fun z => by
        rw [Int32.le_iff_toInt_le] at h1
        rw [Int32.lt_iff_toInt_lt] at z
        have a : (1 : Int32).toInt = 1 := by decide
        have b : (0 : Int32).toInt = 0 := by decide
        omega) h6
      have := (nI_leI (a := 1) (b := c) (by omega) (by omega)).mp h1
      exact br_t h1 (br_t h6 (fin c this hc _ rfl))
    · refine br_t h1 (br_f h6 (Y _ k1 ?_))
      unfold wY_init_96
      exact br_t h1 (br_f h6 (fin 6 (by omega) (by omega) _ rfl))
  · refine br_f h1 (Y _ k1 ?_)
    unfold wY_init_96
    exact br_f h1 (fin 1 (by omega) (by omega) _ rfl)
theorem i_vc_probe {k : Nat} {u : SX} {v : SY} (I : i_Rel k u v) (hk : k + 4 ≤ 2050) (v1 : Int32) (v2 : Int32) : wpX_probe (fun r u' => wpY_probe (fun r' v' => r' = r ∧ i_Rel (k + 4) u' v') v v1 v2) u v1 v2 := by
  refine ej_el (P := fun u v => wpX_probe (fun r u' => wpY_probe (fun r' v' => r' = r ∧ i_Rel (k + 4) u' v') v v1 v2) u v1 v2) ?_ I
  intro p c ak en kn us fr un bu bf bt af au pl sh pn al lo hi cn h hP
  obtain ⟨r, _, X, Y⟩ := ej_probe (c := c) (ak := ak) (en := en) (kn := kn) (al := al) (us := us) (fr := fr) (un := un) (bu := bu) (bf := bf) (bt := bt) (af := af) (au := au) (pl := pl) (sh := sh) (pn := pn) (lo := lo) (hi := hi) (cn := cn) h v1 v2
  exact X _ (fun ak en af au pl sh => Y _ (fun al lo hi cn => ⟨rfl, ej_in h hP⟩))
theorem i_vc_offer {k : Nat} {u : SX} {v : SY} (I : i_Rel k u v) (hk : k + 4 ≤ 2050) (v1 : Int32) (v2 : Int32) : wpX_offer (fun r u' => wpY_offer (fun r' v' => r' = r ∧ i_Rel (k + 4) u' v') v v1 v2) u v1 v2 := by
  refine ej_el (P := fun u v => wpX_offer (fun r u' => wpY_offer (fun r' v' => r' = r ∧ i_Rel (k + 4) u' v') v v1 v2) u v1 v2) ?_ I
  intro p c ak en kn us fr un bu bf bt af au pl sh pn al lo hi cn h hP
  obtain ⟨r, hr, X, Y⟩ := ej_probe (c := c) (ak := ak) (en := en) (kn := kn) (al := al) (us := us) (fr := fr) (un := un) (bu := bu) (bf := bf) (bt := bt) (af := af) (au := au) (pl := pl) (sh := sh) (pn := pn) (lo := lo) (hi := hi) (cn := cn) h v1 v2
  unfold wpX_offer
  rcases hr with neg | ⟨id, a, b, rfl, hid, hu, rfl, rfl, hab, hb, hT⟩
  · refine X _ (fun ak en af au pl sh => br_t neg ?_)
    unfold wpY_offer
    exact Y _ (fun al lo hi cn => br_t neg ⟨rfl, ej_in h hP⟩)
  · have hc6 := h.2.2.2.1
    have ec : (nI id).toNatClampNeg = id := nI_clamp (by omega)
    have e1 : upd us (nI id).toNatClampNeg (vp_nar .boolean 1) = upd us id 1 := by rw [ec, ej_b1]
    have e2 : upd fr (nI id).toNatClampNeg (vp_nar .byte (nI a).toInt8.toInt32) = upd fr id (nI a) := by rw [ec, ej_by (by omega)]
    have e3 : upd un (nI id).toNatClampNeg (vp_nar .byte (nI b).toInt8.toInt32) = upd un id (nI b) := by rw [ec, ej_by (by omega)]
    have e4 : upd fr (nI id).toNatClampNeg (nI a) = upd fr id (nI a) := by rw [ec]
    have e5 : upd un (nI id).toNatClampNeg (nI b) = upd un id (nI b) := by rw [ec]
    have hn : ¬ nI id < 0 := nI_pos (by omega)
    have hv8 : vp_in (nI id) 8 := vp_in_nI (by omega) (by omega)
    have hv6 : vp_in (nI id) 6 := vp_in_nI (by omega) (by omega)
    refine X _ (fun ak en af au pl sh => br_f hn ⟨hv8, nm_r e1 ⟨hv8, nm_r e2 ⟨hv8, nm_r e3 ?_⟩⟩⟩)
    unfold wpY_offer
    refine Y _ (fun al lo hi cn => br_f hn (br_f (nI_ge (b := 6) (by omega) (by omega)) ⟨hv6, nm_r e1 ⟨hv6, nm_r e4 ⟨hv6, nm_r e5 ?_⟩⟩⟩))
    exact ⟨rfl, ej_in (ej_INo h hid hab hb hT) (fun z => absurd rfl z)⟩
theorem i_vc_move {k : Nat} {u : SX} {v : SY} (I : i_Rel k u v) (hk : k + 4 ≤ 2050) (v1 : Int32) (v2 : Int32) (v3 : Int32) : wpX_move (fun r u' => wpY_move (fun r' v' => r' = r ∧ i_Rel (k + 4) u' v') v v1 v2 v3) u v1 v2 v3 := by
  refine ej_el (P := fun u v => wpX_move (fun r u' => wpY_move (fun r' v' => r' = r ∧ i_Rel (k + 4) u' v') v v1 v2 v3) u v1 v2 v3) ?_ I
  intro p c ak en kn us fr un bu bf bt af au pl sh pn al lo hi cn h hP
  have h' := h
  obtain ⟨hp, hp6, hc1, hc6, hW, hB, hS⟩ := h'
  unfold wpX_move
  rcases ej_hold (c := c) (ak := ak) (en := en) (kn := kn) (al := al) (us := us) (fr := fr) (un := un) (bu := bu) (bf := bf) (bt := bt) (af := af) (au := au) (pl := pl) (sh := sh) (pn := pn) (lo := lo) (hi := hi) (cn := cn) hc6 hW v1 with ⟨id, rfl, hid, hu, ox, oy⟩ | ⟨ox, oy⟩
  · rcases ej_win (c := c) (ak := ak) (en := en) (kn := kn) (al := al) (us := us) (fr := fr) (un := un) (bu := bu) (bf := bf) (bt := bt) (af := af) (au := au) (pl := pl) (sh := sh) (pn := pn) (lo := lo) (hi := hi) (cn := cn) hp hp6 v2 v3 with ⟨a, b, rfl, rfl, hab, hb, wx, wy⟩ | ⟨wx, wy⟩
    · refine ox _ (br_f (by decide) (wx _ (br_f (by decide) ?_)))
      have hw := ej_uw (k := id) (ej_w40 hW) (by omega : a ≤ 40) hb
      refine ej_aab hc6 (ej_pw0 hc6 hW) (fun m af au hm q => ?_)
      refine ej_ask (by omega) rfl rfl (by omega) (by omega) ?_
      refine ej_fq hp hp6 (by omega) (ej_xqa hc6 hW (by omega) q) hw hB (fun r en pl sh hF => ?_)
      have ec : (nI id).toNatClampNeg = id := nI_clamp (by omega)
      have e2 : upd fr (nI id).toNatClampNeg (vp_nar .byte (nI a).toInt8.toInt32) = upd fr id (nI a) := by rw [ec, ej_by (by omega)]
      have e3 : upd un (nI id).toNatClampNeg (vp_nar .byte (nI b).toInt8.toInt32) = upd un id (nI b) := by rw [ec, ej_by (by omega)]
      have e4 : upd fr (nI id).toNatClampNeg (nI a) = upd fr id (nI a) := by rw [ec]
      have e5 : upd un (nI id).toNatClampNeg (nI b) = upd un id (nI b) := by rw [ec]
      have hv8 : vp_in (nI id) 8 := vp_in_nI (by omega) (by omega)
      have hv6 : vp_in (nI id) 6 := vp_in_nI (by omega) (by omega)
      by_cases hT : ej_T p us fr un bu bf bt id a b
      · rw [ej_FA1 hF hT]
        refine br_f (by decide) ⟨hv8, nm_r e2 ⟨hv8, nm_r e3 ?_⟩⟩
        unfold wpY_move
        refine oy _ (br_f (by decide) (wy _ (br_t rfl ?_)))
        refine ej_ya0 hW (fun A lo hi hA q => ?_)
        refine ej_ywin hA (by omega) rfl ?_
        refine ej_yf hp hp6 (ej_yqa (by omega) q) hw hB (fun r cn hY => ?_)
        rw [ej_YA1 hY hT]
        refine br_f (by decide) ⟨hv6, nm_r e4 ⟨hv6, nm_r e5 ?_⟩⟩
        exact ⟨rfl, ej_in (ej_INm h hab hb hT) (fun z => absurd rfl z)⟩
      · rw [ej_FA0 hF hT]
        refine br_t rfl ?_
        unfold wpY_move
        refine oy _ (br_f (by decide) (wy _ (br_t rfl ?_)))
        refine ej_ya0 hW (fun A lo hi hA q => ?_)
        refine ej_ywin hA (by omega) rfl ?_
        refine ej_yf hp hp6 (ej_yqa (by omega) q) hw hB (fun r cn hY => ?_)
        rw [ej_YA0 hY hT]
        exact br_t rfl ⟨rfl, ej_in h hP⟩
    · refine ox _ (br_f (by decide) (wx _ (br_t rfl ?_)))
      unfold wpY_move
      exact oy _ (br_f (by decide) (wy _ (br_f (by decide) ⟨rfl, ej_in h hP⟩)))
  · refine ox _ (br_t rfl ?_)
    unfold wpY_move
    exact oy _ (br_t rfl ⟨rfl, ej_in h hP⟩)
theorem i_vc_withdraw {k : Nat} {u : SX} {v : SY} (I : i_Rel k u v) (hk : k + 4 ≤ 2050) (v1 : Int32) : wpX_withdraw (fun r u' => wpY_withdraw (fun r' v' => r' = r ∧ i_Rel (k + 4) u' v') v v1) u v1 := by
  refine ej_el (P := fun u v => wpX_withdraw (fun r u' => wpY_withdraw (fun r' v' => r' = r ∧ i_Rel (k + 4) u' v') v v1) u v1) ?_ I
  intro p c ak en kn us fr un bu bf bt af au pl sh pn al lo hi cn h hP
  have h' := h
  obtain ⟨hp, hp6, hc1, hc6, hW, hB, hS⟩ := h'
  unfold wpX_withdraw
  rcases ej_hold (c := c) (ak := ak) (en := en) (kn := kn) (al := al) (us := us) (fr := fr) (un := un) (bu := bu) (bf := bf) (bt := bt) (af := af) (au := au) (pl := pl) (sh := sh) (pn := pn) (lo := lo) (hi := hi) (cn := cn) hc6 hW v1 with ⟨id, rfl, hid, hu, ox, oy⟩ | ⟨ox, oy⟩
  · have e1 : upd us (nI id).toNatClampNeg (vp_nar .boolean 0) = upd us id 0 := by rw [nI_clamp (by omega), ej_b0]
    refine ox _ (br_f (by decide) ⟨vp_in_nI (by omega) (by omega), nm_r e1 ?_⟩)
    unfold wpY_withdraw
    exact oy _ (br_f (by decide) ⟨vp_in_nI (by omega) (by omega), nm_r e1 ⟨rfl, ej_in (ej_INw h) (fun z => absurd rfl z)⟩⟩)
  · refine ox _ (br_t rfl ?_)
    unfold wpY_withdraw
    exact oy _ (br_t rfl ⟨rfl, ej_in h hP⟩)
theorem i_vc_release {k : Nat} {u : SX} {v : SY} (I : i_Rel k u v) (hk : k + 4 ≤ 2050) (v1 : Int32) : wpX_release (fun r => wpY_release (fun r' => r' = r ∧ i_Rel (k + 4) u v) v v1) u v1 := by
  refine ej_el (P := fun u v => wpX_release (fun r => wpY_release (fun r' => r' = r ∧ i_Rel (k + 4) u v) v v1) u v1) ?_ I
  intro p c ak en kn us fr un bu bf bt af au pl sh pn al lo hi cn h hP
  have h' := h
  obtain ⟨hp, hp6, hc1, hc6, hW, hB, hS⟩ := h'
  unfold wpX_release
  rcases ej_hold (c := c) (ak := ak) (en := en) (kn := kn) (al := al) (us := us) (fr := fr) (un := un) (bu := bu) (bf := bf) (bt := bt) (af := af) (au := au) (pl := pl) (sh := sh) (pn := pn) (lo := lo) (hi := hi) (cn := cn) hc6 hW v1 with ⟨id, rfl, hid, hu, ox, oy⟩ | ⟨ox, oy⟩
  · refine ox _ (br_f (by decide) ⟨vp_in_nI (by omega) (by omega), ?_⟩)
    unfold wpY_release
    exact oy _ (br_f (by decide) ⟨vp_in_nI (by omega) (by omega), rfl, ej_in h hP⟩)
  · refine ox _ (br_t rfl ?_)
    unfold wpY_release
    exact oy _ (br_t rfl ⟨rfl, ej_in h hP⟩)
theorem i_vc_deadline {k : Nat} {u : SX} {v : SY} (I : i_Rel k u v) (hk : k + 4 ≤ 2050) (v1 : Int32) : wpX_deadline (fun r => wpY_deadline (fun r' => r' = r ∧ i_Rel (k + 4) u v) v v1) u v1 := by
  refine ej_el (P := fun u v => wpX_deadline (fun r => wpY_deadline (fun r' => r' = r ∧ i_Rel (k + 4) u v) v v1) u v1) ?_ I
  intro p c ak en kn us fr un bu bf bt af au pl sh pn al lo hi cn h hP
  have h' := h
  obtain ⟨hp, hp6, hc1, hc6, hW, hB, hS⟩ := h'
  unfold wpX_deadline
  rcases ej_hold (c := c) (ak := ak) (en := en) (kn := kn) (al := al) (us := us) (fr := fr) (un := un) (bu := bu) (bf := bf) (bt := bt) (af := af) (au := au) (pl := pl) (sh := sh) (pn := pn) (lo := lo) (hi := hi) (cn := cn) hc6 hW v1 with ⟨id, rfl, hid, hu, ox, oy⟩ | ⟨ox, oy⟩
  · refine ox _ (br_f (by decide) ⟨vp_in_nI (by omega) (by omega), ?_⟩)
    unfold wpY_deadline
    exact oy _ (br_f (by decide) ⟨vp_in_nI (by omega) (by omega), rfl, ej_in h hP⟩)
  · refine ox _ (br_t rfl ?_)
    unfold wpY_deadline
    exact oy _ (br_t rfl ⟨rfl, ej_in h hP⟩)
theorem i_vc_jobs {k : Nat} {u : SX} {v : SY} (I : i_Rel k u v) (hk : k + 4 ≤ 2050) : wpX_jobs (fun r => wpY_jobs (fun r' v' => r' = r ∧ i_Rel (k + 4) u v') v) u := by
  refine ej_el (P := fun u v => wpX_jobs (fun r => wpY_jobs (fun r' v' => r' = r ∧ i_Rel (k + 4) u v') v) u) ?_ I
  intro p c ak en kn us fr un bu bf bt af au pl sh pn al lo hi cn h hP
  have h' := h
  obtain ⟨hp, hp6, hc1, hc6, hW, hB, hS⟩ := h'
  refine ⟨c + 1, ej_jb hc6 (fun a ha hb => ?_) (c + 1) 0 0 (by omega) (by omega) (by omega) (fun j => ?_)⟩
  · unfold wpY_jobs
    refine ej_ya0 hW (fun A lo hi hA q => ⟨?_, ej_in h hP⟩)
    have e : A = a := by
      apply Nat.eq_of_testBit_eq
      intro i
      apply Bool.eq_iff_iff.mpr
      rw [hb i, q.2.1 i]
      exact ej_sn hc6 hW
    rw [e]
  · rw [Nat.zero_testBit]
    exact ⟨fun z => absurd z Bool.false_ne_true, fun z => by omega⟩
theorem i_vc_unblock {k : Nat} {u : SX} {v : SY} (I : i_Rel k u v) (hk : k + 4 ≤ 2050) (v1 : Int32) : wpX_unblock (fun r u' => wpY_unblock (fun r' v' => r' = r ∧ i_Rel (k + 4) u' v') v v1) u v1 := by
  refine ej_el (P := fun u v => wpX_unblock (fun r u' => wpY_unblock (fun r' v' => r' = r ∧ i_Rel (k + 4) u' v') v v1) u v1) ?_ I
  intro p c ak en kn us fr un bu bf bt af au pl sh pn al lo hi cn h hP
  by_cases h0 : v1 < 0
  · exact br_t h0 (br_t h0 ⟨rfl, ej_in h hP⟩)
  by_cases h4 : 4 ≤ v1
  · exact br_f h0 (br_t h4 (br_f h0 (br_t h4 ⟨rfl, ej_in h hP⟩)))
  obtain ⟨j, hj, rfl⟩ := nI_of h0
  have hj4 : j < 4 := by
    have := (nI_leI (a := 4) (b := j) (by omega) hj)
    rcases Nat.lt_or_ge j 4 with z | z
    · exact z
    · exact absurd (this.mpr z) h4
  have ec : (nI j).toNatClampNeg = j := nI_clamp (by omega)
  have hv : vp_in (nI j) 4 := vp_in_nI (by omega) (by omega)
  have e1 : upd bu (nI j).toNatClampNeg (vp_nar .boolean 0) = upd bu j 0 := by rw [ec, ej_b0]
  by_cases z : bu (nI j).toNatClampNeg = 0
  · exact br_f h0 (br_f h4 ⟨hv, br_t z (br_f h0 (br_f h4 ⟨hv, br_t z ⟨rfl, ej_in h hP⟩⟩))⟩)
  · exact br_f h0 (br_f h4 ⟨hv, br_f z ⟨hv, nm_r e1 (br_f h0 (br_f h4 ⟨hv, br_f z ⟨hv, nm_r e1 ⟨rfl, ej_in (ej_INu h) (fun z => absurd rfl z)⟩⟩⟩))⟩⟩)
end
section
theorem i_vc_block {k : Nat} {u : SX} {v : SY} (I : i_Rel k u v) (hk : k + 4 ≤ 2050) (v1 : Int32) (v2 : Int32) : wpX_block (fun r u' => wpY_block (fun r' v' => r' = r ∧ i_Rel (k + 4) u' v') v v1 v2) u v1 v2 := by
  refine ej_el (P := fun u v => wpX_block (fun r u' => wpY_block (fun r' v' => r' = r ∧ i_Rel (k + 4) u' v') v v1 v2) u v1 v2) ?_ I
  intro p c ak en kn us fr un bu bf bt af au pl sh pn al lo hi cn h hP
  have h' := h
  obtain ⟨hp, hp6, hc1, hc6, hW, hB, hS⟩ := h'
  by_cases h0 : v1 < 0
  · exact br_t h0 (br_t h0 ⟨rfl, ej_in h hP⟩)
  by_cases h40 : 40 < v2
  · exact br_f h0 (br_t h40 (br_f h0 (br_c (fun _ => ⟨rfl, ej_in h hP⟩) (fun _ => br_f (Int32.not_le.mpr h40) ⟨rfl, ej_in h hP⟩))))
  by_cases hlt : v1 < v2
  · obtain ⟨a, ha, rfl⟩ := nI_of h0
    have h0' : ¬ v2 < 0 := fun z => h0 (Int32.lt_trans hlt z)
    obtain ⟨b, hb, rfl⟩ := nI_of2 (M := 40) (n := 40) (by decide) h0' (Int32.not_lt.mp h40)
    have hab := (nI_ltI ha (by omega)).mp hlt
    obtain ⟨q, hq, hqu, bx, yy⟩ := ej_blk (p := p) (c := c) (ak := ak) (en := en) (kn := kn) (al := al) (us := us) (fr := fr) (un := un) (bu := bu) (bf := bf) (bt := bt) (af := af) (au := au) (pl := pl) (sh := sh) (pn := pn) (lo := lo) (hi := hi) (cn := cn) 4 0 rfl
    refine br_f h0 (br_f h40 (br_t hlt ⟨5, bx _ _ _ ?_⟩))
    have yb : ∀ post : Int32 → SY → Prop, wY_block_39 post (nI a) (nI b) (nI q) (nI p) (nI c) al us fr un bu bf bt lo hi cn → wpY_block post (nI p, nI c, al, us, fr, un, bu, bf, bt, lo, hi, cn) (nI a) (nI b) := fun post hh =>
      br_f h0 (br_f (Int32.not_le.mpr hlt) (br_t (Int32.not_lt.mp h40) ⟨5, yy _ _ _ hh⟩))
    unfold wX_block_39
    by_cases hq4 : q = 4
    · subst hq4
      refine br_f (nI_nlt (b := 4) (by omega) (by omega)) (yb _ ?_)
      unfold wY_block_39
      exact br_t rfl ⟨rfl, ej_in h hP⟩
    · have hq0 : bu q = 0 := by
        rcases hqu with z | z
        · exact absurd z hq4
        · exact z
      have hv : vp_in (nI q) 4 := vp_in_nI (by omega) (by omega)
      have ec : (nI q).toNatClampNeg = q := nI_clamp (by omega)
      have e1 : upd bu (nI q).toNatClampNeg (vp_nar .boolean 1) = upd bu q 1 := by rw [ec, ej_b1]
      have e2 : upd bf (nI q).toNatClampNeg (vp_nar .byte (nI a).toInt8.toInt32) = upd bf q (nI a) := by rw [ec, ej_by (by omega)]
      have e3 : upd bt (nI q).toNatClampNeg (vp_nar .byte (nI b).toInt8.toInt32) = upd bt q (nI b) := by rw [ec, ej_by (by omega)]
      have e4 : upd bf (nI q).toNatClampNeg (nI a) = upd bf q (nI a) := by rw [ec]
      have e5 : upd bt (nI q).toNatClampNeg (nI b) = upd bt q (nI b) := by rw [ec]
      have e6 : upd (upd bu q 1) (nI q).toNatClampNeg (vp_nar .boolean 0) = upd (upd bu q 1) q 0 := by rw [ec, ej_b0]
      have hne : ¬ nI q = 4 := fun z => by
        have := (nI_eq (a := q) (b := 4) (by omega) (by omega)).mp z
        omega
      have hB' := ej_BWb (k := q) (a := a) (b := b) hB (by omega) (by omega)
      refine br_t (nI_lt (b := 4) (by omega) (by omega)) ⟨hv, nm_r e1 ⟨hv, nm_r e2 ⟨hv, nm_r e3 ?_⟩⟩⟩
      refine ej_aa hc6 (ej_pw0 hc6 hW) (fun m af au hm qx => ?_)
      refine ej_fq hp hp6 (by omega) (ej_xqs hc6 hW qx) (ej_w40 hW) hB' (fun r en pl sh hF => ?_)
      by_cases hT : ej_Sch p (ej_BB p (upd bu q 1) (upd bf q (nI a)) (upd bt q (nI b))) (ej_S us) (ej_cl fr) (ej_cl un)
      · rw [ej_FA1 hF hT]
        refine br_f (by decide) (yb _ ?_)
        unfold wY_block_39
        refine br_f hne ⟨hv, nm_r e1 ⟨hv, nm_r e4 ⟨hv, nm_r e5 ?_⟩⟩⟩
        refine ej_ya0 hW (fun A lo hi hA qy => ?_)
        refine ej_yf hp hp6 qy (ej_w40 hW) hB' (fun r cn hY => ?_)
        rw [ej_YA1 hY hT]
        exact br_f (by decide) ⟨rfl, ej_in ⟨hp, hp6, hc1, hc6, hW, hB', hT⟩ (fun z => absurd rfl z)⟩
      · rw [ej_FA0 hF hT]
        refine br_t rfl ⟨hv, nm_r e6 (yb _ ?_)⟩
        unfold wY_block_39
        refine br_f hne ⟨hv, nm_r e1 ⟨hv, nm_r e4 ⟨hv, nm_r e5 ?_⟩⟩⟩
        refine ej_ya0 hW (fun A lo hi hA qy => ?_)
        refine ej_yf hp hp6 qy (ej_w40 hW) hB' (fun r cn hY => ?_)
        rw [ej_YA0 hY hT]
        refine br_t rfl ⟨hv, nm_r e6 ⟨rfl, ej_in ⟨hp, hp6, hc1, hc6, hW, ej_BWr hB, ?_⟩ (fun z => ?_)⟩⟩
        · rw [ej_BBr hq0]; exact hS
        · have hz := hP z
          unfold ej_PP at hz ⊢
          rw [ej_BBr hq0]; exact hz
  · exact br_f h0 (br_f h40 (br_f hlt (br_f h0 (br_t (Int32.not_lt.mp hlt) ⟨rfl, ej_in h hP⟩))))
theorem i_vc_open {k : Nat} {u : SX} {v : SY} (I : i_Rel k u v) (hk : k + 4 ≤ 2050) (v1 : Int32) : wpX_open (fun r u' => wpY_open (fun r' v' => r' = r ∧ i_Rel (k + 4) u' v') v v1) u v1 := by
  refine ej_el (P := fun u v => wpX_open (fun r u' => wpY_open (fun r' v' => r' = r ∧ i_Rel (k + 4) u' v') v v1) u v1) ?_ I
  intro p c ak en kn us fr un bu bf bt af au pl sh pn al lo hi cn h hP
  have h' := h
  obtain ⟨hp, hp6, hc1, hc6, hW, hB, hS⟩ := h'
  by_cases h0 : v1 < 0
  · exact br_t h0 (br_t h0 ⟨rfl, ej_in h hP⟩)
  obtain ⟨t, ht, rfl⟩ := nI_of h0
  have e40 : (40 : Int32) - nI p = nI (40 - p) := ej_sub (a := 40) (by omega)
  by_cases hle : t ≤ 40 - p
  · have hx : nI t ≤ 40 - nI p := by rw [e40]; exact nI_le hle (by omega)
    have hy1 : ¬ 40 < nI t := nI_nlt (a := 40) (by omega) (by omega)
    have hy2 : nI t + nI p ≤ 40 := by rw [nI_add]; exact nI_le (b := 40) (by omega) (by omega)
    have h6 : ¬ ej_S us 6 := fun z => by have := z.1; omega
    have hw := ej_uw (k := 6) (ej_w40 hW) (by omega : t ≤ 40) (by omega : t + p ≤ 40)
    refine br_f h0 (br_t hx ?_)
    refine ej_aa hc6 (ej_pw0 hc6 hW) (fun m af au hm q => ?_)
    refine ej_ask (r := t) (d := t + p) (by omega) rfl (nI_add t p) (by omega) (by omega) ?_
    refine ej_fq hp hp6 (by omega) (ej_xqb hc6 hW (by omega) h6 q) hw hB (fun r en pl sh hF => ?_)
    by_cases hT : ej_T p us fr un bu bf bt 6 t (t + p)
    · rw [ej_FA1 hF hT]
      refine ⟨narrow_b1, br_f h0 (br_f hy1 (br_t hy2 ?_))⟩
      refine ej_ya0 hW (fun A lo hi hA q => ?_)
      refine ej_ywin (j := 6) hA (by omega) rfl ?_
      rw [nI_add]
      refine ej_yf hp hp6 (ej_yqa (k := 6) (by omega) q) hw hB (fun r cn hY => ?_)
      rw [ej_YA1 hY hT]
      exact ⟨narrow_b1, rfl, ej_in h hP⟩
    · rw [ej_FA0 hF hT]
      refine ⟨narrow_b0, br_f h0 (br_f hy1 (br_t hy2 ?_))⟩
      refine ej_ya0 hW (fun A lo hi hA q => ?_)
      refine ej_ywin (j := 6) hA (by omega) rfl ?_
      rw [nI_add]
      refine ej_yf hp hp6 (ej_yqa (k := 6) (by omega) q) hw hB (fun r cn hY => ?_)
      rw [ej_YA0 hY hT]
      exact ⟨narrow_b0, rfl, ej_in h hP⟩
  · have hx : ¬ nI t ≤ 40 - nI p := by rw [e40]; exact nI_ge (by omega) (by omega)
    refine br_f h0 (br_f hx (br_f h0 (br_c (fun _ => ⟨rfl, ej_in h hP⟩) (fun g => br_f ?_ ⟨rfl, ej_in h hP⟩))))
    have ht40 : t ≤ 40 := by
      rcases Nat.lt_or_ge 40 t with z | z
      · exact absurd (nI_lt (a := 40) z ht) g
      · exact z
    rw [nI_add]
    exact nI_ge (a := 40) (by omega) (by omega)
section VC
variable {p c : Nat} {L C ak en kn al : Int32} {us fr un bu bf bt af au pl sh pn lo hi cn : Nat → Int32}
theorem ej_yee {post : Int32 → SY → Prop} {T : Nat} (h : ej_IN p c us fr un bu bf bt) (hT : T ≤ 40) (h1 : ej_Sch p (ej_BB p bu bf bt) (ej_S us) (ej_cl fr) (fun i => min (ej_cl un i) T))
    (h2 : ∀ E, ej_Sch p (ej_BB p bu bf bt) (ej_S us) (ej_cl fr) (fun i => min (ej_cl un i) E) → T ≤ E) (K : ∀ (al : Int32) (lo hi cn : Nat → Int32), post (nI T) (nI p, nI c, al, us, fr, un, bu, bf, bt, lo, hi, cn)) :
    ∀ d n e (al : Int32) (lo hi cn : Nat → Int32), e + d = T → d < n → wY_earliestEnd_2 post n (nI e) (nI p) (nI c) al us fr un bu bf bt lo hi cn := by
  obtain ⟨hp, hp6, hc1, hc6, hW, hB, hS⟩ := h
  intro d
  induction d with
  | zero =>
    intro n e al lo hi cn he hn
    obtain ⟨n, rfl⟩ : ∃ n', n = n' + 1 := ⟨n - 1, by omega⟩
    have : e = T := by omega
    subst this
    rw [wY_earliestEnd_2]; dsimp only
    refine br_f (nI_nlt (a := 40) (by omega) (by omega)) ?_
    refine ej_ya (b := 0) (by omega) hT hW (fun A lo hi q => ?_)
    refine ej_yf hp hp6 q (fun j hj => by have := ej_w40 hW j hj; omega) hB (fun r cn hY => ?_)
    rw [ej_YA1 hY (ej_mo h1 (fun _ z => z) (fun _ z => z) (fun _ _ => by omega) (fun _ _ => Nat.le_refl _))]
    exact br_f (by decide) (K _ _ _ _)
  | succ d ih =>
    intro n e al lo hi cn he hn
    obtain ⟨n, rfl⟩ : ∃ n', n = n' + 1 := ⟨n - 1, by omega⟩
    rw [wY_earliestEnd_2]; dsimp only
    refine br_f (nI_nlt (a := 40) (by omega) (by omega)) ?_
    refine ej_ya (b := 0) (by omega) (by omega) hW (fun A lo hi q => ?_)
    refine ej_yf hp hp6 q (fun j hj => by have := ej_w40 hW j hj; omega) hB (fun r cn hY => ?_)
    rw [ej_YA0 hY (fun z => by
      have := h2 e (ej_mo z (fun _ z => z) (fun _ z => z) (fun _ _ => by omega) (fun _ _ => Nat.le_refl _))
      omega)]
    exact br_t rfl (nm_r (nI_1 e) (ih n (e + 1) _ _ _ _ (by omega) (by omega)))
theorem ej_down {P : Nat → Prop} : ∀ N, P 0 → ∃ s, s ≤ N ∧ P s ∧ ∀ b, s < b → b ≤ N → ¬ P b := by
  intro N
  induction N with
  | zero => intro h; exact ⟨0, by omega, h, fun b h1 h2 => by omega⟩
  | succ N ih =>
    intro h
    by_cases hN : P (N + 1)
    · exact ⟨N + 1, by omega, hN, fun b h1 h2 => by omega⟩
    · obtain ⟨s, h1, h2, h3⟩ := ih h
      refine ⟨s, by omega, h2, fun b g1 g2 => ?_⟩
      by_cases e : b = N + 1
      · rw [e]; exact hN
      · exact h3 b g1 (by omega)
def ej_G (p : Nat) (us fr un bu bf bt : Nat → Int32) (b : Nat) : Prop := ej_Sch p (ej_BB p bu bf bt) (ej_S us) (fun j => max (ej_cl fr j) b) (ej_cl un)
theorem ej_xlb {post : Int32 → SX → Prop} {s : Nat} (h : ej_IN p c us fr un bu bf bt) (hs : s ≤ 40) (h1 : ej_G p us fr un bu bf bt s) (h2 : ∀ b, s < b → b ≤ 40 → ¬ ej_G p us fr un bu bf bt b)
    (K : ∀ (ak en : Int32) (af au pl sh : Nat → Int32), post (nI s) (nI p, nI c, ak, en, kn, us, fr, un, bu, bf, bt, af, au, pl, sh, pn)) :
    ∀ d n x a b (ak en : Int32) (af au pl sh : Nat → Int32), x + d = 8 → d < n → a ≤ s → s ≤ b → b ≤ 40 → b - a < 2 ^ d → wX_latestBegin_7 post n (nI a) (nI b) (nI x) (nI p) (nI c) ak en kn us fr un bu bf bt af au pl sh pn := by
  obtain ⟨hp, hp6, hc1, hc6, hW, hB, hS⟩ := h
  have hmo : ∀ b, b ≤ s → ej_G p us fr un bu bf bt b := fun b hb => ej_mo h1 (fun _ z => z) (fun _ z => z) (fun j _ => by omega) (fun _ _ => Nat.le_refl _)
  intro d
  induction d with
  | zero =>
    intro n x a b ak en af au pl sh hx hn ha hb hb40 hd
    obtain ⟨n, rfl⟩ : ∃ n', n = n' + 1 := ⟨n - 1, by omega⟩
    have hd' : b - a < 1 := hd
    have e : a = s := by omega
    subst e
    exact br_t (nI_le (a := 8) (by omega) (by omega)) (K _ _ _ _ _ _)
  | succ d ih =>
    intro n x a b ak en af au pl sh hx hn ha hb hb40 hd
    obtain ⟨n, rfl⟩ : ∃ n', n = n' + 1 := ⟨n - 1, by omega⟩
    rw [wX_latestBegin_7]; dsimp only
    refine br_f (nI_ge (b := 8) (by omega) (by omega)) (ej_if (nI_leI (by omega) (by omega)) (fun g => ?_) (fun g => ?_))
    · have e : a = s := by omega
      subst e
      exact K _ _ _ _ _ _
    · have em : (nI a + nI b + 1) >>> ((1 : Int32) &&& 31) = nI ((a + b + 1) / 2) := by
        rw [nI_add, nI_1]; exact ej_half (by omega)
      have h2d : 2 ^ (d + 1) = 2 * 2 ^ d := by rw [Nat.pow_succ]; omega
      refine nm_r em ?_
      refine ej_aa hc6 (ej_pw0 hc6 hW) (fun m af au hm q => ?_)
      have q' := ej_xqs hc6 hW q
      refine ej_raw (by omega) (by omega) q' (fun j hj => (ej_w40 hW j hj).1) (fun af q2 => ?_)
      refine ej_fq hp hp6 (by omega) q2 (fun j hj => by have := ej_w40 hW j hj; omega) hB (fun r en pl sh hF => ?_)
      by_cases hT : (a + b + 1) / 2 ≤ s
      · rw [ej_FA1 hF (hmo _ hT)]
        exact br_f (by decide) (nm_r (nI_1 x) (ih n (x + 1) _ b _ _ _ _ _ _ (by omega) (by omega) hT hb hb40 (by omega)))
      · rw [ej_FA0 hF (h2 _ (by omega) (by omega))]
        refine br_t rfl (nm_r (e' := nI ((a + b + 1) / 2 - 1)) ?_ (nm_r (nI_1 x) (ih n (x + 1) a _ _ _ _ _ _ _ (by omega) (by omega) ha (by omega) (by omega) (by omega))))
        exact ej_sub (b := 1) (by omega)
theorem ej_ylb {post : Int32 → SY → Prop} {s : Nat} (h : ej_IN p c us fr un bu bf bt) (h1 : ej_G p us fr un bu bf bt s) (h2 : ∀ b, s < b → b ≤ 40 → ¬ ej_G p us fr un bu bf bt b)
    (K : ∀ (al : Int32) (lo hi cn : Nat → Int32), post (nI s) (nI p, nI c, al, us, fr, un, bu, bf, bt, lo, hi, cn)) :
    ∀ d n (al : Int32) (lo hi cn : Nat → Int32), s + d ≤ 40 → d < n → wY_latestBegin_3 post n (nI (s + d)) (nI p) (nI c) al us fr un bu bf bt lo hi cn := by
  obtain ⟨hp, hp6, hc1, hc6, hW, hB, hS⟩ := h
  intro d
  induction d with
  | zero =>
    intro n al lo hi cn he hn
    obtain ⟨n, rfl⟩ : ∃ n', n = n' + 1 := ⟨n - 1, by omega⟩
    rw [wY_latestBegin_3]; dsimp only
    refine br_f (nI_pos (by omega)) ?_
    refine ej_ya (e := 40) (by omega) (by omega) hW (fun A lo hi q => ?_)
    refine ej_yf hp hp6 q (fun j hj => by have := ej_w40 hW j hj; omega) hB (fun r cn hY => ?_)
    rw [ej_YA1 hY (ej_mo h1 (fun _ z => z) (fun _ z => z) (fun _ _ => Nat.le_refl _) (fun j hj => by have := ej_w40 hW j hj; omega))]
    exact br_f (by decide) (K _ _ _ _)
  | succ d ih =>
    intro n al lo hi cn he hn
    obtain ⟨n, rfl⟩ : ∃ n', n = n' + 1 := ⟨n - 1, by omega⟩
    rw [wY_latestBegin_3]; dsimp only
    refine br_f (nI_pos (by omega)) ?_
    refine ej_ya (e := 40) (by omega) (by omega) hW (fun A lo hi q => ?_)
    refine ej_yf hp hp6 q (fun j hj => by have := ej_w40 hW j hj; omega) hB (fun r cn hY => ?_)
    rw [ej_YA0 hY (fun z => h2 (s + (d + 1)) (by omega) (by omega) (ej_mo z (fun _ z => z) (fun _ z => z) (fun _ _ => Nat.le_refl _) (fun j hj => Nat.min_le_left _ _)))]
    exact br_t rfl (nm_r (ej_m1 (s + d)) (ih n _ _ _ _ (by omega) (by omega)))
end VC
theorem i_vc_earliestEnd {k : Nat} {u : SX} {v : SY} (I : i_Rel k u v) (hk : k + 4 ≤ 2050) : wpX_earliestEnd (fun r u' => wpY_earliestEnd (fun r' v' => r' = r ∧ i_Rel (k + 4) u' v') v) u := by
  refine ej_el (P := fun u v => wpX_earliestEnd (fun r u' => wpY_earliestEnd (fun r' v' => r' = r ∧ i_Rel (k + 4) u' v') v) u) ?_ I
  intro p c ak en kn us fr un bu bf bt af au pl sh pn al lo hi cn h hP
  have h' := h
  obtain ⟨hp, hp6, hc1, hc6, hW, hB, hS⟩ := h'
  unfold wpX_earliestEnd
  refine ej_aa hc6 (ej_pw0 hc6 hW) (fun m af au hm q => ?_)
  refine ej_fq hp hp6 (by omega) (ej_xqs hc6 hW q) (ej_w40 hW) hB (fun r en pl sh hF => ?_)
  rcases hF with ⟨rfl, _, T, rfl, hT, h1, h2⟩ | ⟨_, hn⟩
  · exact ⟨T + 1, ej_yee h hT h1 h2 (fun al lo hi cn => ⟨rfl, ej_in h hP⟩) T (T + 1) 0 _ _ _ _ (by omega) (by omega)⟩
  · exact absurd hS hn
theorem i_vc_latestBegin {k : Nat} {u : SX} {v : SY} (I : i_Rel k u v) (hk : k + 4 ≤ 2050) : wpX_latestBegin (fun r u' => wpY_latestBegin (fun r' v' => r' = r ∧ i_Rel (k + 4) u' v') v) u := by
  refine ej_el (P := fun u v => wpX_latestBegin (fun r u' => wpY_latestBegin (fun r' v' => r' = r ∧ i_Rel (k + 4) u' v') v) u) ?_ I
  intro p c ak en kn us fr un bu bf bt af au pl sh pn al lo hi cn h hP
  have h' := h
  obtain ⟨hp, hp6, hc1, hc6, hW, hB, hS⟩ := h'
  obtain ⟨s, hs, h1, h2⟩ := ej_down (P := ej_G p us fr un bu bf bt) 40 (ej_mo hS (fun _ z => z) (fun _ z => z) (fun j _ => by omega) (fun _ _ => Nat.le_refl _))
  refine ⟨9, ej_xlb h hs h1 h2 (fun ak en af au pl sh => ?_) 8 9 0 0 40 _ _ _ _ _ _ (by omega) (by omega) (by omega) hs (by omega) (by decide)⟩
  have Y := ej_ylb (post := fun r' v' => r' = nI s ∧ i_Rel (k + 4) (nI p, nI c, ak, en, kn, us, fr, un, bu, bf, bt, af, au, pl, sh, pn) v') h h1 h2 (fun al lo hi cn => ⟨rfl, ej_in h hP⟩) (40 - s) 41 al lo hi cn (by omega) (by omega)
  rw [show s + (40 - s) = 40 from by omega] at Y
  exact ⟨41, Y⟩
end
section
theorem ej_Fi {p : Nat} {B S : Nat → Prop} {lo hi : Nat → Nat} {j a m : Nat} (hj : S j) :
    ej_Sch p B S (ej_up lo j a) (ej_up hi j (m + p)) ↔ ∃ s, a ≤ s ∧ s ≤ m ∧ ej_F p B S lo hi j s := by
  constructor
  · intro ⟨σ, h1, h2⟩
    obtain ⟨b1, b2, b3⟩ := h1 j hj
    rw [ej_ups] at b1 b2
    refine ⟨σ j, b1, by omega, σ, fun i hi => ?_, h2⟩
    by_cases e : i = j
    · subst e; rw [ej_ups, ej_ups]; exact ⟨Nat.le_refl _, Nat.le_refl _, b3⟩
    · have := h1 i hi
      rw [ej_upn e, ej_upn e] at this ⊢
      exact this
  · intro ⟨s, h1, h2, σ, g1, g2⟩
    refine ⟨σ, fun i hi => ?_, g2⟩
    have := g1 i hi
    by_cases e : i = j
    · subst e
      rw [ej_ups, ej_ups] at this ⊢
      exact ⟨by omega, by omega, this.2.2⟩
    · rw [ej_upn e, ej_upn e] at this ⊢
      exact this
theorem ej_least {P : Nat → Prop} (a : Nat) : ∀ d, P (a + d) → ∃ s, a ≤ s ∧ s ≤ a + d ∧ P s ∧ ∀ s', a ≤ s' → s' < s → ¬ P s' := by
  intro d
  induction d using Nat.strongRecOn with
  | ind d ih =>
    intro h
    by_cases z : ∃ s', a ≤ s' ∧ s' < a + d ∧ P s'
    · obtain ⟨s', z1, z2, z3⟩ := z
      obtain ⟨s, g1, g2, g3, g4⟩ := ih (s' - a) (by omega) (by rw [show a + (s' - a) = s' from by omega]; exact z3)
      exact ⟨s, g1, by omega, g3, g4⟩
    · exact ⟨a + d, by omega, by omega, h, fun s' z1 z2 z3 => z ⟨s', z1, z2, z3⟩⟩
theorem ej_great {P : Nat → Prop} {a b q : Nat} (h : P a) (h1 : q ≤ a) (h2 : a ≤ b) : ∃ s, q ≤ s ∧ s ≤ b ∧ P s ∧ ∀ s', s < s' → s' ≤ b → ¬ P s' := by
  obtain ⟨s, g1, g2, g3⟩ := ej_down (P := fun x => P (a + x)) (b - a) h
  refine ⟨a + s, by omega, by omega, g2, fun s' z1 z2 z3 => ?_⟩
  refine g3 (s' - a) (by omega) (by omega) ?_
  show P (a + (s' - a))
  rw [show a + (s' - a) = s' from by omega]
  exact z3
section ST
variable {p c : Nat} {L C ak en kn al : Int32} {us fr un bu bf bt af au pl sh pn lo hi cn : Nat → Int32}
theorem ej_sid {B : Nat → Prop} {id : Nat} {l h : Nat → Nat} (hid : ej_S us id) : ej_Sch p B (fun j => ej_S us j ∨ j = id) l h ↔ ej_Sch p B (ej_S us) l h :=
  ej_cg (fun _ => Iff.rfl) (fun j => ⟨fun z => Or.inl z, fun z => by
    rcases z with z | z
    · exact z
    · rw [z]; exact hid⟩) (fun _ _ => rfl) (fun _ _ => rfl)
theorem ej_pww {pins id a b : Nat} {wl wh : Nat → Nat} (hc : c ≤ 6) (hW : ej_WW p c us fr un) (hP : ej_PW p c pins (nI id) us fr un pn wl wh) (hid : id < 7) (ha : a ≤ 40) (hb : b ≤ 40) :
    ∀ j, (ej_S us j ∨ j = id) → ej_up wl id a j ≤ 40 ∧ ej_up wh id b j ≤ 40 := by
  intro j hj
  by_cases e : j = id
  · subst e; rw [ej_ups, ej_ups]; exact ⟨ha, hb⟩
  · rw [ej_upn e, ej_upn e]
    rcases hj with z | z
    · obtain ⟨z1, z2⟩ := (ej_sn hc hW).mp z
      exact (hP j z1 z2 (fun w => e ((nI_eq (by omega) (by omega)).mp w))).2.2
    · exact absurd z e
theorem ej_xel {post : Int32 → SX → Prop} {id pins r0 d0 s : Nat} {wl wh : Nat → Nat} (hp : 1 ≤ p) (hp6 : p ≤ 6) (hc6 : c ≤ 6) (hW : ej_WW p c us fr un) (hB : ej_BW bu bf bt)
    (hpn : pins ≤ 6) (hid : ej_S us id) (hP : ej_PW p c pins (nI id) us fr un pn wl wh) (er : fr id = nI r0) (hd : d0 ≤ 40)
    (hs1 : r0 ≤ s) (hF : ej_F p (ej_BB p bu bf bt) (ej_S us) wl wh id s) (hF2 : ∀ s', r0 ≤ s' → s' < s → ¬ ej_F p (ej_BB p bu bf bt) (ej_S us) wl wh id s')
    (K : ∀ (ak en : Int32) (af au pl sh : Nat → Int32), post (nI s) (nI p, nI c, ak, en, kn, us, fr, un, bu, bf, bt, af, au, pl, sh, pn)) :
    ∀ d n x a b (ak en : Int32) (af au pl sh : Nat → Int32), x + d = 8 → d < n → r0 ≤ a → a ≤ s → s ≤ b → b + p ≤ d0 → b - a < 2 ^ d → wX_earliestOf_23 post (nI id) (nI pins) n (nI a) (nI b) (nI x) (nI p) (nI c) ak en kn us fr un bu bf bt af au pl sh pn := by
  have hid6 := hid.1
  intro d
  induction d with
  | zero =>
    intro n x a b ak en af au pl sh hx hn hra ha hb hbd hd
    obtain ⟨n, rfl⟩ : ∃ n', n = n' + 1 := ⟨n - 1, by omega⟩
    have hd' : b - a < 1 := hd
    have e : a = s := by omega
    subst e
    exact br_t (nI_le (a := 8) (by omega) (by omega)) (K _ _ _ _ _ _)
  | succ d ih =>
    intro n x a b ak en af au pl sh hx hn hra ha hb hbd hdd
    obtain ⟨n, rfl⟩ : ∃ n', n = n' + 1 := ⟨n - 1, by omega⟩
    rw [wX_earliestOf_23]; dsimp only
    refine br_f (nI_ge (b := 8) (by omega) (by omega)) (ej_if (nI_leI (by omega) (by omega)) (fun g => ?_) (fun g => ?_))
    · have e : a = s := by omega
      subst e
      exact K _ _ _ _ _ _
    · have em : (nI a + nI b) >>> ((1 : Int32) &&& 31) = nI ((a + b) / 2) := by
        rw [nI_add]; exact ej_half (by omega)
      have h2d : 2 ^ (d + 1) = 2 * 2 ^ d := by rw [Nat.pow_succ]; omega
      have ec : (nI id).toNatClampNeg = id := nI_clamp (by omega)
      refine nm_r em ?_
      refine ej_ap hc6 hpn hP (fun m af au hm q => ⟨vp_in_nI (by omega) (by omega), ?_⟩)
      refine ej_ask (r := r0) (d := (a + b) / 2 + p) (by omega) (by rw [ec]; exact er) (nI_add _ _) (by omega) (by omega) ?_
      refine ej_fq hp hp6 (by omega) (ej_xqa hc6 hW (by omega) q) (ej_pww hc6 hW hP (by omega) (by omega) (by omega)) hB (fun r en pl sh hFA => ?_)
      have hiff := (ej_sid (p := p) (B := ej_BB p bu bf bt) (l := ej_up wl id r0) (h := ej_up wh id ((a + b) / 2 + p)) hid).trans (ej_Fi (B := ej_BB p bu bf bt) (lo := wl) (hi := wh) (a := r0) (m := (a + b) / 2) hid)
      by_cases hT : s ≤ (a + b) / 2
      · rw [ej_FA1 hFA (hiff.mpr ⟨s, hs1, hT, hF⟩)]
        exact br_f (by decide) (nm_r (nI_1 x) (ih n (x + 1) a _ _ _ _ _ _ _ (by omega) (by omega) hra ha hT (by omega) (by omega)))
      · rw [ej_FA0 hFA (fun z => by
          obtain ⟨s', z1, z2, z3⟩ := hiff.mp z
          exact hF2 s' z1 (by omega) z3)]
        exact br_t rfl (nm_r (nI_1 _) (nm_r (nI_1 x) (ih n (x + 1) _ b _ _ _ _ _ _ (by omega) (by omega) (by omega) (by omega) hb hbd (by omega))))
theorem ej_xeo {post : Int32 → SX → Prop} {id pins r0 d0 s : Nat} {wl wh : Nat → Nat} (hp : 1 ≤ p) (hp6 : p ≤ 6) (hc6 : c ≤ 6) (hW : ej_WW p c us fr un) (hB : ej_BW bu bf bt)
    (hpn : pins ≤ 6) (hid : ej_S us id) (hP : ej_PW p c pins (nI id) us fr un pn wl wh) (er : fr id = nI r0) (ed : un id = nI d0) (hd : d0 ≤ 40)
    (hs1 : r0 ≤ s) (hs2 : s + p ≤ d0) (hF : ej_F p (ej_BB p bu bf bt) (ej_S us) wl wh id s) (hF2 : ∀ s', r0 ≤ s' → s' < s → ¬ ej_F p (ej_BB p bu bf bt) (ej_S us) wl wh id s')
    (K : ∀ (ak en : Int32) (af au pl sh : Nat → Int32), post (nI s) (nI p, nI c, ak, en, kn, us, fr, un, bu, bf, bt, af, au, pl, sh, pn)) : wpX_earliestOf post (nI p, nI c, ak, en, kn, us, fr, un, bu, bf, bt, af, au, pl, sh, pn) (nI id) (nI pins) := by
  have hid6 := hid.1
  have ec : (nI id).toNatClampNeg = id := nI_clamp (by omega)
  have e1 : fr (nI id).toNatClampNeg = nI r0 := by rw [ec]; exact er
  have e2 : un (nI id).toNatClampNeg - nI p = nI (d0 - p) := by rw [ec, ed]; exact ej_sub (by omega)
  unfold wpX_earliestOf
  exact ⟨vp_in_nI (by omega) (by omega), nm_r e1 ⟨vp_in_nI (by omega) (by omega), nm_r e2 ⟨9, ej_xel hp hp6 hc6 hW hB hpn hid hP er hd hs1 hF hF2 K 8 9 0 r0 (d0 - p) _ _ _ _ _ _ (by omega) (by omega) (by omega) hs1 (by omega) (by omega) (by omega)⟩⟩⟩
theorem ej_xls {post : Int32 → SX → Prop} {id d0 s : Nat} (hp : 1 ≤ p) (hp6 : p ≤ 6) (hc6 : c ≤ 6) (hW : ej_WW p c us fr un) (hB : ej_BW bu bf bt)
    (hid : ej_S us id) (ed : un id = nI d0) (hd : d0 ≤ 40)
    (hs2 : s + p ≤ d0) (hF : ej_F p (ej_BB p bu bf bt) (ej_S us) (ej_cl fr) (ej_cl un) id s) (hF2 : ∀ s', s < s' → s' ≤ d0 - p → ¬ ej_F p (ej_BB p bu bf bt) (ej_S us) (ej_cl fr) (ej_cl un) id s')
    (K : ∀ (ak en : Int32) (af au pl sh : Nat → Int32), post (nI s) (nI p, nI c, ak, en, kn, us, fr, un, bu, bf, bt, af, au, pl, sh, pn)) :
    ∀ d n x a b (ak en : Int32) (af au pl sh : Nat → Int32), x + d = 8 → d < n → a ≤ s → s ≤ b → b + p ≤ d0 → b - a < 2 ^ d → wX_latestStart_32 post (nI id) n (nI a) (nI b) (nI x) (nI p) (nI c) ak en kn us fr un bu bf bt af au pl sh pn := by
  have hid6 := hid.1
  intro d
  induction d with
  | zero =>
    intro n x a b ak en af au pl sh hx hn ha hb hbd hd
    obtain ⟨n, rfl⟩ : ∃ n', n = n' + 1 := ⟨n - 1, by omega⟩
    have hd' : b - a < 1 := hd
    have e : a = s := by omega
    subst e
    exact br_t (nI_le (a := 8) (by omega) (by omega)) (K _ _ _ _ _ _)
  | succ d ih =>
    intro n x a b ak en af au pl sh hx hn ha hb hbd hdd
    obtain ⟨n, rfl⟩ : ∃ n', n = n' + 1 := ⟨n - 1, by omega⟩
    rw [wX_latestStart_32]; dsimp only
    refine br_f (nI_ge (b := 8) (by omega) (by omega)) (ej_if (nI_leI (by omega) (by omega)) (fun g => ?_) (fun g => ?_))
    · have e : a = s := by omega
      subst e
      exact K _ _ _ _ _ _
    · have em : (nI a + nI b + 1) >>> ((1 : Int32) &&& 31) = nI ((a + b + 1) / 2) := by
        rw [nI_add, nI_1]; exact ej_half (by omega)
      have h2d : 2 ^ (d + 1) = 2 * 2 ^ d := by rw [Nat.pow_succ]; omega
      have ec : (nI id).toNatClampNeg = id := nI_clamp (by omega)
      refine nm_r em ?_
      have hP : ej_PW p c 0 (nI id) us fr un pn (ej_cl fr) (ej_cl un) := ej_pw0 hc6 hW
      refine ej_aab hc6 hP (fun m af au hm q => ⟨vp_in_nI (by omega) (by omega), ?_⟩)
      refine ej_ask (r := (a + b + 1) / 2) (d := d0) (by omega) rfl (by rw [ec]; exact ed) (by omega) (by omega) ?_
      refine ej_fq hp hp6 (by omega) (ej_xqa hc6 hW (by omega) q) (ej_pww hc6 hW hP (by omega) (by omega) (by omega)) hB (fun r en pl sh hFA => ?_)
      have hiff := (ej_sid (p := p) (B := ej_BB p bu bf bt) (l := ej_up (ej_cl fr) id ((a + b + 1) / 2)) (h := ej_up (ej_cl un) id (d0 - p + p)) hid).trans (ej_Fi (B := ej_BB p bu bf bt) (lo := ej_cl fr) (hi := ej_cl un) (a := (a + b + 1) / 2) (m := d0 - p) hid)
      rw [show d0 - p + p = d0 from by omega] at hiff
      by_cases hT : (a + b + 1) / 2 ≤ s
      · rw [ej_FA1 hFA (hiff.mpr ⟨s, hT, by omega, hF⟩)]
        exact br_f (by decide) (nm_r (nI_1 x) (ih n (x + 1) _ b _ _ _ _ _ _ (by omega) (by omega) hT hb hbd (by omega)))
      · rw [ej_FA0 hFA (fun z => by
          obtain ⟨s', z1, z2, z3⟩ := hiff.mp z
          exact hF2 s' (by omega) z2 z3)]
        refine br_t rfl (nm_r (e' := nI ((a + b + 1) / 2 - 1)) ?_ (nm_r (nI_1 x) (ih n (x + 1) a _ _ _ _ _ _ _ (by omega) (by omega) ha (by omega) (by omega) (by omega))))
        exact ej_sub (b := 1) (by omega)
/-- the reference's question, but for job id -/
def ej_YN (A : Nat) (lo hi us : Nat → Int32) (wl wh : Nat → Nat) (id : Nat) : Prop :=
  ∃ l h, ej_YQ A lo hi (ej_S us) l h ∧ ∀ j, ej_S us j → j ≠ id → l j = wl j ∧ h j = wh j
theorem ej_YNw {A id s d : Nat} {wl wh : Nat → Nat} (hid : ej_S us id) (q : ej_YN A lo hi us wl wh id) :
    ej_YQ (A ||| 2 ^ id) (upd lo id (nI s)) (upd hi id (nI d)) (ej_S us) (ej_up wl id s) (ej_up wh id d) := by
  obtain ⟨l, h, q1, q2⟩ := q
  have hid6 := hid.1
  refine ej_YQa q1 (by omega) (fun i => ⟨fun z => Or.inl z, fun z => ?_⟩) (fun i hi e => ?_) (fun i hi e => ?_) ej_ups ej_ups
  · rcases z with z | z
    · exact z
    · rw [z]; exact hid
  · rw [ej_upn e]; exact (q2 i hi e).1.symm
  · rw [ej_upn e]; exact (q2 i hi e).2.symm
theorem ej_YNn {A id s d : Nat} {wl wh : Nat → Nat} (q : ej_YQ A lo hi (ej_S us) (ej_up wl id s) (ej_up wh id d)) : ej_YN A lo hi us wl wh id :=
  ⟨_, _, q, fun j _ e => ⟨ej_upn e, ej_upn e⟩⟩
theorem ej_YNq {A id : Nat} {wl wh : Nat → Nat} (q : ej_YQ A lo hi (ej_S us) wl wh) : ej_YN A lo hi us wl wh id := ⟨_, _, q, fun _ _ _ => ⟨rfl, rfl⟩⟩
theorem ej_w40u {id s d : Nat} {wl wh : Nat → Nat} (hw : ∀ j, ej_S us j → j ≠ id → wl j ≤ 40 ∧ wh j ≤ 40) (hs : s ≤ 40) (hd : d ≤ 40) : ∀ j, ej_S us j → ej_up wl id s j ≤ 40 ∧ ej_up wh id d j ≤ 40 := by
  intro j hj
  by_cases e : j = id
  · subst e; rw [ej_ups, ej_ups]; exact ⟨hs, hd⟩
  · rw [ej_upn e, ej_upn e]; exact hw j hj e
theorem ej_yes {post : Int32 → SY → Prop} {id r0 d0 s : Nat} (h : ej_IN p c us fr un bu bf bt) (hid : ej_S us id) (ed : un id = nI d0) (hd : d0 ≤ 40)
    (hs2 : s + p ≤ d0) (hF : ej_F p (ej_BB p bu bf bt) (ej_S us) (ej_cl fr) (ej_cl un) id s) (hF2 : ∀ s', r0 ≤ s' → s' < s → ¬ ej_F p (ej_BB p bu bf bt) (ej_S us) (ej_cl fr) (ej_cl un) id s')
    (K : ∀ (al : Int32) (lo hi cn : Nat → Int32), post (nI s) (nI p, nI c, al, us, fr, un, bu, bf, bt, lo, hi, cn)) :
    ∀ d n e A (lo hi cn : Nat → Int32), e + d = s → r0 ≤ e → d < n → A < 128 → ej_YN A lo hi us (ej_cl fr) (ej_cl un) id → wY_earliestStart_24 post (nI id) n (nI e) (nI p) (nI c) (nI A) us fr un bu bf bt lo hi cn := by
  obtain ⟨hp, hp6, hc1, hc6, hW, hB, hS⟩ := h
  have hid6 := hid.1
  have ec : (nI id).toNatClampNeg = id := nI_clamp (by omega)
  have hw := ej_w40 hW
  intro d
  induction d with
  | zero =>
    intro n e A lo hi cn he hr hn hA q
    obtain ⟨n, rfl⟩ : ∃ n', n = n' + 1 := ⟨n - 1, by omega⟩
    have : e = s := by omega
    subst this
    rw [wY_earliestStart_24]; dsimp only; rw [ec, ed, nI_add]
    refine ⟨vp_in_nI (by omega) (by omega), br_f (nI_nlt (by omega) (by omega)) ?_⟩
    refine ej_ywin hA (by omega) rfl ?_
    refine ej_yf hp hp6 (ej_YNw hid q) (ej_w40u (fun j hj _ => hw j hj) (by omega) (by omega)) hB (fun r cn hY => ?_)
    rw [ej_YA1 hY hF]
    exact br_f (by decide) (K _ _ _ _)
  | succ d ih =>
    intro n e A lo hi cn he hr hn hA q
    obtain ⟨n, rfl⟩ : ∃ n', n = n' + 1 := ⟨n - 1, by omega⟩
    rw [wY_earliestStart_24]; dsimp only; rw [ec, ed, nI_add]
    refine ⟨vp_in_nI (by omega) (by omega), br_f (nI_nlt (by omega) (by omega)) ?_⟩
    refine ej_ywin hA (by omega) rfl ?_
    have q' := ej_YNw (s := e) (d := e + p) hid q
    refine ej_yf hp hp6 q' (ej_w40u (fun j hj _ => hw j hj) (by omega) (by omega)) hB (fun r cn hY => ?_)
    rw [ej_YA0 hY (hF2 e hr (by omega))]
    exact br_t rfl (nm_r (nI_1 e) (ih n (e + 1) _ _ _ _ (by omega) (by omega) (by omega) q'.1 (ej_YNn q')))
theorem ej_yls {post : Int32 → SY → Prop} {id r0 d0 s : Nat} (h : ej_IN p c us fr un bu bf bt) (hid : ej_S us id) (er : fr id = nI r0) (hd : d0 ≤ 40)
    (hs1 : r0 ≤ s) (hF : ej_F p (ej_BB p bu bf bt) (ej_S us) (ej_cl fr) (ej_cl un) id s) (hF2 : ∀ s', s < s' → s' + p ≤ d0 → ¬ ej_F p (ej_BB p bu bf bt) (ej_S us) (ej_cl fr) (ej_cl un) id s')
    (K : ∀ (al : Int32) (lo hi cn : Nat → Int32), post (nI s) (nI p, nI c, al, us, fr, un, bu, bf, bt, lo, hi, cn)) :
    ∀ d n A (lo hi cn : Nat → Int32), s + d + p ≤ d0 → d < n → A < 128 → ej_YN A lo hi us (ej_cl fr) (ej_cl un) id → wY_latestStart_29 post (nI id) n (nI (s + d)) (nI p) (nI c) (nI A) us fr un bu bf bt lo hi cn := by
  obtain ⟨hp, hp6, hc1, hc6, hW, hB, hS⟩ := h
  have hid6 := hid.1
  have ec : (nI id).toNatClampNeg = id := nI_clamp (by omega)
  have hw := ej_w40 hW
  intro d
  induction d with
  | zero =>
    intro n A lo hi cn he hn hA q
    obtain ⟨n, rfl⟩ : ∃ n', n = n' + 1 := ⟨n - 1, by omega⟩
    rw [wY_latestStart_29]; dsimp only; rw [ec, er, nI_add]
    refine ⟨vp_in_nI (by omega) (by omega), br_f (nI_nlt (by omega) (by omega)) ?_⟩
    refine ej_ywin hA (by omega) rfl ?_
    refine ej_yf hp hp6 (ej_YNw hid q) (ej_w40u (fun j hj _ => hw j hj) (by omega) (by omega)) hB (fun r cn hY => ?_)
    rw [ej_YA1 hY hF]
    exact br_f (by decide) (K _ _ _ _)
  | succ d ih =>
    intro n A lo hi cn he hn hA q
    obtain ⟨n, rfl⟩ : ∃ n', n = n' + 1 := ⟨n - 1, by omega⟩
    rw [wY_latestStart_29]; dsimp only; rw [ec, er, nI_add]
    refine ⟨vp_in_nI (by omega) (by omega), br_f (nI_nlt (by omega) (by omega)) ?_⟩
    refine ej_ywin hA (by omega) rfl ?_
    have q' := ej_YNw (s := s + (d + 1)) (d := s + (d + 1) + p) hid q
    refine ej_yf hp hp6 q' (ej_w40u (fun j hj _ => hw j hj) (by omega) (by omega)) hB (fun r cn hY => ?_)
    rw [ej_YA0 hY (hF2 (s + (d + 1)) (by omega) (by omega))]
    exact br_t rfl (nm_r (ej_m1 (s + d)) (ih n _ _ _ _ (by omega) (by omega) q'.1 (ej_YNn q')))
/-- some start of job id is good -/
theorem ej_some {id : Nat} {B S : Nat → Prop} {wl wh : Nat → Nat} (hid : S id) (hS : ej_Sch p B S wl wh) : ∃ s, wl id ≤ s ∧ s + p ≤ wh id ∧ ej_F p B S wl wh id s := by
  obtain ⟨σ, h1, h2⟩ := hS
  obtain ⟨b1, b2, b3⟩ := h1 id hid
  refine ⟨σ id, b1, b2, σ, fun i hi => ?_, h2⟩
  by_cases e : i = id
  · subst e; rw [ej_ups, ej_ups]; exact ⟨Nat.le_refl _, Nat.le_refl _, b3⟩
  · rw [ej_upn e, ej_upn e]; exact h1 i hi
end ST
theorem i_vc_earliestStart {k : Nat} {u : SX} {v : SY} (I : i_Rel k u v) (hk : k + 4 ≤ 2050) (v1 : Int32) : wpX_earliestStart (fun r u' => wpY_earliestStart (fun r' v' => r' = r ∧ i_Rel (k + 4) u' v') v v1) u v1 := by
  refine ej_el (P := fun u v => wpX_earliestStart (fun r u' => wpY_earliestStart (fun r' v' => r' = r ∧ i_Rel (k + 4) u' v') v v1) u v1) ?_ I
  intro p c ak en kn us fr un bu bf bt af au pl sh pn al lo hi cn h hP
  have h' := h
  obtain ⟨hp, hp6, hc1, hc6, hW, hB, hS⟩ := h'
  unfold wpX_earliestStart
  rcases ej_hold (c := c) (ak := ak) (en := en) (kn := kn) (al := al) (us := us) (fr := fr) (un := un) (bu := bu) (bf := bf) (bt := bt) (af := af) (au := au) (pl := pl) (sh := sh) (pn := pn) (lo := lo) (hi := hi) (cn := cn) hc6 hW v1 with ⟨id, rfl, hid, hu, ox, oy⟩ | ⟨ox, oy⟩
  · have hSid : ej_S us id := ⟨by omega, hu⟩
    obtain ⟨er, ed, hrd, hd⟩ := ej_wj hW hSid
    obtain ⟨s0, a1, a2, a3⟩ := ej_some hSid hS
    obtain ⟨s, b1, b2, b3, b4⟩ := ej_least (P := ej_F p (ej_BB p bu bf bt) (ej_S us) (ej_cl fr) (ej_cl un) id) (ej_cl fr id) (s0 - ej_cl fr id) (by rw [show ej_cl fr id + (s0 - ej_cl fr id) = s0 from by omega]; exact a3)
    refine ox _ (br_f (by decide) ?_)
    refine ej_xeo (pins := 0) (wl := ej_cl fr) (wh := ej_cl un) hp hp6 hc6 hW hB (by omega) hSid (ej_pw0 hc6 hW) er ed hd b1 (by omega) b3 b4 (fun ak en af au pl sh => ?_)
    unfold wpY_earliestStart
    refine oy _ (br_f (by decide) ?_)
    refine ej_ya0 hW (fun A lo hi hA q => ⟨vp_in_nI (by omega) (by omega), ?_⟩)
    have e1 : fr (nI id).toNatClampNeg = nI (ej_cl fr id) := by rw [nI_clamp (by omega)]; exact er
    refine nm_r e1 ⟨s - ej_cl fr id + 1, ?_⟩
    exact ej_yes h hSid ed hd (by omega) b3 b4 (fun al lo hi cn => ⟨rfl, ej_in h hP⟩) (s - ej_cl fr id) _ _ A lo hi _ (by omega) (Nat.le_refl _) (by omega) hA (ej_YNq q)
  · refine ox _ (br_t rfl ?_)
    unfold wpY_earliestStart
    exact oy _ (br_t rfl ⟨rfl, ej_in h hP⟩)
theorem i_vc_latestStart {k : Nat} {u : SX} {v : SY} (I : i_Rel k u v) (hk : k + 4 ≤ 2050) (v1 : Int32) : wpX_latestStart (fun r u' => wpY_latestStart (fun r' v' => r' = r ∧ i_Rel (k + 4) u' v') v v1) u v1 := by
  refine ej_el (P := fun u v => wpX_latestStart (fun r u' => wpY_latestStart (fun r' v' => r' = r ∧ i_Rel (k + 4) u' v') v v1) u v1) ?_ I
  intro p c ak en kn us fr un bu bf bt af au pl sh pn al lo hi cn h hP
  have h' := h
  obtain ⟨hp, hp6, hc1, hc6, hW, hB, hS⟩ := h'
  unfold wpX_latestStart
  rcases ej_hold (c := c) (ak := ak) (en := en) (kn := kn) (al := al) (us := us) (fr := fr) (un := un) (bu := bu) (bf := bf) (bt := bt) (af := af) (au := au) (pl := pl) (sh := sh) (pn := pn) (lo := lo) (hi := hi) (cn := cn) hc6 hW v1 with ⟨id, rfl, hid, hu, ox, oy⟩ | ⟨ox, oy⟩
  · have hSid : ej_S us id := ⟨by omega, hu⟩
    obtain ⟨er, ed, hrd, hd⟩ := ej_wj hW hSid
    obtain ⟨s0, a1, a2, a3⟩ := ej_some hSid hS
    obtain ⟨s, b1, b2, b3, b4⟩ := ej_great (P := ej_F p (ej_BB p bu bf bt) (ej_S us) (ej_cl fr) (ej_cl un) id) (b := ej_cl un id - p) a3 a1 (by omega)
    have e1 : fr (nI id).toNatClampNeg = nI (ej_cl fr id) := by rw [nI_clamp (by omega)]; exact er
    have e2 : un (nI id).toNatClampNeg - nI p = nI (ej_cl un id - p) := by rw [nI_clamp (by omega), ed]; exact ej_sub (by omega)
    refine ox _ (br_f (by decide) ⟨vp_in_nI (by omega) (by omega), nm_r e1 ⟨vp_in_nI (by omega) (by omega), nm_r e2 ⟨9, ?_⟩⟩⟩)
    refine ej_xls hp hp6 hc6 hW hB hSid ed hd (by omega) b3 b4 (fun ak en af au pl sh => ?_) 8 9 0 _ _ _ _ _ _ _ _ (by omega) (by omega) b1 b2 (by omega) (by omega)
    unfold wpY_latestStart
    refine oy _ (br_f (by decide) ?_)
    refine ej_ya0 hW (fun A lo hi hA q => ⟨vp_in_nI (by omega) (by omega), ?_⟩)
    refine nm_r e2 ⟨ej_cl un id - p - s + 1, ?_⟩
    have Y := ej_yls (post := fun r' v' => r' = nI s ∧ i_Rel (k + 4) (nI p, nI c, ak, en, kn, us, fr, un, bu, bf, bt, af, au, pl, sh, pn) v') (d0 := ej_cl un id) h hSid er hd b1 b3 (fun s' z1 z2 => b4 s' z1 (by omega)) (fun al lo hi cn => ⟨rfl, ej_in h hP⟩) (ej_cl un id - p - s) (ej_cl un id - p - s + 1) A lo hi cn (by omega) (by omega) hA (ej_YNq q)
    rw [show s + (ej_cl un id - p - s) = ej_cl un id - p from by omega] at Y
    exact Y
  · refine ox _ (br_t rfl ?_)
    unfold wpY_latestStart
    exact oy _ (br_t rfl ⟨rfl, ej_in h hP⟩)
end
section
theorem ej_loL {g f : Nat → Nat} {j i : Nat} (h : i < j) : ej_lo g j f i = g i := if_pos h
theorem ej_loG {g f : Nat → Nat} {j i : Nat} (h : ¬ i < j) : ej_lo g j f i = f i := if_neg h
theorem ej_hiL {p : Nat} {g f : Nat → Nat} {j i : Nat} (h : i < j) : ej_hi p g j f i = g i + p := if_pos h
theorem ej_hiG {p : Nat} {g f : Nat → Nat} {j i : Nat} (h : ¬ i < j) : ej_hi p g j f i = f i := if_neg h
theorem ej_loE {g g' f : Nat → Nat} {j : Nat} (h : ∀ i, i < j → g' i = g i) : ej_lo g' j f = ej_lo g j f := by
  funext i
  by_cases e : i < j
  · rw [ej_loL e, ej_loL e, h i e]
  · rw [ej_loG e, ej_loG e]
theorem ej_hiE {p : Nat} {g g' f : Nat → Nat} {j : Nat} (h : ∀ i, i < j → g' i = g i) : ej_hi p g' j f = ej_hi p g j f := by
  funext i
  by_cases e : i < j
  · rw [ej_hiL e, ej_hiL e, h i e]
  · rw [ej_hiG e, ej_hiG e]
theorem ej_loU {g f : Nat → Nat} {i s : Nat} : ej_lo (ej_up g i s) (i + 1) f = ej_up (ej_lo g i f) i s := by
  funext j
  by_cases e : j = i
  · subst e; rw [ej_loL (by omega), ej_ups, ej_ups]
  · rw [ej_upn e]
    by_cases z : j < i
    · rw [ej_loL (by omega), ej_loL z, ej_upn e]
    · rw [ej_loG (by omega), ej_loG z]
theorem ej_hiU {p : Nat} {g f : Nat → Nat} {i s : Nat} : ej_hi p (ej_up g i s) (i + 1) f = ej_up (ej_hi p g i f) i (s + p) := by
  funext j
  by_cases e : j = i
  · subst e; rw [ej_hiL (by omega), ej_ups, ej_ups]
  · rw [ej_upn e]
    by_cases z : j < i
    · rw [ej_hiL (by omega), ej_hiL z, ej_upn e]
    · rw [ej_hiG (by omega), ej_hiG z]
section PN
variable {p c : Nat} {L C ak en kn al : Int32} {us fr un bu bf bt af au pl sh pn lo hi cn : Nat → Int32}
/-- the plan as far as job i -/
def ej_PI (p : Nat) (us fr un bu bf bt pn : Nat → Int32) (g : Nat → Nat) (i : Nat) : Prop :=
  ej_PV p (ej_BB p bu bf bt) (ej_S us) (ej_cl fr) (ej_cl un) g i ∧ (∀ j, j < i → ej_S us j → pn j = nI (g j)) ∧ ej_Sch p (ej_BB p bu bf bt) (ej_S us) (ej_lo g i (ej_cl fr)) (ej_hi p g i (ej_cl un))
theorem ej_PI_n {g : Nat → Nat} {i : Nat} (h : ej_PI p us fr un bu bf bt pn g i) (hi : ¬ ej_S us i) : ej_PI p us fr un bu bf bt pn g (i + 1) := by
  have hne : ∀ j, ej_S us j → j ≠ i := fun j hj e => hi (e ▸ hj)
  refine ⟨fun j hj hS => h.1 j (by have := hne j hS; omega) hS, fun j hj hS => h.2.1 j (by have := hne j hS; omega) hS, ?_⟩
  refine (ej_cg (fun _ => Iff.rfl) (fun _ => Iff.rfl) (fun j hj => ?_) (fun j hj => ?_)).mp h.2.2
  · have := hne j hj
    by_cases z : j < i
    · rw [ej_loL z, ej_loL (by omega)]
    · rw [ej_loG z, ej_loG (by omega)]
  · have := hne j hj
    by_cases z : j < i
    · rw [ej_hiL z, ej_hiL (by omega)]
    · rw [ej_hiG z, ej_hiG (by omega)]
theorem ej_PI_s {g : Nat → Nat} {i s : Nat} (h : ej_PI p us fr un bu bf bt pn g i) (b1 : ej_cl fr i ≤ s) (b2 : s + p ≤ ej_cl un i)
    (b3 : ej_F p (ej_BB p bu bf bt) (ej_S us) (ej_lo g i (ej_cl fr)) (ej_hi p g i (ej_cl un)) i s)
    (b4 : ∀ s', ej_cl fr i ≤ s' → s' < s → ¬ ej_F p (ej_BB p bu bf bt) (ej_S us) (ej_lo g i (ej_cl fr)) (ej_hi p g i (ej_cl un)) i s') :
    ej_PI p us fr un bu bf bt (upd pn i (nI s)) (ej_up g i s) (i + 1) := by
  have hag : ∀ j, j < i + 1 → ∀ i', i' < j → ej_up g i s i' = g i' := fun j hj i' hi' => ej_upn (by omega)
  refine ⟨fun j hj hS => ?_, fun j hj hS => ?_, ?_⟩
  · rw [ej_loE (hag j hj), ej_hiE (hag j hj)]
    by_cases e : j = i
    · subst e; rw [ej_ups]; exact ⟨b1, b2, b3, b4⟩
    · rw [ej_upn e]; exact h.1 j (by omega) hS
  · by_cases e : j = i
    · subst e; rw [ej_us, ej_ups]
    · rw [ej_un e, ej_upn e]; exact h.2.1 j (by omega) hS
  · rw [ej_loU, ej_hiU]; exact b3
theorem ej_xmp {post : SX → Prop} (h : ej_IN p c us fr un bu bf bt) (K : ∀ (ak en : Int32) (af au pl sh pn : Nat → Int32) (g : Nat → Nat), ej_PI p us fr un bu bf bt pn g c → post (nI p, nI c, ak, en, kn, us, fr, un, bu, bf, bt, af, au, pl, sh, pn)) :
    ∀ n i (g : Nat → Nat) (ak en : Int32) (af au pl sh pn : Nat → Int32), c < n + i → i ≤ c → ej_PI p us fr un bu bf bt pn g i → wX_makePlan_7 post n (nI i) (nI p) (nI c) ak en kn us fr un bu bf bt af au pl sh pn := by
  obtain ⟨hp, hp6, hc1, hc6, hW, hB, hS⟩ := h
  intro n
  induction n with
  | zero => intro i g ak en af au pl sh pn hn; omega
  | succ n ih =>
    intro i g ak en af au pl sh pn hn hi hI
    by_cases z : c ≤ i
    · have : i = c := by omega
      subst this
      exact br_t (nI_le z (by omega)) (K _ _ _ _ _ _ _ g hI)
    · have ec : (nI i).toNatClampNeg = i := nI_clamp (by omega)
      rw [wX_makePlan_7]; dsimp only; rw [ec]
      refine br_f (nI_ge (by omega) (by omega)) ⟨vp_in_nI (by omega) (by omega), br_c (fun g1 => ?_) (fun g1 => ?_)⟩
      · exact nm_r (nI_1 i) (ih (i + 1) g _ _ _ _ _ _ _ (by omega) (by omega) (ej_PI_n hI (fun w => w.2 g1)))
      · have hSi : ej_S us i := ⟨by omega, g1⟩
        obtain ⟨er, ed, hrd, hd⟩ := ej_wj hW hSi
        obtain ⟨s0, a1, a2, a3⟩ := ej_some hSi hI.2.2
        rw [ej_loG (by omega)] at a1
        rw [ej_hiG (by omega)] at a2
        obtain ⟨s, b1, b2, b3, b4⟩ := ej_least (P := ej_F p (ej_BB p bu bf bt) (ej_S us) (ej_lo g i (ej_cl fr)) (ej_hi p g i (ej_cl un)) i) (ej_cl fr i) (s0 - ej_cl fr i) (by rw [show ej_cl fr i + (s0 - ej_cl fr i) = s0 from by omega]; exact a3)
        have hPW : ej_PW p c i (nI i) us fr un pn (ej_lo g i (ej_cl fr)) (ej_hi p g i (ej_cl un)) := by
          intro j hj hu hne
          have hSj : ej_S us j := ⟨by omega, hu⟩
          obtain ⟨f1, f2, f3, f4⟩ := ej_wj hW hSj
          by_cases w : j < i
          · rw [ej_loL w, ej_hiL w]
            have := hI.1 j w hSj
            exact ⟨fun _ => ⟨hI.2.1 j w hSj, rfl⟩, fun w2 => by omega, by omega, by omega⟩
          · rw [ej_loG w, ej_hiG w]
            exact ⟨fun w2 => absurd w2 w, fun _ => ⟨f1, f2⟩, by omega, f4⟩
        refine ej_xeo (pins := i) hp hp6 hc6 hW hB (by omega) hSi hPW er ed hd b1 (by omega) b3 b4 (fun ak en af au pl sh => ⟨vp_in_nI (by omega) (by omega), ?_⟩)
        rw [ej_by (by omega)]
        exact nm_e (nm_r (nI_1 i) (ih (i + 1) _ _ _ _ _ _ _ _ (by omega) (by omega) (ej_PI_s hI b1 (by omega) b3 b4)))
/-- the reference's inner loop: job j from its release to its planned start -/
theorem ej_y63 {post : Int32 → SY → Prop} {J : Int32 → Int32 → Int32 → Int32 → Int32 → (Nat → Int32) → (Nat → Int32) → (Nat → Int32) → (Nat → Int32) → (Nat → Int32) → (Nat → Int32) → (Nat → Int32) → (Nat → Int32) → (Nat → Int32) → Prop}
    {id j r0 s : Nat} {wl wh : Nat → Nat} (h : ej_IN p c us fr un bu bf bt) (hj : ej_S us j) (hs : s + p ≤ 40) (hw : ∀ i, ej_S us i → i ≠ j → wl i ≤ 40 ∧ wh i ≤ 40)
    (hF : ej_F p (ej_BB p bu bf bt) (ej_S us) wl wh j s) (hF2 : ∀ s', r0 ≤ s' → s' < s → ¬ ej_F p (ej_BB p bu bf bt) (ej_S us) wl wh j s')
    (K : ∀ (A : Nat) (lo hi cn : Nat → Int32), ej_YQ A lo hi (ej_S us) (ej_up wl j s) (ej_up wh j (s + p)) → J (nI s) (nI (j + 1)) (nI p) (nI c) (nI A) us fr un bu bf bt lo hi cn) :
    ∀ d n e x A (lo hi cn : Nat → Int32), e + d = s → x + d < 40 → r0 ≤ e → d < n → ej_YQ A lo hi (ej_S us) (ej_up wl j e) (ej_up wh j (e + p)) →
      wY_plannedStart_63 post J (nI id) (nI j) n (nI e) (nI x) (nI p) (nI c) (nI A) us fr un bu bf bt lo hi cn := by
  obtain ⟨hp, hp6, hc1, hc6, hW, hB, hS⟩ := h
  have hj6 := hj.1
  intro d
  induction d with
  | zero =>
    intro n e x A lo hi cn he hx hr hn q
    obtain ⟨n, rfl⟩ : ∃ n', n = n' + 1 := ⟨n - 1, by omega⟩
    have : e = s := by omega
    subst this
    rw [wY_plannedStart_63]; dsimp only
    refine br_f (nI_ge (b := 40) (by omega) (by omega)) ?_
    refine ej_yf hp hp6 q (ej_w40u hw (by omega) (by omega)) hB (fun r cn hY => ?_)
    rw [ej_YA1 hY hF]
    exact br_f (by decide) (nm_r (nI_1 j) (K A lo hi cn q))
  | succ d ih =>
    intro n e x A lo hi cn he hx hr hn q
    obtain ⟨n, rfl⟩ : ∃ n', n = n' + 1 := ⟨n - 1, by omega⟩
    rw [wY_plannedStart_63]; dsimp only
    refine br_f (nI_ge (b := 40) (by omega) (by omega)) ?_
    refine ej_yf hp hp6 q (ej_w40u hw (by omega) (by omega)) hB (fun r cn hY => ?_)
    rw [ej_YA0 hY (hF2 e hr (by omega))]
    refine br_t rfl (nm_r (nI_1 e) ?_)
    refine ej_ywin q.1 (by omega) rfl ?_
    rw [nI_add]
    exact nm_r (nI_1 x) (ih n (e + 1) (x + 1) _ _ _ cn (by omega) (by omega) (by omega) (by omega) (ej_YNw hj (ej_YNn q)))
theorem ej_y21 {post : Int32 → SY → Prop} {id : Nat} {g : Nat → Nat} (h : ej_IN p c us fr un bu bf bt) (hid : ej_S us id) (hV : ej_PV p (ej_BB p bu bf bt) (ej_S us) (ej_cl fr) (ej_cl un) g 6)
    (K : ∀ (al : Int32) (lo hi cn : Nat → Int32), post (nI (g id)) (nI p, nI c, al, us, fr, un, bu, bf, bt, lo, hi, cn)) :
    ∀ n j (x : Int32) A (lo hi cn : Nat → Int32), id + 1 < n + j → j ≤ id + 1 → (j = id + 1 → x = nI (g id)) →
      ej_YQ A lo hi (ej_S us) (ej_lo g j (ej_cl fr)) (ej_hi p g j (ej_cl un)) → wY_plannedStart_21 post (nI id) n x (nI j) (nI p) (nI c) (nI A) us fr un bu bf bt lo hi cn := by
  have h' := h
  obtain ⟨hp, hp6, hc1, hc6, hW, hB, hS⟩ := h'
  have hid6 := hid.1
  intro n
  induction n with
  | zero => intro j x A lo hi cn hn; omega
  | succ n ih =>
    intro j x A lo hi cn hn hj hx q
    by_cases z : j = id + 1
    · subst z
      rw [hx rfl]
      exact br_t (nI_lt (by omega) (by omega)) (K _ _ _ _)
    · have ec : (nI j).toNatClampNeg = j := nI_clamp (by omega)
      rw [wY_plannedStart_21]; dsimp only; rw [ec]
      refine br_f (nI_nlt (by omega) (by omega)) (br_f (nI_ge (b := 6) (by omega) (by omega)) ⟨vp_in_nI (by omega) (by omega), br_c (fun g1 => ?_) (fun g1 => ⟨vp_in_nI (by omega) (by omega), ?_⟩)⟩)
      · have hne : ∀ i, ej_S us i → i ≠ j := fun i hi e => by subst e; exact hi.2 g1
        have : j ≠ id := fun e => hne id hid e.symm
        refine nm_r (nI_1 j) (ih (j + 1) x A lo hi cn (by omega) (by omega) (fun e => by omega) (ej_YQc q (fun _ => Iff.rfl) (fun i hi => ?_) (fun i hi => ?_)))
        · have := hne i hi
          by_cases w : i < j
          · rw [ej_loL w, ej_loL (by omega)]
          · rw [ej_loG w, ej_loG (by omega)]
        · have := hne i hi
          by_cases w : i < j
          · rw [ej_hiL w, ej_hiL (by omega)]
          · rw [ej_hiG w, ej_hiG (by omega)]
      · have hSj : ej_S us j := ⟨by omega, g1⟩
        obtain ⟨er, ed, hrd, hd⟩ := ej_wj hW hSj
        obtain ⟨p1, p2, p3, p4⟩ := hV j (by omega) hSj
        refine nm_r er ?_
        refine ej_ywin q.1 (by omega) rfl ?_
        rw [nI_add]
        refine ⟨g j - ej_cl fr j + 1, ?_⟩
        refine ej_y63 (r0 := ej_cl fr j) (s := g j) (wl := ej_lo g j (ej_cl fr)) (wh := ej_hi p g j (ej_cl un)) h hSj (by omega) (fun i hi hne => ?_) p3 p4 (fun A lo hi cn q2 => ?_)
          (g j - ej_cl fr j) _ (ej_cl fr j) 0 _ _ _ cn (by omega) (by omega) (by omega) (by omega) (ej_YNw hSj (ej_YNq q))
        · obtain ⟨f1, f2, f3, f4⟩ := ej_wj hW hi
          by_cases w : i < j
          · rw [ej_loL w, ej_hiL w]
            have := hV i hi.1 hi
            omega
          · rw [ej_loG w, ej_hiG w]; omega
        · refine ih (j + 1) _ A lo hi cn (by omega) (by omega) (fun e => ?_) (ej_YQc q2 (fun _ => Iff.rfl) (fun i hi => ?_) (fun i hi => ?_))
          · have : j = id := by omega
            rw [this]
          · by_cases e : i = j
            · subst e; rw [ej_ups, ej_loL (by omega)]
            · rw [ej_upn e]
              by_cases w : i < j
              · rw [ej_loL w, ej_loL (by omega)]
              · rw [ej_loG w, ej_loG (by omega)]
          · by_cases e : i = j
            · subst e; rw [ej_ups, ej_hiL (by omega)]
            · rw [ej_upn e]
              by_cases w : i < j
              · rw [ej_hiL w, ej_hiL (by omega)]
              · rw [ej_hiG w, ej_hiG (by omega)]
theorem ej_yps {post : Int32 → SY → Prop} {id : Nat} {g : Nat → Nat} (h : ej_IN p c us fr un bu bf bt) (hid : ej_S us id) (hV : ej_PV p (ej_BB p bu bf bt) (ej_S us) (ej_cl fr) (ej_cl un) g 6)
    (K : ∀ (al : Int32) (lo hi cn : Nat → Int32), post (nI (g id)) (nI p, nI c, al, us, fr, un, bu, bf, bt, lo, hi, cn)) (oy : ∀ post : Int32 → Prop, post 1 → wpY_there post (nI p, nI c, al, us, fr, un, bu, bf, bt, lo, hi, cn) (nI id)) : wpY_plannedStart post (nI p, nI c, al, us, fr, un, bu, bf, bt, lo, hi, cn) (nI id) := by
  have hW := h.2.2.2.2.1
  unfold wpY_plannedStart
  refine oy _ (br_f (by decide) ?_)
  refine ej_ya0 hW (fun A lo hi hA q => ⟨id + 2, ?_⟩)
  refine ej_y21 h hid hV K (id + 2) 0 (-1) A lo hi cn (by omega) (by omega) (fun e => by omega) (ej_YQc q (fun _ => Iff.rfl) (fun i hi => ?_) (fun i hi => ?_))
  · rw [ej_loG (by omega)]
  · rw [ej_hiG (by omega)]
end PN
theorem i_vc_plannedStart {k : Nat} {u : SX} {v : SY} (I : i_Rel k u v) (hk : k + 4 ≤ 2050) (v1 : Int32) : wpX_plannedStart (fun r u' => wpY_plannedStart (fun r' v' => r' = r ∧ i_Rel (k + 4) u' v') v v1) u v1 := by
  refine ej_el (P := fun u v => wpX_plannedStart (fun r u' => wpY_plannedStart (fun r' v' => r' = r ∧ i_Rel (k + 4) u' v') v v1) u v1) ?_ I
  intro p c ak en kn us fr un bu bf bt af au pl sh pn al lo hi cn h hP
  have h' := h
  obtain ⟨hp, hp6, hc1, hc6, hW, hB, hS⟩ := h'
  unfold wpX_plannedStart
  rcases ej_hold (c := c) (ak := ak) (en := en) (kn := kn) (al := al) (us := us) (fr := fr) (un := un) (bu := bu) (bf := bf) (bt := bt) (af := af) (au := au) (pl := pl) (sh := sh) (pn := pn) (lo := lo) (hi := hi) (cn := cn) hc6 hW v1 with ⟨id, rfl, hid, hu, ox, oy⟩ | ⟨ox, oy⟩
  · have hSid : ej_S us id := ⟨by omega, hu⟩
    have ec : (nI id).toNatClampNeg = id := nI_clamp (by omega)
    refine ox _ (br_f (by decide) (br_c (fun g0 => ?_) (fun g0 => ⟨vp_in_nI (by omega) (by omega), ?_⟩)))
    · unfold wpX_makePlan
      have hI0 : ej_PI p us fr un bu bf bt pn (fun _ => 0) 0 := by
        refine ⟨fun j hj => by omega, fun j hj => by omega, (ej_cg (fun _ => Iff.rfl) (fun _ => Iff.rfl) (fun j hj => ?_) (fun j hj => ?_)).mp hS⟩
        · rw [ej_loG (by omega)]
        · rw [ej_hiG (by omega)]
      refine ⟨c + 1, ej_xmp h (fun ak en af au pl sh pn g hI => ⟨vp_in_nI (by omega) (by omega), ?_⟩) (c + 1) 0 (fun _ => 0) _ _ _ _ _ _ _ (by omega) (by omega) hI0⟩
      have hV : ej_PV p (ej_BB p bu bf bt) (ej_S us) (ej_cl fr) (ej_cl un) g 6 := fun j hj hSj => hI.1 j ((ej_sn hc6 hW).mp hSj).1 hSj
      have hpn : ∀ j, ej_S us j → pn j = nI (g j) := fun j hSj => hI.2.1 j ((ej_sn hc6 hW).mp hSj).1 hSj
      refine ej_yps h hSid hV (fun al lo hi cn => ⟨?_, ej_in h (fun _ => ⟨g, hV, hpn⟩)⟩) oy
      rw [ec]; exact (hpn id hSid).symm
    · obtain ⟨g, hV, hpn⟩ := hP g0
      refine ej_yps h hSid hV (fun al lo hi cn => ⟨?_, ej_in h hP⟩) oy
      rw [ec]; exact (hpn id hSid).symm
  · refine ox _ (br_t rfl ?_)
    unfold wpY_plannedStart
    exact oy _ (br_t rfl ⟨rfl, ej_in h hP⟩)
end
