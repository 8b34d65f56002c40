section
/-! bits of a long, counts, bytes -/
def db_t (w : Int64) (i : Nat) : Bool := w.toBitVec.getLsbD i
theorem db_or (a b : Int64) (i : Nat) : db_t (a ||| b) i = (db_t a i || db_t b i) := by
  show (a ||| b).toBitVec.getLsbD i = _
  rw [Int64.toBitVec_or, BitVec.getLsbD_or]; rfl
theorem db_and (a b : Int64) (i : Nat) : db_t (a &&& b) i = (db_t a i && db_t b i) := by
  show (a &&& b).toBitVec.getLsbD i = _
  rw [Int64.toBitVec_and, BitVec.getLsbD_and]; rfl
theorem db_0 (i : Nat) : db_t 0 i = false := by
  show (0#64).getLsbD i = false
  simp
theorem db_big {w : Int64} {i : Nat} (h : db_t w i = true) : i < 64 := BitVec.lt_of_getLsbD h
theorem db_pw : ∀ k, k < 64 → ((1 : Int64) <<< ((nI k).toInt64 &&& 63)).toBitVec = BitVec.twoPow 64 k := by decide +kernel
theorem db_one {k : Nat} (hk : k < 64) (i : Nat) : db_t ((1 : Int64) <<< ((nI k).toInt64 &&& 63)) i = decide (i = k) := by
  show ((1 : Int64) <<< ((nI k).toInt64 &&& 63)).toBitVec.getLsbD i = _
  rw [db_pw k hk, BitVec.getLsbD_twoPow]
  by_cases e : i = k
  · subst e; simp [hk]
  · have e' : ¬ k = i := fun h => e h.symm
    simp [e, e']
theorem db_set {k : Nat} (hk : k < 64) (w : Int64) (i : Nat) : db_t (w ||| ((1 : Int64) <<< ((nI k).toInt64 &&& 63))) i = (db_t w i || decide (i = k)) := by
  rw [db_or, db_one hk]
theorem db_clr {k : Nat} (hk : k < 64) (w : Int64) (i : Nat) : db_t (w &&& (((1 : Int64) <<< ((nI k).toInt64 &&& 63)) ^^^ (-1))) i = (db_t w i && !decide (i = k)) := by
  rw [db_and]
  by_cases hi : i < 64
  · have ha : (-1 : Int64).toBitVec = BitVec.allOnes 64 := by decide
    have e : db_t (((1 : Int64) <<< ((nI k).toInt64 &&& 63)) ^^^ (-1)) i = !decide (i = k) := by
      show (((1 : Int64) <<< ((nI k).toInt64 &&& 63)) ^^^ (-1)).toBitVec.getLsbD i = _
      rw [Int64.toBitVec_xor, ha, BitVec.getLsbD_xor, BitVec.getLsbD_allOnes]
      rw [show ((1 : Int64) <<< ((nI k).toInt64 &&& 63)).toBitVec.getLsbD i = decide (i = k) from db_one hk i]
      simp [hi]
    rw [e]
  · have : db_t w i = false := by
      cases h : db_t w i
      · rfl
      · exact absurd (db_big h) hi
    rw [this, Bool.false_and, Bool.false_and]
theorem db_z {w : Int64} (h : ∀ i, db_t w i = false) : w = 0 := by
  rw [← Int64.toBitVec_inj]
  apply BitVec.eq_of_getLsbD_eq
  intro i hi
  have := h i
  unfold db_t at this
  rw [this]
  exact (db_0 i).symm
theorem db_ne {w : Int64} (h : ¬ w = 0) : ∃ i, db_t w i = true :=
  Classical.byContradiction fun hn => h (db_z fun i => by
    cases e : db_t w i
    · rfl
    · exact absurd ⟨i, e⟩ hn)
theorem db_cnt : ∀ k, k < 64 → ((nI k).toInt64.toUInt64 &&& Int64.toUInt64 63).toNat = k := by decide +kernel
theorem db_and1 (w : Int64) {k : Nat} (hk : k < 64) : ((w.toUInt64 >>> ((nI k).toInt64.toUInt64 &&& Int64.toUInt64 63)).toInt64 &&& 1) = if db_t w k = true then 1 else 0 := by
  have hs := db_cnt k hk
  have e : (w.toUInt64 >>> ((nI k).toInt64.toUInt64 &&& Int64.toUInt64 63)).toInt64.toBitVec = w.toBitVec >>> k := by
    apply BitVec.eq_of_toNat_eq
    show (w.toUInt64 >>> ((nI k).toInt64.toUInt64 &&& Int64.toUInt64 63)).toNat = _
    rw [UInt64.toNat_shiftRight, hs, Nat.mod_eq_of_lt hk, BitVec.toNat_ushiftRight]
    rfl
  rw [← Int64.toBitVec_inj, Int64.toBitVec_and, e]
  by_cases h : db_t w k = true
  · rw [if_pos h]
    show w.toBitVec >>> k &&& 1#64 = 1#64
    unfold db_t at h
    apply BitVec.eq_of_getLsbD_eq
    intro i hi
    rw [BitVec.getLsbD_and, BitVec.getLsbD_ushiftRight]
    by_cases e0 : i = 0
    · subst e0; simp [h]
    · simp [e0]
  · rw [if_neg h]
    show w.toBitVec >>> k &&& 1#64 = 0#64
    unfold db_t at h
    apply BitVec.eq_of_getLsbD_eq
    intro i hi
    rw [BitVec.getLsbD_and, BitVec.getLsbD_ushiftRight]
    by_cases e0 : i = 0
    · subst e0; simpa using h
    · simp [e0]
theorem db_bit (w : Int64) {k : Nat} (hk : k < 64) : ((w.toUInt64 >>> ((nI k).toInt64.toUInt64 &&& Int64.toUInt64 63)).toInt64 &&& 1) = 0 ↔ db_t w k = false := by
  rw [db_and1 w hk]
  cases h : db_t w k
  · simp
  · simp

/-! counts -/
def dc_n (p : Nat → Bool) : Nat → Nat
  | 0 => 0
  | n + 1 => dc_n p n + (if p n = true then 1 else 0)
theorem dc_le {p q : Nat → Bool} : ∀ n, (∀ v, v < n → p v = true → q v = true) → dc_n p n ≤ dc_n q n
  | 0, _ => Nat.le_refl 0
  | n + 1, h => by
    have ih := dc_le n (fun v hv => h v (by omega))
    have hn := h n (by omega)
    show dc_n p n + (if p n = true then 1 else 0) ≤ dc_n q n + (if q n = true then 1 else 0)
    by_cases e : p n = true
    · rw [if_pos e, if_pos (hn e)]; omega
    · rw [if_neg e]; omega
theorem dc_congr {p q : Nat → Bool} {n : Nat} (h : ∀ v, v < n → p v = q v) : dc_n p n = dc_n q n :=
  Nat.le_antisymm (dc_le n fun v hv e => by rw [← h v hv]; exact e) (dc_le n fun v hv e => by rw [h v hv]; exact e)
theorem dc_lt {p q : Nat → Bool} {k : Nat} : ∀ n, (∀ v, v < n → p v = true → q v = true) → k < n → q k = true → ¬ p k = true → dc_n p n < dc_n q n
  | 0, _, hk, _, _ => absurd hk (by omega)
  | n + 1, h, hk, hq, hp => by
    show dc_n p n + (if p n = true then 1 else 0) < dc_n q n + (if q n = true then 1 else 0)
    have hn := h n (by omega)
    by_cases e : k = n
    · subst e
      have ih := dc_le k (fun v hv => h v (by omega))
      rw [if_neg hp, if_pos hq]; omega
    · have ih := dc_lt n (fun v hv => h v (by omega)) (by omega) hq hp
      by_cases e2 : p n = true
      · rw [if_pos e2, if_pos (hn e2)]; omega
      · rw [if_neg e2]; omega
theorem dc_up {p : Nat → Bool} : ∀ n, dc_n p n ≤ n
  | 0 => Nat.le_refl 0
  | n + 1 => by
    have ih := dc_up (p := p) n
    show dc_n p n + (if p n = true then 1 else 0) ≤ n + 1
    split <;> omega
theorem dc_rem {q : Nat → Bool} {k : Nat} : ∀ m, k < m → q k = true → dc_n (fun j => q j && !decide (j = k)) m + 1 = dc_n q m
  | 0, hk, _ => absurd hk (by omega)
  | m + 1, hk, hq => by
    show dc_n (fun j => q j && !decide (j = k)) m + (if (q m && !decide (m = k)) = true then 1 else 0) + 1 = dc_n q m + (if q m = true then 1 else 0)
    by_cases e : m = k
    · subst e
      have : dc_n (fun j => q j && !decide (j = m)) m = dc_n q m := dc_congr fun v hv => by
        have : ¬ v = m := by omega
        simp [this]
      rw [this, if_pos hq]
      simp
    · have ih := dc_rem m (by omega) hq
      have e2 : (q m && !decide (m = k)) = q m := by simp [e]
      rw [e2]; omega
theorem dc_inj {p : Nat → Bool} {f : Nat → Nat} {m : Nat} : ∀ (n : Nat) (q : Nat → Bool), (∀ v, v < n → p v = true → f v < m ∧ q (f v) = true) → (∀ v w, v < n → w < n → p v = true → p w = true → f v = f w → v = w) → dc_n p n ≤ dc_n q m
  | 0, _, _, _ => Nat.zero_le _
  | n + 1, q, h, hi => by
    show dc_n p n + (if p n = true then 1 else 0) ≤ dc_n q m
    by_cases e : p n = true
    · rw [if_pos e]
      obtain ⟨h1, h2⟩ := h n (by omega) e
      have ih := dc_inj n (fun j => q j && !decide (j = f n)) (fun v hv pv => by
        obtain ⟨g1, g2⟩ := h v (by omega) pv
        refine ⟨g1, ?_⟩
        have : ¬ f v = f n := fun e2 => absurd (hi v n (by omega) (by omega) pv e e2) (by omega)
        simp [g2, this]) (fun v w hv hw => hi v w (by omega) (by omega))
      have := dc_rem m h1 h2
      omega
    · rw [if_neg e]
      have ih := dc_inj n q (fun v hv => h v (by omega)) (fun v w hv hw => hi v w (by omega) (by omega))
      omega
theorem dc_not {p : Nat → Bool} : ∀ n, dc_n p n + dc_n (fun j => !p j) n = n
  | 0 => rfl
  | n + 1 => by
    have ih := dc_not (p := p) n
    show dc_n p n + (if p n = true then 1 else 0) + (dc_n (fun j => !p j) n + (if (!p n) = true then 1 else 0)) = n + 1
    cases h : p n
    · simp; omega
    · simp; omega
theorem dc_perm {p : Nat → Bool} {f : Nat → Nat} {n : Nat} (h : ∀ v, v < n → f v < n) (hi : ∀ v w, v < n → w < n → f v = f w → v = w) : dc_n (fun j => p (f j)) n = dc_n p n := by
  have h1 : dc_n (fun j => p (f j)) n ≤ dc_n p n := dc_inj n p (fun v hv pv => ⟨h v hv, pv⟩) (fun v w hv hw _ _ => hi v w hv hw)
  have h2 : dc_n (fun j => !p (f j)) n ≤ dc_n (fun j => !p j) n := dc_inj n (fun j => !p j) (fun v hv pv => ⟨h v hv, pv⟩) (fun v w hv hw _ _ => hi v w hv hw)
  have h3 := dc_not (p := p) n
  have h4 := dc_not (p := fun j => p (f j)) n
  have h5 : dc_n (fun j => !(fun j => p (f j)) j) n = dc_n (fun j => !p (f j)) n := rfl
  omega
theorem dc_ex {p : Nat → Bool} : ∀ n, 0 < dc_n p n → ∃ j, j < n ∧ p j = true
  | 0, h => absurd h (Nat.lt_irrefl 0)
  | n + 1, h => by
    by_cases e : p n = true
    · exact ⟨n, by omega, e⟩
    · have h' : 0 < dc_n p n + (if p n = true then 1 else 0) := h
      rw [if_neg e] at h'
      obtain ⟨j, hj, hp⟩ := dc_ex n (by omega)
      exact ⟨j, by omega, hp⟩
theorem dc_sur {f : Nat → Nat} {n k : Nat} (h : ∀ v, v < n → f v < n) (hi : ∀ v w, v < n → w < n → f v = f w → v = w) (hk : k < n) : ∃ s, s < n ∧ f s = k := by
  have e := dc_perm (p := fun j => decide (j = k)) h hi
  have h0 : dc_n (fun _ => false) n < dc_n (fun j => decide (j = k)) n := dc_lt (k := k) n (fun v hv h => absurd h (by decide)) hk (by simp) (by decide)
  obtain ⟨j, hj, hp⟩ := dc_ex n (show 0 < dc_n (fun j => decide (f j = k)) n by
    have e' : dc_n (fun j => decide (f j = k)) n = dc_n (fun j => decide (j = k)) n := e
    omega)
  exact ⟨j, hj, of_decide_eq_true hp⟩

/-! bytes -/
theorem dg_b8 : ∀ k, k < 128 → (nI k).toInt8.toInt32 = nI k := by decide +kernel
def dg_v (a : Nat → Int32) (v : Nat) : Nat := (a v).toNatClampNeg
def dg_ok (a : Nat → Int32) (v : Nat) : Prop := dg_v a v < 12 ∧ a v = nI (dg_v a v)
theorem dg_of {a : Nat → Int32} {v n : Nat} (hn : n < 12) (e : a v = nI n) : dg_ok a v := by
  have h : dg_v a v = n := by unfold dg_v; rw [e, nI_clamp (by omega)]
  exact ⟨by omega, by rw [h]; exact e⟩
theorem dg_us {a : Nat → Int32} {k n : Nat} (hn : n < 2 ^ 31) : dg_v (upd a k (nI n)) k = n := by
  unfold dg_v; rw [pk_us, nI_clamp hn]
theorem dg_un {a : Nat → Int32} {k j : Nat} {x : Int32} (h : j ≠ k) : dg_v (upd a k x) j = dg_v a j := by
  unfold dg_v; rw [pk_un h]
theorem dg_okn {a : Nat → Int32} {k j : Nat} {x : Int32} (h : j ≠ k) (ho : dg_ok a j) : dg_ok (upd a k x) j := by
  unfold dg_ok; rw [dg_un h, pk_un h]; exact ho
theorem dg_oks {a : Nat → Int32} {k n : Nat} (hn : n < 12) : dg_ok (upd a k (nI n)) k := dg_of hn pk_us
end
section
/-! a model of statements: which variables are one, which is which number, which is which couple -/
abbrev dm_Mo : Type := (Nat → Nat → Prop) × (Nat → Int32 → Prop) × (Nat → Nat → Nat → Prop)
/-- a statement: its kind, the target, the sources -/
abbrev dm_Sm : Type := Nat × Nat × Nat × Nat
def dm_G (M : dm_Mo) : Prop :=
  (∀ a, M.1 a a) ∧ (∀ a b, M.1 a b → M.1 b a) ∧ (∀ a b c, M.1 a b → M.1 b c → M.1 a c) ∧
  (∀ a b n, M.2.1 a n → M.1 a b → M.2.1 b n) ∧
  (∀ a l r b l' r', M.2.2 a l r → M.1 a b → M.1 l l' → M.1 r r' → M.2.2 b l' r') ∧
  (∀ a l r l' r', M.2.2 a l r → M.2.2 a l' r' → M.1 l l' ∧ M.1 r r') ∧
  (∀ a n m, M.2.1 a n → M.2.1 a m → n = m) ∧
  (∀ a n l r, M.2.1 a n → M.2.2 a l r → False)
def dm_cp (k : Nat) (p q : Int32) : Int32 := if k = 3 then p + q else if k = 4 then p * q else if p = q then 1 else 0
def dm_S (M : dm_Mo) (t : dm_Sm) : Prop :=
  (t.1 = 0 → M.1 t.2.1 t.2.2.1) ∧ (t.1 = 1 → M.2.1 t.2.1 (nI t.2.2.1)) ∧ (t.1 = 2 → M.2.2 t.2.1 t.2.2.1 t.2.2.2) ∧
  (t.1 = 5 → ∀ l r, M.2.2 t.2.2.1 l r → M.1 t.2.1 l) ∧ (t.1 = 6 → ∀ l r, M.2.2 t.2.2.1 l r → M.1 t.2.1 r) ∧
  (3 ≤ t.1 → t.1 ≠ 5 → t.1 ≠ 6 → ∀ p q, M.2.1 t.2.2.1 p → M.2.1 t.2.2.2 q → M.2.1 t.2.1 (dm_cp t.1 p q))
theorem dm_S0 {M : dm_Mo} {t : dm_Sm} (h : t.1 = 0) : dm_S M t ↔ M.1 t.2.1 t.2.2.1 :=
  ⟨fun g => g.1 h, fun g => ⟨fun _ => g, fun e => absurd e (by omega), fun e => absurd e (by omega), fun e => absurd e (by omega), fun e => absurd e (by omega), fun e => absurd e (by omega)⟩⟩
theorem dm_S1 {M : dm_Mo} {t : dm_Sm} (h : t.1 = 1) : dm_S M t ↔ M.2.1 t.2.1 (nI t.2.2.1) :=
  ⟨fun g => g.2.1 h, fun g => ⟨fun e => absurd e (by omega), fun _ => g, fun e => absurd e (by omega), fun e => absurd e (by omega), fun e => absurd e (by omega), fun e => absurd e (by omega)⟩⟩
theorem dm_S2 {M : dm_Mo} {t : dm_Sm} (h : t.1 = 2) : dm_S M t ↔ M.2.2 t.2.1 t.2.2.1 t.2.2.2 :=
  ⟨fun g => g.2.2.1 h, fun g => ⟨fun e => absurd e (by omega), fun e => absurd e (by omega), fun _ => g, fun e => absurd e (by omega), fun e => absurd e (by omega), fun e => absurd e (by omega)⟩⟩
theorem dm_S5 {M : dm_Mo} {t : dm_Sm} (h : t.1 = 5) : dm_S M t ↔ ∀ l r, M.2.2 t.2.2.1 l r → M.1 t.2.1 l :=
  ⟨fun g => g.2.2.2.1 h, fun g => ⟨fun e => absurd e (by omega), fun e => absurd e (by omega), fun e => absurd e (by omega), fun _ => g, fun e => absurd e (by omega), fun _ e => absurd h e⟩⟩
theorem dm_S6 {M : dm_Mo} {t : dm_Sm} (h : t.1 = 6) : dm_S M t ↔ ∀ l r, M.2.2 t.2.2.1 l r → M.1 t.2.1 r :=
  ⟨fun g => g.2.2.2.2.1 h, fun g => ⟨fun e => absurd e (by omega), fun e => absurd e (by omega), fun e => absurd e (by omega), fun e => absurd e (by omega), fun _ => g, fun _ _ e => absurd h e⟩⟩
theorem dm_S3 {M : dm_Mo} {t : dm_Sm} (h : 3 ≤ t.1) (h5 : t.1 ≠ 5) (h6 : t.1 ≠ 6) : dm_S M t ↔ ∀ p q, M.2.1 t.2.2.1 p → M.2.1 t.2.2.2 q → M.2.1 t.2.1 (dm_cp t.1 p q) :=
  ⟨fun g => g.2.2.2.2.2 h h5 h6, fun g => ⟨fun e => absurd e (by omega), fun e => absurd e (by omega), fun e => absurd e (by omega), fun e => absurd e h5, fun e => absurd e h6, fun _ _ _ => g⟩⟩

/-! what a store says of a model -/
def dn_D (ρ : Nat → Nat) (st nu lf ri : Nat → Int32) (c : Nat) (ja jb : Nat → Int32) (sus : Int64) (T : Nat → dm_Sm) (M : dm_Mo) : Prop :=
  (∀ v, v < 12 → M.1 v (ρ v)) ∧ (∀ v, v < 12 → ρ v = v → st v = 1 → M.2.1 v (nu v)) ∧ (∀ v, v < 12 → ρ v = v → st v = 2 → M.2.2 v (dg_v lf v) (dg_v ri v)) ∧ (∀ j, j < c → M.1 (dg_v ja j) (dg_v jb j)) ∧ (∀ s, db_t sus s = true → dm_S M (T s))
section
variable {ρ : Nat → Nat} {st nu lf ri : Nat → Int32} {c : Nat} {ja jb : Nat → Int32} {sus : Int64} {T : Nat → dm_Sm} {M : dm_Mo}
theorem dn_num0 {x : Nat} {n : Int32} (hG : dm_G M) (hx : x < 12) (hρ : ∀ v, v < 12 → ρ v < 12 ∧ ρ (ρ v) = ρ v) (h0 : st (ρ x) = 0) : dn_D ρ (upd st (ρ x) 1) (upd nu (ρ x) n) lf ri c ja jb sus T M ↔ dn_D ρ st nu lf ri c ja jb sus T M ∧ M.2.1 x n := by
  obtain ⟨rf, sy, tr, nE, cE, cI, nN, nC⟩ := hG
  obtain ⟨hr, hrr⟩ := hρ x hx
  constructor
  · rintro ⟨d1, d2, d3, d4, d5⟩
    have hN : M.2.1 (ρ x) n := by
      have := d2 (ρ x) hr hrr pk_us
      rwa [pk_us] at this
    refine ⟨⟨d1, fun v hv hh h => ?_, fun v hv hh h => ?_, d4, d5⟩, nE _ _ _ hN (sy _ _ (d1 x hx))⟩
    · have ne : v ≠ ρ x := fun e => by rw [e, h0] at h; exact absurd h (by decide)
      have := d2 v hv hh (by rw [pk_un ne]; exact h)
      rwa [pk_un ne] at this
    · have ne : v ≠ ρ x := fun e => by rw [e, h0] at h; exact absurd h (by decide)
      exact d3 v hv hh (by rw [pk_un ne]; exact h)
  · rintro ⟨⟨d1, d2, d3, d4, d5⟩, hN⟩
    refine ⟨d1, fun v hv hh h => ?_, fun v hv hh h => ?_, d4, d5⟩
    · by_cases e : v = ρ x
      · rw [e, pk_us]; exact nE _ _ _ hN (d1 x hx)
      · rw [pk_un e] at h ⊢; exact d2 v hv hh h
    · by_cases e : v = ρ x
      · rw [e, pk_us] at h; exact absurd h (by decide)
      · rw [pk_un e] at h; exact d3 v hv hh h
theorem dn_cp0 {x a b : Nat} (hG : dm_G M) (hx : x < 12) (hρ : ∀ v, v < 12 → ρ v < 12 ∧ ρ (ρ v) = ρ v) (h0 : st (ρ x) = 0) (ha : a < 12) (hb : b < 12) : dn_D ρ (upd st (ρ x) 2) nu (upd lf (ρ x) (nI a)) (upd ri (ρ x) (nI b)) c ja jb sus T M ↔ dn_D ρ st nu lf ri c ja jb sus T M ∧ M.2.2 x a b := by
  obtain ⟨rf, sy, tr, nE, cE, cI, nN, nC⟩ := hG
  obtain ⟨hr, hrr⟩ := hρ x hx
  have ea : dg_v (upd lf (ρ x) (nI a)) (ρ x) = a := dg_us (by omega)
  have eb : dg_v (upd ri (ρ x) (nI b)) (ρ x) = b := dg_us (by omega)
  constructor
  · rintro ⟨d1, d2, d3, d4, d5⟩
    have hN : M.2.2 (ρ x) a b := by
      have := d3 (ρ x) hr hrr pk_us
      rwa [ea, eb] at this
    refine ⟨⟨d1, fun v hv hh h => ?_, fun v hv hh h => ?_, d4, d5⟩, cE _ _ _ _ _ _ hN (sy _ _ (d1 x hx)) (rf _) (rf _)⟩
    · have ne : v ≠ ρ x := fun e => by rw [e, h0] at h; exact absurd h (by decide)
      exact d2 v hv hh (by rw [pk_un ne]; exact h)
    · have ne : v ≠ ρ x := fun e => by rw [e, h0] at h; exact absurd h (by decide)
      have := d3 v hv hh (by rw [pk_un ne]; exact h)
      rwa [dg_un ne, dg_un ne] at this
  · rintro ⟨⟨d1, d2, d3, d4, d5⟩, hN⟩
    refine ⟨d1, fun v hv hh h => ?_, fun v hv hh h => ?_, d4, d5⟩
    · by_cases e : v = ρ x
      · rw [e, pk_us] at h; exact absurd h (by decide)
      · rw [pk_un e] at h; exact d2 v hv hh h
    · by_cases e : v = ρ x
      · rw [e, ea, eb]; exact cE _ _ _ _ _ _ hN (d1 x hx) (rf _) (rf _)
      · rw [pk_un e] at h; rw [dg_un e, dg_un e]; exact d3 v hv hh h
/-- what is known of a bound class -/
theorem dn_isN {x : Nat} (hG : dm_G M) (hx : x < 12) (hρ : ∀ v, v < 12 → ρ v < 12 ∧ ρ (ρ v) = ρ v) (h1 : st (ρ x) = 1) (d : dn_D ρ st nu lf ri c ja jb sus T M) : M.2.1 x (nu (ρ x)) := by
  obtain ⟨rf, sy, tr, nE, cE, cI, nN, nC⟩ := hG
  exact nE _ _ _ (d.2.1 (ρ x) (hρ x hx).1 (hρ x hx).2 h1) (sy _ _ (d.1 x hx))
theorem dn_isC {x : Nat} (hG : dm_G M) (hx : x < 12) (hρ : ∀ v, v < 12 → ρ v < 12 ∧ ρ (ρ v) = ρ v) (h2 : st (ρ x) = 2) (d : dn_D ρ st nu lf ri c ja jb sus T M) : M.2.2 x (dg_v lf (ρ x)) (dg_v ri (ρ x)) := by
  obtain ⟨rf, sy, tr, nE, cE, cI, nN, nC⟩ := hG
  exact cE _ _ _ _ _ _ (d.2.2.1 (ρ x) (hρ x hx).1 (hρ x hx).2 h2) (sy _ _ (d.1 x hx)) (rf _) (rf _)
theorem dn_want {a b : Nat} (ha : a < 12) (hb : b < 12) : dn_D ρ st nu lf ri (c + 1) (upd ja c (nI a)) (upd jb c (nI b)) sus T M ↔ dn_D ρ st nu lf ri c ja jb sus T M ∧ M.1 a b := by
  have ea : dg_v (upd ja c (nI a)) c = a := dg_us (by omega)
  have eb : dg_v (upd jb c (nI b)) c = b := dg_us (by omega)
  constructor
  · rintro ⟨d1, d2, d3, d4, d5⟩
    refine ⟨⟨d1, d2, d3, fun j hj => ?_, d5⟩, ?_⟩
    · have := d4 j (by omega)
      rwa [dg_un (by omega), dg_un (by omega)] at this
    · have := d4 c (by omega)
      rwa [ea, eb] at this
  · rintro ⟨⟨d1, d2, d3, d4, d5⟩, hE⟩
    refine ⟨d1, d2, d3, fun j hj => ?_, d5⟩
    by_cases e : j = c
    · rw [e, ea, eb]; exact hE
    · rw [dg_un e, dg_un e]; exact d4 j (by omega)
theorem dn_pop : dn_D ρ st nu lf ri (c + 1) ja jb sus T M ↔ dn_D ρ st nu lf ri c ja jb sus T M ∧ M.1 (dg_v ja c) (dg_v jb c) := by
  constructor
  · rintro ⟨d1, d2, d3, d4, d5⟩
    exact ⟨⟨d1, d2, d3, fun j hj => d4 j (by omega), d5⟩, d4 c (by omega)⟩
  · rintro ⟨⟨d1, d2, d3, d4, d5⟩, hE⟩
    refine ⟨d1, d2, d3, fun j hj => ?_, d5⟩
    by_cases e : j = c
    · rw [e]; exact hE
    · exact d4 j (by omega)
theorem dn_sus {sus' : Int64} {s : Nat} (h : ∀ i, db_t sus' i = (db_t sus i || decide (i = s))) : dn_D ρ st nu lf ri c ja jb sus' T M ↔ dn_D ρ st nu lf ri c ja jb sus T M ∧ dm_S M (T s) := by
  constructor
  · rintro ⟨d1, d2, d3, d4, d5⟩
    exact ⟨⟨d1, d2, d3, d4, fun i hi => d5 i (by rw [h i, hi]; rfl)⟩, d5 s (by rw [h s]; simp)⟩
  · rintro ⟨⟨d1, d2, d3, d4, d5⟩, hE⟩
    refine ⟨d1, d2, d3, d4, fun i hi => ?_⟩
    by_cases e : i = s
    · rw [e]; exact hE
    · rw [h i] at hi
      exact d5 i (by simpa [e] using hi)
/-- two classes are made one -/
def dn_u (ρ : Nat → Nat) (b s : Nat) : Nat → Nat := fun v => if ρ v = s then b else ρ v
theorem dn_us {b s v : Nat} (h : ρ v = s) : dn_u ρ b s v = b := if_pos h
theorem dn_un {b s v : Nat} (h : ¬ ρ v = s) : dn_u ρ b s v = ρ v := if_neg h
theorem dn_uok {b s : Nat} (hρ : ∀ v, v < 12 → ρ v < 12 ∧ ρ (ρ v) = ρ v) (hb : b < 12) (rb : ρ b = b) (hn : b ≠ s) : ∀ v, v < 12 → dn_u ρ b s v < 12 ∧ dn_u ρ b s (dn_u ρ b s v) = dn_u ρ b s v := by
  intro v hv
  by_cases e : ρ v = s
  · rw [dn_us e]
    exact ⟨hb, by rw [dn_un (by rw [rb]; exact hn), rb]⟩
  · rw [dn_un e]
    exact ⟨(hρ v hv).1, by rw [dn_un (by rw [(hρ v hv).2]; exact e), (hρ v hv).2]⟩
theorem dn_union {b s : Nat} (hG : dm_G M) (hs : s < 12) (hb : b < 12) (rs : ρ s = s) (rb : ρ b = b) (hn : b ≠ s) :
    (dn_D (dn_u ρ b s) st nu lf ri c ja jb sus T M ∧ (st s = 1 → M.2.1 b (nu s)) ∧ (st s = 2 → M.2.2 b (dg_v lf s) (dg_v ri s))) ↔ dn_D ρ st nu lf ri c ja jb sus T M ∧ M.1 b s := by
  obtain ⟨rf, sy, tr, nE, cE, cI, nN, nC⟩ := hG
  constructor
  · rintro ⟨⟨d1, d2, d3, d4, d5⟩, k1, k2⟩
    have es : M.1 s b := by
      have := d1 s hs
      rwa [dn_us rs] at this
    refine ⟨⟨fun v hv => ?_, fun v hv hh h => ?_, fun v hv hh h => ?_, d4, d5⟩, sy _ _ es⟩
    · have := d1 v hv
      by_cases e : ρ v = s
      · rw [dn_us e] at this; rw [e]; exact tr _ _ _ this (sy _ _ es)
      · rw [dn_un e] at this; exact this
    · by_cases e : v = s
      · rw [e] at h ⊢; exact nE _ _ _ (k1 h) (sy _ _ es)
      · exact d2 v hv (by rw [dn_un (by rw [hh]; exact e), hh]) h
    · by_cases e : v = s
      · rw [e] at h ⊢; exact cE _ _ _ _ _ _ (k2 h) (sy _ _ es) (rf _) (rf _)
      · exact d3 v hv (by rw [dn_un (by rw [hh]; exact e), hh]) h
  · rintro ⟨⟨d1, d2, d3, d4, d5⟩, es⟩
    refine ⟨⟨fun v hv => ?_, fun v hv hh h => ?_, fun v hv hh h => ?_, d4, d5⟩, fun h => nE _ _ _ (d2 s hs rs h) (sy _ _ es), fun h => cE _ _ _ _ _ _ (d3 s hs rs h) (sy _ _ es) (rf _) (rf _)⟩
    · have := d1 v hv
      by_cases e : ρ v = s
      · rw [dn_us e]; rw [e] at this; exact tr _ _ _ this (sy _ _ es)
      · rw [dn_un e]; exact this
    · have e : ¬ ρ v = s := fun e => by
        rw [dn_us e] at hh
        rw [← hh, rb] at e
        exact hn e
      rw [dn_un e] at hh
      exact d2 v hv hh h
    · have e : ¬ ρ v = s := fun e => by
        rw [dn_us e] at hh
        rw [← hh, rb] at e
        exact hn e
      rw [dn_un e] at hh
      exact d3 v hv hh h
/-- the store itself as a model -/
def dn_M (ρ : Nat → Nat) (st nu lf ri : Nat → Int32) : dm_Mo := (fun a b => ρ a = ρ b, fun a n => st (ρ a) = 1 ∧ nu (ρ a) = n, fun a l r => st (ρ a) = 2 ∧ ρ l = ρ (dg_v lf (ρ a)) ∧ ρ r = ρ (dg_v ri (ρ a)))
theorem dn_MG : dm_G (dn_M ρ st nu lf ri) := by
  refine ⟨fun a => rfl, fun a b h => Eq.symm h, fun a b c h g => Eq.trans h g, fun a b n h g => ?_, fun a l r b l' r' h g gl gr => ?_, fun a l r l' r' h g => ?_, fun a n m h g => ?_, fun a n l r h g => ?_⟩
  · have e : ρ a = ρ b := g
    show st (ρ b) = 1 ∧ nu (ρ b) = n
    rw [← e]; exact h
  · have e : ρ a = ρ b := g
    have el : ρ l = ρ l' := gl
    have er : ρ r = ρ r' := gr
    show st (ρ b) = 2 ∧ ρ l' = ρ (dg_v lf (ρ b)) ∧ ρ r' = ρ (dg_v ri (ρ b))
    rw [← e, ← el, ← er]; exact h
  · exact ⟨Eq.trans h.2.1 (Eq.symm g.2.1), Eq.trans h.2.2 (Eq.symm g.2.2)⟩
  · exact Eq.trans (Eq.symm h.2) g.2
  · have e : (1 : Int32) = 2 := Eq.trans (Eq.symm h.1) g.1
    exact absurd e (by decide)
theorem dn_self (hρ : ∀ v, v < 12 → ρ v < 12 ∧ ρ (ρ v) = ρ v) (hs : ∀ s, db_t sus s = true → dm_S (dn_M ρ st nu lf ri) (T s)) : dn_D ρ st nu lf ri 0 ja jb sus T (dn_M ρ st nu lf ri) := by
  refine ⟨fun v hv => ((hρ v hv).2).symm, fun v hv hh h => ?_, fun v hv hh h => ?_, fun j hj => absurd hj (by omega), hs⟩
  · show st (ρ v) = 1 ∧ nu (ρ v) = nu v
    rw [hh]; exact ⟨h, rfl⟩
  · show st (ρ v) = 2 ∧ ρ (dg_v lf v) = ρ (dg_v lf (ρ v)) ∧ ρ (dg_v ri v) = ρ (dg_v ri (ρ v))
    rw [hh]; exact ⟨h, rfl, rfl⟩
end
end
section
/-! the forest of classes -/
def dw_F1 (d : Nat → Nat) (a5 : Nat → Int32) (ρ : Nat → Nat) : Prop := ∀ v, v < 12 → ∃ w, w < 12 ∧ a5 v = nI w ∧ ρ w = ρ v ∧ (w = v ∧ ρ v = v ∨ d w < d v ∧ ρ v ≠ v)
def dw_F (a5 : Nat → Int32) (ρ : Nat → Nat) : Prop := (∀ v, v < 12 → ρ v < 12 ∧ ρ (ρ v) = ρ v) ∧ ∃ d : Nat → Nat, dw_F1 d a5 ρ
theorem dw_Fu {a5 : Nat → Int32} {ρ : Nat → Nat} {b s : Nat} (h : dw_F a5 ρ) (hb : b < 12) (rb : ρ b = b) (rs : ρ s = s) (hn : b ≠ s) : dw_F (upd a5 s (nI b)) (dn_u ρ b s) := by
  obtain ⟨hρ, d, hd⟩ := h
  refine ⟨dn_uok hρ hb rb hn, fun v => d v + (if ρ v = s then d b + 1 else 0), fun v hv => ?_⟩
  by_cases e : v = s
  · rw [e]
    refine ⟨b, hb, pk_us, ?_, Or.inr ⟨?_, ?_⟩⟩
    · rw [dn_us rs, dn_un (by rw [rb]; exact hn), rb]
    · show d b + (if ρ b = s then d b + 1 else 0) < d s + (if ρ s = s then d b + 1 else 0)
      rw [if_neg (by rw [rb]; exact hn), if_pos rs]; omega
    · rw [dn_us rs]; exact hn
  · obtain ⟨w, hw, ew, hr, hc⟩ := hd v hv
    refine ⟨w, hw, by rw [pk_un e]; exact ew, ?_, ?_⟩
    · unfold dn_u; rw [hr]
    · rcases hc with ⟨e1, e2⟩ | ⟨e1, e2⟩
      · refine Or.inl ⟨e1, ?_⟩
        rw [dn_un (by rw [e2]; exact e), e2]
      · refine Or.inr ⟨?_, ?_⟩
        · show d w + (if ρ w = s then d b + 1 else 0) < d v + (if ρ v = s then d b + 1 else 0)
          rw [hr]; exact Nat.add_lt_add_right e1 _
        · by_cases e3 : ρ v = s
          · rw [dn_us e3]
            intro e4
            rw [← e4, rb] at e3
            exact hn e3
          · rw [dn_un e3]; exact e2
def dw_c (ρ : Nat → Nat) : Nat := dc_n (fun v => decide (ρ v = v)) 12
theorem dw_cu {ρ : Nat → Nat} {b s : Nat} (hs : s < 12) (rb : ρ b = b) (rs : ρ s = s) (hn : b ≠ s) : dw_c (dn_u ρ b s) < dw_c ρ := by
  refine dc_lt (k := s) 12 (fun v hv h => ?_) hs (decide_eq_true rs) (fun h => ?_)
  · have h' := of_decide_eq_true h
    apply decide_eq_true
    by_cases e : ρ v = s
    · rw [dn_us e] at h'; rw [← h']; exact rb
    · rw [dn_un e] at h'; exact h'
  · have h' := of_decide_eq_true h
    rw [dn_us rs] at h'
    exact hn h'

/-! statements, states, pending joins -/
def dw_T0 (t : dm_Sm) : Prop := t.1 ≤ 7 ∧ t.2.1 < 12 ∧ t.2.2.1 < 12 ∧ t.2.2.2 < 12 ∧ (t.1 = 5 ∨ t.1 = 6 → t.2.2.2 = t.2.2.1)
def dw_T (T : Nat → dm_Sm) (n : Nat) (a1 a2 a3 a4 : Nat → Int32) : Prop :=
  n ≤ 40 ∧ ∀ s, s < n → dw_T0 (T s) ∧ (3 ≤ (T s).1 → a1 s = nI (T s).1 ∧ a2 s = nI (T s).2.1 ∧ a3 s = nI (T s).2.2.1 ∧ a4 s = nI (T s).2.2.2)
def dw_S (st lf ri : Nat → Int32) : Prop := ∀ v, v < 12 → (st v = 0 ∨ st v = 1 ∨ st v = 2) ∧ (st v = 2 → dg_ok lf v ∧ dg_ok ri v)
theorem dw_S1 {st lf ri : Nat → Int32} {h : Nat} (g : dw_S st lf ri) : dw_S (upd st h 1) lf ri := by
  intro v hv
  by_cases e : v = h
  · rw [e, pk_us]; exact ⟨Or.inr (Or.inl rfl), fun z => absurd z (by decide)⟩
  · rw [pk_un e]; exact g v hv
theorem dw_S2 {st lf ri : Nat → Int32} {h a b : Nat} (ha : a < 12) (hb : b < 12) (g : dw_S st lf ri) : dw_S (upd st h 2) (upd lf h (nI a)) (upd ri h (nI b)) := by
  intro v hv
  by_cases e : v = h
  · rw [e, pk_us]; exact ⟨Or.inr (Or.inr rfl), fun _ => ⟨dg_oks ha, dg_oks hb⟩⟩
  · rw [pk_un e]; exact ⟨(g v hv).1, fun z => ⟨dg_okn e ((g v hv).2 z).1, dg_okn e ((g v hv).2 z).2⟩⟩
def dw_J0 (c : Nat) (ja jb : Nat → Int32) : Prop := ∀ j, j < c → dg_ok ja j ∧ dg_ok jb j
theorem dw_Jw {c a b : Nat} {ja jb : Nat → Int32} (ha : a < 12) (hb : b < 12) (g : dw_J0 c ja jb) : dw_J0 (c + 1) (upd ja c (nI a)) (upd jb c (nI b)) := by
  intro j hj
  by_cases e : j = c
  · rw [e]; exact ⟨dg_oks ha, dg_oks hb⟩
  · exact ⟨dg_okn e (g j (by omega)).1, dg_okn e (g j (by omega)).2⟩

/-! who waits -/
def dw_k (k : Nat) : Int32 := if k = 5 ∨ k = 6 then 2 else 1
theorem dw_k0 (k : Nat) : ¬ dw_k k = 0 := by
  unfold dw_k
  split <;> decide
def dw_w (st : Nat → Int32) (wt : Nat → Int64) (ρ : Nat → Nat) (s : Nat) (t : dm_Sm) : Prop :=
  (st (ρ t.2.2.1) = 0 ∧ db_t (wt (ρ t.2.2.1)) s = true) ∨ (st (ρ t.2.2.2) = 0 ∧ db_t (wt (ρ t.2.2.2)) s = true) ∨ (¬ st (ρ t.2.2.1) = 0 ∧ ¬ st (ρ t.2.2.2) = 0 ∧ ¬ (st (ρ t.2.2.1) = dw_k t.1 ∧ st (ρ t.2.2.2) = dw_k t.1))
def dw_W (T : Nat → dm_Sm) (n : Nat) (ρ : Nat → Nat) (st : Nat → Int32) (wt : Nat → Int64) (sus rdy : Int64) : Prop :=
  (∀ s, db_t rdy s = true → db_t sus s = true) ∧ (∀ s, db_t sus s = true → s < n ∧ 3 ≤ (T s).1) ∧
  (∀ s, s < n → 3 ≤ (T s).1 → db_t sus s = false → st (ρ (T s).2.2.1) = dw_k (T s).1 ∧ st (ρ (T s).2.2.2) = dw_k (T s).1) ∧
  (∀ s, db_t sus s = true → db_t rdy s = true ∨ dw_w st wt ρ s (T s))
section
variable {T : Nat → dm_Sm} {n : Nat} {ρ : Nat → Nat} {st st' : Nat → Int32} {wt wt' : Nat → Int64} {sus rdy rdy' : Int64} {a1 a2 a3 a4 : Nat → Int32} {b s : Nat}
theorem dw_ext {ρ' : Nat → Nat} (hT : dw_T T n a1 a2 a3 a4) (h : dw_W T n ρ st wt sus rdy)
    (h1 : ∀ v, v < 12 → ¬ st (ρ v) = 0 → st' (ρ' v) = st (ρ v))
    (h2 : ∀ v, v < 12 → st (ρ v) = 0 → (st' (ρ' v) = 0 ∧ ∀ i, db_t (wt (ρ v)) i = true → db_t (wt' (ρ' v)) i = true) ∨ (∀ i, db_t (wt (ρ v)) i = true → db_t sus i = true → db_t rdy' i = true))
    (h3 : ∀ i, db_t rdy i = true → db_t rdy' i = true) (h4 : ∀ i, db_t rdy' i = true → db_t sus i = true) : dw_W T n ρ' st' wt' sus rdy' := by
  obtain ⟨w1, w2, w3, w4⟩ := h
  refine ⟨h4, w2, fun i hi hk hb => ?_, fun i hi => ?_⟩
  · obtain ⟨e1, e2⟩ := w3 i hi hk hb
    obtain ⟨⟨t1, t2, t3, t4, t5⟩, _⟩ := hT.2 i hi
    rw [h1 _ t3 (by rw [e1]; exact dw_k0 _), h1 _ t4 (by rw [e2]; exact dw_k0 _)]
    exact ⟨e1, e2⟩
  · obtain ⟨⟨t1, t2, t3, t4, t5⟩, _⟩ := hT.2 i (w2 i hi).1
    rcases w4 i hi with g | ⟨e, g⟩ | ⟨e, g⟩ | ⟨e1, e2, e3⟩
    · exact Or.inl (h3 i g)
    · rcases h2 _ t3 e with ⟨g1, g2⟩ | g1
      · exact Or.inr (Or.inl ⟨g1, g2 i g⟩)
      · exact Or.inl (g1 i g hi)
    · rcases h2 _ t4 e with ⟨g1, g2⟩ | g1
      · exact Or.inr (Or.inr (Or.inl ⟨g1, g2 i g⟩))
      · exact Or.inl (g1 i g hi)
    · refine Or.inr (Or.inr (Or.inr ?_))
      rw [h1 _ t3 e1, h1 _ t4 e2]
      exact ⟨e1, e2, e3⟩
theorem dw_bind {h : Nat} {k : Int32} (hT : dw_T T n a1 a2 a3 a4) (g : dw_W T n ρ st wt sus rdy) (h0 : st h = 0) : dw_W T n ρ (upd st h k) (vp_updL wt h 0) sus (rdy ||| (wt h &&& sus)) := by
  refine dw_ext hT g (fun v hv z => ?_) (fun v hv z => ?_) (fun i hi => ?_) (fun i hi => ?_)
  · exact pk_un (fun e => z (by rw [e]; exact h0))
  · by_cases e : ρ v = h
    · refine Or.inr (fun i hi hs => ?_)
      rw [e] at hi
      rw [db_or, db_and, hi, hs]; simp
    · refine Or.inl ⟨by rw [pk_un e]; exact z, fun i hi => by rw [pk_uLn e]; exact hi⟩
  · rw [db_or, hi]; rfl
  · rw [db_or, db_and] at hi
    rcases Bool.or_eq_true _ _ ▸ hi with z | z
    · exact g.1 i z
    · exact (Bool.and_eq_true _ _ ▸ z).2
theorem dw_jb (hT : dw_T T n a1 a2 a3 a4) (h : dw_W T n ρ st wt sus rdy) (e1 : ∀ v, v ≠ b → st' v = st v) (e3 : ¬ st s = 0 → st' b = st s) (e4 : ¬ st b = 0 → st' b = st b) (e5 : ∀ v, v ≠ b → wt' v = wt v)
    (e6 : ∀ i, db_t rdy' i = (db_t rdy i || ((db_t (wt b) i || db_t (wt s) i) && db_t sus i))) : dw_W T n (dn_u ρ b s) st' wt' sus rdy' := by
  refine dw_ext hT h (fun v hv z => ?_) (fun v hv z => ?_) (fun i hi => ?_) (fun i hi => ?_)
  · by_cases e : ρ v = s
    · rw [dn_us e, e]; rw [e] at z; exact e3 z
    · rw [dn_un e]
      by_cases f : ρ v = b
      · rw [f]; rw [f] at z; exact e4 z
      · exact e1 _ f
  · by_cases e : ρ v = s
    · refine Or.inr (fun i hi hs => ?_)
      rw [e] at hi
      rw [e6, hi, hs]; simp
    · by_cases f : ρ v = b
      · refine Or.inr (fun i hi hs => ?_)
        rw [f] at hi
        rw [e6, hi, hs]; simp
      · rw [dn_un e]
        exact Or.inl ⟨by rw [e1 _ f]; exact z, fun i hi => by rw [e5 _ f]; exact hi⟩
  · rw [e6, hi]; rfl
  · rw [e6] at hi
    rcases Bool.or_eq_true _ _ ▸ hi with z | z
    · exact h.1 i z
    · exact (Bool.and_eq_true _ _ ▸ z).2
theorem dw_jf (hT : dw_T T n a1 a2 a3 a4) (h : dw_W T n ρ st wt sus rdy) (hs : st s = 0) (hb : st b = 0) : dw_W T n (dn_u ρ b s) st (vp_updL wt b (wt b ||| wt s)) sus rdy := by
  refine dw_ext hT h (fun v hv z => ?_) (fun v hv z => Or.inl ?_) (fun i hi => hi) h.1
  · by_cases e : ρ v = s
    · rw [e] at z; exact absurd hs z
    · rw [dn_un e]
  · by_cases e : ρ v = s
    · rw [dn_us e]
      refine ⟨hb, fun i hi => ?_⟩
      rw [e] at hi
      rw [pk_uLs, db_or, hi]; simp
    · rw [dn_un e]
      refine ⟨z, fun i hi => ?_⟩
      by_cases f : ρ v = b
      · rw [f] at hi ⊢
        rw [pk_uLs, db_or, hi]; simp
      · rw [pk_uLn f]; exact hi
end

/-! the whole -/
def dw_K (T : Nat → dm_Sm) (n : Nat) (ρ : Nat → Nat) (c : Nat) (sus rdy : Int64) (a1 a2 a3 a4 a5 a7 a9 a10 : Nat → Int32) (a11 : Nat → Int64) (a12 a13 : Nat → Int32) : Prop :=
  dw_F a5 ρ ∧ dw_T T n a1 a2 a3 a4 ∧ dw_S a7 a9 a10 ∧ dw_J0 c a12 a13 ∧ c + dw_c ρ ≤ 14 ∧ dw_W T n ρ a7 a11 sus rdy
def dw_f (st : Nat → Int32) : Nat := dc_n (fun v => decide (st v = 0)) 12
def dw_m (ρ : Nat → Nat) (st : Nat → Int32) (sus : Int64) (c : Nat) (rdy : Int64) : Nat := 100 * (dw_c ρ + dw_f st + dc_n (db_t sus) 64) + c + dc_n (db_t rdy) 64
theorem dw_fu {st : Nat → Int32} {h : Nat} {k : Int32} (hk : ¬ k = 0) : dw_f (upd st h k) ≤ dw_f st := by
  refine dc_le 12 (fun v hv z => ?_)
  have z' := of_decide_eq_true z
  apply decide_eq_true
  by_cases e : v = h
  · rw [e, pk_us] at z'; exact absurd z' hk
  · rw [pk_un e] at z'; exact z'
theorem dw_mlt {ρ ρ' : Nat → Nat} {st st' : Nat → Int32} {sus sus' rdy rdy' : Int64} {c c' : Nat} (h : dw_c ρ' + dw_f st' + dc_n (db_t sus') 64 < dw_c ρ + dw_f st + dc_n (db_t sus) 64) (hc : c' ≤ 14) : dw_m ρ' st' sus' c' rdy' < dw_m ρ st sus c rdy := by
  have h1 := dc_up (p := db_t rdy') 64
  unfold dw_m
  omega
theorem dw_mle {ρ ρ' : Nat → Nat} {st st' : Nat → Int32} {sus sus' rdy rdy' : Int64} {c c' : Nat} (h : dw_c ρ' + dw_f st' + dc_n (db_t sus') 64 ≤ dw_c ρ + dw_f st + dc_n (db_t sus) 64) (hc : c' + dc_n (db_t rdy') 64 < c + dc_n (db_t rdy) 64) : dw_m ρ' st' sus' c' rdy' < dw_m ρ st sus c rdy := by
  unfold dw_m
  omega
/-- broken and no model; or sound, and saying D -/
def dw_Q (T : Nat → dm_Sm) (n : Nat) (D : dm_Mo → Prop) (P : Nat) (u : St1) : Prop := match u with
  | (sc, sus, jc, rdy, brk, a1, a2, a3, a4, a5, a6, a7, a8, a9, a10, a11, a12, a13) => (brk = 1 ∧ ∀ M, dm_G M → ¬ D M) ∨ (brk = 0 ∧ sc = nI n ∧ ∃ ρ c, jc = nI c ∧ dw_K T n ρ c sus rdy a1 a2 a3 a4 a5 a7 a9 a10 a11 a12 a13 ∧ (∀ M, dm_G M → (dn_D ρ a7 a8 a9 a10 c a12 a13 sus T M ↔ D M)) ∧ dw_m ρ a7 sus c rdy < P)
/-- the same at rest -/
def dw_E (T : Nat → dm_Sm) (n : Nat) (D : dm_Mo → Prop) (u : St1) : Prop := match u with
  | (sc, sus, jc, rdy, brk, a1, a2, a3, a4, a5, a6, a7, a8, a9, a10, a11, a12, a13) => (brk = 1 ∧ ∀ M, dm_G M → ¬ D M) ∨ (brk = 0 ∧ sc = nI n ∧ jc = nI 0 ∧ rdy = 0 ∧ ∃ ρ, dw_K T n ρ 0 sus rdy a1 a2 a3 a4 a5 a7 a9 a10 a11 a12 a13 ∧ (∀ M, dm_G M → (dn_D ρ a7 a8 a9 a10 0 a12 a13 sus T M ↔ D M)))
end
section
section
variable {sc jc brk : Int32} {sus rdy : Int64} {a1 a2 a3 a4 a5 a6 a7 a8 a9 a10 : Nat → Int32} {a11 : Nat → Int64} {a12 a13 : Nat → Int32} {ρ : Nat → Nat}
/-- the way to the head, halved -/
theorem dh_half {d : Nat → Nat} {v w w2 : Nat} (hF : dw_F1 d a5 ρ) (hv : v < 12) (hw : w < 12) (hw2 : w2 < 12) (ew2 : a5 w = nI w2) (hr : ρ w = ρ v) (hr2 : ρ w2 = ρ w) (h1 : d w < d v) (h2 : d w2 ≤ d w) (hne : ρ v ≠ v) : dw_F1 d (upd a5 v (nI w2)) ρ := by
  intro x hx
  by_cases e : x = v
  · rw [e]
    exact ⟨w2, hw2, pk_us, by rw [hr2, hr], Or.inr ⟨by omega, hne⟩⟩
  · rw [pk_un e]; exact hF x hx
theorem dh_h1 {post : Int32 → St1 → Prop} {d : Nat → Nat} : ∀ (m v : Nat) (a5 : Nat → Int32), v < 12 → dw_F1 d a5 ρ → d v < m → (∀ b5, dw_F1 d b5 ρ → post (nI (ρ v)) (sc, sus, jc, rdy, brk, a1, a2, a3, a4, b5, a6, a7, a8, a9, a10, a11, a12, a13)) → wX_head_2 post sc sus jc rdy brk m (nI v) a1 a2 a3 a4 a5 a6 a7 a8 a9 a10 a11 a12 a13
  | 0, _, _, _, _, h, _ => absurd h (by omega)
  | m + 1, v, a5, hv, hF, hm, H => by
    have ec : (nI v).toNatClampNeg = v := nI_clamp (by omega)
    have hin : vp_in (nI v) 12 := vp_in_nI hv (by decide)
    obtain ⟨w, hw, ew, hr, hc⟩ := hF v hv
    refine ⟨hin, ?_⟩
    rw [ec, ew]
    rcases hc with ⟨e1, e2⟩ | ⟨h1, hne⟩
    · have := H a5 hF
      rw [e2] at this
      exact br_t (by rw [e1]) this
    · have hvw : ¬ nI w = nI v := fun e => by
        rw [nI_eq (by omega) (by omega)] at e
        rw [e] at h1; omega
      obtain ⟨w2, hw2, ew2, hr2, hc2⟩ := hF w hw
      have h2 : d w2 ≤ d w := by
        rcases hc2 with ⟨e, _⟩ | ⟨e, _⟩
        · rw [e]; exact Nat.le_refl _
        · omega
      have ecw : (nI w).toNatClampNeg = w := nI_clamp (by omega)
      have en : vp_nar .byte (a5 w) = nI w2 := by rw [ew2, vp_nar_byte, dg_b8 w2 (by omega)]
      refine br_f hvw ⟨hin, vp_in_nI hw (by decide), hin, fun b5 e5 => ⟨hin, fun x2 ex => ?_⟩⟩
      rw [ecw, en] at e5
      subst e5
      rw [pk_us] at ex
      subst ex
      refine dh_h1 m w2 _ hw2 (dh_half hF hv hw hw2 ew2 hr hr2 h1 h2 hne) (by omega) (fun b5 hb => ?_)
      rw [hr2, hr]
      exact H b5 hb
theorem dh_headA {post : Int32 → St1 → Prop} {v : Nat} (hF : dw_F a5 ρ) (hv : v < 12) (H : ∀ b5, dw_F b5 ρ → post (nI (ρ v)) (sc, sus, jc, rdy, brk, a1, a2, a3, a4, b5, a6, a7, a8, a9, a10, a11, a12, a13)) : wpX_head post (sc, sus, jc, rdy, brk, a1, a2, a3, a4, a5, a6, a7, a8, a9, a10, a11, a12, a13) (nI v) := by
  obtain ⟨hρ, d, hd⟩ := hF
  exact ⟨d v + 1, dh_h1 (d v + 1) v a5 hv hd (by omega) (fun b5 hb => H b5 ⟨hρ, d, hb⟩)⟩
theorem dh_h2 {post : Int32 → St1 → Prop} {d : Nat → Nat} : ∀ (m v : Nat) (a5 : Nat → Int32), v < 12 → dw_F1 d a5 ρ → d v < m → (∀ b5, dw_F1 d b5 ρ → post (nI (ρ v)) (sc, sus, jc, rdy, brk, a1, a2, a3, a4, b5, a6, a7, a8, a9, a10, a11, a12, a13)) → wX_head_2_2 post sc sus jc rdy brk m (nI v) a1 a2 a3 a4 a5 a6 a7 a8 a9 a10 a11 a12 a13
  | 0, _, _, _, _, h, _ => absurd h (by omega)
  | m + 1, v, a5, hv, hF, hm, H => by
    have ec : (nI v).toNatClampNeg = v := nI_clamp (by omega)
    have hin : vp_in (nI v) 12 := vp_in_nI hv (by decide)
    obtain ⟨w, hw, ew, hr, hc⟩ := hF v hv
    refine ⟨hin, ?_⟩
    rw [ec, ew]
    rcases hc with ⟨e1, e2⟩ | ⟨h1, hne⟩
    · have := H a5 hF
      rw [e2] at this
      exact br_t (by rw [e1]) this
    · have hvw : ¬ nI w = nI v := fun e => by
        rw [nI_eq (by omega) (by omega)] at e
        rw [e] at h1; omega
      obtain ⟨w2, hw2, ew2, hr2, hc2⟩ := hF w hw
      have h2 : d w2 ≤ d w := by
        rcases hc2 with ⟨e, _⟩ | ⟨e, _⟩
        · rw [e]; exact Nat.le_refl _
        · omega
      have ecw : (nI w).toNatClampNeg = w := nI_clamp (by omega)
      have en : vp_nar .byte (a5 w) = nI w2 := by rw [ew2, vp_nar_byte, dg_b8 w2 (by omega)]
      refine br_f hvw ⟨hin, vp_in_nI hw (by decide), hin, fun b5 e5 => ⟨hin, fun x2 ex => ?_⟩⟩
      rw [ecw, en] at e5
      subst e5
      rw [pk_us] at ex
      subst ex
      refine dh_h2 m w2 _ hw2 (dh_half hF hv hw hw2 ew2 hr hr2 h1 h2 hne) (by omega) (fun b5 hb => ?_)
      rw [hr2, hr]
      exact H b5 hb
theorem dh_head {post : Int32 → St1 → Prop} {v : Nat} (hF : dw_F a5 ρ) (hv : v < 12) (H : ∀ b5, dw_F b5 ρ → post (nI (ρ v)) (sc, sus, jc, rdy, brk, a1, a2, a3, a4, b5, a6, a7, a8, a9, a10, a11, a12, a13)) : wpX_head_2 post (sc, sus, jc, rdy, brk, a1, a2, a3, a4, a5, a6, a7, a8, a9, a10, a11, a12, a13) (nI v) := by
  obtain ⟨hρ, d, hd⟩ := hF
  exact ⟨d v + 1, dh_h2 (d v + 1) v a5 hv hd (by omega) (fun b5 hb => H b5 ⟨hρ, d, hb⟩)⟩
theorem dh_wake {post : St1 → Prop} {h : Nat} (hh : h < 12) (H : post (sc, sus, jc, (rdy ||| (a11 h &&& sus)), brk, a1, a2, a3, a4, a5, a6, a7, a8, a9, a10, vp_updL a11 h 0, a12, a13)) : wpX_wake post (sc, sus, jc, rdy, brk, a1, a2, a3, a4, a5, a6, a7, a8, a9, a10, a11, a12, a13) (nI h) := by
  have ec : (nI h).toNatClampNeg = h := nI_clamp (by omega)
  have hin : vp_in (nI h) 12 := vp_in_nI hh (by decide)
  unfold wpX_wake
  rw [ec]
  exact ⟨hin, nm_e ⟨hin, nm_e H⟩⟩
theorem dh_want {post : St1 → Prop} {c a b : Nat} (hc : c < 40) (ha : a < 12) (hb : b < 12) (H : post (sc, sus, nI (c + 1), rdy, brk, a1, a2, a3, a4, a5, a6, a7, a8, a9, a10, a11, upd a12 c (nI a), upd a13 c (nI b))) : wpX_want post (sc, sus, nI c, rdy, brk, a1, a2, a3, a4, a5, a6, a7, a8, a9, a10, a11, a12, a13) (nI a) (nI b) := by
  have ec : (nI c).toNatClampNeg = c := nI_clamp (by omega)
  have hin : vp_in (nI c) 40 := vp_in_nI hc (by decide)
  unfold wpX_want
  dsimp only
  rw [ec, dg_b8 a (by omega), dg_b8 b (by omega)]
  exact ⟨hin, nm_e ⟨hin, nm_e (nm_r (nI_1 c) H)⟩⟩
theorem dh_bindN {post : St1 → Prop} {v : Nat} {n : Int32} (hF : dw_F a5 ρ) (hv : v < 12)
    (H0 : a7 (ρ v) = 0 → ∀ b5, dw_F b5 ρ → post (sc, sus, jc, (rdy ||| (a11 (ρ v) &&& sus)), brk, a1, a2, a3, a4, b5, a6, upd a7 (ρ v) 1, upd a8 (ρ v) n, a9, a10, vp_updL a11 (ρ v) 0, a12, a13))
    (H1 : ¬ a7 (ρ v) = 0 → ¬ a7 (ρ v) = 2 → a8 (ρ v) = n → ∀ b5, dw_F b5 ρ → post (sc, sus, jc, rdy, brk, a1, a2, a3, a4, b5, a6, a7, a8, a9, a10, a11, a12, a13))
    (H2 : ¬ a7 (ρ v) = 0 → (a7 (ρ v) = 2 ∨ ¬ a8 (ρ v) = n) → ∀ b5, dw_F b5 ρ → post (sc, sus, jc, rdy, 1, a1, a2, a3, a4, b5, a6, a7, a8, a9, a10, a11, a12, a13)) : wpX_bindNumber post (sc, sus, jc, rdy, brk, a1, a2, a3, a4, a5, a6, a7, a8, a9, a10, a11, a12, a13) (nI v) n := by
  have hr : ρ v < 12 := (hF.1 v hv).1
  have ec : (nI (ρ v)).toNatClampNeg = ρ v := nI_clamp (by omega)
  have hin : vp_in (nI (ρ v)) 12 := vp_in_nI hr (by decide)
  unfold wpX_bindNumber
  refine dh_head hF hv (fun b5 hb => ?_)
  dsimp only
  rw [ec]
  refine ⟨hin, br_c (fun z => ⟨hin, nm_e ⟨hin, nm_e (dh_wake hr (H0 z b5 hb))⟩⟩) (fun z => ⟨hin, br_c (fun z2 => H2 z (Or.inl z2) b5 hb) (fun z2 => ⟨hin, br_c (fun z3 => H1 z z2 z3 b5 hb) (fun z3 => H2 z (Or.inr z3) b5 hb)⟩)⟩)⟩
theorem dh_bindC {post : St1 → Prop} {v a b c : Nat} (hF : dw_F a5 ρ) (hv : v < 12) (ha : a < 12) (hb : b < 12) (hc : c < 38) (hj : jc = nI c) (hS : a7 (ρ v) = 2 → dg_ok a9 (ρ v) ∧ dg_ok a10 (ρ v))
    (H0 : a7 (ρ v) = 0 → ∀ b5, dw_F b5 ρ → post (sc, sus, jc, (rdy ||| (a11 (ρ v) &&& sus)), brk, a1, a2, a3, a4, b5, a6, upd a7 (ρ v) 2, a8, upd a9 (ρ v) (nI a), upd a10 (ρ v) (nI b), vp_updL a11 (ρ v) 0, a12, a13))
    (H1 : a7 (ρ v) = 2 → ∀ b5, dw_F b5 ρ → post (sc, sus, nI (c + 1 + 1), rdy, brk, a1, a2, a3, a4, b5, a6, a7, a8, a9, a10, a11, upd (upd a12 c (nI (dg_v a9 (ρ v)))) (c + 1) (nI (dg_v a10 (ρ v))), upd (upd a13 c (nI a)) (c + 1) (nI b)))
    (H2 : ¬ a7 (ρ v) = 0 → ¬ a7 (ρ v) = 2 → ∀ b5, dw_F b5 ρ → post (sc, sus, jc, rdy, 1, a1, a2, a3, a4, b5, a6, a7, a8, a9, a10, a11, a12, a13)) : wpX_bindCouple post (sc, sus, jc, rdy, brk, a1, a2, a3, a4, a5, a6, a7, a8, a9, a10, a11, a12, a13) (nI v) (nI a) (nI b) := by
  subst hj
  have hr : ρ v < 12 := (hF.1 v hv).1
  have ec : (nI (ρ v)).toNatClampNeg = ρ v := nI_clamp (by omega)
  have hin : vp_in (nI (ρ v)) 12 := vp_in_nI hr (by decide)
  unfold wpX_bindCouple
  refine dh_head hF hv (fun b5 hb5 => ?_)
  dsimp only
  rw [ec, dg_b8 a (by omega), dg_b8 b (by omega)]
  refine ⟨hin, br_c (fun z => ⟨hin, nm_e ⟨hin, nm_e ⟨hin, nm_e (dh_wake hr (H0 z b5 hb5))⟩⟩⟩) (fun z => ⟨hin, br_c (fun z2 => ⟨hin, ?_⟩) (fun z2 => H2 z z2 b5 hb5)⟩)⟩
  obtain ⟨⟨k1, k2⟩, k3, k4⟩ := hS z2
  rw [k2]
  refine dh_want (by omega) k1 ha ?_
  dsimp only
  rw [k4]
  refine ⟨hin, ?_⟩
  refine dh_want (by omega) k3 hb ?_
  exact H1 z2 b5 hb5
end
end
section
section
variable {sc jc brk : Int32} {sus rdy : Int64} {a1 a2 a3 a4 a5 a6 a7 a8 a9 a10 : Nat → Int32} {a11 : Nat → Int64} {a12 a13 : Nat → Int32} {ρ : Nat → Nat} {T : Nat → dm_Sm} {n P : Nat} {D : dm_Mo → Prop}
theorem dh_bindNh {post : St1 → Prop} {v h : Nat} {k : Int32} (eh : ρ v = h) (hF : dw_F a5 ρ) (hv : v < 12)
    (H0 : a7 h = 0 → ∀ b5, dw_F b5 ρ → post (sc, sus, jc, (rdy ||| (a11 h &&& sus)), brk, a1, a2, a3, a4, b5, a6, upd a7 h 1, upd a8 h k, a9, a10, vp_updL a11 h 0, a12, a13))
    (H1 : ¬ a7 h = 0 → ¬ a7 h = 2 → a8 h = k → ∀ b5, dw_F b5 ρ → post (sc, sus, jc, rdy, brk, a1, a2, a3, a4, b5, a6, a7, a8, a9, a10, a11, a12, a13))
    (H2 : ¬ a7 h = 0 → (a7 h = 2 ∨ ¬ a8 h = k) → ∀ b5, dw_F b5 ρ → post (sc, sus, jc, rdy, 1, a1, a2, a3, a4, b5, a6, a7, a8, a9, a10, a11, a12, a13)) : wpX_bindNumber post (sc, sus, jc, rdy, brk, a1, a2, a3, a4, a5, a6, a7, a8, a9, a10, a11, a12, a13) (nI v) k := by
  subst eh
  exact dh_bindN hF hv H0 H1 H2
theorem dh_bindCh {post : St1 → Prop} {v a b c h : Nat} (eh : ρ v = h) (hF : dw_F a5 ρ) (hv : v < 12) (ha : a < 12) (hb : b < 12) (hc : c < 38) (hS : a7 h = 2 → dg_ok a9 h ∧ dg_ok a10 h)
    (H0 : a7 h = 0 → ∀ b5, dw_F b5 ρ → post (sc, sus, nI c, (rdy ||| (a11 h &&& sus)), brk, a1, a2, a3, a4, b5, a6, upd a7 h 2, a8, upd a9 h (nI a), upd a10 h (nI b), vp_updL a11 h 0, a12, a13))
    (H1 : a7 h = 2 → ∀ b5, dw_F b5 ρ → post (sc, sus, nI (c + 1 + 1), rdy, brk, a1, a2, a3, a4, b5, a6, a7, a8, a9, a10, a11, upd (upd a12 c (nI (dg_v a9 h))) (c + 1) (nI (dg_v a10 h)), upd (upd a13 c (nI a)) (c + 1) (nI b)))
    (H2 : ¬ a7 h = 0 → ¬ a7 h = 2 → ∀ b5, dw_F b5 ρ → post (sc, sus, nI c, rdy, 1, a1, a2, a3, a4, b5, a6, a7, a8, a9, a10, a11, a12, a13)) : wpX_bindCouple post (sc, sus, nI c, rdy, brk, a1, a2, a3, a4, a5, a6, a7, a8, a9, a10, a11, a12, a13) (nI v) (nI a) (nI b) := by
  subst eh
  exact dh_bindC hF hv ha hb hc rfl hS H0 H1 H2
theorem dn_cp1 {M : dm_Mo} {x a b h c : Nat} {st nu lf ri ja jb : Nat → Int32} (hG : dm_G M) (hx : x < 12) (hρ : ∀ v, v < 12 → ρ v < 12 ∧ ρ (ρ v) = ρ v) (eh : ρ x = h) (h2 : st h = 2) (ha : a < 12) (hb : b < 12) (hl : dg_v lf h < 12) (hr : dg_v ri h < 12) :
    dn_D ρ st nu lf ri (c + 1 + 1) (upd (upd ja c (nI (dg_v lf h))) (c + 1) (nI (dg_v ri h))) (upd (upd jb c (nI a)) (c + 1) (nI b)) sus T M ↔ dn_D ρ st nu lf ri c ja jb sus T M ∧ M.2.2 x a b := by
  subst eh
  refine (dn_want hr hb).trans ?_
  rw [dn_want hl ha]
  have hG' := hG
  obtain ⟨rf, sy, tr, nE, cE, cI, nN, nC⟩ := hG'
  constructor
  · rintro ⟨⟨d, e1⟩, e2⟩
    exact ⟨d, cE _ _ _ _ _ _ (dn_isC hG hx hρ h2 d) (rf _) e1 e2⟩
  · rintro ⟨d, e⟩
    obtain ⟨g1, g2⟩ := cI _ _ _ _ _ (dn_isC hG hx hρ h2 d) e
    exact ⟨⟨d, g1⟩, g2⟩
/-- a number told to a sound store -/
theorem dj_bindN {post : St1 → Prop} {v c : Nat} {k : Int32} (hK : dw_K T n ρ c sus rdy a1 a2 a3 a4 a5 a7 a9 a10 a11 a12 a13) (hv : v < 12)
    (hD : ∀ M, dm_G M → (dn_D ρ a7 a8 a9 a10 c a12 a13 sus T M ∧ M.2.1 v k ↔ D M)) (hP : ∀ st' rdy', dw_f st' ≤ dw_f a7 → dw_m ρ st' sus c rdy' < P)
    (H : ∀ u, dw_Q T n D P u → post u) : wpX_bindNumber post (nI n, sus, nI c, rdy, 0, a1, a2, a3, a4, a5, a6, a7, a8, a9, a10, a11, a12, a13) (nI v) k := by
  obtain ⟨kF, kT, kS, kJ, kc, kW⟩ := hK
  have hr := (kF.1 v hv).1
  refine dh_bindN kF hv (fun z b5 hb => H _ (Or.inr ⟨rfl, rfl, ρ, c, rfl, ⟨hb, kT, dw_S1 kS, kJ, kc, dw_bind kT kW z⟩, fun M hG => (dn_num0 hG hv kF.1 z).trans (hD M hG), hP _ _ (dw_fu (by decide))⟩))
    (fun z z2 z3 b5 hb => H _ (Or.inr ⟨rfl, rfl, ρ, c, rfl, ⟨hb, kT, kS, kJ, kc, kW⟩, fun M hG => ?_, hP _ _ (Nat.le_refl _)⟩))
    (fun z z2 b5 hb => H _ (Or.inl ⟨rfl, fun M hG d => ?_⟩))
  · have h1 : a7 (ρ v) = 1 := by
      rcases (kS _ hr).1 with e | e | e
      · exact absurd e z
      · exact e
      · exact absurd e z2
    exact Iff.trans ⟨fun d => ⟨d, by rw [← z3]; exact dn_isN hG hv kF.1 h1 d⟩, fun d => d.1⟩ (hD M hG)
  · obtain ⟨d0, dk⟩ := (hD M hG).mpr d
    have hG' := hG
    obtain ⟨rf, sy, tr, nE, cE, cI, nN, nC⟩ := hG'
    rcases (kS _ hr).1 with e | e | e
    · exact z e
    · rcases z2 with z2 | z2
      · rw [e] at z2; exact absurd z2 (by decide)
      · exact z2 (nN _ _ _ (dn_isN hG hv kF.1 e d0) dk)
    · exact nC _ _ _ _ dk (dn_isC hG hv kF.1 e d0)
/-- a couple told to a sound store -/
theorem dj_bindC {post : St1 → Prop} {v c a b : Nat} (hK : dw_K T n ρ c sus rdy a1 a2 a3 a4 a5 a7 a9 a10 a11 a12 a13) (hv : v < 12) (ha : a < 12) (hb : b < 12) (hc : c + 2 + dw_c ρ ≤ 14)
    (hD : ∀ M, dm_G M → (dn_D ρ a7 a8 a9 a10 c a12 a13 sus T M ∧ M.2.2 v a b ↔ D M)) (hP : ∀ st' rdy' c', dw_f st' ≤ dw_f a7 → c' ≤ 14 → dw_m ρ st' sus c' rdy' < P)
    (H : ∀ u, dw_Q T n D P u → post u) : wpX_bindCouple post (nI n, sus, nI c, rdy, 0, a1, a2, a3, a4, a5, a6, a7, a8, a9, a10, a11, a12, a13) (nI v) (nI a) (nI b) := by
  obtain ⟨kF, kT, kS, kJ, kc, kW⟩ := hK
  have hr := (kF.1 v hv).1
  refine dh_bindCh rfl kF hv ha hb (by omega) (kS _ hr).2
    (fun z b5 hb5 => H _ (Or.inr ⟨rfl, rfl, ρ, c, rfl, ⟨hb5, kT, dw_S2 ha hb kS, kJ, kc, dw_bind kT kW z⟩, fun M hG => (dn_cp0 hG hv kF.1 z ha hb).trans (hD M hG), hP _ _ _ (dw_fu (by decide)) (by omega)⟩))
    (fun z b5 hb5 => H _ (Or.inr ⟨rfl, rfl, ρ, c + 1 + 1, rfl, ⟨hb5, kT, kS, dw_Jw ((kS _ hr).2 z).2.1 hb (dw_Jw ((kS _ hr).2 z).1.1 ha kJ), by omega, kW⟩, fun M hG => (dn_cp1 hG hv kF.1 rfl z ha hb ((kS _ hr).2 z).1.1 ((kS _ hr).2 z).2.1).trans (hD M hG), hP _ _ _ (Nat.le_refl _) (by omega)⟩))
    (fun z z2 b5 hb5 => H _ (Or.inl ⟨rfl, fun M hG d => ?_⟩))
  obtain ⟨d0, dk⟩ := (hD M hG).mpr d
  have hG' := hG
  obtain ⟨rf, sy, tr, nE, cE, cI, nN, nC⟩ := hG'
  rcases (kS _ hr).1 with e | e | e
  · exact z e
  · exact nC _ _ _ _ (dn_isN hG hv kF.1 e d0) dk
  · exact z2 e
theorem dj_r1 {wt : Nat → Int64} {b s i : Nat} : db_t (rdy ||| (vp_updL wt b (wt b ||| wt s) b &&& sus)) i = (db_t rdy i || ((db_t (wt b) i || db_t (wt s) i) && db_t sus i)) := by
  rw [db_or, db_and, pk_uLs, db_or]
theorem dj_r2 {wt : Nat → Int64} {b s i : Nat} : db_t ((rdy ||| (vp_updL wt b (wt b ||| wt s) b &&& sus)) ||| (vp_updL (vp_updL wt b (wt b ||| wt s)) b 0 b &&& sus)) i = (db_t rdy i || ((db_t (wt b) i || db_t (wt s) i) && db_t sus i)) := by
  rw [db_or, dj_r1, db_and, pk_uLs, db_0, Bool.false_and, Bool.or_false]
/-- what a join that binds leaves -/
theorem dj_fin {b s c c' : Nat} {b5 b6 st' nu' lf' ri' ja' jb' : Nat → Int32} {wt' : Nat → Int64} {rdy' : Int64} (hK : dw_K T n ρ c sus rdy a1 a2 a3 a4 a5 a7 a9 a10 a11 a12 a13) (hs : s < 12) (rb : ρ b = b) (rs : ρ s = s) (hn : b ≠ s) (hc : c + 1 + dw_c ρ ≤ 14) (hP : dw_m ρ a7 sus (c + 1) rdy ≤ P)
    (e1 : ∀ v, v ≠ b → st' v = a7 v) (e3 : ¬ a7 s = 0 → st' b = a7 s) (e4 : ¬ a7 b = 0 → st' b = a7 b) (e5 : ∀ v, v ≠ b → wt' v = a11 v) (e6 : ∀ i, db_t rdy' i = (db_t rdy i || ((db_t (a11 b) i || db_t (a11 s) i) && db_t sus i)))
    (hF : dw_F b5 (dn_u ρ b s)) (hS : dw_S st' lf' ri') (hJ : dw_J0 c' ja' jb') (hc' : c' ≤ c + 2) (hf : dw_f st' ≤ dw_f a7) (hD : ∀ M, dm_G M → (dn_D (dn_u ρ b s) st' nu' lf' ri' c' ja' jb' sus T M ↔ D M)) :
    dw_Q T n D P (nI n, sus, nI c', rdy', 0, a1, a2, a3, a4, b5, b6, st', nu', lf', ri', wt', ja', jb') := by
  obtain ⟨kF, kT, kS, kJ, kc, kW⟩ := hK
  have hu := dw_cu hs rb rs hn
  exact Or.inr ⟨rfl, rfl, dn_u ρ b s, c', rfl, ⟨hF, kT, hS, hJ, by omega, dw_jb kT kW e1 e3 e4 e5 e6⟩, hD, Nat.lt_of_lt_of_le (dw_mlt (by omega) (by omega)) hP⟩
theorem dj_56 {post : St1 → Prop} {b s c : Nat} (hK : dw_K T n ρ c sus rdy a1 a2 a3 a4 a5 a7 a9 a10 a11 a12 a13) (hb : b < 12) (hs : s < 12) (rb : ρ b = b) (rs : ρ s = s) (hn : b ≠ s) (hc : c + 1 + dw_c ρ ≤ 14)
    (hD : ∀ M, dm_G M → (dn_D ρ a7 a8 a9 a10 c a12 a13 sus T M ∧ M.1 b s ↔ D M)) (hP : dw_m ρ a7 sus (c + 1) rdy ≤ P)
    (H : ∀ u, dw_Q T n D P u → post u) : wX_join_56 post (nI b) (nI s) (nI n) sus (nI c) rdy 0 a1 a2 a3 a4 a5 a6 a7 a8 a9 a10 a11 a12 a13 := by
  have hK' := hK
  obtain ⟨kF, kT, kS, kJ, kc, kW⟩ := hK'
  have ecb : (nI b).toNatClampNeg = b := nI_clamp (by omega)
  have ecs : (nI s).toNatClampNeg = s := nI_clamp (by omega)
  have inb : vp_in (nI b) 12 := vp_in_nI hb (by decide)
  have ins : vp_in (nI s) 12 := vp_in_nI hs (by decide)
  have hF' := dw_Fu kF hb rb rs hn
  have rb' : dn_u ρ b s b = b := by rw [dn_un (by rw [rb]; exact hn), rb]
  have hU : ∀ M, dm_G M → ((dn_D (dn_u ρ b s) a7 a8 a9 a10 c a12 a13 sus T M ∧ (a7 s = 1 → M.2.1 b (a8 s)) ∧ (a7 s = 2 → M.2.2 b (dg_v a9 s) (dg_v a10 s))) ↔ D M) := fun M hG => (dn_union hG hs hb rs rb hn).trans (hD M hG)
  have hsb : s ≠ b := fun e => hn e.symm
  have eW : ∀ v, v ≠ b → vp_updL (vp_updL a11 b (a11 b ||| a11 s)) b 0 v = a11 v := fun v hv => by rw [pk_uLn hv, pk_uLn hv]
  have eW2 : ∀ v, v ≠ b → vp_updL (vp_updL (vp_updL a11 b (a11 b ||| a11 s)) b 0) b 0 v = a11 v := fun v hv => by rw [pk_uLn hv, pk_uLn hv, pk_uLn hv]
  unfold wX_join_56
  rw [ecb, ecs, dg_b8 b (by omega)]
  refine ⟨ins, nm_e ⟨inb, ins, inb, fun b6 _ => ⟨inb, ins, inb, nm_e ⟨ins, br_c (fun z => ⟨ins, ?_⟩) (fun z => ?_)⟩⟩⟩⟩
  · have z2 : ¬ a7 s = 2 := by rw [z]; decide
    refine dh_bindNh rb' hF' hb (fun y b5 hb5 => ?_) (fun y y2 y3 b5 hb5 => ?_) (fun y y2 b5 hb5 => ?_)
    · show wX_join_127 post (nI b) (nI s) (nI n) sus (nI c) (rdy ||| (vp_updL a11 b (a11 b ||| a11 s) b &&& sus)) 0 a1 a2 a3 a4 b5 b6 (upd a7 b 1) (upd a8 b (a8 s)) a9 a10 (vp_updL (vp_updL a11 b (a11 b ||| a11 s)) b 0) a12 a13
      unfold wX_join_127
      rw [ecs, pk_un hsb]
      refine ⟨ins, br_f z2 ?_⟩
      unfold wX_join_158
      rw [ecb, pk_us]
      refine ⟨inb, br_f (by decide) (dh_wake hb (H _ ?_))⟩
      refine dj_fin hK hs rb rs hn hc hP (fun v hv => pk_un hv) (fun _ => by rw [pk_us, z]) (fun y2 => absurd y y2) eW2 (fun i => dj_r2) hb5 (dw_S1 kS) kJ (by omega) (dw_fu (by decide)) (fun M hG => ?_)
      have h := dn_num0 (nu := a8) (lf := a9) (ri := a10) (c := c) (ja := a12) (jb := a13) (sus := sus) (T := T) (n := a8 s) hG hb hF'.1 (show a7 (dn_u ρ b s b) = 0 by rw [rb']; exact y)
      rw [rb'] at h
      refine h.trans (Iff.trans ⟨fun d => ⟨d.1, fun _ => d.2, fun q => absurd q z2⟩, fun d => ⟨d.1, d.2.1 z⟩⟩ (hU M hG))
    · show wX_join_127 post (nI b) (nI s) (nI n) sus (nI c) rdy 0 a1 a2 a3 a4 b5 b6 a7 a8 a9 a10 (vp_updL a11 b (a11 b ||| a11 s)) a12 a13
      have y1 : a7 b = 1 := by
        rcases (kS b hb).1 with e | e | e
        · exact absurd e y
        · exact e
        · exact absurd e y2
      unfold wX_join_127
      rw [ecs]
      refine ⟨ins, br_f z2 ?_⟩
      unfold wX_join_158
      rw [ecb]
      refine ⟨inb, br_f y (dh_wake hb (H _ ?_))⟩
      refine dj_fin hK hs rb rs hn hc hP (fun v hv => rfl) (fun _ => by rw [y1, z]) (fun y2 => rfl) eW (fun i => dj_r1) hb5 kS kJ (by omega) (Nat.le_refl _) (fun M hG => ?_)
      refine Iff.trans ⟨fun d => ⟨d, fun _ => ?_, fun q => absurd q z2⟩, fun d => d.1⟩ (hU M hG)
      have h := dn_isN hG hb hF'.1 (show a7 (dn_u ρ b s b) = 1 by rw [rb']; exact y1) d
      rw [rb', y3] at h
      exact h
    · show wX_join_127 post (nI b) (nI s) (nI n) sus (nI c) rdy 1 a1 a2 a3 a4 b5 b6 a7 a8 a9 a10 (vp_updL a11 b (a11 b ||| a11 s)) a12 a13
      unfold wX_join_127
      rw [ecs]
      refine ⟨ins, br_f z2 ?_⟩
      unfold wX_join_158
      rw [ecb]
      refine ⟨inb, br_f y (dh_wake hb (H _ (Or.inl ⟨rfl, fun M hG d => ?_⟩)))⟩
      obtain ⟨d0, dk, _⟩ := (hU M hG).mpr d
      have hG' := hG
      obtain ⟨rf, sy, tr, nE, cE, cI, nN, nC⟩ := hG'
      rcases (kS b hb).1 with e | e | e
      · exact y e
      · rcases y2 with y2 | y2
        · rw [e] at y2; exact absurd y2 (by decide)
        · have h := dn_isN hG hb hF'.1 (show a7 (dn_u ρ b s b) = 1 by rw [rb']; exact e) d0
          rw [rb'] at h
          exact y2 (nN _ _ _ h (dk z))
      · exact nC _ _ _ _ (dk z) (dn_isC hG hb hF'.1 (show a7 (dn_u ρ b s b) = 2 by rw [rb']; exact e) d0)
  · unfold wX_join_127
    rw [ecs]
    refine ⟨ins, br_c (fun z2 => ⟨ins, ins, ?_⟩) (fun z2 => ?_)⟩
    · obtain ⟨⟨l1, l2⟩, r1, r2⟩ := (kS s hs).2 z2
      rw [l2, r2]
      refine dh_bindCh rb' hF' hb l1 r1 (by omega) (kS b hb).2 (fun y b5 hb5 => ?_) (fun y b5 hb5 => ?_) (fun y y2 b5 hb5 => ?_)
      · show wX_join_158 post (nI b) (nI n) sus (nI c) (rdy ||| (vp_updL a11 b (a11 b ||| a11 s) b &&& sus)) 0 a1 a2 a3 a4 b5 b6 (upd a7 b 2) a8 (upd a9 b (nI (dg_v a9 s))) (upd a10 b (nI (dg_v a10 s))) (vp_updL (vp_updL a11 b (a11 b ||| a11 s)) b 0) a12 a13
        unfold wX_join_158
        rw [ecb, pk_us]
        refine ⟨inb, br_f (by decide) (dh_wake hb (H _ ?_))⟩
        refine dj_fin hK hs rb rs hn hc hP (fun v hv => pk_un hv) (fun _ => by rw [pk_us, z2]) (fun y2 => absurd y y2) eW2 (fun i => dj_r2) hb5 (dw_S2 l1 r1 kS) kJ (by omega) (dw_fu (by decide)) (fun M hG => ?_)
        have h := dn_cp0 (nu := a8) (lf := a9) (ri := a10) (c := c) (ja := a12) (jb := a13) (sus := sus) (T := T) hG hb hF'.1 (show a7 (dn_u ρ b s b) = 0 by rw [rb']; exact y) l1 r1
        rw [rb'] at h
        refine h.trans (Iff.trans ⟨fun d => ⟨d.1, fun q => absurd q z, fun _ => d.2⟩, fun d => ⟨d.1, d.2.2 z2⟩⟩ (hU M hG))
      · show wX_join_158 post (nI b) (nI n) sus (nI (c + 1 + 1)) rdy 0 a1 a2 a3 a4 b5 b6 a7 a8 a9 a10 (vp_updL a11 b (a11 b ||| a11 s)) (upd (upd a12 c (nI (dg_v a9 b))) (c + 1) (nI (dg_v a10 b))) (upd (upd a13 c (nI (dg_v a9 s))) (c + 1) (nI (dg_v a10 s)))
        obtain ⟨⟨lb1, lb2⟩, rb1, rb2⟩ := (kS b hb).2 y
        have y0 : ¬ a7 b = 0 := by rw [y]; decide
        unfold wX_join_158
        rw [ecb]
        refine ⟨inb, br_f y0 (dh_wake hb (H _ ?_))⟩
        refine dj_fin hK hs rb rs hn hc hP (fun v hv => rfl) (fun _ => by rw [y, z2]) (fun _ => rfl) eW (fun i => dj_r1) hb5 kS (dw_Jw rb1 r1 (dw_Jw lb1 l1 kJ)) (by omega) (Nat.le_refl _) (fun M hG => ?_)
        refine (dn_cp1 hG hb hF'.1 rb' y l1 r1 lb1 rb1).trans (Iff.trans ⟨fun d => ⟨d.1, fun q => absurd q z, fun _ => d.2⟩, fun d => ⟨d.1, d.2.2 z2⟩⟩ (hU M hG))
      · show wX_join_158 post (nI b) (nI n) sus (nI c) rdy 1 a1 a2 a3 a4 b5 b6 a7 a8 a9 a10 (vp_updL a11 b (a11 b ||| a11 s)) a12 a13
        unfold wX_join_158
        rw [ecb]
        refine ⟨inb, br_f y (dh_wake hb (H _ (Or.inl ⟨rfl, fun M hG d => ?_⟩)))⟩
        obtain ⟨d0, _, dk⟩ := (hU M hG).mpr d
        have hG' := hG
        obtain ⟨rf, sy, tr, nE, cE, cI, nN, nC⟩ := hG'
        rcases (kS b hb).1 with e | e | e
        · exact y e
        · exact nC _ _ _ _ (dn_isN hG hb hF'.1 (show a7 (dn_u ρ b s b) = 1 by rw [rb']; exact e) d0) (dk z2)
        · exact y2 e
    · have z0 : a7 s = 0 := by
        rcases (kS s hs).1 with e | e | e
        · exact e
        · exact absurd e z
        · exact absurd e z2
      have hD' : ∀ M, dm_G M → (dn_D (dn_u ρ b s) a7 a8 a9 a10 c a12 a13 sus T M ↔ D M) := fun M hG => Iff.trans ⟨fun d => ⟨d, fun q => absurd q z, fun q => absurd q z2⟩, fun d => d.1⟩ (hU M hG)
      unfold wX_join_158
      rw [ecb]
      refine ⟨inb, br_c (fun y => H _ ?_) (fun y => dh_wake hb (H _ ?_))⟩
      · have hu := dw_cu hs rb rs hn
        exact Or.inr ⟨rfl, rfl, dn_u ρ b s, c, rfl, ⟨hF', kT, kS, kJ, by omega, dw_jf kT kW z0 y⟩, hD', Nat.lt_of_lt_of_le (dw_mlt (by omega) (by omega)) hP⟩
      · exact dj_fin hK hs rb rs hn hc hP (fun v hv => rfl) (fun q => absurd z0 q) (fun _ => rfl) eW (fun i => dj_r1) hF' kS kJ (by omega) (Nat.le_refl _) hD'
theorem dj_join {post : St1 → Prop} {x y c : Nat} (hK : dw_K T n ρ c sus rdy a1 a2 a3 a4 a5 a7 a9 a10 a11 a12 a13) (hx : x < 12) (hy : y < 12) (hc : c + 1 + dw_c ρ ≤ 14)
    (hD : ∀ M, dm_G M → (dn_D ρ a7 a8 a9 a10 c a12 a13 sus T M ∧ M.1 x y ↔ D M)) (hP : dw_m ρ a7 sus (c + 1) rdy ≤ P)
    (H : ∀ u, dw_Q T n D P u → post u) : wpX_join post (nI n, sus, nI c, rdy, 0, a1, a2, a3, a4, a5, a6, a7, a8, a9, a10, a11, a12, a13) (nI x) (nI y) := by
  obtain ⟨kF, kT, kS, kJ, kc, kW⟩ := hK
  obtain ⟨hx1, hx2⟩ := kF.1 x hx
  obtain ⟨hy1, hy2⟩ := kF.1 y hy
  have hE : ∀ M, dm_G M → ∀ a b, (a = ρ x ∧ b = ρ y ∨ a = ρ y ∧ b = ρ x) → (dn_D ρ a7 a8 a9 a10 c a12 a13 sus T M ∧ M.1 a b ↔ D M) := by
    intro M hG a b hab
    refine Iff.trans ?_ (hD M hG)
    obtain ⟨rf, sy, tr, nE, cE, cI, nN, nC⟩ := hG
    constructor
    · rintro ⟨d, e⟩
      refine ⟨d, ?_⟩
      have ex := d.1 x hx
      have ey := sy _ _ (d.1 y hy)
      rcases hab with ⟨rfl, rfl⟩ | ⟨rfl, rfl⟩
      · exact tr _ _ _ ex (tr _ _ _ e ey)
      · exact tr _ _ _ ex (tr _ _ _ (sy _ _ e) ey)
    · rintro ⟨d, e⟩
      refine ⟨d, ?_⟩
      have ex := sy _ _ (d.1 x hx)
      have ey := d.1 y hy
      rcases hab with ⟨rfl, rfl⟩ | ⟨rfl, rfl⟩
      · exact tr _ _ _ ex (tr _ _ _ e ey)
      · exact sy _ _ (tr _ _ _ ex (tr _ _ _ e ey))
  unfold wpX_join
  refine dh_head kF hx (fun b5 hb5 => dh_head hb5 hy (fun c5 hc5 => ?_))
  have hK' : dw_K T n ρ c sus rdy a1 a2 a3 a4 c5 a7 a9 a10 a11 a12 a13 := ⟨hc5, kT, kS, kJ, kc, kW⟩
  refine br_c (fun e => ?_) (fun e => ⟨vp_in_nI hx1 (by decide), vp_in_nI hy1 (by decide), br_c (fun _ => ?_) (fun _ => ?_)⟩)
  · have e' : ρ x = ρ y := (nI_eq (by omega) (by omega)).mp e
    refine H _ (Or.inr ⟨rfl, rfl, ρ, c, rfl, hK', fun M hG => Iff.trans ⟨fun d => ⟨d, ?_⟩, fun d => d.1⟩ (hE M hG (ρ x) (ρ y) (Or.inl ⟨rfl, rfl⟩)), Nat.lt_of_lt_of_le (dw_mle (Nat.le_refl _) (by omega)) hP⟩)
    rw [e']
    exact hG.1 _
  · have e' : ¬ ρ y = ρ x := fun q => e (by rw [q])
    exact br_f (fun q => e q.symm) (dj_56 hK' hy1 hx1 hy2 hx2 e' hc (fun M hG => hE M hG _ _ (Or.inr ⟨rfl, rfl⟩)) hP H)
  · have e' : ¬ ρ x = ρ y := fun q => e (by rw [q])
    exact br_t rfl (dj_56 hK' hx1 hy1 hx2 hy2 e' hc (fun M hG => hE M hG _ _ (Or.inl ⟨rfl, rfl⟩)) hP H)
end
end
section
section
variable {sc jc brk : Int32} {sus rdy : Int64} {a1 a2 a3 a4 a5 a6 a7 a8 a9 a10 : Nat → Int32} {a11 : Nat → Int64} {a12 a13 : Nat → Int32} {ρ : Nat → Nat} {T : Nat → dm_Sm} {n P : Nat} {D : dm_Mo → Prop}
theorem dt_low2 {post : Int32 → Prop} (hex : ∃ s, s < 40 ∧ db_t rdy s = true) (H : ∀ s, s < 40 → db_t rdy s = true → post (nI s)) : ∀ m i, i + m = 39 → (∀ j, j < i → db_t rdy j = false) → wX_lowestReady_2 post sc sus jc rdy brk a1 a2 a3 a4 a5 a6 a7 a8 a9 a10 a11 a12 a13 (m + 1) (nI i)
  | 0, i, hi, hj => by
    have e : i = 39 := by omega
    subst e
    refine br_t (nI_le (Nat.le_refl 39) (by decide)) (H 39 (by decide) ?_)
    obtain ⟨s, hs, hb⟩ := hex
    by_cases e : s = 39
    · rw [← e]; exact hb
    · rw [hj s (by omega)] at hb; exact absurd hb (by decide)
  | m + 1, i, hi, hj => by
    refine br_f (nI_ge (b := 39) (by omega) (by decide)) (br_c (fun z => nm_r (nI_1 i) (dt_low2 hex H m (i + 1) (by omega) (fun j hj' => ?_))) (fun z => H i (by omega) ?_))
    · by_cases e : j = i
      · rw [e]; exact (db_bit rdy (by omega)).mp z
      · exact hj j (by omega)
    · cases h : db_t rdy i
      · exact absurd ((db_bit rdy (by omega)).mpr h) z
      · rfl
theorem dt_low {post : Int32 → Prop} (hex : ∃ s, s < 40 ∧ db_t rdy s = true) (H : ∀ s, s < 40 → db_t rdy s = true → post (nI s)) : wpX_lowestReady post (sc, sus, jc, rdy, brk, a1, a2, a3, a4, a5, a6, a7, a8, a9, a10, a11, a12, a13) :=
  ⟨40, dt_low2 hex H 39 0 rfl (fun j hj => absurd hj (by omega))⟩
theorem dt_comp {post : Int32 → Prop} {u : St1} {k : Nat} {p q : Int32} (hk : k ≤ 7) (H : post (dm_cp k p q)) : wpX_computed post u (nI k) p q := by
  obtain ⟨sc, sus, jc, rdy, brk, a1, a2, a3, a4, a5, a6, a7, a8, a9, a10, a11, a12, a13⟩ := u
  unfold dm_cp at H
  refine pk_eq k 3 (fun e => ?_) (fun e => pk_eq k 4 (fun e2 => ?_) (fun e2 => br_c (fun e3 => ?_) (fun e3 => ?_)))
  · rw [if_pos e] at H; exact H
  · rw [if_neg e, if_pos e2] at H; exact H
  · rw [if_neg e, if_neg e2, if_pos e3] at H; exact H
  · rw [if_neg e, if_neg e2, if_neg e3] at H; exact H
theorem dw_off {st : Nat → Int32} {wt wt' : Nat → Int64} {rdy1 : Int64} {s : Nat} (g : dw_W T n ρ st wt sus rdy) (hr : ∀ i, db_t rdy1 i = (db_t rdy i && !decide (i = s))) (hw : ∀ h i, db_t (wt h) i = true → db_t (wt' h) i = true) (hs : dw_w st wt' ρ s (T s)) : dw_W T n ρ st wt' sus rdy1 := by
  obtain ⟨w1, w2, w3, w4⟩ := g
  refine ⟨fun i hi => w1 i ?_, w2, w3, fun i hi => ?_⟩
  · rw [hr i] at hi
    exact (Bool.and_eq_true _ _ ▸ hi).1
  · by_cases e : i = s
    · rw [e]; exact Or.inr hs
    · rcases w4 i hi with h | ⟨h1, h2⟩ | ⟨h1, h2⟩ | h
      · exact Or.inl (by rw [hr i, h]; simp [e])
      · exact Or.inr (Or.inl ⟨h1, hw _ _ h2⟩)
      · exact Or.inr (Or.inr (Or.inl ⟨h1, hw _ _ h2⟩))
      · exact Or.inr (Or.inr (Or.inr h))
theorem dw_fire {st : Nat → Int32} {wt : Nat → Int64} {rdy1 sus1 : Int64} {s : Nat} (g : dw_W T n ρ st wt sus rdy) (hr : ∀ i, db_t rdy1 i = (db_t rdy i && !decide (i = s))) (hu : ∀ i, db_t sus1 i = (db_t sus i && !decide (i = s)))
    (h1 : st (ρ (T s).2.2.1) = dw_k (T s).1) (h2 : st (ρ (T s).2.2.2) = dw_k (T s).1) : dw_W T n ρ st wt sus1 rdy1 := by
  obtain ⟨w1, w2, w3, w4⟩ := g
  refine ⟨fun i hi => ?_, fun i hi => ?_, fun i hi hk hb => ?_, fun i hi => ?_⟩
  · rw [hr i] at hi
    have h := Bool.and_eq_true _ _ ▸ hi
    rw [hu i, w1 i h.1, h.2]; rfl
  · rw [hu i] at hi
    exact w2 i (Bool.and_eq_true _ _ ▸ hi).1
  · by_cases e : i = s
    · rw [e]; exact ⟨h1, h2⟩
    · refine w3 i hi hk ?_
      rw [hu i] at hb
      simpa [e] using hb
  · rw [hu i] at hi
    have h := Bool.and_eq_true _ _ ▸ hi
    rcases w4 i h.1 with q | q
    · exact Or.inl (by rw [hr i, q, h.2]; rfl)
    · exact Or.inr q
/-- one statement is looked at -/
theorem dt_60 {post : St1 → Prop} {rdy1 : Int64} {s k x y z : Nat} {x4 z0 : Int32} (hK : dw_K T n ρ 0 sus rdy a1 a2 a3 a4 a5 a7 a9 a10 a11 a12 a13) (hs : db_t rdy s = true) (hr : ∀ i, db_t rdy1 i = (db_t rdy i && !decide (i = s)))
    (hD : ∀ M, dm_G M → (dn_D ρ a7 a8 a9 a10 0 a12 a13 sus T M ↔ D M)) (hP : dw_m ρ a7 sus 0 rdy ≤ P) (H : ∀ u, dw_Q T n D P u → post u) (et : T s = (k, x, y, z))
    (hx : (x4 = 0 ∧ z0 = 1 ∧ k ≠ 5 ∧ k ≠ 6) ∨ (¬ x4 = 0 ∧ z0 = 2 ∧ (k = 5 ∨ k = 6))) : wX_tryStatement_60 post (nI s) (nI (ρ y)) (nI (ρ z)) x4 z0 (nI n) sus (nI 0) rdy1 0 a1 a2 a3 a4 a5 a6 a7 a8 a9 a10 a11 a12 a13 := by
  obtain ⟨kF, kT, kS, kJ, kc, kW⟩ := hK
  have hsus := kW.1 s hs
  obtain ⟨hsn, hk3⟩ := kW.2.1 s hsus
  have hn40 := kT.1
  obtain ⟨ht0, ht1⟩ := kT.2 s hsn
  obtain ⟨e1, e2, e3, e4⟩ := ht1 hk3
  have hwk : z0 = dw_k k := by
    unfold dw_k
    rcases hx with ⟨_, h, h5, h6⟩ | ⟨_, h, h5⟩
    · rw [if_neg (by omega), h]
    · rw [if_pos h5, h]
  rw [et] at ht0 hk3 e1 e2 e3 e4
  obtain ⟨hk7, hx12, hy12, hz12, hzy⟩ := ht0
  have hy1 : ρ y < 12 := (kF.1 y hy12).1
  have hz1 : ρ z < 12 := (kF.1 z hz12).1
  have ecs : (nI s).toNatClampNeg = s := nI_clamp (by omega)
  have ecy : (nI (ρ y)).toNatClampNeg = ρ y := nI_clamp (by omega)
  have ecz : (nI (ρ z)).toNatClampNeg = ρ z := nI_clamp (by omega)
  have ins : vp_in (nI s) 40 := vp_in_nI (by omega) (by decide)
  have iny : vp_in (nI (ρ y)) 12 := vp_in_nI hy1 (by decide)
  have inz : vp_in (nI (ρ z)) 12 := vp_in_nI hz1 (by decide)
  have hs64 : s < 64 := by omega
  have hrl : dc_n (db_t rdy1) 64 < dc_n (db_t rdy) 64 := dc_lt (k := s) 64 (fun v _ h => by rw [hr v] at h; exact (Bool.and_eq_true _ _ ▸ h).1) hs64 hs (by rw [hr s]; simp)
  have hwt : ∀ (hh h i : Nat), db_t (a11 h) i = true → db_t (vp_updL a11 hh (a11 hh ||| ((1 : Int64) <<< ((nI s).toInt64 &&& 63))) h) i = true := by
    intro hh h i g
    by_cases e : h = hh
    · rw [e, pk_uLs, db_or, ← e, g]; rfl
    · rw [pk_uLn e]; exact g
  have hself : ∀ hh, db_t (vp_updL a11 hh (a11 hh ||| ((1 : Int64) <<< ((nI s).toInt64 &&& 63))) hh) s = true := fun hh => by rw [pk_uLs, db_set hs64]; simp
  have hm : ∀ wt', dw_w a7 wt' ρ s (T s) → (∀ h i, db_t (a11 h) i = true → db_t (wt' h) i = true) → post (nI n, sus, nI 0, rdy1, 0, a1, a2, a3, a4, a5, a6, a7, a8, a9, a10, wt', a12, a13) := fun wt' h1 h2 =>
    H _ (Or.inr ⟨rfl, rfl, ρ, 0, rfl, ⟨kF, kT, kS, kJ, kc, dw_off kW hr h2 h1⟩, hD, Nat.lt_of_lt_of_le (dw_mle (Nat.le_refl _) (by omega)) hP⟩)
  unfold wX_tryStatement_60
  rw [ecs, ecy, ecz]
  refine ⟨iny, br_c (fun h0 => ?_) (fun h0 => ⟨inz, br_c (fun h1 => ?_) (fun h1 => ⟨iny, br_c (fun h2 => ⟨inz, br_c (fun h3 => nm_e ?_) (fun h3 => ?_)⟩) (fun h2 => ?_)⟩)⟩)⟩
  · unfold wX_tryStatement_80
    rw [ecy]
    refine ⟨iny, br_t h0 ?_⟩
    unfold wX_tryStatement_98
    rw [ecy]
    exact ⟨iny, iny, nm_e (hm _ (by rw [et]; exact Or.inl ⟨h0, hself _⟩) (hwt _))⟩
  · unfold wX_tryStatement_80
    rw [ecy]
    refine ⟨iny, br_f h0 ?_⟩
    unfold wX_tryStatement_98
    rw [ecz]
    exact ⟨inz, inz, nm_e (hm _ (by rw [et]; exact Or.inr (Or.inl ⟨h1, hself _⟩)) (hwt _))⟩
  · have hu : ∀ i, db_t (sus &&& (((1 : Int64) <<< ((nI s).toInt64 &&& 63)) ^^^ (-1))) i = (db_t sus i && !decide (i = s)) := db_clr hs64 sus
    generalize hgen : sus &&& (((1 : Int64) <<< ((nI s).toInt64 &&& 63)) ^^^ (-1)) = sus1 at hu ⊢
    rw [hwk] at h2 h3
    have kW' : dw_W T n ρ a7 a11 sus1 rdy1 := dw_fire kW hr hu (by rw [et]; exact h2) (by rw [et]; exact h3)
    have hul : dc_n (db_t sus1) 64 < dc_n (db_t sus) 64 := dc_lt (k := s) 64 (fun v _ h => by rw [hu v] at h; exact (Bool.and_eq_true _ _ ▸ h).1) hs64 hsus (by rw [hu s]; simp)
    have hub : ∀ i, db_t sus i = (db_t sus1 i || decide (i = s)) := fun i => by
      rw [hu i]
      by_cases e : i = s
      · rw [e, hsus]; simp
      · simp [e]
    have hD1 : ∀ M, dm_G M → (dn_D ρ a7 a8 a9 a10 0 a12 a13 sus1 T M ∧ dm_S M (T s) ↔ D M) := fun M hG => (dn_sus hub).symm.trans (hD M hG)
    rcases hx with ⟨hx4, hz0, h5, h6⟩ | ⟨hx4, hz0, h56⟩
    · have hk1 : dw_k k = 1 := by rw [← hwk, hz0]
      rw [hk1] at h2 h3
      rw [e1, e2]
      refine br_t hx4 ⟨ins, iny, inz, dt_comp hk7 ⟨ins, ?_⟩⟩
      refine dj_bindN (D := D) (P := P) ⟨kF, kT, kS, kJ, kc, kW'⟩ hx12 (fun M hG => Iff.trans ?_ (hD1 M hG)) (fun st' rdy' hf => Nat.lt_of_lt_of_le (dw_mlt (by omega) (by omega)) hP) H
      rw [et, dm_S3 hk3 h5 h6]
      have hG' := hG
      obtain ⟨rf, sy, tr, nE, cE, cI, nN, nC⟩ := hG'
      constructor
      · rintro ⟨d, hN⟩
        refine ⟨d, fun p q hp hq => ?_⟩
        rw [nN _ _ _ hp (dn_isN hG hy12 kF.1 h2 d), nN _ _ _ hq (dn_isN hG hz12 kF.1 h3 d)]
        exact hN
      · rintro ⟨d, hN⟩
        exact ⟨d, hN _ _ (dn_isN hG hy12 kF.1 h2 d) (dn_isN hG hz12 kF.1 h3 d)⟩
    · have hk1 : dw_k k = 2 := by rw [← hwk, hz0]
      rw [hk1] at h2 h3
      obtain ⟨⟨l1, l2⟩, r1, r2⟩ := (kS (ρ y) hy1).2 h2
      have hcl : dw_c ρ ≤ 12 := dc_up 12
      rw [e1, e2, l2, r2]
      refine br_f hx4 ⟨ins, ins, br_c (fun q => ⟨iny, ?_⟩) (fun q => ⟨iny, ?_⟩)⟩
      · have q5 : k = 5 := (nI_eq (b := 5) (by omega) (by decide)).mp q
        unfold wX_tryStatement_182
        refine dh_want (c := 0) (by omega) hx12 l1 ?_
        refine H _ (Or.inr ⟨rfl, rfl, ρ, 0 + 1, rfl, ⟨kF, kT, kS, dw_Jw hx12 l1 kJ, by omega, kW'⟩, fun M hG => (dn_want hx12 l1).trans (Iff.trans ?_ (hD1 M hG)), Nat.lt_of_lt_of_le (dw_mlt (by omega) (by omega)) hP⟩)
        rw [et, dm_S5 q5]
        have hG' := hG
        obtain ⟨rf, sy, tr, nE, cE, cI, nN, nC⟩ := hG'
        constructor
        · rintro ⟨d, hE⟩
          exact ⟨d, fun l r hl => tr _ _ _ hE (cI _ _ _ _ _ (dn_isC hG hy12 kF.1 h2 d) hl).1⟩
        · rintro ⟨d, hE⟩
          exact ⟨d, hE _ _ (dn_isC hG hy12 kF.1 h2 d)⟩
      · have q6 : k = 6 := by
          rcases h56 with h | h
          · exact absurd (by rw [h]; rfl) q
          · exact h
        unfold wX_tryStatement_182
        refine dh_want (c := 0) (by omega) hx12 r1 ?_
        refine H _ (Or.inr ⟨rfl, rfl, ρ, 0 + 1, rfl, ⟨kF, kT, kS, dw_Jw hx12 r1 kJ, by omega, kW'⟩, fun M hG => (dn_want hx12 r1).trans (Iff.trans ?_ (hD1 M hG)), Nat.lt_of_lt_of_le (dw_mlt (by omega) (by omega)) hP⟩)
        rw [et, dm_S6 q6]
        have hG' := hG
        obtain ⟨rf, sy, tr, nE, cE, cI, nN, nC⟩ := hG'
        constructor
        · rintro ⟨d, hE⟩
          exact ⟨d, fun l r hl => tr _ _ _ hE (cI _ _ _ _ _ (dn_isC hG hy12 kF.1 h2 d) hl).2⟩
        · rintro ⟨d, hE⟩
          exact ⟨d, hE _ _ (dn_isC hG hy12 kF.1 h2 d)⟩
  · exact hm a11 (by rw [et]; exact Or.inr (Or.inr ⟨h0, h1, fun q => h3 (by rw [hwk]; exact q.2)⟩)) (fun _ _ q => q)
  · exact hm a11 (by rw [et]; exact Or.inr (Or.inr ⟨h0, h1, fun q => h2 (by rw [hwk]; exact q.1)⟩)) (fun _ _ q => q)
theorem dt_try {post : St1 → Prop} {rdy1 : Int64} {s : Nat} (hK : dw_K T n ρ 0 sus rdy a1 a2 a3 a4 a5 a7 a9 a10 a11 a12 a13) (hs : db_t rdy s = true) (hr : ∀ i, db_t rdy1 i = (db_t rdy i && !decide (i = s)))
    (hD : ∀ M, dm_G M → (dn_D ρ a7 a8 a9 a10 0 a12 a13 sus T M ↔ D M)) (hP : dw_m ρ a7 sus 0 rdy ≤ P) (H : ∀ u, dw_Q T n D P u → post u) : wpX_tryStatement post (nI n, sus, nI 0, rdy1, 0, a1, a2, a3, a4, a5, a6, a7, a8, a9, a10, a11, a12, a13) (nI s) := by
  obtain ⟨kF, kT, kS, kJ, kc, kW⟩ := hK
  obtain ⟨hsn, hk3⟩ := kW.2.1 s (kW.1 s hs)
  have hn40 := kT.1
  obtain ⟨ht0, ht1⟩ := kT.2 s hsn
  obtain ⟨e1, e2, e3, e4⟩ := ht1 hk3
  obtain ⟨k, x, y, z, et⟩ : ∃ k x y z, T s = (k, x, y, z) := ⟨_, _, _, _, rfl⟩
  rw [et] at ht0 hk3 e1 e2 e3 e4
  obtain ⟨hk7, hx12, hy12, hz12, hzy⟩ := ht0
  have ecs : (nI s).toNatClampNeg = s := nI_clamp (by omega)
  have ins : vp_in (nI s) 40 := vp_in_nI (by omega) (by decide)
  have e1' : a1 s = nI k := e1
  unfold wpX_tryStatement
  dsimp only
  rw [ecs, e3]
  refine ⟨ins, dh_head kF hy12 (fun b5 hb5 => ?_)⟩
  dsimp only
  rw [e4]
  refine ⟨ins, dh_head hb5 hz12 (fun c5 hc5 => ?_)⟩
  dsimp only
  have hK' : dw_K T n ρ 0 sus rdy a1 a2 a3 a4 c5 a7 a9 a10 a11 a12 a13 := ⟨hc5, kT, kS, kJ, kc, kW⟩
  rw [e1']
  refine ⟨ins, pk_eq k 5 (fun h5 => ?_) (fun h5 => ⟨ins, pk_eq k 6 (fun h6 => ?_) (fun h6 => ?_)⟩)⟩
  · exact br_f (by decide) (dt_60 hK' hs hr hD hP H et (Or.inr ⟨by decide, rfl, Or.inl h5⟩))
  · exact br_f (by decide) (dt_60 hK' hs hr hD hP H et (Or.inr ⟨by decide, rfl, Or.inr h6⟩))
  · exact br_t rfl (dt_60 hK' hs hr hD hP H et (Or.inl ⟨rfl, rfl, h5, h6⟩))
end
/-- work ends, at rest or broken -/
theorem dt_work0 {T : Nat → dm_Sm} {n : Nat} {D : dm_Mo → Prop} {post : St1 → Prop} (H : ∀ u, dw_E T n D u → post u) : ∀ (m : Nat) (sus rdy : Int64) (a1 a2 a3 a4 a5 a6 a7 a8 a9 a10 : Nat → Int32) (a11 : Nat → Int64) (a12 a13 : Nat → Int32) (ρ : Nat → Nat) (c : Nat), dw_K T n ρ c sus rdy a1 a2 a3 a4 a5 a7 a9 a10 a11 a12 a13 → (∀ M, dm_G M → (dn_D ρ a7 a8 a9 a10 c a12 a13 sus T M ↔ D M)) → dw_m ρ a7 sus c rdy < m → wX_work_0 post (m + 1) (nI n) sus (nI c) rdy 0 a1 a2 a3 a4 a5 a6 a7 a8 a9 a10 a11 a12 a13
  | 0, _, _, _, _, _, _, _, _, _, _, _, _, _, _, _, _, _, _, _, hm => absurd hm (by omega)
  | m + 1, sus, rdy, a1, a2, a3, a4, a5, a6, a7, a8, a9, a10, a11, a12, a13, ρ, c, hK, hD, hm => by
    have hK' := hK
    obtain ⟨kF, kT, kS, kJ, kc, kW⟩ := hK'
    have HQ : ∀ u, dw_Q T n D (dw_m ρ a7 sus c rdy) u → (match u with | (sc, sus, jc, rdy, brk, a1, a2, a3, a4, a5, a6, a7, a8, a9, a10, a11, a12, a13) => wX_work_0 post (m + 1) sc sus jc rdy brk a1 a2 a3 a4 a5 a6 a7 a8 a9 a10 a11 a12 a13) := by
      intro u hu
      obtain ⟨sc, sus, jc, rdy, brk, a1, a2, a3, a4, a5, a6, a7, a8, a9, a10, a11, a12, a13⟩ := u
      rcases hu with ⟨hb, hM⟩ | ⟨hb, hsc, ρ', c', hjc, hK2, hD2, hm2⟩
      · subst hb
        exact br_f (by decide) (H _ (Or.inl ⟨rfl, hM⟩))
      · subst hb; subst hsc; subst hjc
        exact dt_work0 H m _ _ _ _ _ _ _ _ _ _ _ _ _ _ _ ρ' c' hK2 hD2 (by omega)
    refine br_t rfl ?_
    cases c with
    | zero =>
      refine br_f (by rw [nI_0]; decide) (br_c (fun z => H _ (Or.inr ⟨rfl, rfl, rfl, z, ρ, hK, hD⟩)) (fun z => ?_))
      refine br_t (by rw [nI_0]; decide) (dt_low ?_ (fun s hs hb => nm_e ?_))
      · obtain ⟨i, hi⟩ := db_ne z
        have := (kW.2.1 i (kW.1 i hi)).1
        have := kT.1
        exact ⟨i, by omega, hi⟩
      · exact dt_try hK hb (db_clr (by omega) rdy) hD (Nat.le_refl _) HQ
    | succ c =>
      refine br_t (nI_lt (a := 0) (by omega) (by omega)) (br_f (nI_nle (by omega) (by omega)) (nm_r (nI_pred c) ?_))
      have inc : vp_in (nI c) 40 := vp_in_nI (by omega) (by decide)
      obtain ⟨⟨x1, x2⟩, y1, y2⟩ := kJ c (by omega)
      rw [nI_clamp (show c < 2 ^ 31 by omega), x2, y2]
      refine ⟨inc, inc, ?_⟩
      exact dj_join ⟨kF, kT, kS, fun j hj => kJ j (by omega), by omega, kW⟩ x1 y1 kc (fun M hG => dn_pop.symm.trans (hD M hG)) (Nat.le_refl _) HQ
theorem dt_work {T : Nat → dm_Sm} {n P : Nat} {D : dm_Mo → Prop} {post : St1 → Prop} {u : St1} (h : dw_Q T n D P u) (H : ∀ u, dw_E T n D u → post u) : wpX_work post u := by
  obtain ⟨sc, sus, jc, rdy, brk, a1, a2, a3, a4, a5, a6, a7, a8, a9, a10, a11, a12, a13⟩ := u
  rcases h with ⟨hb, hM⟩ | ⟨hb, hsc, ρ, c, hjc, hK, hD, hm⟩
  · subst hb
    exact ⟨1, br_f (by decide) (H _ (Or.inl ⟨rfl, hM⟩))⟩
  · subst hb; subst hsc; subst hjc
    exact ⟨_, dt_work0 H _ _ _ _ _ _ _ _ _ _ _ _ _ _ _ _ ρ c hK hD (Nat.lt_succ_self _)⟩
end
section
theorem dw_mb {ρ : Nat → Nat} {st : Nat → Int32} {sus rdy : Int64} {c : Nat} (hc : c ≤ 14) : dw_m ρ st sus c rdy < 10000 := by
  have h1 := dc_up (p := db_t rdy) 64
  have h2 := dc_up (p := db_t sus) 64
  have h3 : dw_c ρ ≤ 12 := dc_up 12
  have h4 : dw_f st ≤ 12 := dc_up 12
  unfold dw_m
  omega
theorem dl_m3 {n : Nat} (h : n ≤ 40) : ¬ nI n = (-3) := fun e => by
  have e2 := congrArg Int32.toInt e
  rw [nI_toInt (by omega), show (-3 : Int32).toInt = -3 from by decide] at e2
  omega
theorem dl_isV {post : Int32 → Prop} {u : St1} {v : Nat} (hv : v < 12) (H : post 1) : wpX_isVariable post u (nI v) := by
  obtain ⟨sc, sus, jc, rdy, brk, a1, a2, a3, a4, a5, a6, a7, a8, a9, a10, a11, a12, a13⟩ := u
  exact br_f (nI_pos (by omega)) (br_f (nI_nlt (a := 11) (by omega) (by decide)) H)
theorem dl_Tn {T : Nat → dm_Sm} {n : Nat} {a1 a2 a3 a4 b1 b2 b3 b4 : Nat → Int32} (h : dw_T T n a1 a2 a3 a4) (hn : n < 40) (h0 : dw_T0 (T n)) (h1 : ∀ s, s ≠ n → b1 s = a1 s) (h2 : ∀ s, s ≠ n → b2 s = a2 s) (h3 : ∀ s, s ≠ n → b3 s = a3 s) (h4 : ∀ s, s ≠ n → b4 s = a4 s)
    (hk : 3 ≤ (T n).1 → b1 n = nI (T n).1 ∧ b2 n = nI (T n).2.1 ∧ b3 n = nI (T n).2.2.1 ∧ b4 n = nI (T n).2.2.2) : dw_T T (n + 1) b1 b2 b3 b4 := by
  refine ⟨by omega, fun s hs => ?_⟩
  by_cases e : s = n
  · rw [e]; exact ⟨h0, hk⟩
  · rw [h1 s e, h2 s e, h3 s e, h4 s e]; exact h.2 s (by omega)
theorem dl_W0 {T : Nat → dm_Sm} {n : Nat} {ρ : Nat → Nat} {st : Nat → Int32} {wt : Nat → Int64} {sus rdy : Int64} (h : dw_W T n ρ st wt sus rdy) (hk : (T n).1 < 3) : dw_W T (n + 1) ρ st wt sus rdy := by
  obtain ⟨w1, w2, w3, w4⟩ := h
  refine ⟨w1, fun i hi => ⟨by have := (w2 i hi).1; omega, (w2 i hi).2⟩, fun i hi h3 hb => ?_, w4⟩
  have e : i ≠ n := fun e => by rw [e] at h3; omega
  exact w3 i (by omega) h3 hb
theorem dl_W3 {T : Nat → dm_Sm} {n : Nat} {ρ : Nat → Nat} {st : Nat → Int32} {wt : Nat → Int64} {sus rdy sus' rdy' : Int64} (h : dw_W T n ρ st wt sus rdy) (hk : 3 ≤ (T n).1) (hs : ∀ i, db_t sus' i = (db_t sus i || decide (i = n))) (hr : ∀ i, db_t rdy' i = (db_t rdy i || decide (i = n))) : dw_W T (n + 1) ρ st wt sus' rdy' := by
  obtain ⟨w1, w2, w3, w4⟩ := h
  have key : ∀ i, i ≠ n → db_t sus' i = db_t sus i := fun i e => by rw [hs i]; simp [e]
  have key2 : ∀ i, i ≠ n → db_t rdy' i = db_t rdy i := fun i e => by rw [hr i]; simp [e]
  refine ⟨fun i hi => ?_, fun i hi => ?_, fun i hi h3 hb => ?_, fun i hi => ?_⟩
  · by_cases e : i = n
    · rw [hs i]; simp [e]
    · rw [key i e]; rw [key2 i e] at hi; exact w1 i hi
  · by_cases e : i = n
    · rw [e]; exact ⟨by omega, hk⟩
    · rw [key i e] at hi; exact ⟨by have := (w2 i hi).1; omega, (w2 i hi).2⟩
  · by_cases e : i = n
    · rw [hs i] at hb; simp [e] at hb
    · rw [key i e] at hb; exact w3 i (by omega) h3 hb
  · by_cases e : i = n
    · exact Or.inl (by rw [hr i]; simp [e])
    · rw [key i e] at hi
      rw [key2 i e]; exact w4 i hi
/-- an answer: failed just if broken -/
def dl_R (r : Int32) (u : St1) : Prop := match u with
  | (sc, sus, jc, rdy, brk, a1, a2, a3, a4, a5, a6, a7, a8, a9, a10, a11, a12, a13) => (brk = 1 ∧ r = -3) ∨ (brk = 0 ∧ ¬ r = -3)
section
variable {sc jc brk : Int32} {sus rdy : Int64} {a1 a2 a3 a4 a5 a6 a7 a8 a9 a10 : Nat → Int32} {a11 : Nat → Int64} {a12 a13 : Nat → Int32} {ρ : Nat → Nat} {T : Nat → dm_Sm} {n P : Nat} {D D' : dm_Mo → Prop}
theorem dl_232 {post : Int32 → St1 → Prop} (hn : n < 40) (hQ : dw_Q T (n + 1) D P (sc, sus, jc, rdy, brk, a1, a2, a3, a4, a5, a6, a7, a8, a9, a10, a11, a12, a13)) (H : ∀ r u, dw_E T (n + 1) D u → dl_R r u → post r u) : wX_tell_232 post sc sus jc rdy brk a1 a2 a3 a4 a5 a6 a7 a8 a9 a10 a11 a12 a13 := by
  unfold wX_tell_232
  refine dt_work hQ (fun u hE => ?_)
  obtain ⟨sc, sus, jc, rdy, brk, a1, a2, a3, a4, a5, a6, a7, a8, a9, a10, a11, a12, a13⟩ := u
  have hE' := hE
  rcases hE' with ⟨hb, hM⟩ | ⟨hb, hsc, hjc, hr, h⟩
  · subst hb
    exact br_f (by decide) (H (-3) _ hE (Or.inl ⟨rfl, rfl⟩))
  · subst hb; subst hsc
    exact br_t rfl (H _ _ hE (Or.inr ⟨rfl, dl_m3 (by omega)⟩))
theorem dl_101 {post : Int32 → St1 → Prop} {k a b c p : Nat} {x5 : Int32} (hK : dw_K T n ρ 0 sus rdy a1 a2 a3 a4 a5 a7 a9 a10 a11 a12 a13) (hD : ∀ M, dm_G M → (dn_D ρ a7 a8 a9 a10 0 a12 a13 sus T M ↔ D M)) (hn : n < 40) (et : T n = (k, a, b, c)) (h0 : dw_T0 (T n)) (hp : p < 12) (hcp : k ≠ 5 → k ≠ 6 → k ≠ 1 → c = p)
    (hx : (x5 = 0 ∧ (k = 0 ∨ k = 1 ∨ k = 5 ∨ k = 6)) ∨ (¬ x5 = 0 ∧ k ≠ 0 ∧ k ≠ 1 ∧ k ≠ 5 ∧ k ≠ 6)) (hD' : ∀ M, dm_G M → (D M ∧ dm_S M (T n) ↔ D' M)) (H : ∀ r u, dw_E T (n + 1) D' u → dl_R r u → post r u) :
    wX_tell_101 post (nI k) (nI a) (nI b) (nI p) x5 (nI n) sus (nI 0) rdy 0 a1 a2 a3 a4 a5 a6 a7 a8 a9 a10 a11 a12 a13 := by
  have hK' := hK
  obtain ⟨kF, kT, kS, kJ, kc, kW⟩ := hK'
  have hDS : ∀ M, dm_G M → (dn_D ρ a7 a8 a9 a10 0 a12 a13 sus T M ∧ dm_S M (T n) ↔ D' M) := fun M hG => Iff.trans ⟨fun d => ⟨(hD M hG).mp d.1, d.2⟩, fun d => ⟨(hD M hG).mpr d.1, d.2⟩⟩ (hD' M hG)
  have h0' := h0
  rw [et] at h0'
  obtain ⟨hk7, ha, hb, hc, hz⟩ := h0'
  have hk7' : k ≤ 7 := hk7
  have ha' : a < 12 := ha
  have hb' : b < 12 := hb
  have hc' : c < 12 := hc
  have hcl : dw_c ρ ≤ 12 := dc_up 12
  have ec : (nI n).toNatClampNeg = n := nI_clamp (by omega)
  have inn : vp_in (nI n) 40 := vp_in_nI hn (by decide)
  unfold wX_tell_101
  rw [ec, dg_b8 k (by omega), dg_b8 a (by omega), dg_b8 b (by omega)]
  refine nm_r (nI_1 n) ⟨inn, nm_e ⟨inn, nm_e ?_⟩⟩
  have tk : (T n).1 = k := by rw [et]
  have hT' : k < 3 → dw_T T (n + 1) (upd a1 n (nI k)) (upd a2 n (nI a)) a3 a4 := fun h3 => dl_Tn kT hn h0 (fun s hs => pk_un hs) (fun s hs => pk_un hs) (fun _ _ => rfl) (fun _ _ => rfl) (fun h => absurd h (by omega))
  refine pk_eq k 1 (fun h1 => ?_) (fun h1 => pk_eq k 0 (fun h2 => ?_) (fun h2 => pk_eq k 2 (fun h3 => ?_) (fun h3 => ⟨inn, nm_e ?_⟩)))
  · refine dj_bindN (D := D') (P := 10000) ⟨kF, hT' (by omega), kS, kJ, kc, dl_W0 kW (by omega)⟩ ha' (fun M hG => Iff.trans ?_ (hDS M hG)) (fun _ _ _ => dw_mb (by omega)) (fun u hQ => ?_)
    · rw [dm_S1 (by omega), et]
    · obtain ⟨sc, sus, jc, rdy, brk, a1, a2, a3, a4, a5, a6, a7, a8, a9, a10, a11, a12, a13⟩ := u
      exact dl_232 hn hQ H
  · refine dh_want (c := 0) (by omega) ha' hb' ?_
    refine dl_232 (D := D') (P := 10000) hn (Or.inr ⟨rfl, rfl, ρ, 0 + 1, rfl, ⟨kF, hT' (by omega), kS, dw_Jw ha' hb' kJ, by omega, dl_W0 kW (by omega)⟩, fun M hG => (dn_want ha' hb').trans (Iff.trans ?_ (hDS M hG)), dw_mb (by omega)⟩) H
    rw [dm_S0 (by omega), et]
  · have hcp' : c = p := hcp (by omega) (by omega) (by omega)
    subst hcp'
    refine dj_bindC (D := D') (P := 10000) ⟨kF, hT' (by omega), kS, kJ, kc, dl_W0 kW (by omega)⟩ ha' hb' hc' (by omega) (fun M hG => Iff.trans ?_ (hDS M hG)) (fun _ _ _ _ _ => dw_mb (by omega)) (fun u hQ => ?_)
    · rw [dm_S2 (by omega), et]
    · obtain ⟨sc, sus, jc, rdy, brk, a1, a2, a3, a4, a5, a6, a7, a8, a9, a10, a11, a12, a13⟩ := u
      exact dl_232 hn hQ H
  · have main : ∀ q : Nat, q < 12 → q = c → wX_tell_204 post (nI n) (nI q) (nI n) (nI (n + 1)) sus (nI 0) rdy 0 (upd a1 n (nI k)) (upd a2 n (nI a)) (upd a3 n (nI b)) a4 a5 a6 a7 a8 a9 a10 a11 a12 a13 := by
      intro q hq eq
      subst eq
      unfold wX_tell_204
      rw [ec, dg_b8 q (by omega)]
      refine ⟨inn, nm_e (nm_e (nm_e ?_))⟩
      have hT3 : dw_T T (n + 1) (upd a1 n (nI k)) (upd a2 n (nI a)) (upd a3 n (nI b)) (upd a4 n (nI q)) := dl_Tn kT hn h0 (fun s hs => pk_un hs) (fun s hs => pk_un hs) (fun s hs => pk_un hs) (fun s hs => pk_un hs) (fun _ => by rw [et, pk_us, pk_us, pk_us, pk_us]; exact ⟨rfl, rfl, rfl, rfl⟩)
      refine dl_232 (D := D') (P := 10000) hn (Or.inr ⟨rfl, rfl, ρ, 0, rfl, ⟨kF, hT3, kS, kJ, kc, dl_W3 kW (by omega) (db_set (by omega) sus) (db_set (by omega) rdy)⟩, fun M hG => (dn_sus (db_set (by omega) sus)).trans (hDS M hG), dw_mb (by omega)⟩) H
    rcases hx with ⟨hx5, hk⟩ | ⟨hx5, hk0, hk1, hk5, hk6⟩
    · have hbc : b = c := by
        have h56 : k = 5 ∨ k = 6 := by omega
        exact (hz h56).symm
      exact br_t hx5 (main b hb' hbc)
    · exact br_f hx5 (main p hp (hcp hk5 hk6 hk1).symm)
theorem dl_83 {post : Int32 → St1 → Prop} {k a b c p : Nat} (hK : dw_K T n ρ 0 sus rdy a1 a2 a3 a4 a5 a7 a9 a10 a11 a12 a13) (hD : ∀ M, dm_G M → (dn_D ρ a7 a8 a9 a10 0 a12 a13 sus T M ↔ D M)) (hn : n < 40) (et : T n = (k, a, b, c)) (h0 : dw_T0 (T n)) (hp : p < 12) (hcp : k ≠ 5 → k ≠ 6 → k ≠ 1 → c = p)
    (hD' : ∀ M, dm_G M → (D M ∧ dm_S M (T n) ↔ D' M)) (H : ∀ r u, dw_E T (n + 1) D' u → dl_R r u → post r u) :
    wX_tell_57 post (nI k) (nI a) (nI b) (nI p) (nI n) sus (nI 0) rdy 0 a1 a2 a3 a4 a5 a6 a7 a8 a9 a10 a11 a12 a13 := by
  have hk7 : k ≤ 7 := by
    have := h0.1
    rw [et] at this
    exact this
  have m1 : k ≠ 0 ∧ k ≠ 1 ∧ k ≠ 5 ∧ k ≠ 6 → wX_tell_83 post (nI k) (nI a) (nI b) (nI p) 1 (nI n) sus (nI 0) rdy 0 a1 a2 a3 a4 a5 a6 a7 a8 a9 a10 a11 a12 a13 := fun h =>
    br_f (by decide) (dl_isV hp (br_f (by decide) (dl_101 hK hD hn et h0 hp hcp (Or.inr ⟨by decide, h⟩) hD' H)))
  have m0 : (k = 0 ∨ k = 1 ∨ k = 5 ∨ k = 6) → wX_tell_83 post (nI k) (nI a) (nI b) (nI p) 0 (nI n) sus (nI 0) rdy 0 a1 a2 a3 a4 a5 a6 a7 a8 a9 a10 a11 a12 a13 := fun h =>
    br_t rfl (dl_101 hK hD hn et h0 hp hcp (Or.inl ⟨rfl, h⟩) hD' H)
  unfold wX_tell_57
  exact pk_eq k 2 (fun e => m1 (by omega)) (fun e2 => pk_eq k 3 (fun e => m1 (by omega)) (fun e3 => pk_eq k 4 (fun e => m1 (by omega)) (fun e4 => pk_eq k 7 (fun e => m1 (by omega)) (fun e7 => m0 (by omega)))))
end
theorem dl_tell {post : Int32 → St1 → Prop} {T : Nat → dm_Sm} {n : Nat} {D D' : dm_Mo → Prop} {u : St1} {k a b c p : Nat} (hE : dw_E T n D u) (hn : n < 40) (et : T n = (k, a, b, c)) (h0 : dw_T0 (T n)) (hp : p < 12) (hcp : k ≠ 5 → k ≠ 6 → k ≠ 1 → c = p)
    (hD' : ∀ M, dm_G M → (D M ∧ dm_S M (T n) ↔ D' M)) (H : ∀ r u, dw_E T (n + 1) D' u → dl_R r u → post r u) : wpX_tell post u (nI k) (nI a) (nI b) (nI p) := by
  have h0' := h0
  rw [et] at h0'
  obtain ⟨hk7, ha, hb, hc, hz⟩ := h0'
  have hk7' : k ≤ 7 := hk7
  obtain ⟨sc, sus, jc, rdy, brk, a1, a2, a3, a4, a5, a6, a7, a8, a9, a10, a11, a12, a13⟩ := u
  rcases hE with ⟨hbr, hM⟩ | ⟨hbr, hsc, hjc, hrd, ρ, hK, hD⟩
  · subst hbr
    exact br_f (by decide) (H (-3) _ (Or.inl ⟨rfl, fun M hG d => hM M hG ((hD' M hG).mpr d).1⟩) (Or.inl ⟨rfl, rfl⟩))
  · subst hbr; subst hsc; subst hjc
    have m := dl_83 (post := post) (a6 := a6) hK hD hn et h0 hp hcp hD' H
    exact br_t rfl (br_t (nI_lt (b := 40) hn (by decide)) (br_f (nI_pos (by omega)) (br_f (nI_nlt (a := 7) hk7' (by decide)) (dl_isV ha (br_f (by decide) (br_c (fun _ => m) (fun _ => dl_isV hb (br_f (by decide) m))))))))

/-! the script's statements -/
def dl_c (L : Nat) (xs : Nat → Int32) (k : Nat) : Int32 := if k < L then xs k else 0
def dl_b (x : Int32) (m : Nat) : Nat := x.toBitVec.toNat % 256 % m
def dl_S (kd a b c : Nat) : dm_Sm := if kd = 1 ∨ kd = 8 then (1, a, b % 4, 0) else if kd = 9 then (2, a, b, c) else if kd = 5 ∨ kd = 6 then (kd, a, b, b) else (kd, a, b, c)
def dl_T (L : Nat) (xs : Nat → Int32) (k : Nat) : dm_Sm := dl_S (dl_b (dl_c L xs (4 * k)) 10) (dl_b (dl_c L xs (4 * k + 1)) 12) (dl_b (dl_c L xs (4 * k + 2)) 12) (dl_b (dl_c L xs (4 * k + 3)) 12)
theorem dl_S0 {kd a b c : Nat} (hk : kd < 10) (ha : a < 12) (hb : b < 12) (hc : c < 12) : dw_T0 (dl_S kd a b c) := by
  unfold dl_S
  by_cases h1 : kd = 1 ∨ kd = 8
  · rw [if_pos h1]
    exact ⟨show 1 ≤ 7 by decide, ha, by show b % 4 < 12; omega, show 0 < 12 by decide, fun h => absurd h (show ¬ (1 = 5 ∨ 1 = 6) by decide)⟩
  · rw [if_neg h1]
    by_cases h2 : kd = 9
    · rw [if_pos h2]
      exact ⟨show 2 ≤ 7 by decide, ha, hb, hc, fun h => absurd h (show ¬ (2 = 5 ∨ 2 = 6) by decide)⟩
    · rw [if_neg h2]
      by_cases h3 : kd = 5 ∨ kd = 6
      · rw [if_pos h3]
        exact ⟨by show kd ≤ 7; omega, ha, hb, hb, fun _ => rfl⟩
      · rw [if_neg h3]
        exact ⟨by show kd ≤ 7; omega, ha, hb, hc, fun h => absurd h h3⟩
theorem dl_cell {post : Int32 → Prop} {L : Nat} {xs : Nat → Int32} {u : St3} {i : Int32} {k : Nat} (hi : i = nI k) (hk : k < 1000) (hL : L ≤ 260) (H : post (dl_c L xs k)) : wpL_cell post L xs u i := by
  subst hi
  unfold wpL_cell
  unfold dl_c at H
  rw [nI_clamp (show k < 2 ^ 31 by omega)]
  refine pk_le L k (fun h => ?_) (fun h => ?_)
  · rw [if_neg (by omega)] at H; exact H
  · rw [if_pos h] at H; exact ⟨vp_in_nI h (by omega), H⟩
theorem dl_r10 (x : Int32) : (x &&& 255) - (x &&& 255) / 10 * 10 = nI (dl_b x 10) := by
  rw [pk_and x 8 (by decide)]
  exact pk_rem (a := x.toBitVec.toNat % 2 ^ 8) (d := 10) (by omega) (by decide) (by decide)
theorem dl_r12 (x : Int32) : (x &&& 255) - (x &&& 255) / 12 * 12 = nI (dl_b x 12) := by
  rw [pk_and x 8 (by decide)]
  exact pk_rem (a := x.toBitVec.toNat % 2 ^ 8) (d := 12) (by omega) (by decide) (by decide)
theorem dl_ltell {post : Int32 → St1 → Prop} {L : Nat} {xs : Nat → Int32} {T : Nat → dm_Sm} {n j : Nat} {D D' : dm_Mo → Prop} {u : St1} (hL : L ≤ 260) (hE : dw_E T n D u) (hn : n < 40) (et : T n = dl_T L xs j) (hj : j < 40)
    (hD' : ∀ M, dm_G M → (D M ∧ dm_S M (T n) ↔ D' M)) (H : ∀ r u, dw_E T (n + 1) D' u → dl_R r u → post r u) : wpL_tell post L xs u (nI j) := by
  have e4 : (4 : Int32) * nI j = nI (4 * j) := pk_mul 4 j
  have f1 : (4 : Int32) * nI j + 1 = nI (4 * j + 1) := by rw [e4]; exact nI_1 _
  have f2 : (4 : Int32) * nI j + 2 = nI (4 * j + 2) := by rw [e4]; exact nI_add _ 2
  have f3 : (4 : Int32) * nI j + 3 = nI (4 * j + 3) := by rw [e4]; exact nI_add _ 3
  have h0 : dw_T0 (T n) := by
    rw [et]
    exact dl_S0 (Nat.mod_lt _ (by decide)) (Nat.mod_lt _ (by decide)) (Nat.mod_lt _ (by decide)) (Nat.mod_lt _ (by decide))
  have hk : dl_b (dl_c L xs (4 * j)) 10 < 10 := Nat.mod_lt _ (by decide)
  have ha : dl_b (dl_c L xs (4 * j + 1)) 12 < 12 := Nat.mod_lt _ (by decide)
  have hb : dl_b (dl_c L xs (4 * j + 2)) 12 < 12 := Nat.mod_lt _ (by decide)
  have hc : dl_b (dl_c L xs (4 * j + 3)) 12 < 12 := Nat.mod_lt _ (by decide)
  unfold dl_T at et
  obtain ⟨sc, sus, jc, rdy, brk, a1, a2, a3, a4, a5, a6, a7, a8, a9, a10, a11, a12, a13⟩ := u
  unfold wpL_tell
  dsimp only
  refine dl_cell e4 (by omega) hL ⟨by decide, nm_r (dl_r10 _) ?_⟩
  refine dl_cell f1 (by omega) hL ⟨by decide, nm_r (dl_r12 _) ?_⟩
  refine dl_cell f2 (by omega) hL ⟨by decide, nm_r (dl_r12 _) ?_⟩
  refine dl_cell f3 (by omega) hL ⟨by decide, nm_r (dl_r12 _) ?_⟩
  generalize dl_b (dl_c L xs (4 * j)) 10 = kd at *
  generalize dl_b (dl_c L xs (4 * j + 1)) 12 = a at *
  generalize dl_b (dl_c L xs (4 * j + 2)) 12 = b at *
  generalize dl_b (dl_c L xs (4 * j + 3)) 12 = c at *
  have m1 : kd = 1 ∨ kd = 8 → wL_tell_80 post L xs (nI a) (nI b) sc sus jc rdy brk a1 a2 a3 a4 a5 a6 a7 a8 a9 a10 a11 a12 a13 := fun h => by
    have et' : T n = (1, a, b % 4, 0) := by rw [et]; exact if_pos h
    unfold wL_tell_80
    rw [show nI b &&& 3 = nI (b % 4) from pk_andN (by omega) 2 (by decide)]
    refine dl_tell (k := 1) (p := 0) hE hn et' h0 (by decide) (fun _ _ h => absurd rfl h) hD' (fun r u h1 h2 => ?_)
    obtain ⟨sc, sus, jc, rdy, brk, a1, a2, a3, a4, a5, a6, a7, a8, a9, a10, a11, a12, a13⟩ := u
    exact H r _ h1 h2
  refine pk_eq kd 1 (fun h => m1 (Or.inl h)) (fun h1 => pk_eq kd 8 (fun h => m1 (Or.inr h)) (fun h8 => pk_eq kd 9 (fun h9 => ?_) (fun h9 => ?_)))
  · have et' : T n = (2, a, b, c) := by rw [et]; unfold dl_S; rw [if_neg (by omega), if_pos h9]
    refine dl_tell (k := 2) (p := c) hE hn et' h0 hc (fun _ _ _ => rfl) hD' (fun r u h1 h2 => ?_)
    obtain ⟨sc, sus, jc, rdy, brk, a1, a2, a3, a4, a5, a6, a7, a8, a9, a10, a11, a12, a13⟩ := u
    exact H r _ h1 h2
  · by_cases h5 : kd = 5 ∨ kd = 6
    · have et' : T n = (kd, a, b, b) := by rw [et]; unfold dl_S; rw [if_neg (by omega), if_neg h9, if_pos h5]
      refine dl_tell (k := kd) (p := c) hE hn et' h0 hc (fun q5 q6 _ => absurd h5 (by omega)) hD' (fun r u h1 h2 => ?_)
      obtain ⟨sc, sus, jc, rdy, brk, a1, a2, a3, a4, a5, a6, a7, a8, a9, a10, a11, a12, a13⟩ := u
      exact H r _ h1 h2
    · have et' : T n = (kd, a, b, c) := by rw [et]; unfold dl_S; rw [if_neg (by omega), if_neg h9, if_neg h5]
      refine dl_tell (k := kd) (p := c) hE hn et' h0 hc (fun _ _ _ => rfl) hD' (fun r u h1 h2 => ?_)
      obtain ⟨sc, sus, jc, rdy, brk, a1, a2, a3, a4, a5, a6, a7, a8, a9, a10, a11, a12, a13⟩ := u
      exact H r _ h1 h2
end
section
/-! what the queries answer -/
def dq_V (ρ : Nat → Nat) (st nu : Nat → Int32) (v : Nat) : Int32 := if st (ρ v) = 1 then nu (ρ v) else 0
def dq_l (p : Nat → Bool) : Nat → Nat → Nat
  | 0, i => i
  | m + 1, i => if p i = true then i else dq_l p m (i + 1)
def dq_P (ρ : Nat → Nat) (st lf : Nat → Int32) (v : Nat) : Int32 := if st (ρ v) = 2 then nI (dq_l (fun j => decide (ρ j = ρ (dg_v lf (ρ v)))) 12 0) else -1
def dq_L (ρ : Nat → Nat) (v w : Nat) : Int32 := if ρ v = ρ w then 1 else 0
theorem dq_lc {p q : Nat → Bool} : ∀ m i, (∀ j, j < i + m → p j = q j) → dq_l p m i = dq_l q m i
  | 0, _, _ => rfl
  | m + 1, i, h => by
    show (if p i = true then i else dq_l p m (i + 1)) = (if q i = true then i else dq_l q m (i + 1))
    rw [h i (by omega), dq_lc m (i + 1) (fun j hj => h j (by omega))]
section
variable {sc jc brk : Int32} {sus rdy : Int64} {a1 a2 a3 a4 a5 a6 a7 a8 a9 a10 : Nat → Int32} {a11 : Nat → Int64} {a12 a13 : Nat → Int32} {ρ : Nat → Nat}
theorem dq_state {post : Int32 → St1 → Prop} {v : Nat} (hF : dw_F a5 ρ) (hv : v < 12) (H : ∀ b5, dw_F b5 ρ → post (a7 (ρ v)) (sc, sus, jc, rdy, 0, a1, a2, a3, a4, b5, a6, a7, a8, a9, a10, a11, a12, a13)) : wpX_state post (sc, sus, jc, rdy, 0, a1, a2, a3, a4, a5, a6, a7, a8, a9, a10, a11, a12, a13) (nI v) := by
  have hr : ρ v < 12 := (hF.1 v hv).1
  refine br_t rfl (dl_isV hv (br_f (by decide) (dh_headA hF hv (fun b5 hb => ?_))))
  dsimp only
  rw [nI_clamp (show ρ v < 2 ^ 31 by omega)]
  exact ⟨vp_in_nI hr (by decide), H b5 hb⟩
theorem dq_value {post : Int32 → St1 → Prop} {v : Nat} (hF : dw_F a5 ρ) (hv : v < 12) (H : ∀ b5, dw_F b5 ρ → post (dq_V ρ a7 a8 v) (sc, sus, jc, rdy, 0, a1, a2, a3, a4, b5, a6, a7, a8, a9, a10, a11, a12, a13)) : wpX_value post (sc, sus, jc, rdy, 0, a1, a2, a3, a4, a5, a6, a7, a8, a9, a10, a11, a12, a13) (nI v) := by
  have hr : ρ v < 12 := (hF.1 v hv).1
  have hin : vp_in (nI (ρ v)) 12 := vp_in_nI hr (by decide)
  unfold wpX_value
  refine dl_isV hv (br_f (by decide) (br_t rfl (dh_head hF hv (fun b5 hb => ?_))))
  dsimp only
  rw [nI_clamp (show ρ v < 2 ^ 31 by omega)]
  have h := H b5 hb
  unfold dq_V at h
  refine ⟨hin, br_c (fun z => ⟨hin, ?_⟩) (fun z => ?_)⟩
  · rw [if_pos z] at h; exact h
  · rw [if_neg z] at h; exact h
theorem dq_72 {post : Int32 → St1 → Prop} {r : Nat} (hr : r < 12) : ∀ (m i : Nat) (a5 : Nat → Int32), i + m = 12 → (∃ j, i ≤ j ∧ j < 12 ∧ ρ j = r) → dw_F a5 ρ → (∀ b5, dw_F b5 ρ → post (nI (dq_l (fun j => decide (ρ j = r)) m i)) (sc, sus, jc, rdy, brk, a1, a2, a3, a4, b5, a6, a7, a8, a9, a10, a11, a12, a13)) → wX_part_72 post (nI r) m (nI i) sc sus jc rdy brk a1 a2 a3 a4 a5 a6 a7 a8 a9 a10 a11 a12 a13
  | 0, i, _, hi, hj, _, _ => by
    obtain ⟨j, h1, h2, _⟩ := hj
    exact absurd h1 (by omega)
  | m + 1, i, a5, hi, hj, hF, H => by
    have hi12 : i < 12 := by omega
    have hri : ρ i < 12 := (hF.1 i hi12).1
    refine dh_head hF hi12 (fun b5 hb => pk_eq (ρ i) r (fun e => ?_) (fun e => nm_r (nI_1 i) ?_))
    · have h := H b5 hb
      rw [show dq_l (fun j => decide (ρ j = r)) (m + 1) i = i from if_pos (decide_eq_true e)] at h
      exact h
    · refine dq_72 hr m (i + 1) b5 (by omega) ?_ hb (fun c5 hc => ?_)
      · obtain ⟨j, h1, h2, h3⟩ := hj
        have : j ≠ i := fun q => e (by rw [← q]; exact h3)
        exact ⟨j, by omega, h2, h3⟩
      · have h := H c5 hc
        rw [show dq_l (fun j => decide (ρ j = r)) (m + 1) i = dq_l (fun j => decide (ρ j = r)) m (i + 1) from if_neg (fun q => e (of_decide_eq_true q))] at h
        exact h
theorem dq_64 {post : Int32 → St1 → Prop} {w : Nat} (hF : dw_F a5 ρ) (hw : w < 12) (H : ∀ b5, dw_F b5 ρ → post (nI (dq_l (fun j => decide (ρ j = ρ w)) 12 0)) (sc, sus, jc, rdy, brk, a1, a2, a3, a4, b5, a6, a7, a8, a9, a10, a11, a12, a13)) : wX_part_64 post (nI w) sc sus jc rdy brk a1 a2 a3 a4 a5 a6 a7 a8 a9 a10 a11 a12 a13 :=
  dh_head hF hw (fun b5 hb => ⟨12, dq_72 (hb.1 w hw).1 12 0 b5 rfl ⟨w, Nat.zero_le _, hw, rfl⟩ hb H⟩)
theorem dq_part0 {post : Int32 → St1 → Prop} {v : Nat} (hF : dw_F a5 ρ) (hS : dw_S a7 a9 a10) (hv : v < 12) (H : ∀ b5, dw_F b5 ρ → post (dq_P ρ a7 a9 v) (sc, sus, jc, rdy, 0, a1, a2, a3, a4, b5, a6, a7, a8, a9, a10, a11, a12, a13)) : wpX_part post (sc, sus, jc, rdy, 0, a1, a2, a3, a4, a5, a6, a7, a8, a9, a10, a11, a12, a13) (nI v) 0 := by
  have hr : ρ v < 12 := (hF.1 v hv).1
  have hin : vp_in (nI (ρ v)) 12 := vp_in_nI hr (by decide)
  unfold wpX_part
  refine dl_isV hv (br_f (by decide) (br_t rfl (br_f (by decide) (br_t (by decide) (dh_head hF hv (fun b5 hb => ?_))))))
  dsimp only
  rw [nI_clamp (show ρ v < 2 ^ 31 by omega)]
  refine ⟨hin, br_c (fun z => br_t rfl ⟨hin, ?_⟩) (fun z => ?_)⟩
  · obtain ⟨⟨l1, l2⟩, _, _⟩ := (hS (ρ v) hr).2 z
    rw [l2]
    refine dq_64 hb l1 (fun c5 hc => ?_)
    have h := H c5 hc
    unfold dq_P at h
    rw [if_pos z] at h
    exact h
  · have h := H b5 hb
    unfold dq_P at h
    rw [if_neg z] at h
    exact h
theorem dq_part1 {post : Int32 → St1 → Prop} {v : Nat} (hF : dw_F a5 ρ) (hS : dw_S a7 a9 a10) (hv : v < 12) (H : ∀ b5, dw_F b5 ρ → post (dq_P ρ a7 a10 v) (sc, sus, jc, rdy, 0, a1, a2, a3, a4, b5, a6, a7, a8, a9, a10, a11, a12, a13)) : wpX_part post (sc, sus, jc, rdy, 0, a1, a2, a3, a4, a5, a6, a7, a8, a9, a10, a11, a12, a13) (nI v) 1 := by
  have hr : ρ v < 12 := (hF.1 v hv).1
  have hin : vp_in (nI (ρ v)) 12 := vp_in_nI hr (by decide)
  unfold wpX_part
  refine dl_isV hv (br_f (by decide) (br_t rfl (br_f (by decide) (br_t (by decide) (dh_head hF hv (fun b5 hb => ?_))))))
  dsimp only
  rw [nI_clamp (show ρ v < 2 ^ 31 by omega)]
  refine ⟨hin, br_c (fun z => br_f (by decide) ⟨hin, ?_⟩) (fun z => ?_)⟩
  · obtain ⟨_, r1, r2⟩ := (hS (ρ v) hr).2 z
    rw [r2]
    refine dq_64 hb r1 (fun c5 hc => ?_)
    have h := H c5 hc
    unfold dq_P at h
    rw [if_pos z] at h
    exact h
  · have h := H b5 hb
    unfold dq_P at h
    rw [if_neg z] at h
    exact h
theorem dq_linked {post : Int32 → St1 → Prop} {v w : Nat} (hF : dw_F a5 ρ) (hv : v < 12) (hw : w < 12) (H : ∀ b5, dw_F b5 ρ → post (dq_L ρ v w) (sc, sus, jc, rdy, 0, a1, a2, a3, a4, b5, a6, a7, a8, a9, a10, a11, a12, a13)) : wpX_linked post (sc, sus, jc, rdy, 0, a1, a2, a3, a4, a5, a6, a7, a8, a9, a10, a11, a12, a13) (nI v) (nI w) := by
  have hr : ρ v < 12 := (hF.1 v hv).1
  have hr2 : ρ w < 12 := (hF.1 w hw).1
  unfold wpX_linked
  refine dl_isV hv (br_f (by decide) (dl_isV hw (br_f (by decide) (br_t rfl (dh_head hF hv (fun b5 hb => dh_head hb hw (fun c5 hc => ?_)))))))
  have h := H c5 hc
  unfold dq_L at h
  refine pk_eq (ρ v) (ρ w) (fun z => ?_) (fun z => ?_)
  · rw [if_pos z] at h; exact h
  · rw [if_neg z] at h; exact h
theorem dq_cl14 {post : Int32 → Prop} (hF : dw_F a5 ρ) (H : post (nI (dw_c ρ))) : ∀ m i, i + m = 12 → wX_classes_14 post sc sus jc rdy brk a1 a2 a3 a4 a5 a6 a7 a8 a9 a10 a11 a12 a13 (m + 1) (nI (dc_n (fun v => decide (ρ v = v)) i)) (nI i)
  | 0, i, hi => by
    have e : i = 12 := by omega
    subst e
    exact br_t (nI_le (Nat.le_refl 12) (by decide)) H
  | m + 1, i, hi => by
    have hi12 : i < 12 := by omega
    have ih := dq_cl14 hF H m (i + 1) (by omega)
    obtain ⟨hρ, d, hd⟩ := hF
    obtain ⟨w, hw, ew, hr, hc⟩ := hd i hi12
    refine br_f (nI_ge (b := 12) hi12 (by decide)) ⟨vp_in_nI hi12 (by decide), ?_⟩
    rw [nI_clamp (show i < 2 ^ 31 by omega), ew]
    rcases hc with ⟨e1, e2⟩ | ⟨e1, e2⟩
    · refine br_t (by rw [e1]) (nm_r (nI_1 _) (nm_r (nI_1 i) ?_))
      rw [show dc_n (fun v => decide (ρ v = v)) (i + 1) = dc_n (fun v => decide (ρ v = v)) i + 1 from congrArg (_ + ·) (if_pos (decide_eq_true e2))] at ih
      exact ih
    · refine br_f (fun q => ?_) (nm_r (nI_1 i) ?_)
      · rw [nI_eq (by omega) (by omega)] at q
        rw [q] at e1
        exact absurd e1 (by omega)
      · rw [show dc_n (fun v => decide (ρ v = v)) (i + 1) = dc_n (fun v => decide (ρ v = v)) i + 0 from congrArg (_ + ·) (if_neg (fun q => e2 (of_decide_eq_true q)))] at ih
        exact ih
theorem dq_classes {post : Int32 → Prop} (hF : dw_F a5 ρ) (H : post (nI (dw_c ρ))) : wpX_classes post (sc, sus, jc, rdy, 0, a1, a2, a3, a4, a5, a6, a7, a8, a9, a10, a11, a12, a13) :=
  br_t rfl ⟨13, dq_cl14 hF H 12 0 rfl⟩
theorem dq_wa14 {post : Int32 → Prop} {n : Nat} (hn : n ≤ 40) (H : post (nI (dc_n (db_t sus) n))) : ∀ m i, i + m = n → wX_waiting_14 post (nI n) sus jc rdy brk a1 a2 a3 a4 a5 a6 a7 a8 a9 a10 a11 a12 a13 (m + 1) (nI (dc_n (db_t sus) i)) (nI i)
  | 0, i, hi => by
    have e : i = n := by omega
    subst e
    exact br_t (nI_le (Nat.le_refl i) (by omega)) H
  | m + 1, i, hi => by
    have ih := dq_wa14 hn H m (i + 1) (by omega)
    refine br_f (nI_ge (by omega) (by omega)) ?_
    rw [db_and1 sus (by omega)]
    cases h : db_t sus i
    · have e : dc_n (db_t sus) (i + 1) = dc_n (db_t sus) i := by
        show dc_n (db_t sus) i + (if db_t sus i = true then 1 else 0) = _
        rw [h]; simp
      rw [e] at ih
      refine nm_r (e' := nI (dc_n (db_t sus) i)) ?_ (nm_r (nI_1 i) ih)
      rw [if_neg (by decide)]
      exact nI_add (dc_n (db_t sus) i) 0
    · have e : dc_n (db_t sus) (i + 1) = dc_n (db_t sus) i + 1 := by
        show dc_n (db_t sus) i + (if db_t sus i = true then 1 else 0) = _
        rw [h]; simp
      rw [e] at ih
      refine nm_r (e' := nI (dc_n (db_t sus) i + 1)) ?_ (nm_r (nI_1 i) ih)
      rw [if_pos rfl]
      exact nI_1 (dc_n (db_t sus) i)
theorem dq_waiting {post : Int32 → Prop} {n : Nat} (hn : n ≤ 40) (H : post (nI (dc_n (db_t sus) n))) : wpX_waiting post (nI n, sus, jc, rdy, 0, a1, a2, a3, a4, a5, a6, a7, a8, a9, a10, a11, a12, a13) :=
  br_t rfl ⟨n + 1, dq_wa14 hn H n 0 (by omega)⟩
end
section
variable {sc jc : Int32} {sus rdy : Int64} {a1 a2 a3 a4 a6 a7 a8 a9 a10 : Nat → Int32} {a11 : Nat → Int64} {a12 a13 : Nat → Int32} {ρ : Nat → Nat}
variable {sc' jc' : Int32} {sus' rdy' : Int64} {a1' a2' a3' a4' a6' a7' a8' a9' a10' : Nat → Int32} {a11' : Nat → Int64} {a12' a13' : Nat → Int32} {ρ' : Nat → Nat}
theorem dq_70 {post : Int32 → St2 → Prop} {J2 : Int32 → Int32 → Int64 → Int32 → Int64 → Int32 → (Nat → Int32) → (Nat → Int32) → (Nat → Int32) → (Nat → Int32) → (Nat → Int32) → (Nat → Int32) → (Nat → Int32) → (Nat → Int32) → (Nat → Int32) → (Nat → Int32) → (Nat → Int64) → (Nat → Int32) → (Nat → Int32) → Int32 → Int64 → Int32 → Int64 → Int32 → (Nat → Int32) → (Nat → Int32) → (Nat → Int32) → (Nat → Int32) → (Nat → Int32) → (Nat → Int32) → (Nat → Int32) → (Nat → Int32) → (Nat → Int32) → (Nat → Int32) → (Nat → Int64) → (Nat → Int32) → (Nat → Int32) → Prop}
    {v : Nat} (hv : v < 12) (hL : ∀ w, w < 12 → dq_L ρ v w = dq_L ρ' v w) (hJ : ∀ b5 b5', dw_F b5 ρ → dw_F b5' ρ' → J2 (nI v + 1) sc sus jc rdy 0 a1 a2 a3 a4 b5 a6 a7 a8 a9 a10 a11 a12 a13 sc' sus' jc' rdy' 0 a1' a2' a3' a4' b5' a6' a7' a8' a9' a10' a11' a12' a13') :
    ∀ (m i : Nat) (a5 a5' : Nat → Int32), i + m = 12 → dw_F a5 ρ → dw_F a5' ρ' → wL_same_70 post J2 (nI v) (m + 1) (nI i) sc sus jc rdy 0 a1 a2 a3 a4 a5 a6 a7 a8 a9 a10 a11 a12 a13 sc' sus' jc' rdy' 0 a1' a2' a3' a4' a5' a6' a7' a8' a9' a10' a11' a12' a13'
  | 0, i, a5, a5', hi, hF, hF' => by
    have e : i = 12 := by omega
    subst e
    exact br_t (nI_le (Nat.le_refl 12) (by decide)) (nm_e (hJ a5 a5' hF hF'))
  | m + 1, i, a5, a5', hi, hF, hF' =>
    br_f (nI_ge (b := 12) (by omega) (by decide)) (dq_linked hF hv (by omega) (fun b5 hb => dq_linked hF' hv (by omega) (fun b5' hb' => br_t (hL i (by omega)) (nm_r (nI_1 i) (dq_70 hv hL hJ m (i + 1) b5 b5' (by omega) hb hb')))))
theorem dq_2 {post : Int32 → St2 → Prop} {n : Nat} (hn : n ≤ 40) (hS : dw_S a7 a9 a10) (hS' : dw_S a7' a9' a10') (h1 : ∀ v, v < 12 → a7 (ρ v) = a7' (ρ' v)) (h2 : ∀ v, v < 12 → dq_V ρ a7 a8 v = dq_V ρ' a7' a8' v) (h3 : ∀ v, v < 12 → dq_P ρ a7 a9 v = dq_P ρ' a7' a9' v) (h4 : ∀ v, v < 12 → dq_P ρ a7 a10 v = dq_P ρ' a7' a10' v) (h5 : ∀ v w, v < 12 → w < 12 → dq_L ρ v w = dq_L ρ' v w) (h6 : dw_c ρ = dw_c ρ') (h7 : dc_n (db_t sus) n = dc_n (db_t sus') n) (H : ∀ u, post 1 u) :
    ∀ (m i : Nat) (a5 a5' : Nat → Int32), i + m = 12 → dw_F a5 ρ → dw_F a5' ρ' → wL_same_2 post (m + 1) (nI i) (nI n) sus jc rdy 0 a1 a2 a3 a4 a5 a6 a7 a8 a9 a10 a11 a12 a13 (nI n) sus' jc' rdy' 0 a1' a2' a3' a4' a5' a6' a7' a8' a9' a10' a11' a12' a13'
  | 0, i, a5, a5', hi, hF, hF' => by
    have e : i = 12 := by omega
    subst e
    exact br_t (nI_le (Nat.le_refl 12) (by decide)) (dq_classes hF (dq_classes hF' (br_t (by rw [h6]) (dq_waiting hn (dq_waiting hn (br_t (by rw [h7]) (H _)))))))
  | m + 1, i, a5, a5', hi, hF, hF' => by
    have hi12 : i < 12 := by omega
    refine br_f (nI_ge (b := 12) hi12 (by decide)) ?_
    refine dq_state hF hi12 (fun b5 hb => dq_state hF' hi12 (fun b5' hb' => br_t (h1 i hi12) ?_))
    refine dq_value hb hi12 (fun c5 hc => dq_value hb' hi12 (fun c5' hc' => br_t (h2 i hi12) ?_))
    refine dq_part0 hc hS hi12 (fun d5 hd => dq_part0 hc' hS' hi12 (fun d5' hd' => br_t (h3 i hi12) ?_))
    refine dq_part1 hd hS hi12 (fun e5 he => dq_part1 hd' hS' hi12 (fun e5' he' => br_t (h4 i hi12) ?_))
    refine ⟨13, dq_70 hi12 (fun w hw => h5 i w hi12 hw) (fun f5 f5' hf hf' => ?_) 12 0 e5 e5' rfl he he'⟩
    rw [nI_1 i]
    exact dq_2 hn hS hS' h1 h2 h3 h4 h5 h6 h7 H m (i + 1) f5 f5' (by omega) hf hf'
end
end
section
/-! two stores at rest that were told the same agree -/
theorem dw_k5 {k : Nat} (h : k = 5 ∨ k = 6) : dw_k k = 2 := if_pos h
theorem dw_k1 {k : Nat} (h5 : ¬ k = 5) (h6 : ¬ k = 6) : dw_k k = 1 := if_neg (by omega)
def dq_p (ρ : Nat → Nat) (st : Nat → Int32) (t : dm_Sm) : Bool := decide (3 ≤ t.1 ∧ ¬ (st (ρ t.2.2.1) = dw_k t.1 ∧ st (ρ t.2.2.2) = dw_k t.1))
section
variable {T : Nat → dm_Sm} {n : Nat} {ρ : Nat → Nat} {st nu lf ri ja jb : Nat → Int32} {wt : Nat → Int64} {sus : Int64} {a1 a2 a3 a4 : Nat → Int32}
theorem dq_no (hW : dw_W T n ρ st wt sus 0) {s : Nat} (hs : db_t sus s = true) : ¬ (st (ρ (T s).2.2.1) = dw_k (T s).1 ∧ st (ρ (T s).2.2.2) = dw_k (T s).1) := by
  rcases hW.2.2.2 s hs with h | ⟨e, _⟩ | ⟨e, _⟩ | ⟨_, _, e⟩
  · rw [db_0] at h; exact absurd h (by decide)
  · exact fun q => dw_k0 _ (q.1.symm.trans e)
  · exact fun q => dw_k0 _ (q.2.symm.trans e)
  · exact e
theorem dq_rest (hT : dw_T T n a1 a2 a3 a4) (hW : dw_W T n ρ st wt sus 0) : ∀ s, db_t sus s = true → dm_S (dn_M ρ st nu lf ri) (T s) := by
  intro s hs
  obtain ⟨hsn, hk3⟩ := hW.2.1 s hs
  obtain ⟨⟨t1, t2, t3, t4, t5⟩, _⟩ := hT.2 s hsn
  have hno := dq_no hW hs
  by_cases h5 : (T s).1 = 5
  · rw [dm_S5 h5]
    intro l r hC
    have hC1 : st (ρ (T s).2.2.1) = 2 := hC.1
    exact absurd ⟨by rw [hC1, dw_k5 (Or.inl h5)], by rw [t5 (Or.inl h5), hC1, dw_k5 (Or.inl h5)]⟩ hno
  · by_cases h6 : (T s).1 = 6
    · rw [dm_S6 h6]
      intro l r hC
      have hC1 : st (ρ (T s).2.2.1) = 2 := hC.1
      exact absurd ⟨by rw [hC1, dw_k5 (Or.inr h6)], by rw [t5 (Or.inr h6), hC1, dw_k5 (Or.inr h6)]⟩ hno
    · rw [dm_S3 hk3 h5 h6]
      intro p q hp hq
      have hp1 : st (ρ (T s).2.2.1) = 1 := hp.1
      have hq1 : st (ρ (T s).2.2.2) = 1 := hq.1
      exact absurd ⟨by rw [hp1, dw_k1 h5 h6], by rw [hq1, dw_k1 h5 h6]⟩ hno
theorem dq_sus (hW : dw_W T n ρ st wt sus 0) {s : Nat} (hs : s < n) : db_t sus s = dq_p ρ st (T s) := by
  unfold dq_p
  cases h : db_t sus s
  · symm
    apply decide_eq_false
    intro q
    exact q.2 (hW.2.2.1 s hs q.1 h)
  · symm
    apply decide_eq_true
    exact ⟨(hW.2.1 s h).2, dq_no hW h⟩
end
section
variable {T : Nat → dm_Sm} {c : Nat} {sus : Int64} {ρ : Nat → Nat} {st nu lf ri ja jb : Nat → Int32} {ρ' : Nat → Nat} {st' nu' lf' ri' : Nat → Int32}
theorem dq_half (hρ : ∀ v, v < 12 → ρ v < 12 ∧ ρ (ρ v) = ρ v) (d : dn_D ρ st nu lf ri c ja jb sus T (dn_M ρ' st' nu' lf' ri')) :
    (∀ v w, v < 12 → w < 12 → ρ v = ρ w → ρ' v = ρ' w) ∧ (∀ v, v < 12 → st (ρ v) = 1 → st' (ρ' v) = 1 ∧ nu' (ρ' v) = nu (ρ v)) ∧
    (∀ v, v < 12 → st (ρ v) = 2 → st' (ρ' v) = 2 ∧ ρ' (dg_v lf (ρ v)) = ρ' (dg_v lf' (ρ' v)) ∧ ρ' (dg_v ri (ρ v)) = ρ' (dg_v ri' (ρ' v))) := by
  obtain ⟨d1, d2, d3, _, _⟩ := d
  have e1 : ∀ v, v < 12 → ρ' v = ρ' (ρ v) := d1
  refine ⟨fun v w hv hw e => ?_, fun v hv h => ?_, fun v hv h => ?_⟩
  · rw [e1 v hv, e1 w hw, e]
  · have g : st' (ρ' (ρ v)) = 1 ∧ nu' (ρ' (ρ v)) = nu (ρ v) := d2 (ρ v) (hρ v hv).1 (hρ v hv).2 h
    rw [e1 v hv]; exact g
  · have g : st' (ρ' (ρ v)) = 2 ∧ ρ' (dg_v lf (ρ v)) = ρ' (dg_v lf' (ρ' (ρ v))) ∧ ρ' (dg_v ri (ρ v)) = ρ' (dg_v ri' (ρ' (ρ v))) := d3 (ρ v) (hρ v hv).1 (hρ v hv).2 h
    rw [e1 v hv]; exact g
theorem dq_cle (hρ' : ∀ v, v < 12 → ρ' v < 12 ∧ ρ' (ρ' v) = ρ' v) (h : ∀ v w, v < 12 → w < 12 → ρ' v = ρ' w → ρ v = ρ w) : dw_c ρ ≤ dw_c ρ' := by
  refine dc_inj (f := ρ') 12 _ (fun v hv _ => ⟨(hρ' v hv).1, decide_eq_true (hρ' v hv).2⟩) (fun v w hv hw pv pw e => ?_)
  have ev := of_decide_eq_true pv
  have ew := of_decide_eq_true pw
  have := h v w hv hw e
  rw [ev, ew] at this
  exact this
end
def dl_D (T : Nat → dm_Sm) (n : Nat) (M : dm_Mo) : Prop := ∀ s, s < n → dm_S M (T s)
theorem dl_Ds {T : Nat → dm_Sm} {n : Nat} {M : dm_Mo} : dl_D T n M ∧ dm_S M (T n) ↔ dl_D T (n + 1) M := by
  constructor
  · rintro ⟨h, g⟩ s hs
    by_cases e : s = n
    · rw [e]; exact g
    · exact h s (by omega)
  · intro h
    exact ⟨fun s hs => h s (by omega), h n (by omega)⟩
theorem dl_Dp {S : Nat → dm_Sm} {π : Nat → Nat} {n : Nat} {M : dm_Mo} (h1 : ∀ v, v < n → π v < n) (h2 : ∀ v w, v < n → w < n → π v = π w → v = w) : dl_D (fun s => S (π s)) n M ↔ dl_D S n M := by
  constructor
  · intro h k hk
    obtain ⟨s, hs, e⟩ := dc_sur h1 h2 hk
    have := h s hs
    rw [← e]; exact this
  · intro h s hs
    exact h (π s) (h1 s hs)
section
variable {sc jc brk : Int32} {sus rdy : Int64} {a1 a2 a3 a4 a5 a6 a7 a8 a9 a10 : Nat → Int32} {a11 : Nat → Int64} {a12 a13 : Nat → Int32}
variable {sc' jc' brk' : Int32} {sus' rdy' : Int64} {a1' a2' a3' a4' a5' a6' a7' a8' a9' a10' : Nat → Int32} {a11' : Nat → Int64} {a12' a13' : Nat → Int32}
/-- the store is a model of what it was told -/
theorem dr_mod {S : Nat → dm_Sm} {n : Nat} {D : dm_Mo → Prop} {ρ : Nat → Nat} (hK : dw_K S n ρ 0 sus 0 a1 a2 a3 a4 a5 a7 a9 a10 a11 a12 a13) (hD : ∀ M, dm_G M → (dn_D ρ a7 a8 a9 a10 0 a12 a13 sus S M ↔ D M)) : D (dn_M ρ a7 a8 a9 a10) := by
  obtain ⟨kF, kT, kS, kJ, kc, kW⟩ := hK
  exact (hD _ dn_MG).mp (dn_self kF.1 (dq_rest kT kW))
theorem dr_P {ρ ρ' : Nat → Nat} {st st' lf lf' : Nat → Int32} {v : Nat} (hv : v < 12) (hl : st (ρ v) = 2 → dg_v lf (ρ v) < 12) (h1 : st (ρ v) = st' (ρ' v)) (hE : ∀ v w, v < 12 → w < 12 → (ρ v = ρ w ↔ ρ' v = ρ' w)) (hp : st (ρ v) = 2 → ρ' (dg_v lf (ρ v)) = ρ' (dg_v lf' (ρ' v))) : dq_P ρ st lf v = dq_P ρ' st' lf' v := by
  unfold dq_P
  by_cases z : st (ρ v) = 2
  · rw [if_pos z, if_pos (h1 ▸ z)]
    congr 1
    refine dq_lc 12 0 (fun j hj => ?_)
    rw [decide_eq_decide, hE j _ (by omega) (hl z), hp z]
  · rw [if_neg z, if_neg (fun q => z (h1.trans q))]
theorem dr_end {S : Nat → dm_Sm} {π : Nat → Nat} {n : Nat} {X : Prop} (h1 : ∀ v, v < n → π v < n) (h2 : ∀ v w, v < n → w < n → π v = π w → v = w) (hx : dw_E S n (dl_D S n) (sc, sus, jc, rdy, brk, a1, a2, a3, a4, a5, a6, a7, a8, a9, a10, a11, a12, a13)) (hy : dw_E (fun s => S (π s)) n (dl_D (fun s => S (π s)) n) (sc', sus', jc', rdy', brk', a1', a2', a3', a4', a5', a6', a7', a8', a9', a10', a11', a12', a13'))
    (Hb : brk = 1 → brk' = 1 → X) (Hs : brk = 0 → brk' = 0 → (∀ post : Int32 → St2 → Prop, (∀ u, post 1 u) → wpL_same post (sc, sus, jc, rdy, brk, a1, a2, a3, a4, a5, a6, a7, a8, a9, a10, a11, a12, a13, sc', sus', jc', rdy', brk', a1', a2', a3', a4', a5', a6', a7', a8', a9', a10', a11', a12', a13')) → X) : X := by
  have hp : ∀ M, dl_D (fun s => S (π s)) n M ↔ dl_D S n M := fun M => dl_Dp h1 h2
  rcases hx with ⟨hb, hM⟩ | ⟨hb, hsc, hjc, hrd, ρ, hK, hD⟩
  · rcases hy with ⟨hb', hM'⟩ | ⟨hb', hsc', hjc', hrd', ρ', hK', hD'⟩
    · exact Hb hb hb'
    · subst hrd'
      exact absurd ((hp _).mp (dr_mod hK' hD')) (hM _ dn_MG)
  · rcases hy with ⟨hb', hM'⟩ | ⟨hb', hsc', hjc', hrd', ρ', hK', hD'⟩
    · subst hrd
      exact absurd ((hp _).mpr (dr_mod hK hD)) (hM' _ dn_MG)
    · refine Hs hb hb' (fun post H => ?_)
      subst hrd; subst hrd'; subst hb; subst hb'; subst hsc; subst hsc'
      have m1 := dr_mod hK hD
      have m2 := dr_mod hK' hD'
      have d12 := (hD' _ dn_MG).mpr ((hp _).mpr m1)
      have d21 := (hD _ dn_MG).mpr ((hp _).mp m2)
      obtain ⟨kF, kT, kS, kJ, kc, kW⟩ := hK
      obtain ⟨kF', kT', kS', kJ', kc', kW'⟩ := hK'
      obtain ⟨f1, f2, f3⟩ := dq_half kF.1 d21
      obtain ⟨g1, g2, g3⟩ := dq_half kF'.1 d12
      have hE : ∀ v w, v < 12 → w < 12 → (ρ v = ρ w ↔ ρ' v = ρ' w) := fun v w hv hw => ⟨f1 v w hv hw, g1 v w hv hw⟩
      have e1 : ∀ v, v < 12 → a7 (ρ v) = a7' (ρ' v) := fun v hv => by
        rcases (kS (ρ v) (kF.1 v hv).1).1 with e | e | e
        · rcases (kS' (ρ' v) (kF'.1 v hv).1).1 with e' | e' | e'
          · rw [e, e']
          · have := (g2 v hv e').1
            rw [e] at this; exact absurd this (by decide)
          · have := (g3 v hv e').1
            rw [e] at this; exact absurd this (by decide)
        · rw [e, (f2 v hv e).1]
        · rw [e, (f3 v hv e).1]
      have e2 : ∀ v, v < 12 → dq_V ρ a7 a8 v = dq_V ρ' a7' a8' v := fun v hv => by
        unfold dq_V
        by_cases z : a7 (ρ v) = 1
        · rw [if_pos z, if_pos (by rw [← e1 v hv]; exact z), (f2 v hv z).2]
        · rw [if_neg z, if_neg (by rw [← e1 v hv]; exact z)]
      have e3 : ∀ v, v < 12 → dq_P ρ a7 a9 v = dq_P ρ' a7' a9' v := fun v hv => dr_P hv (fun z => ((kS (ρ v) (kF.1 v hv).1).2 z).1.1) (e1 v hv) hE (fun z => (f3 v hv z).2.1)
      have e4 : ∀ v, v < 12 → dq_P ρ a7 a10 v = dq_P ρ' a7' a10' v := fun v hv => dr_P hv (fun z => ((kS (ρ v) (kF.1 v hv).1).2 z).2.1) (e1 v hv) hE (fun z => (f3 v hv z).2.2)
      have e5 : ∀ v w, v < 12 → w < 12 → dq_L ρ v w = dq_L ρ' v w := fun v w hv hw => by
        unfold dq_L
        by_cases z : ρ v = ρ w
        · rw [if_pos z, if_pos ((hE v w hv hw).mp z)]
        · rw [if_neg z, if_neg (fun q => z ((hE v w hv hw).mpr q))]
      have e6 : dw_c ρ = dw_c ρ' := Nat.le_antisymm (dq_cle kF'.1 g1) (dq_cle kF.1 f1)
      have e7 : dc_n (db_t sus) n = dc_n (db_t sus') n := by
        rw [dc_congr (fun v hv => dq_sus kW hv), dc_congr (fun v hv => dq_sus kW' hv)]
        have ep : dc_n (fun v => dq_p ρ' a7' (S (π v))) n = dc_n (fun v => dq_p ρ a7 (S (π v))) n := dc_congr fun v hv => by
          obtain ⟨⟨t1, t2, t3, t4, t5⟩, _⟩ := kT'.2 v hv
          unfold dq_p
          rw [e1 _ t3, e1 _ t4]
        exact (ep.trans (dc_perm (p := fun v => dq_p ρ a7 (S v)) h1 h2)).symm
      exact ⟨13, dq_2 kT.1 kS kS' e1 e2 e3 e4 e5 e6 e7 H 12 0 a5 a5' rfl kF kF'⟩
end
end
section
/-! the law -/
theorem dr_27 {post : St1 → Prop} {sc jc brk : Int32} {sus rdy : Int64} {a1 a2 a3 a4 a8 a9 a10 a12 a13 : Nat → Int32} (H : ∀ a5 a6 a7 a11, (∀ v, v < 12 → a5 v = nI v) → (∀ v, v < 12 → a7 v = 0) → post (sc, sus, jc, rdy, brk, a1, a2, a3, a4, a5, a6, a7, a8, a9, a10, a11, a12, a13)) :
    ∀ (m i : Nat) (a5 a6 a7 : Nat → Int32) (a11 : Nat → Int64), i + m = 12 → (∀ v, v < i → a5 v = nI v) → (∀ v, v < i → a7 v = 0) → wX_restart_27 post sc sus jc rdy brk (m + 1) (nI i) a1 a2 a3 a4 a5 a6 a7 a8 a9 a10 a11 a12 a13
  | 0, i, a5, a6, a7, a11, hi, h5, h7 => by
    have e : i = 12 := by omega
    subst e
    exact br_t (nI_le (Nat.le_refl 12) (by decide)) (H _ _ _ _ h5 h7)
  | m + 1, i, a5, a6, a7, a11, hi, h5, h7 => by
    have hin : vp_in (nI i) 12 := vp_in_nI (by omega) (by decide)
    refine br_f (nI_ge (b := 12) (by omega) (by decide)) ?_
    rw [nI_clamp (show i < 2 ^ 31 by omega), dg_b8 i (by omega)]
    refine ⟨hin, nm_e ⟨hin, nm_e ⟨hin, nm_e ⟨hin, nm_e (nm_r (nI_1 i) ?_)⟩⟩⟩⟩
    refine dr_27 H m (i + 1) _ _ _ _ (by omega) (fun v hv => ?_) (fun v hv => ?_)
    · by_cases e : v = i
      · rw [e, pk_us]
      · rw [pk_un e]; exact h5 v (by omega)
    · by_cases e : v = i
      · rw [e, pk_us]
      · rw [pk_un e]; exact h7 v (by omega)
theorem dr_restart {post : St1 → Prop} {u : St1} (H : ∀ u, (∀ T : Nat → dm_Sm, dw_E T 0 (dl_D T 0) u) → post u) : wpX_restart post u := by
  obtain ⟨sc, sus, jc, rdy, brk, a1, a2, a3, a4, a5, a6, a7, a8, a9, a10, a11, a12, a13⟩ := u
  refine ⟨13, dr_27 (fun b5 b6 b7 b11 h5 h7 => H _ (fun T => Or.inr ⟨rfl, rfl, rfl, rfl, fun v => v, ⟨⟨fun v hv => ⟨hv, rfl⟩, fun _ => 0, fun v hv => ⟨v, hv, h5 v hv, rfl, Or.inl ⟨rfl, rfl⟩⟩⟩, ⟨by omega, fun s hs => absurd hs (by omega)⟩, fun v hv => ⟨Or.inl (h7 v hv), fun z => ?_⟩, fun j hj => absurd hj (by omega), ?_, ?_⟩, fun M hG => ⟨fun _ s hs => absurd hs (by omega), fun _ => ⟨fun v _ => hG.1 v, fun v hv _ z => ?_, fun v hv _ z => ?_, fun j hj => absurd hj (by omega), fun s hs => ?_⟩⟩⟩)) 12 0 _ _ _ _ rfl (fun v hv => absurd hv (by omega)) (fun v hv => absurd hv (by omega))⟩
  · rw [h7 v hv] at z; exact absurd z (by decide)
  · have : dw_c (fun v => v) ≤ 12 := dc_up 12
    omega
  · refine ⟨fun s hs => hs, fun s hs => ?_, fun s hs => absurd hs (by omega), fun s hs => Or.inl hs⟩
    rw [db_0] at hs; exact absurd hs (by decide)
  · rw [h7 v hv] at z; exact absurd z (by decide)
  · rw [h7 v hv] at z; exact absurd z (by decide)
  · rw [db_0] at hs; exact absurd hs (by decide)
theorem dr_clear {post : Int32 → St1 → Prop} {u : St1} (H : ∀ r u, (∀ T : Nat → dm_Sm, dw_E T 0 (dl_D T 0) u) → post r u) : wpX_clear post u := by
  obtain ⟨sc, sus, jc, rdy, brk, a1, a2, a3, a4, a5, a6, a7, a8, a9, a10, a11, a12, a13⟩ := u
  unfold wpX_clear
  refine dr_restart (fun u hu => ?_)
  obtain ⟨sc, sus, jc, rdy, brk, a1, a2, a3, a4, a5, a6, a7, a8, a9, a10, a11, a12, a13⟩ := u
  exact H _ _ hu
theorem dr_init {post : St1 → Prop} {u : St0} (H : ∀ u, post u) : wpX_init post 13 324 u := by
  obtain ⟨sc, sus, jc, rdy, brk⟩ := u
  unfold wpX_init
  dsimp only
  iterate 26 refine ⟨by decide, ?_⟩
  exact dr_restart (fun u _ => H _)
theorem dr_failed {post : Int32 → Prop} {sc jc brk : Int32} {sus rdy : Int64} {a1 a2 a3 a4 a5 a6 a7 a8 a9 a10 : Nat → Int32} {a11 : Nat → Int64} {a12 a13 : Nat → Int32} (h : brk = 0 ∨ brk = 1) (H : post brk) : wpX_failed post (sc, sus, jc, rdy, brk, a1, a2, a3, a4, a5, a6, a7, a8, a9, a10, a11, a12, a13) := by
  refine ⟨?_, H⟩
  rcases h with e | e
  · subst e; rfl
  · subst e; rfl
/-- the order in which the second store is told -/
def dr_p (pt n s : Nat) : Nat := if pt < 2 then n - 1 - s else (s + n / 2) % n
theorem dr_m {s c n : Nat} (hs : s < n) (hc : c ≤ n) : (s + c < n ∧ (s + c) % n = s + c) ∨ (n ≤ s + c ∧ (s + c) % n = s + c - n) := by
  by_cases h : s + c < n
  · exact Or.inl ⟨h, Nat.mod_eq_of_lt h⟩
  · refine Or.inr ⟨by omega, ?_⟩
    rw [Nat.mod_eq_sub_mod (by omega)]
    exact Nat.mod_eq_of_lt (by omega)
theorem dr_p1 {pt n : Nat} : ∀ v, v < n → dr_p pt n v < n := by
  intro v hv
  unfold dr_p
  split
  · omega
  · exact Nat.mod_lt _ (by omega)
theorem dr_p2 {pt n : Nat} : ∀ v w, v < n → w < n → dr_p pt n v = dr_p pt n w → v = w := by
  intro v w hv hw
  unfold dr_p
  split
  · intro e; omega
  · intro e
    have hv' := dr_m (c := n / 2) hv (by omega)
    have hw' := dr_m (c := n / 2) hw (by omega)
    omega
section
variable {post : Int32 → Prop} {L : Nat} {xs : Nat → Int32} {x3 x4 : Int32} {kc ks : Nat}
  {J62 J109 : Int32 → Int32 → Int64 → Int32 → Int64 → Int32 → (Nat → Int32) → (Nat → Int32) → (Nat → Int32) → (Nat → Int32) → (Nat → Int32) → (Nat → Int32) → (Nat → Int32) → (Nat → Int32) → (Nat → Int32) → (Nat → Int32) → (Nat → Int64) → (Nat → Int32) → (Nat → Int32) → Int32 → Int64 → Int32 → Int64 → Int32 → (Nat → Int32) → (Nat → Int32) → (Nat → Int32) → (Nat → Int32) → (Nat → Int32) → (Nat → Int32) → (Nat → Int32) → (Nat → Int32) → (Nat → Int32) → (Nat → Int32) → (Nat → Int64) → (Nat → Int32) → (Nat → Int32) → Prop}
theorem dr_170 {x5 x6 x7 x9 z0 : Int32} {sc jc brk : Int32} {sus rdy : Int64} {a1 a2 a3 a4 a5 a6 a7 a8 a9 a10 : Nat → Int32} {a11 : Nat → Int64} {a12 a13 : Nat → Int32} {sc' jc' brk' : Int32} {sus' rdy' : Int64} {a1' a2' a3' a4' a5' a6' a7' a8' a9' a10' : Nat → Int32} {a11' : Nat → Int64} {a12' a13' : Nat → Int32}
    (hb : brk = 0 ∨ brk = 1) (hz : z0 = brk) (hR : dl_R x9 (sc', sus', jc', rdy', brk', a1', a2', a3', a4', a5', a6', a7', a8', a9', a10', a11', a12', a13')) (H : J109 (x7 + 1) sc sus jc rdy brk a1 a2 a3 a4 a5 a6 a7 a8 a9 a10 a11 a12 a13 sc' sus' jc' rdy' brk' a1' a2' a3' a4' a5' a6' a7' a8' a9' a10' a11' a12' a13') : wL_law_170 post L xs J62 J109 x3 x4 x5 x6 x7 x9 z0 kc ks sc sus jc rdy brk a1 a2 a3 a4 a5 a6 a7 a8 a9 a10 a11 a12 a13 sc' sus' jc' rdy' brk' a1' a2' a3' a4' a5' a6' a7' a8' a9' a10' a11' a12' a13' := by
  unfold wL_law_170
  refine dr_failed hb (br_t hz ?_)
  rcases hR with ⟨h1, h2⟩ | ⟨h1, h2⟩
  · refine br_t h2 ?_
    unfold wL_law_189
    exact dr_failed (Or.inr h1) (br_t h1.symm (nm_e H))
  · refine br_f h2 ?_
    unfold wL_law_189
    exact dr_failed (Or.inl h1) (br_t h1.symm (nm_e H))
theorem dr_153 {T : Nat → dm_Sm} {k j : Nat} {D D' : dm_Mo → Prop} {x5 x6 x7 x8 z0 : Int32} {sc jc brk : Int32} {sus rdy : Int64} {a1 a2 a3 a4 a5 a6 a7 a8 a9 a10 : Nat → Int32} {a11 : Nat → Int64} {a12 a13 : Nat → Int32} {sc' jc' brk' : Int32} {sus' rdy' : Int64} {a1' a2' a3' a4' a5' a6' a7' a8' a9' a10' : Nat → Int32} {a11' : Nat → Int64} {a12' a13' : Nat → Int32}
    (hL : L ≤ 260) (hz : z0 = nI j) (hj : j < 40) (hk : k < 40) (et : T k = dl_T L xs j) (hE : dw_E T k D (sc', sus', jc', rdy', brk', a1', a2', a3', a4', a5', a6', a7', a8', a9', a10', a11', a12', a13')) (hD' : ∀ M, dm_G M → (D M ∧ dm_S M (T k) ↔ D' M)) (hR : dl_R x8 (sc, sus, jc, rdy, brk, a1, a2, a3, a4, a5, a6, a7, a8, a9, a10, a11, a12, a13))
    (H : ∀ u, dw_E T (k + 1) D' u → (match u with | (sc', sus', jc', rdy', brk', a1', a2', a3', a4', a5', a6', a7', a8', a9', a10', a11', a12', a13') => J109 (x7 + 1) sc sus jc rdy brk a1 a2 a3 a4 a5 a6 a7 a8 a9 a10 a11 a12 a13 sc' sus' jc' rdy' brk' a1' a2' a3' a4' a5' a6' a7' a8' a9' a10' a11' a12' a13')) : wL_law_153 post L xs J62 J109 x3 x4 x5 x6 x7 x8 z0 kc ks sc sus jc rdy brk a1 a2 a3 a4 a5 a6 a7 a8 a9 a10 a11 a12 a13 sc' sus' jc' rdy' brk' a1' a2' a3' a4' a5' a6' a7' a8' a9' a10' a11' a12' a13' := by
  subst hz
  unfold wL_law_153
  refine dl_ltell hL hE hk et hj hD' (fun r u hE' hR' => ?_)
  have h := H u hE'
  obtain ⟨sc', sus', jc', rdy', brk', a1', a2', a3', a4', a5', a6', a7', a8', a9', a10', a11', a12', a13'⟩ := u
  rcases hR with ⟨h1, h2⟩ | ⟨h1, h2⟩
  · exact br_t h2 (dr_170 (Or.inr h1) h1.symm hR' h)
  · exact br_f h2 (dr_170 (Or.inl h1) h1.symm hR' h)
theorem dr_109 {pt n : Nat} (hL : L ≤ 260) (hn : n ≤ 40) (hpt : pt < 3)
    (hJ : ∀ (sc : Int32) (sus : Int64) (jc : Int32) (rdy : Int64) (brk : Int32) (a1 a2 a3 a4 a5 a6 a7 a8 a9 a10 : Nat → Int32) (a11 : Nat → Int64) (a12 a13 : Nat → Int32) (sc' : Int32) (sus' : Int64) (jc' : Int32) (rdy' : Int64) (brk' : Int32) (a1' a2' a3' a4' a5' a6' a7' a8' a9' a10' : Nat → Int32) (a11' : Nat → Int64) (a12' a13' : Nat → Int32), J62 (nI pt + 1) sc sus jc rdy brk a1 a2 a3 a4 a5 a6 a7 a8 a9 a10 a11 a12 a13 sc' sus' jc' rdy' brk' a1' a2' a3' a4' a5' a6' a7' a8' a9' a10' a11' a12' a13') :
    ∀ (m k : Nat) (sc : Int32) (sus : Int64) (jc : Int32) (rdy : Int64) (brk : Int32) (a1 a2 a3 a4 a5 a6 a7 a8 a9 a10 : Nat → Int32) (a11 : Nat → Int64) (a12 a13 : Nat → Int32) (sc' : Int32) (sus' : Int64) (jc' : Int32) (rdy' : Int64) (brk' : Int32) (a1' a2' a3' a4' a5' a6' a7' a8' a9' a10' : Nat → Int32) (a11' : Nat → Int64) (a12' a13' : Nat → Int32), k + m = n →
      dw_E (dl_T L xs) k (dl_D (dl_T L xs) k) (sc, sus, jc, rdy, brk, a1, a2, a3, a4, a5, a6, a7, a8, a9, a10, a11, a12, a13) → dw_E (fun s => dl_T L xs (dr_p pt n s)) k (dl_D (fun s => dl_T L xs (dr_p pt n s)) k) (sc', sus', jc', rdy', brk', a1', a2', a3', a4', a5', a6', a7', a8', a9', a10', a11', a12', a13') → wL_law_109 post L xs J62 x3 x4 (nI pt) (nI n) kc ks (m + 1) (nI k) sc sus jc rdy brk a1 a2 a3 a4 a5 a6 a7 a8 a9 a10 a11 a12 a13 sc' sus' jc' rdy' brk' a1' a2' a3' a4' a5' a6' a7' a8' a9' a10' a11' a12' a13' := by
  intro m
  induction m with
  | zero =>
    intro k sc sus jc rdy brk a1 a2 a3 a4 a5 a6 a7 a8 a9 a10 a11 a12 a13 sc' sus' jc' rdy' brk' a1' a2' a3' a4' a5' a6' a7' a8' a9' a10' a11' a12' a13' hk hx hy
    have e : k = n := by omega
    subst e
    refine br_t (nI_le (Nat.le_refl k) (by omega)) ?_
    refine dr_end dr_p1 dr_p2 hx hy (fun h1 h2 => ?_) (fun h1 h2 hs => ?_)
    · exact dr_failed (Or.inr h1) (dr_failed (Or.inr h2) (br_t (h1.trans h2.symm) (dr_failed (Or.inr h1) (br_f (by rw [h1]; decide) (nm_e (hJ _ _ _ _ _ _ _ _ _ _ _ _ _ _ _ _ _ _ _ _ _ _ _ _ _ _ _ _ _ _ _ _ _ _ _ _))))))
    · refine dr_failed (Or.inl h1) (dr_failed (Or.inl h2) (br_t (h1.trans h2.symm) (dr_failed (Or.inl h1) (br_t h1 ?_))))
      refine hs _ (fun u => ?_)
      obtain ⟨sc, sus, jc, rdy, brk, a1, a2, a3, a4, a5, a6, a7, a8, a9, a10, a11, a12, a13, sc', sus', jc', rdy', brk', a1', a2', a3', a4', a5', a6', a7', a8', a9', a10', a11', a12', a13'⟩ := u
      exact br_f (by decide) (nm_e (hJ _ _ _ _ _ _ _ _ _ _ _ _ _ _ _ _ _ _ _ _ _ _ _ _ _ _ _ _ _ _ _ _ _ _ _ _))
  | succ m ih =>
    intro k sc sus jc rdy brk a1 a2 a3 a4 a5 a6 a7 a8 a9 a10 a11 a12 a13 sc' sus' jc' rdy' brk' a1' a2' a3' a4' a5' a6' a7' a8' a9' a10' a11' a12' a13' hk hx hy
    have hp := dr_p1 (pt := pt) (n := n) k (by omega)
    refine br_f (nI_ge (by omega) (by omega)) ?_
    refine dl_ltell hL hx (by omega) rfl (by omega) (fun M _ => dl_Ds) (fun r u hE hR => ?_)
    obtain ⟨sc, sus, jc, rdy, brk, a1, a2, a3, a4, a5, a6, a7, a8, a9, a10, a11, a12, a13⟩ := u
    have HN : ∀ u, dw_E (fun s => dl_T L xs (dr_p pt n s)) (k + 1) (dl_D (fun s => dl_T L xs (dr_p pt n s)) (k + 1)) u → (match u with | (sc', sus', jc', rdy', brk', a1', a2', a3', a4', a5', a6', a7', a8', a9', a10', a11', a12', a13') => wL_law_109 post L xs J62 x3 x4 (nI pt) (nI n) kc ks (m + 1) (nI k + 1) sc sus jc rdy brk a1 a2 a3 a4 a5 a6 a7 a8 a9 a10 a11 a12 a13 sc' sus' jc' rdy' brk' a1' a2' a3' a4' a5' a6' a7' a8' a9' a10' a11' a12' a13') := by
      intro u hu
      obtain ⟨sc', sus', jc', rdy', brk', a1', a2', a3', a4', a5', a6', a7', a8', a9', a10', a11', a12', a13'⟩ := u
      show wL_law_109 post L xs J62 x3 x4 (nI pt) (nI n) kc ks (m + 1) (nI k + 1) sc sus jc rdy brk a1 a2 a3 a4 a5 a6 a7 a8 a9 a10 a11 a12 a13 sc' sus' jc' rdy' brk' a1' a2' a3' a4' a5' a6' a7' a8' a9' a10' a11' a12' a13'
      rw [nI_1 k]
      exact ih (k + 1) _ _ _ _ _ _ _ _ _ _ _ _ _ _ _ _ _ _ _ _ _ _ _ _ _ _ _ _ _ _ _ _ _ _ _ _ (by omega) hE hu
    refine pk_le 2 pt (fun h2 => ⟨by decide, nI_ne0 (by omega) (by omega), ?_⟩) (fun h2 => ?_)
    · refine dr_153 (T := fun s => dl_T L xs (dr_p pt n s)) (k := k) (j := dr_p pt n k) hL ?_ (by omega) (by omega) rfl hy (fun M _ => dl_Ds) hR HN
      have e1 : nI n / 2 = nI (n / 2) := pk_div (d := 2) (by omega) (by decide) (by decide)
      rw [e1, nI_add, pk_rem (by omega) (by omega) (by omega)]
      unfold dr_p
      rw [if_neg (by omega)]
    · refine dr_153 (T := fun s => dl_T L xs (dr_p pt n s)) (k := k) (j := dr_p pt n k) hL ?_ (by omega) (by omega) rfl hy (fun M _ => dl_Ds) hR HN
      have e1 : nI n - 1 = nI (n - 1) := pk_sub (b := 1) (by omega)
      rw [e1, pk_sub (by omega)]
      unfold dr_p
      rw [if_pos (by omega)]
theorem dr_94 {pt n : Nat} (hL : L ≤ 260) (hn : n ≤ 40) (hpt : pt < 3) {sc jc brk : Int32} {sus rdy : Int64} {a1 a2 a3 a4 a5 a6 a7 a8 a9 a10 : Nat → Int32} {a11 : Nat → Int64} {a12 a13 : Nat → Int32} {sc' jc' brk' : Int32} {sus' rdy' : Int64} {a1' a2' a3' a4' a5' a6' a7' a8' a9' a10' : Nat → Int32} {a11' : Nat → Int64} {a12' a13' : Nat → Int32}
    (hJ : ∀ (sc : Int32) (sus : Int64) (jc : Int32) (rdy : Int64) (brk : Int32) (a1 a2 a3 a4 a5 a6 a7 a8 a9 a10 : Nat → Int32) (a11 : Nat → Int64) (a12 a13 : Nat → Int32) (sc' : Int32) (sus' : Int64) (jc' : Int32) (rdy' : Int64) (brk' : Int32) (a1' a2' a3' a4' a5' a6' a7' a8' a9' a10' : Nat → Int32) (a11' : Nat → Int64) (a12' a13' : Nat → Int32), J62 (nI pt + 1) sc sus jc rdy brk a1 a2 a3 a4 a5 a6 a7 a8 a9 a10 a11 a12 a13 sc' sus' jc' rdy' brk' a1' a2' a3' a4' a5' a6' a7' a8' a9' a10' a11' a12' a13') :
    wL_law_94 post L xs J62 x3 x4 (nI pt) (nI n) kc ks sc sus jc rdy brk a1 a2 a3 a4 a5 a6 a7 a8 a9 a10 a11 a12 a13 sc' sus' jc' rdy' brk' a1' a2' a3' a4' a5' a6' a7' a8' a9' a10' a11' a12' a13' := by
  unfold wL_law_94
  refine dr_clear (fun r u hu => ?_)
  obtain ⟨sc, sus, jc, rdy, brk, a1, a2, a3, a4, a5, a6, a7, a8, a9, a10, a11, a12, a13⟩ := u
  refine dr_clear (fun r u hv => ?_)
  obtain ⟨sc', sus', jc', rdy', brk', a1', a2', a3', a4', a5', a6', a7', a8', a9', a10', a11', a12', a13'⟩ := u
  exact ⟨n + 1, dr_109 hL hn hpt hJ n 0 _ _ _ _ _ _ _ _ _ _ _ _ _ _ _ _ _ _ _ _ _ _ _ _ _ _ _ _ _ _ _ _ _ _ _ _ (by omega) (hu _) (hv _)⟩
theorem dr_62 {N s : Nat} (hL : L ≤ 260) (hN : N ≤ 40) (hs : s ≤ N) (H : post 1) :
    ∀ (m pt : Nat) (sc : Int32) (sus : Int64) (jc : Int32) (rdy : Int64) (brk : Int32) (a1 a2 a3 a4 a5 a6 a7 a8 a9 a10 : Nat → Int32) (a11 : Nat → Int64) (a12 a13 : Nat → Int32) (sc' : Int32) (sus' : Int64) (jc' : Int32) (rdy' : Int64) (brk' : Int32) (a1' a2' a3' a4' a5' a6' a7' a8' a9' a10' : Nat → Int32) (a11' : Nat → Int64) (a12' a13' : Nat → Int32), pt + m = 3 → wL_law_62 post L xs (nI N) (nI s) kc ks (m + 1) (nI pt) sc sus jc rdy brk a1 a2 a3 a4 a5 a6 a7 a8 a9 a10 a11 a12 a13 sc' sus' jc' rdy' brk' a1' a2' a3' a4' a5' a6' a7' a8' a9' a10' a11' a12' a13' := by
  intro m
  induction m with
  | zero =>
    intro pt sc sus jc rdy brk a1 a2 a3 a4 a5 a6 a7 a8 a9 a10 a11 a12 a13 sc' sus' jc' rdy' brk' a1' a2' a3' a4' a5' a6' a7' a8' a9' a10' a11' a12' a13' hk
    have e : pt = 3 := by omega
    subst e
    exact br_t (nI_le (Nat.le_refl 3) (by decide)) H
  | succ m ih =>
    intro pt sc sus jc rdy brk a1 a2 a3 a4 a5 a6 a7 a8 a9 a10 a11 a12 a13 sc' sus' jc' rdy' brk' a1' a2' a3' a4' a5' a6' a7' a8' a9' a10' a11' a12' a13' hk
    have hJ : ∀ (sc : Int32) (sus : Int64) (jc : Int32) (rdy : Int64) (brk : Int32) (a1 a2 a3 a4 a5 a6 a7 a8 a9 a10 : Nat → Int32) (a11 : Nat → Int64) (a12 a13 : Nat → Int32) (sc' : Int32) (sus' : Int64) (jc' : Int32) (rdy' : Int64) (brk' : Int32) (a1' a2' a3' a4' a5' a6' a7' a8' a9' a10' : Nat → Int32) (a11' : Nat → Int64) (a12' a13' : Nat → Int32), wL_law_62 post L xs (nI N) (nI s) kc ks (m + 1) (nI pt + 1) sc sus jc rdy brk a1 a2 a3 a4 a5 a6 a7 a8 a9 a10 a11 a12 a13 sc' sus' jc' rdy' brk' a1' a2' a3' a4' a5' a6' a7' a8' a9' a10' a11' a12' a13' := by
      intros
      rw [nI_1 pt]
      exact ih (pt + 1) _ _ _ _ _ _ _ _ _ _ _ _ _ _ _ _ _ _ _ _ _ _ _ _ _ _ _ _ _ _ _ _ _ _ _ _ (by omega)
    have e1 : nI N - nI s / 2 = nI (N - s / 2) := by
      rw [show nI s / 2 = nI (s / 2) from pk_div (d := 2) (by omega) (by decide) (by decide), pk_sub (by omega)]
    refine br_f (nI_ge (b := 3) (by omega) (by decide)) (pk_eq pt 0 (fun _ => dr_94 hL hN (by omega) hJ) (fun _ => pk_eq pt 1 (fun _ => dr_94 hL (by omega) (by omega) hJ) (fun _ => ⟨by decide, ?_⟩)))
    rw [e1]
    exact dr_94 hL (by omega) (by omega) hJ
theorem dr_34 {N : Nat} (hL : L ≤ 260) (hN : N ≤ 40) (H : post 1) {sc jc brk : Int32} {sus rdy : Int64} {a1 a2 a3 a4 a5 a6 a7 a8 a9 a10 : Nat → Int32} {a11 : Nat → Int64} {a12 a13 : Nat → Int32} {sc' jc' brk' : Int32} {sus' rdy' : Int64} {a1' a2' a3' a4' a5' a6' a7' a8' a9' a10' : Nat → Int32} {a11' : Nat → Int64} {a12' a13' : Nat → Int32} :
    wL_law_34 post L xs (nI N) kc ks sc sus jc rdy brk a1 a2 a3 a4 a5 a6 a7 a8 a9 a10 a11 a12 a13 sc' sus' jc' rdy' brk' a1' a2' a3' a4' a5' a6' a7' a8' a9' a10' a11' a12' a13' := by
  unfold wL_law_34
  refine pk_le L 0 (fun h => ⟨4, dr_62 (s := 0) hL hN (by omega) H 3 0 _ _ _ _ _ _ _ _ _ _ _ _ _ _ _ _ _ _ _ _ _ _ _ _ _ _ _ _ _ _ _ _ _ _ _ _ rfl⟩) (fun h => ⟨pk_in 0 L h, ?_⟩)
  rw [nI_1 N, pk_and _ 8 (by decide), pk_rem (by omega) (by omega) (by omega)]
  refine ⟨nI_ne0 (by omega) (by omega), nm_e ⟨4, dr_62 hL hN ?_ H 3 0 _ _ _ _ _ _ _ _ _ _ _ _ _ _ _ _ _ _ _ _ _ _ _ _ _ _ _ _ _ _ _ _ _ _ _ _ rfl⟩⟩
  exact Nat.le_of_lt_succ (Nat.mod_lt _ (by omega))
end
end
section
theorem i_vc (xs : Nat → Int32) (L : Nat) (hL : L ≤ 260) : wpL_law (fun r => r = 1) L xs := by
  refine ⟨13, 324, by decide, by decide, dr_init (fun u => ?_)⟩
  obtain ⟨sc, sus, jc, rdy, brk, a1, a2, a3, a4, a5, a6, a7, a8, a9, a10, a11, a12, a13⟩ := u
  refine ⟨by decide, by decide, 13, 324, by decide, by decide, dr_init (fun u => ?_)⟩
  obtain ⟨sc', sus', jc', rdy', brk', a1', a2', a3', a4', a5', a6', a7', a8', a9', a10', a11', a12', a13'⟩ := u
  have e : Int32.ofNat L / 4 = nI (L / 4) := pk_div (a := L) (d := 4) (by omega) (by decide) (by decide)
  dsimp only
  rw [e]
  exact ⟨by decide, pk_le (L / 4) 40 (fun h => ⟨by decide, dr_34 (post := fun r => r = 1) hL h rfl⟩) (fun h => dr_34 (post := fun r => r = 1) (N := 40) hL (Nat.le_refl 40) rfl)⟩
end
