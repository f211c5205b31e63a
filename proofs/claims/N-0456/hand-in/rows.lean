section
/-! rows out of kit/rows -/
theorem pk_us {f : Nat → Int32} {k : Nat} {x : Int32} : upd f k x k = x := if_pos rfl
theorem pk_un {f : Nat → Int32} {k j : Nat} {x : Int32} (h : j ≠ k) : upd f k x j = f j := if_neg h
theorem pk_uLs {f : Nat → Int64} {k : Nat} {x : Int64} : vp_updL f k x k = x := if_pos rfl
theorem pk_uLn {f : Nat → Int64} {k j : Nat} {x : Int64} (h : j ≠ k) : vp_updL f k x j = f j := if_neg h
theorem pk_mul (a b : Nat) : nI a * nI b = nI (a * b) := (Int32.ofNat_mul a b).symm
theorem pk_ix (x : Int32) {n : Nat} (hn : n < 2 ^ 31) : x < 0 ∨ nI n ≤ x ∨ ∃ j : Nat, j < n ∧ x = nI j := by
  by_cases h : x < 0
  · exact Or.inl h
  · obtain ⟨j, hj, rfl⟩ := nI_of h
    by_cases h2 : j < n
    · exact Or.inr (Or.inr ⟨j, h2, rfl⟩)
    · exact Or.inr (Or.inl (nI_le (by omega) hj))
theorem pk_le {x y : Int32} {A B : Prop} (a b : Nat) (f : a ≤ b → A) (g : b < a → B) (hx : x = nI a := by rfl) (hy : y = nI b := by rfl) (ha : a < 2 ^ 31 := by omega) (hb : b < 2 ^ 31 := by omega) : (x ≤ y → A) ∧ (¬ x ≤ y → B) := by
  subst hx hy
  rw [nI_leI ha hb]
  exact ⟨f, fun z => g (by omega)⟩
theorem pk_lt {x y : Int32} {A B : Prop} (a b : Nat) (f : a < b → A) (g : b ≤ a → B) (hx : x = nI a := by rfl) (hy : y = nI b := by rfl) (ha : a < 2 ^ 31 := by omega) (hb : b < 2 ^ 31 := by omega) : (x < y → A) ∧ (¬ x < y → B) := by
  subst hx hy
  rw [nI_ltI ha hb]
  exact ⟨f, fun z => g (by omega)⟩
theorem pk_eq {x y : Int32} {A B : Prop} (a b : Nat) (f : a = b → A) (g : a ≠ b → B) (hx : x = nI a := by rfl) (hy : y = nI b := by rfl) (ha : a < 2 ^ 31 := by omega) (hb : b < 2 ^ 31 := by omega) : (x = y → A) ∧ (¬ x = y → B) := by
  subst hx hy
  rw [nI_eq ha hb]
  exact ⟨f, g⟩
theorem ts_bit {w : Int64} {s : UInt64} {j : Nat} (hj : j < 64) (hs : s.toNat = j) : ((w.toUInt64 >>> s).toInt64 &&& 1) = 0 ↔ w.toBitVec.getLsbD j = false := by
  have e : (w.toUInt64 >>> s).toInt64.toBitVec = w.toBitVec >>> j := by
    apply BitVec.eq_of_toNat_eq
    show (w.toUInt64 >>> s).toNat = _
    rw [UInt64.toNat_shiftRight, hs, Nat.mod_eq_of_lt hj, BitVec.toNat_ushiftRight]
    rfl
  rw [← Int64.toBitVec_inj, Int64.toBitVec_and, e]
  show w.toBitVec >>> j &&& 1#64 = 0#64 ↔ _
  constructor
  · intro h
    have t := congrArg (fun x => x.getLsbD 0) h
    simpa using t
  · intro h
    apply BitVec.eq_of_getLsbD_eq
    intro i hi
    cases i with
    | zero => simp [h]
    | succ i => simp
theorem wb_cu : ∀ k, k < 64 → ((nI k).toInt64.toUInt64 &&& Int64.toUInt64 63) = UInt64.ofNat k := by decide +kernel
/-! the bits of a set -/
def dz_b (w : Int64) (j : Nat) : Bool := w.toBitVec.getLsbD j
theorem dz_has (w : Int64) {j : Nat} (hj : j < 64) : (((w.toUInt64 >>> ((nI j).toInt64.toUInt64 &&& Int64.toUInt64 63)).toInt64) &&& 1) = 0 ↔ dz_b w j = false := by
  refine ts_bit hj ?_
  rw [wb_cu j hj]
  show (BitVec.ofNat 64 j).toNat = j
  rw [BitVec.toNat_ofNat, Nat.mod_eq_of_lt (by omega)]
theorem dz_or (x y : Int64) (j : Nat) : dz_b (x ||| y) j = (dz_b x j || dz_b y j) := by
  unfold dz_b
  rw [Int64.toBitVec_or, BitVec.getLsbD_or]
theorem dz_0 (j : Nat) : dz_b 0 j = false := BitVec.getLsbD_zero
theorem dz_sh : ∀ k, k < 64 → ((1 : Int64) <<< ((nI k).toInt64 &&& 63)).toBitVec = BitVec.twoPow 64 k := by decide +kernel
theorem dz_one {k : Nat} (hk : k < 64) (j : Nat) : dz_b ((1 : Int64) <<< ((nI k).toInt64 &&& 63)) j = decide (k = j) := by
  unfold dz_b
  rw [dz_sh k hk, BitVec.getLsbD_twoPow]
  simp [hk]
theorem dz_ior {x : Int64} {k : Nat} (hk : k < 64) (j : Nat) : dz_b (x ||| ((1 : Int64) <<< ((nI k).toInt64 &&& 63))) j = (dz_b x j || decide (k = j)) := by
  rw [dz_or, dz_one hk]
/-! small numbers -/
theorem dz_ix {r N ec j : Nat} (hr : r < N) (hj : j < ec) (he : ec ≤ 64) : r * ec + j < N * 64 := by
  have h1 : (r + 1) * ec ≤ N * ec := Nat.mul_le_mul_right ec hr
  have h2 : N * ec ≤ N * 64 := Nat.mul_le_mul_left N he
  rw [Nat.add_mul] at h1
  omega
theorem dz_rw {r ec j r' j' : Nat} (hj : j < ec) (hj' : j' < ec) (h : r * ec + j = r' * ec + j') : r = r' ∧ j = j' := by
  have h0 : 0 < ec := by omega
  have e1 : (r * ec + j) / ec = r := by rw [Nat.mul_comm, Nat.mul_add_div h0, Nat.div_eq_of_lt hj, Nat.add_zero]
  have e2 : (r' * ec + j') / ec = r' := by rw [Nat.mul_comm, Nat.mul_add_div h0, Nat.div_eq_of_lt hj', Nat.add_zero]
  have e : r = r' := by rw [← e1, ← e2, h]
  subst e
  exact ⟨rfl, by omega⟩
theorem dz_ne {r ec j r' j' : Nat} (hj : j < ec) (hj' : j' < ec) (h : r ≠ r' ∨ j ≠ j') : r * ec + j ≠ r' * ec + j' := by
  intro e
  have := dz_rw hj hj' e
  omega
theorem dz_mi (a b d : Nat) : nI a * nI b + nI d = nI (a * b + d) := by rw [pk_mul, nI_add]
theorem dz_nb1 : vp_nar .boolean 1 = 1 := rfl
theorem dz_nb0 : vp_nar .boolean 0 = 0 := rfl
end
section
/-! folds -/
def dz_ex (f : Nat → Bool) : Nat → Bool
  | 0 => false
  | n + 1 => dz_ex f n || f n
def dz_cnt (f : Nat → Bool) : Nat → Nat
  | 0 => 0
  | n + 1 => if f n = true then dz_cnt f n + 1 else dz_cnt f n
def dz_sum (f : Nat → Bool) (g : Nat → Int32) : Nat → Int32
  | 0 => 0
  | n + 1 => if f n = true then dz_sum f g n + g n else dz_sum f g n
def dz_c2 (f : Nat → Nat → Bool) (m : Nat) : Nat → Nat
  | 0 => 0
  | e + 1 => dz_c2 f m e + dz_cnt (f e) m
theorem dz_ex_t {f : Nat → Bool} {n : Nat} : dz_ex f n = true ↔ ∃ i, i < n ∧ f i = true := by
  induction n with
  | zero => exact ⟨fun h => absurd h (by simp [dz_ex]), fun ⟨i, h, _⟩ => absurd h (by omega)⟩
  | succ n ih =>
    constructor
    · intro h
      rw [dz_ex, Bool.or_eq_true] at h
      rcases h with h | h
      · obtain ⟨i, hi, hf⟩ := ih.mp h
        exact ⟨i, by omega, hf⟩
      · exact ⟨n, by omega, h⟩
    · rintro ⟨i, hi, hf⟩
      rw [dz_ex, Bool.or_eq_true]
      rcases Nat.lt_or_ge i n with h | h
      · exact Or.inl (ih.mpr ⟨i, h, hf⟩)
      · have e : i = n := by omega
        subst e
        exact Or.inr hf
theorem dz_ex_f {f : Nat → Bool} {n : Nat} : dz_ex f n = false ↔ ∀ i, i < n → f i = false := by
  constructor
  · intro h i hi
    cases hf : f i with
    | false => rfl
    | true => rw [dz_ex_t.mpr ⟨i, hi, hf⟩] at h; exact absurd h (by decide)
  · intro h
    cases he : dz_ex f n with
    | false => rfl
    | true =>
      obtain ⟨i, hi, hf⟩ := dz_ex_t.mp he
      rw [h i hi] at hf
      exact absurd hf (by decide)
theorem dz_ex_n {f : Nat → Bool} {i : Nat} (h : dz_ex f i = false) (hf : f i = false) : dz_ex f (i + 1) = false := by rw [dz_ex, h, hf]; rfl
theorem dz_cnt_le (f : Nat → Bool) (n : Nat) : dz_cnt f n ≤ n := by
  induction n with
  | zero => exact Nat.le_refl 0
  | succ n ih => rw [dz_cnt]; split <;> omega
theorem dz_cnt_t {f : Nat → Bool} {n : Nat} (h : f n = true) : dz_cnt f (n + 1) = dz_cnt f n + 1 := by rw [dz_cnt, if_pos h]
theorem dz_cnt_f {f : Nat → Bool} {n : Nat} (h : ¬ f n = true) : dz_cnt f (n + 1) = dz_cnt f n := by rw [dz_cnt, if_neg h]
theorem dz_cnt_cg {f g : Nat → Bool} {n : Nat} (h : ∀ i, i < n → f i = g i) : dz_cnt f n = dz_cnt g n := by
  induction n with
  | zero => rfl
  | succ n ih => rw [dz_cnt, dz_cnt, ih (fun i hi => h i (by omega)), h n (by omega)]
theorem dz_cnt_mono {f g : Nat → Bool} {n : Nat} (h : ∀ i, i < n → f i = true → g i = true) : dz_cnt f n ≤ dz_cnt g n := by
  induction n with
  | zero => exact Nat.le_refl 0
  | succ n ih =>
    have i1 := ih (fun i hi => h i (by omega))
    by_cases hf : f n = true
    · rw [dz_cnt_t hf, dz_cnt_t (h n (by omega) hf)]; omega
    · rw [dz_cnt_f hf, dz_cnt]; split <;> omega
theorem dz_cnt_one {f g : Nat → Bool} {w n : Nat} (h : ∀ i, i < n → f i = true → g i = true ∨ i = w) : dz_cnt f n ≤ dz_cnt g n + (if w < n then 1 else 0) := by
  induction n with
  | zero => exact Nat.zero_le _
  | succ n ih =>
    have i1 := ih (fun i hi => h i (by omega))
    by_cases hf : f n = true
    · rcases h n (by omega) hf with hg | hg
      · rw [dz_cnt_t hf, dz_cnt_t hg]
        split at i1 <;> split <;> omega
      · have e1 : ¬ w < n := by omega
        have e2 : w < n + 1 := by omega
        have e3 : dz_cnt g n ≤ dz_cnt g (n + 1) := by rw [dz_cnt]; split <;> omega
        rw [if_neg e1] at i1
        rw [dz_cnt_t hf, if_pos e2]
        omega
    · have e3 : dz_cnt g n ≤ dz_cnt g (n + 1) := by rw [dz_cnt]; split <;> omega
      rw [dz_cnt_f hf]
      split at i1 <;> split <;> omega
theorem dz_c2_le (f : Nat → Nat → Bool) (m n : Nat) : dz_c2 f m n ≤ n * m := by
  induction n with
  | zero => exact Nat.zero_le _
  | succ n ih =>
    have := dz_cnt_le (f n) m
    rw [dz_c2, Nat.add_mul]
    omega
theorem dz_c2_mono {f g : Nat → Nat → Bool} {m n : Nat} (h : ∀ e w, e < n → w < m → f e w = true → g e w = true) : dz_c2 f m n ≤ dz_c2 g m n := by
  induction n with
  | zero => exact Nat.le_refl 0
  | succ n ih =>
    have i1 := ih (fun e w he hw => h e w (by omega) hw)
    have i2 := dz_cnt_mono (f := f n) (g := g n) (n := m) (fun w hw => h n w (by omega) hw)
    rw [dz_c2, dz_c2]
    omega
theorem dz_c2_one {f g : Nat → Nat → Bool} {e0 w0 m n : Nat} (h : ∀ e w, e < n → w < m → f e w = true → g e w = true ∨ (e = e0 ∧ w = w0)) : dz_c2 f m n ≤ dz_c2 g m n + (if e0 < n then 1 else 0) := by
  induction n with
  | zero => exact Nat.zero_le _
  | succ n ih =>
    have i1 := ih (fun e w he hw => h e w (by omega) hw)
    rw [dz_c2, dz_c2]
    by_cases e : n = e0
    · have i2 := dz_cnt_one (f := f n) (g := g n) (w := w0) (n := m) (fun w hw hf => (h n w (by omega) hw hf).elim Or.inl (fun z => Or.inr z.2))
      have e1 : ¬ e0 < n := by omega
      have e2 : e0 < n + 1 := by omega
      rw [if_neg e1] at i1
      rw [if_pos e2]
      split at i2 <;> omega
    · have i2 := dz_cnt_mono (f := f n) (g := g n) (n := m) (fun w hw hf => (h n w (by omega) hw hf).elim id (fun z => absurd z.1 e))
      split at i1 <;> split <;> omega
/-! the log: kd kind, ag argument, iw issuer, sa what the issuer had seen; s a set of events -/
def dz_kill (kd ag : Nat → Int32) (sa : Nat → Int64) (s : Int64) (a r : Nat) : Bool := dz_b s r && (decide (kd r = 1) && (decide (ag r = ag a) && dz_b (sa r) a))
def dz_live (c : Nat) (kd ag : Nat → Int32) (sa : Nat → Int64) (s : Int64) (a : Nat) : Bool := dz_b s a && (decide (kd a = 0) && !dz_ex (dz_kill kd ag sa s a) c)
def dz_g (c : Nat) (kd ag iw : Nat → Int32) (sa : Nat → Int64) (s : Int64) (e w : Int32) (a : Nat) : Bool := decide (iw a = w) && (decide (kd a = 0) && (decide (ag a = e) && dz_live c kd ag sa s a))
def dz_ord (iw : Nat → Int32) (w : Int32) (n : Nat) : Nat := dz_cnt (fun j => decide (iw j = w)) n
def dz_D (c : Nat) (kd ag iw : Nat → Int32) (sa : Nat → Int64) (s : Int64) (e w : Int32) : Nat → Nat
  | 0 => 0
  | n + 1 => if dz_g c kd ag iw sa s e w n = true then dz_ord iw w (n + 1) else dz_D c kd ag iw sa s e w n
def dz_dot (c : Nat) (kd ag iw : Nat → Int32) (sa : Nat → Int64) (s : Int64) (e w : Int32) : Nat := dz_D c kd ag iw sa s e w c
def dz_prs (c : Nat) (kd ag iw : Nat → Int32) (sa : Nat → Int64) (s : Int64) (nr n : Nat) : Nat := dz_c2 (fun e w => decide (0 < dz_dot c kd ag iw sa s (nI e) (nI w))) nr n
def dz_seen (iw : Nat → Int32) (s : Int64) (w : Int32) (n : Nat) : Nat := dz_cnt (fun i => dz_b s i && decide (iw i = w)) n
def dz_tot (kd ag iw : Nat → Int32) (s : Int64) (w k : Int32) (n : Nat) : Int32 := dz_sum (fun i => dz_b s i && (decide (iw i = w) && decide (kd i = k))) ag n
def dz_val (kd ag : Nat → Int32) (s : Int64) : Nat → Int32
  | 0 => 0
  | n + 1 => if dz_b s n = true then (if kd n = 2 then dz_val kd ag s n + ag n else if kd n = 3 then dz_val kd ag s n - ag n else dz_val kd ag s n) else dz_val kd ag s n
def dz_con (c : Nat) (kd ag iw : Nat → Int32) (sa : Nat → Int64) (s : Int64) (nr : Nat) (e : Int32) : Bool := dz_ex (fun w => decide (0 < dz_dot c kd ag iw sa s e (nI w))) nr
def dz_conY (c : Nat) (kd ag : Nat → Int32) (sa : Nat → Int64) (s : Int64) (e : Int32) (n : Nat) : Bool := dz_ex (fun a => decide (kd a = 0) && (decide (ag a = e) && dz_live c kd ag sa s a)) n
theorem dz_ord_le (iw : Nat → Int32) (w : Int32) (n : Nat) : dz_ord iw w n ≤ n := dz_cnt_le _ n
theorem dz_ord_t {iw : Nat → Int32} {w : Int32} {n : Nat} (h : iw n = w) : dz_ord iw w (n + 1) = dz_ord iw w n + 1 := dz_cnt_t (f := fun j => decide (iw j = w)) (decide_eq_true h)
theorem dz_ord_f {iw : Nat → Int32} {w : Int32} {n : Nat} (h : ¬ iw n = w) : dz_ord iw w (n + 1) = dz_ord iw w n := dz_cnt_f (f := fun j => decide (iw j = w)) (fun z => h (of_decide_eq_true z))
theorem dz_ord_s (iw : Nat → Int32) (w : Int32) (n : Nat) : dz_ord iw w n ≤ dz_ord iw w (n + 1) := by
  by_cases h : iw n = w
  · rw [dz_ord_t h]; omega
  · rw [dz_ord_f h]; exact Nat.le_refl _
section
variable {c : Nat} {kd ag iw : Nat → Int32} {sa : Nat → Int64} {s : Int64} {e w : Int32}
theorem dz_g_w {n : Nat} (h : dz_g c kd ag iw sa s e w n = true) : iw n = w := by
  unfold dz_g at h
  rw [Bool.and_eq_true] at h
  exact of_decide_eq_true h.1
theorem dz_D_t {n : Nat} (h : dz_g c kd ag iw sa s e w n = true) : dz_D c kd ag iw sa s e w (n + 1) = dz_ord iw w (n + 1) := by rw [dz_D, if_pos h]
theorem dz_D_f {n : Nat} (h : dz_g c kd ag iw sa s e w n = false) : dz_D c kd ag iw sa s e w (n + 1) = dz_D c kd ag iw sa s e w n := by rw [dz_D, h]; rfl
theorem dz_D_le (n : Nat) : dz_D c kd ag iw sa s e w n ≤ dz_ord iw w n := by
  induction n with
  | zero => exact Nat.zero_le _
  | succ n ih =>
    have := dz_ord_s iw w n
    rw [dz_D]
    split <;> omega
theorem dz_D_pos (n : Nat) : 0 < dz_D c kd ag iw sa s e w n ↔ dz_ex (dz_g c kd ag iw sa s e w) n = true := by
  induction n with
  | zero => exact ⟨fun h => absurd h (Nat.lt_irrefl 0), fun h => absurd h (by simp [dz_ex])⟩
  | succ n ih =>
    cases h : dz_g c kd ag iw sa s e w n with
    | true =>
      rw [dz_D_t h, dz_ord_t (dz_g_w h), dz_ex, h, Bool.or_true]
      exact ⟨fun _ => rfl, fun _ => Nat.succ_pos _⟩
    | false => rw [dz_D_f h, dz_ex, h, Bool.or_false]; exact ih
theorem dz_live_iff {a : Nat} : dz_live c kd ag sa s a = true ↔ dz_b s a = true ∧ kd a = 0 ∧ ∀ r, r < c → dz_kill kd ag sa s a r = false := by
  unfold dz_live
  rw [Bool.and_eq_true, Bool.and_eq_true, decide_eq_true_iff, Bool.not_eq_true', dz_ex_f]
theorem dz_g_iff {a : Nat} : dz_g c kd ag iw sa s e w a = true ↔ iw a = w ∧ kd a = 0 ∧ ag a = e ∧ dz_live c kd ag sa s a = true := by
  unfold dz_g
  rw [Bool.and_eq_true, Bool.and_eq_true, Bool.and_eq_true, decide_eq_true_iff, decide_eq_true_iff, decide_eq_true_iff]
/-- contains: by dots (X) and by the log (Y) -/
theorem dz_con_eq {nr : Nat} (hw : ∀ i, i < c → ∃ w, w < nr ∧ iw i = nI w) : dz_con c kd ag iw sa s nr e = dz_conY c kd ag sa s e c := by
  apply Bool.eq_iff_iff.mpr
  unfold dz_con dz_conY
  rw [dz_ex_t, dz_ex_t]
  constructor
  · rintro ⟨w, hwn, h⟩
    obtain ⟨i, hi, hg⟩ := dz_ex_t.mp ((dz_D_pos c).mp (of_decide_eq_true h))
    obtain ⟨_, h2, h3, h4⟩ := dz_g_iff.mp hg
    refine ⟨i, hi, ?_⟩
    rw [h4, decide_eq_true h2, decide_eq_true h3]
    rfl
  · rintro ⟨i, hi, h⟩
    rw [Bool.and_eq_true, Bool.and_eq_true, decide_eq_true_iff, decide_eq_true_iff] at h
    obtain ⟨w, hwn, e1⟩ := hw i hi
    exact ⟨w, hwn, decide_eq_true ((dz_D_pos c).mpr (dz_ex_t.mpr ⟨i, hi, dz_g_iff.mpr ⟨e1, h.1, h.2.1, h.2.2⟩⟩))⟩
/-- a new event: which dots may be new -/
theorem dz_new {k a w0 : Int32} {q s' : Int64} (hs : ∀ i, i < c → dz_b s' i = dz_b s i)
    (h : 0 < dz_dot (c + 1) (upd kd c k) (upd ag c a) (upd iw c w0) (vp_updL sa c q) s' e w) :
    0 < dz_dot c kd ag iw sa s e w ∨ (k = 0 ∧ a = e ∧ w0 = w ∧ dz_b s' c = true) := by
  obtain ⟨i, hi, hg⟩ := dz_ex_t.mp ((dz_D_pos (c + 1)).mp h)
  obtain ⟨h1, h2, h3, h4⟩ := dz_g_iff.mp hg
  obtain ⟨h5, h6, h7⟩ := dz_live_iff.mp h4
  rcases Nat.lt_or_ge i c with hic | hic
  · left
    have hn : i ≠ c := by omega
    rw [pk_un hn] at h1 h2 h3
    rw [hs i hic] at h5
    refine (dz_D_pos c).mpr (dz_ex_t.mpr ⟨i, hic, dz_g_iff.mpr ⟨h1, h2, h3, dz_live_iff.mpr ⟨h5, h2, ?_⟩⟩⟩)
    intro r hr
    have h8 := h7 r (by omega)
    have hrn : r ≠ c := by omega
    unfold dz_kill at h8 ⊢
    rw [pk_un hrn, pk_un hrn, pk_un hn, pk_uLn hrn, hs r hr] at h8
    exact h8
  · right
    have e1 : i = c := by omega
    subst e1
    rw [pk_us] at h1 h2 h3
    exact ⟨h2, h3, h1, h5⟩
theorem dz_prs_le {k a w0 : Int32} {q s' : Int64} {nr n : Nat} (hs : ∀ i, i < c → dz_b s' i = dz_b s i) (hk : ¬ k = 0 ∨ dz_b s' c = false ∨ 0 < dz_dot c kd ag iw sa s a w0) :
    dz_prs (c + 1) (upd kd c k) (upd ag c a) (upd iw c w0) (vp_updL sa c q) s' nr n ≤ dz_prs c kd ag iw sa s nr n := by
  refine dz_c2_mono (fun e w he hw h => ?_)
  refine decide_eq_true ?_
  rcases dz_new hs (of_decide_eq_true h) with z | ⟨z1, z2, z3, z4⟩
  · exact z
  · rcases hk with y | y | y
    · exact absurd z1 y
    · rw [y] at z4; exact absurd z4 (by decide)
    · rw [← z2, ← z3]; exact y
theorem dz_prs_le1 {k : Int32} {q s' : Int64} {e0 w0 nr n : Nat} (hs : ∀ i, i < c → dz_b s' i = dz_b s i) (he0 : e0 < 2 ^ 31) (hw0 : w0 < 2 ^ 31) (hn : n < 2 ^ 31) (hr : nr < 2 ^ 31) :
    dz_prs (c + 1) (upd kd c k) (upd ag c (nI e0)) (upd iw c (nI w0)) (vp_updL sa c q) s' nr n ≤ dz_prs c kd ag iw sa s nr n + 1 := by
  refine Nat.le_trans (dz_c2_one (e0 := e0) (w0 := w0) (g := fun e w => decide (0 < dz_dot c kd ag iw sa s (nI e) (nI w))) (fun e w he hw h => ?_)) ?_
  · rcases dz_new hs (of_decide_eq_true h) with z | ⟨z1, z2, z3, z4⟩
    · exact Or.inl (decide_eq_true z)
    · refine Or.inr ⟨?_, ?_⟩
      · exact ((nI_eq he0 (by omega)).mp z2).symm
      · exact ((nI_eq hw0 (by omega)).mp z3).symm
  · unfold dz_prs
    split <;> omega
end
end
section
/-! X against the pure functions -/
section
variable {nr ne tc pc ec c : Nat} {kd ag iw ps : Nat → Int32} {sa rs : Nat → Int64} {gc : Nat → Int32} {ms : Nat → Int64} {mt pd : Nat → Int32}
theorem dz_xhas {post : Int32 → Prop} (s : Int64) {j : Nat} (hj : j < 64) (h1 : dz_b s j = true → post 1) (h0 : dz_b s j = false → post 0) : wpX_has post (nI nr, nI ne, nI tc, nI pc, nI ec, nI c, kd, ag, iw, ps, sa, rs, gc, ms, mt, pd) s (nI j) := by
  by_cases h : dz_b s j = false
  · exact br_t ((dz_has s hj).mpr h) (h0 h)
  · exact br_f (fun z => h ((dz_has s hj).mp z)) (h1 (by simpa using h))
theorem dz_xlive_l {post : Int32 → Prop} {s : Int64} {a : Nat} (ha : a < 64) (hc : c ≤ 64) (h1 : dz_ex (dz_kill kd ag sa s a) c = false → post 1) (h0 : dz_ex (dz_kill kd ag sa s a) c = true → post 0) :
    ∀ n i : Nat, i ≤ c → c < n + i → dz_ex (dz_kill kd ag sa s a) i = false → wX_liveAdd_31 post s (nI a) (ag a) (nI nr) (nI ne) (nI tc) (nI pc) (nI ec) (nI c) kd ag iw ps sa rs gc ms mt pd n (nI i) := by
  intro n
  induction n with
  | zero => intro i h2 h3; omega
  | succ n ih =>
    intro i hi hn he
    refine pk_le c i (fun hci => ?_) (fun hic => ?_)
    · have e : i = c := by omega
      rw [e] at he
      exact h1 he
    · have nx : dz_kill kd ag sa s a i = false → ∀ x, x = nI i + 1 → wX_liveAdd_31 post s (nI a) (ag a) (nI nr) (nI ne) (nI tc) (nI pc) (nI ec) (nI c) kd ag iw ps sa rs gc ms mt pd n x :=
        fun hk => nm_r (nI_1 i) (ih (i + 1) (by omega) (by omega) (dz_ex_n he hk))
      have cl : (nI i).toNatClampNeg = i := nI_clamp (by omega)
      have vi : vp_in (nI i) 64 := vp_in_nI (by omega) (by decide)
      refine dz_xhas s (by omega) (fun hb => ?_) (fun hb => ?_)
      · refine br_f (by decide) ⟨vi, ?_⟩
        rw [cl]
        by_cases hk : kd i = 1
        · refine br_t hk ⟨vi, ?_⟩
          by_cases hg : ag i = ag a
          · refine br_t hg ⟨vi, ?_⟩
            refine dz_xhas (sa i) ha (fun hq => ?_) (fun hq => ?_)
            · exact br_f (by decide) (h0 (dz_ex_t.mpr ⟨i, hic, by unfold dz_kill; rw [hb, decide_eq_true hk, decide_eq_true hg, hq]; rfl⟩))
            · exact br_t rfl (nx (by unfold dz_kill; rw [hq]; simp))
          · exact br_f hg (nx (by unfold dz_kill; simp [hg]))
        · exact br_f hk (nx (by unfold dz_kill; simp [hk]))
      · exact br_t rfl (nx (by unfold dz_kill; rw [hb]; rfl))
theorem dz_xlive {post : Int32 → Prop} {s : Int64} {a : Nat} (ha : a < 64) (hc : c ≤ 64) (h1 : dz_live c kd ag sa s a = true → post 1) (h0 : dz_live c kd ag sa s a = false → post 0) : wpX_liveAdd post (nI nr, nI ne, nI tc, nI pc, nI ec, nI c, kd, ag, iw, ps, sa, rs, gc, ms, mt, pd) s (nI a) := by
  have cl : (nI a).toNatClampNeg = a := nI_clamp (by omega)
  have va : vp_in (nI a) 64 := vp_in_nI (by omega) (by decide)
  unfold wpX_liveAdd
  dsimp only
  refine dz_xhas s ha (fun hb => ?_) (fun hb => ?_)
  · refine br_f (by decide) ⟨va, ?_⟩
    rw [cl]
    by_cases hk : kd a = 0
    · refine br_t hk ⟨va, nm_e ⟨c + 1, ?_⟩⟩
      exact dz_xlive_l ha hc (fun z => h1 (by unfold dz_live; rw [hb, decide_eq_true hk, z]; rfl)) (fun z => h0 (by unfold dz_live; rw [z]; simp)) (c + 1) 0 (by omega) (by omega) rfl
    · exact br_f hk (h0 (by unfold dz_live; simp [hk]))
  · exact br_t rfl (h0 (by unfold dz_live; rw [hb]; rfl))
theorem dz_xdot_l {post : Int32 → Prop} {s : Int64} {e w : Int32} (hc : c ≤ 64) (hP : ∀ i, i < c → ps i = nI (dz_ord iw (iw i) (i + 1))) (h : post (nI (dz_dot c kd ag iw sa s e w))) :
    ∀ n i : Nat, i ≤ c → c < n + i → wX_dotIn_6 post s e w (nI nr) (nI ne) (nI tc) (nI pc) (nI ec) (nI c) kd ag iw ps sa rs gc ms mt pd n (nI (dz_D c kd ag iw sa s e w i)) (nI i) := by
  intro n
  induction n with
  | zero => intro i h2 h3; omega
  | succ n ih =>
    intro i hi hn
    refine pk_le c i (fun hci => ?_) (fun hic => ?_)
    · have e : i = c := by omega
      rw [e]
      exact h
    · have nx : dz_g c kd ag iw sa s e w i = false → ∀ x, x = nI i + 1 → wX_dotIn_6 post s e w (nI nr) (nI ne) (nI tc) (nI pc) (nI ec) (nI c) kd ag iw ps sa rs gc ms mt pd n (nI (dz_D c kd ag iw sa s e w i)) x := by
        intro hk
        have z := ih (i + 1) (by omega) (by omega)
        rw [dz_D_f hk] at z
        exact nm_r (nI_1 i) z
      have cl : (nI i).toNatClampNeg = i := nI_clamp (by omega)
      have vi : vp_in (nI i) 64 := vp_in_nI (by omega) (by decide)
      refine ⟨vi, ?_⟩
      rw [cl]
      by_cases hk : kd i = 0
      · refine br_t hk ⟨vi, ?_⟩
        by_cases hg : ag i = e
        · refine br_t hg ⟨vi, ?_⟩
          by_cases hw : iw i = w
          · refine br_t hw (dz_xlive (by omega) hc (fun hl => ?_) (fun hl => ?_))
            · refine br_f (by decide) ⟨vi, ?_⟩
              have hD := dz_D_le (c := c) (kd := kd) (ag := ag) (iw := iw) (sa := sa) (s := s) (e := e) (w := w) i
              have ho := dz_ord_t hw
              have hoi := dz_ord_le iw w i
              have hp : ps i = nI (dz_ord iw w (i + 1)) := by rw [hP i hic, hw]
              rw [hp]
              refine br_f (nI_ge (by omega) (by omega)) ⟨vi, nm_e (nm_r (nI_1 i) ?_)⟩
              have z := ih (i + 1) (by omega) (by omega)
              rw [dz_D_t (dz_g_iff.mpr ⟨hw, hk, hg, hl⟩)] at z
              exact z
            · exact br_t rfl (nx (by unfold dz_g; rw [hl]; simp))
          · exact br_f hw (nx (by unfold dz_g; simp [hw]))
        · exact br_f hg (nx (by unfold dz_g; simp [hg]))
      · exact br_f hk (nx (by unfold dz_g; simp [hk]))
theorem dz_xdot {post : Int32 → Prop} {s : Int64} {e w : Int32} (hc : c ≤ 64) (hP : ∀ i, i < c → ps i = nI (dz_ord iw (iw i) (i + 1))) (h : post (nI (dz_dot c kd ag iw sa s e w))) : wpX_dotIn post (nI nr, nI ne, nI tc, nI pc, nI ec, nI c, kd, ag, iw, ps, sa, rs, gc, ms, mt, pd) s e w :=
  Exists.intro (c + 1) (dz_xdot_l hc hP h (c + 1) 0 (Nat.zero_le _) (by omega))
theorem dz_dot_le {s : Int64} {e w : Int32} : dz_dot c kd ag iw sa s e w ≤ c := Nat.le_trans (dz_D_le c) (dz_ord_le iw w c)
theorem dz_xpr_i {post : Int32 → Prop} {J : Int32 → Int32 → Prop} {s : Int64} {e t : Nat} (hc : c ≤ 64) (hP : ∀ i, i < c → ps i = nI (dz_ord iw (iw i) (i + 1))) (hr : nr ≤ 5)
    (h : J (nI (t + dz_cnt (fun w => decide (0 < dz_dot c kd ag iw sa s (nI e) (nI w))) nr)) (nI (e + 1))) :
    ∀ n w : Nat, w ≤ nr → nr < n + w → wX_pairsIn_17 post J s (nI e) (nI nr) (nI ne) (nI tc) (nI pc) (nI ec) (nI c) kd ag iw ps sa rs gc ms mt pd n (nI (t + dz_cnt (fun w => decide (0 < dz_dot c kd ag iw sa s (nI e) (nI w))) w)) (nI w) := by
  intro n
  induction n with
  | zero => intro i h2 h3; omega
  | succ n ih =>
    intro w hw hn
    refine pk_le nr w (fun hci => ?_) (fun hic => ?_)
    · have e : w = nr := by omega
      rw [e]
      exact nm_r (nI_1 _) h
    · refine dz_xdot hc hP ?_
      have hl := dz_dot_le (c := c) (kd := kd) (ag := ag) (iw := iw) (sa := sa) (s := s) (e := nI e) (w := nI w)
      have z := ih (w + 1) (by omega) (by omega)
      refine pk_le (dz_dot c kd ag iw sa s (nI e) (nI w)) 0 (fun h0 => ?_) (fun h0 => ?_)
      · rw [dz_cnt_f (f := fun w => decide (0 < dz_dot c kd ag iw sa s (nI e) (nI w))) (fun y => absurd (of_decide_eq_true y) (by omega))] at z
        exact nm_r (nI_1 _) z
      · rw [dz_cnt_t (f := fun w => decide (0 < dz_dot c kd ag iw sa s (nI e) (nI w))) (decide_eq_true h0), ← Nat.add_assoc] at z
        exact nm_r (nI_1 _) (nm_r (nI_1 _) z)
theorem dz_xpr_o {post : Int32 → Prop} {s : Int64} (hc : c ≤ 64) (hP : ∀ i, i < c → ps i = nI (dz_ord iw (iw i) (i + 1))) (hr : nr ≤ 5) (he : ne ≤ 5) (h : post (nI (dz_prs c kd ag iw sa s nr ne))) :
    ∀ n e : Nat, e ≤ ne → ne < n + e → wX_pairsIn_5 post s (nI nr) (nI ne) (nI tc) (nI pc) (nI ec) (nI c) kd ag iw ps sa rs gc ms mt pd n (nI (dz_prs c kd ag iw sa s nr e)) (nI e) := by
  intro n
  induction n with
  | zero => intro i h2 h3; omega
  | succ n ih =>
    intro e h2 hn
    refine pk_le ne e (fun hci => ?_) (fun hic => ?_)
    · have e1 : e = ne := by omega
      rw [e1]
      exact h
    · exact ⟨nr + 1, dz_xpr_i (t := dz_prs c kd ag iw sa s nr e) hc hP hr (ih (e + 1) (by omega) (by omega)) (nr + 1) 0 (Nat.zero_le _) (by omega)⟩
theorem dz_xpr {post : Int32 → Prop} {s : Int64} (hc : c ≤ 64) (hP : ∀ i, i < c → ps i = nI (dz_ord iw (iw i) (i + 1))) (hr : nr ≤ 5) (he : ne ≤ 5) (h : post (nI (dz_prs c kd ag iw sa s nr ne))) : wpX_pairsIn post (nI nr, nI ne, nI tc, nI pc, nI ec, nI c, kd, ag, iw, ps, sa, rs, gc, ms, mt, pd) s :=
  Exists.intro (ne + 1) (dz_xpr_o hc hP hr he h (ne + 1) 0 (Nat.zero_le _) (by omega))
theorem dz_xcnt_l {post : Int32 → Prop} {s : Int64} {w : Int32} (hc : c ≤ 64) (h : post (nI (dz_seen iw s w c))) :
    ∀ n i : Nat, i ≤ c → c < n + i → wX_countIn_6 post s w (nI nr) (nI ne) (nI tc) (nI pc) (nI ec) (nI c) kd ag iw ps sa rs gc ms mt pd n (nI (dz_seen iw s w i)) (nI i) := by
  intro n
  induction n with
  | zero => intro i h2 h3; omega
  | succ n ih =>
    intro i hi hn
    refine pk_le c i (fun hci => ?_) (fun hic => ?_)
    · have e : i = c := by omega
      rw [e]
      exact h
    · have z := ih (i + 1) (by omega) (by omega)
      have nx : ¬ (dz_b s i && decide (iw i = w)) = true → ∀ x, x = nI i + 1 → wX_countIn_6 post s w (nI nr) (nI ne) (nI tc) (nI pc) (nI ec) (nI c) kd ag iw ps sa rs gc ms mt pd n (nI (dz_seen iw s w i)) x := by
        intro hk
        unfold dz_seen at z ⊢
        rw [dz_cnt_f hk] at z
        exact nm_r (nI_1 i) z
      have cl : (nI i).toNatClampNeg = i := nI_clamp (by omega)
      have vi : vp_in (nI i) 64 := vp_in_nI (by omega) (by decide)
      refine dz_xhas s (by omega) (fun hb => ?_) (fun hb => ?_)
      · refine br_f (by decide) ⟨vi, ?_⟩
        rw [cl]
        by_cases hw : iw i = w
        · refine br_t hw (nm_r (nI_1 _) (nm_r (nI_1 _) ?_))
          unfold dz_seen at z ⊢
          rw [dz_cnt_t (by rw [hb, decide_eq_true hw]; rfl)] at z
          exact z
        · exact br_f hw (nx (by simp [hw]))
      · exact br_t rfl (nx (by simp [hb]))
theorem dz_xcnt {post : Int32 → Prop} {s : Int64} {w : Int32} (hc : c ≤ 64) (h : post (nI (dz_seen iw s w c))) : wpX_countIn post (nI nr, nI ne, nI tc, nI pc, nI ec, nI c, kd, ag, iw, ps, sa, rs, gc, ms, mt, pd) s w :=
  Exists.intro (c + 1) (dz_xcnt_l hc h (c + 1) 0 (Nat.zero_le _) (by omega))
theorem dz_xsum_l {post : Int32 → Prop} {s : Int64} {w k : Int32} (hc : c ≤ 64) (h : post (dz_tot kd ag iw s w k c)) :
    ∀ n i : Nat, i ≤ c → c < n + i → wX_sumIn_6 post s w k (nI nr) (nI ne) (nI tc) (nI pc) (nI ec) (nI c) kd ag iw ps sa rs gc ms mt pd n (dz_tot kd ag iw s w k i) (nI i) := by
  intro n
  induction n with
  | zero => intro i h2 h3; omega
  | succ n ih =>
    intro i hi hn
    refine pk_le c i (fun hci => ?_) (fun hic => ?_)
    · have e : i = c := by omega
      rw [e]
      exact h
    · have z := ih (i + 1) (by omega) (by omega)
      have nx : ¬ (dz_b s i && (decide (iw i = w) && decide (kd i = k))) = true → ∀ x, x = nI i + 1 → wX_sumIn_6 post s w k (nI nr) (nI ne) (nI tc) (nI pc) (nI ec) (nI c) kd ag iw ps sa rs gc ms mt pd n (dz_tot kd ag iw s w k i) x := by
        intro hk
        unfold dz_tot at z ⊢
        rw [dz_sum, if_neg hk] at z
        exact nm_r (nI_1 i) z
      have cl : (nI i).toNatClampNeg = i := nI_clamp (by omega)
      have vi : vp_in (nI i) 64 := vp_in_nI (by omega) (by decide)
      refine dz_xhas s (by omega) (fun hb => ?_) (fun hb => ?_)
      · refine br_f (by decide) ⟨vi, ?_⟩
        rw [cl]
        by_cases hw : iw i = w
        · refine br_t hw ⟨vi, ?_⟩
          by_cases hk : kd i = k
          · refine br_t hk ⟨vi, nm_e (nm_r (nI_1 _) ?_)⟩
            unfold dz_tot at z ⊢
            rw [dz_sum, if_pos (by rw [hb, decide_eq_true hw, decide_eq_true hk]; rfl)] at z
            exact z
          · exact br_f hk (nx (by simp [hk]))
        · exact br_f hw (nx (by simp [hw]))
      · exact br_t rfl (nx (by simp [hb]))
theorem dz_xsum {post : Int32 → Prop} {s : Int64} {w k : Int32} (hc : c ≤ 64) (h : post (dz_tot kd ag iw s w k c)) : wpX_sumIn post (nI nr, nI ne, nI tc, nI pc, nI ec, nI c, kd, ag, iw, ps, sa, rs, gc, ms, mt, pd) s w k :=
  Exists.intro (c + 1) (dz_xsum_l hc h (c + 1) 0 (Nat.zero_le _) (by omega))
theorem dz_xval_l {post : Int32 → Prop} {s : Int64} (hc : c ≤ 64) (h : post (dz_val kd ag s c)) :
    ∀ n i : Nat, i ≤ c → c < n + i → wX_value_23 post s (nI nr) (nI ne) (nI tc) (nI pc) (nI ec) (nI c) kd ag iw ps sa rs gc ms mt pd n (dz_val kd ag s i) (nI i) := by
  intro n
  induction n with
  | zero => intro i h2 h3; omega
  | succ n ih =>
    intro i hi hn
    refine pk_le c i (fun hci => ?_) (fun hic => ?_)
    · have e : i = c := by omega
      rw [e]
      exact h
    · have z := ih (i + 1) (by omega) (by omega)
      rw [dz_val] at z
      have cl : (nI i).toNatClampNeg = i := nI_clamp (by omega)
      have vi : vp_in (nI i) 64 := vp_in_nI (by omega) (by decide)
      refine dz_xhas s (by omega) (fun hb => ?_) (fun hb => ?_)
      · rw [if_pos hb] at z
        refine br_f (by decide) ⟨vi, ?_⟩
        rw [cl]
        by_cases h2 : kd i = 2
        · rw [if_pos h2] at z
          exact br_t h2 ⟨vi, nm_e (nm_r (nI_1 _) z)⟩
        · rw [if_neg h2] at z
          refine br_f h2 ⟨vi, ?_⟩
          by_cases h3 : kd i = 3
          · rw [if_pos h3] at z
            exact br_t h3 ⟨vi, nm_e (nm_r (nI_1 _) z)⟩
          · rw [if_neg h3] at z
            exact br_f h3 (nm_r (nI_1 _) z)
      · rw [if_neg (by simp [hb])] at z
        exact br_t rfl (nm_r (nI_1 _) z)
theorem dz_xcon_l {post : Int32 → Prop} {r : Nat} {e : Int32} (hc : c ≤ 64) (hP : ∀ i, i < c → ps i = nI (dz_ord iw (iw i) (i + 1))) (hr : nr ≤ 5) (hrr : r < nr)
    (h1 : dz_con c kd ag iw sa (rs r) nr e = true → post 1) (h0 : dz_con c kd ag iw sa (rs r) nr e = false → post 0) :
    ∀ n w : Nat, w ≤ nr → nr < n + w → dz_con c kd ag iw sa (rs r) w e = false → wX_contains_20 post (nI r) e (nI nr) (nI ne) (nI tc) (nI pc) (nI ec) (nI c) kd ag iw ps sa rs gc ms mt pd n (nI w) := by
  intro n
  induction n with
  | zero => intro i h2 h3; omega
  | succ n ih =>
    intro w hw hn hx
    refine pk_le nr w (fun hci => ?_) (fun hic => ?_)
    · have e : w = nr := by omega
      rw [e] at hx
      exact h0 hx
    · refine ⟨vp_in_nI (by omega) (by decide), ?_⟩
      rw [nI_clamp (n := r) (by omega)]
      refine dz_xdot hc hP ?_
      have hl := dz_dot_le (c := c) (kd := kd) (ag := ag) (iw := iw) (sa := sa) (s := rs r) (e := e) (w := nI w)
      refine pk_le (dz_dot c kd ag iw sa (rs r) e (nI w)) 0 (fun z => ?_) (fun z => ?_)
      · exact nm_r (nI_1 _) (ih (w + 1) (by omega) (by omega) (dz_ex_n hx (decide_eq_false (by omega))))
      · exact h1 (dz_ex_t.mpr ⟨w, hic, decide_eq_true z⟩)
theorem dz_xfree1 {post : Int32 → Prop} {i : Nat} (hp : pc ≤ 6) (hi : i < pc) (hf : pd i = 0) (hb : ∀ j, j < i → ¬ pd j = 0) (h : post (nI i)) : wpX_freeSlot post (nI nr, nI ne, nI tc, nI pc, nI ec, nI c, kd, ag, iw, ps, sa, rs, gc, ms, mt, pd) := by
  have L : ∀ n j : Nat, j ≤ i → i < n + j → wX_freeSlot_2 post (nI nr) (nI ne) (nI tc) (nI pc) (nI ec) (nI c) kd ag iw ps sa rs gc ms mt pd n (nI j) := by
    intro n
    induction n with
    | zero => intro i h2 h3; omega
    | succ n ih =>
      intro j hj hn
      refine br_f (nI_ge (by omega) (by omega)) ⟨vp_in_nI (by omega) (by decide), ?_⟩
      rw [nI_clamp (n := j) (by omega)]
      rcases Nat.lt_or_ge j i with z | z
      · exact br_f (hb j z) (nm_r (nI_1 _) (ih (j + 1) (by omega) (by omega)))
      · have e : j = i := by omega
        subst e
        exact br_t hf h
  exact Exists.intro (i + 1) (L (i + 1) 0 (Nat.zero_le _) (by omega))
theorem dz_xfree0 {post : Int32 → Prop} (hp : pc ≤ 6) (hb : ∀ j, j < pc → ¬ pd j = 0) (h : post (-1)) : wpX_freeSlot post (nI nr, nI ne, nI tc, nI pc, nI ec, nI c, kd, ag, iw, ps, sa, rs, gc, ms, mt, pd) := by
  have L : ∀ n j : Nat, j ≤ pc → pc < n + j → wX_freeSlot_2 post (nI nr) (nI ne) (nI tc) (nI pc) (nI ec) (nI c) kd ag iw ps sa rs gc ms mt pd n (nI j) := by
    intro n
    induction n with
    | zero => intro i h2 h3; omega
    | succ n ih =>
      intro j hj hn
      refine pk_le pc j (fun z => h) (fun z => ⟨vp_in_nI (by omega) (by decide), ?_⟩)
      rw [nI_clamp (n := j) (by omega)]
      exact br_f (hb j z) (nm_r (nI_1 _) (ih (j + 1) (by omega) (by omega)))
  exact Exists.intro (pc + 1) (L (pc + 1) 0 (Nat.zero_le _) (by omega))
theorem dz_xpool {post : Int32 → Prop} (hp : pc ≤ 6) (h : post (nI (dz_cnt (fun j => !decide (pd j = 0)) pc))) : wpX_pooled post (nI nr, nI ne, nI tc, nI pc, nI ec, nI c, kd, ag, iw, ps, sa, rs, gc, ms, mt, pd) := by
  have L : ∀ n j : Nat, j ≤ pc → pc < n + j → wX_pooled_4 post (nI nr) (nI ne) (nI tc) (nI pc) (nI ec) (nI c) kd ag iw ps sa rs gc ms mt pd n (nI (dz_cnt (fun j => !decide (pd j = 0)) j)) (nI j) := by
    intro n
    induction n with
    | zero => intro i h2 h3; omega
    | succ n ih =>
      intro j hj hn
      refine pk_le pc j (fun z => ?_) (fun z => ⟨vp_in_nI (by omega) (by decide), ?_⟩)
      · have e : j = pc := by omega
        rw [e]
        exact h
      · rw [nI_clamp (n := j) (by omega)]
        have y := ih (j + 1) (by omega) (by omega)
        by_cases hz : pd j = 0
        · rw [dz_cnt_f (f := fun j => !decide (pd j = 0)) (by simp [hz])] at y
          exact br_t hz (nm_r (nI_1 _) y)
        · rw [dz_cnt_t (f := fun j => !decide (pd j = 0)) (by simp [hz])] at y
          exact br_f hz (nm_r (nI_1 _) (nm_r (nI_1 _) y))
  exact Exists.intro (pc + 1) (L (pc + 1) 0 (Nat.zero_le _) (by omega))
/-! checks of arguments -/
theorem dz_xrep1 {post : Int32 → Prop} {j : Nat} (hj : j < nr) (hr : nr ≤ 5) (h : post 1) : wpX_repOk post (nI nr, nI ne, nI tc, nI pc, nI ec, nI c, kd, ag, iw, ps, sa, rs, gc, ms, mt, pd) (nI j) :=
  br_f (nI_pos (by omega)) (br_f (nI_ge hj (by omega)) h)
theorem dz_xrep0 {post : Int32 → Prop} {v : Int32} (hv : v < 0 ∨ nI nr ≤ v) (h : post 0) : wpX_repOk post (nI nr, nI ne, nI tc, nI pc, nI ec, nI c, kd, ag, iw, ps, sa, rs, gc, ms, mt, pd) v := by
  by_cases z : v < 0
  · exact br_t z h
  · exact br_f z (br_t (hv.resolve_left z) h)
theorem dz_xelm1 {post : Int32 → Prop} {j : Nat} (hj : j < ne) (hr : ne ≤ 5) (h : post 1) : wpX_elemOk post (nI nr, nI ne, nI tc, nI pc, nI ec, nI c, kd, ag, iw, ps, sa, rs, gc, ms, mt, pd) (nI j) :=
  br_f (nI_pos (by omega)) (br_f (nI_ge hj (by omega)) h)
theorem dz_xelm0 {post : Int32 → Prop} {v : Int32} (hv : v < 0 ∨ nI ne ≤ v) (h : post 0) : wpX_elemOk post (nI nr, nI ne, nI tc, nI pc, nI ec, nI c, kd, ag, iw, ps, sa, rs, gc, ms, mt, pd) v := by
  by_cases z : v < 0
  · exact br_t z h
  · exact br_f z (br_t (hv.resolve_left z) h)
theorem dz_xmsg1 {post : Int32 → Prop} {j : Nat} (hj : j < pc) (hr : pc ≤ 6) (hp : ¬ pd j = 0) (h : post 1) : wpX_msgOk post (nI nr, nI ne, nI tc, nI pc, nI ec, nI c, kd, ag, iw, ps, sa, rs, gc, ms, mt, pd) (nI j) := by
  refine br_f (nI_pos (by omega)) (br_f (nI_ge hj (by omega)) ⟨vp_in_nI (by omega) (by decide), ?_⟩)
  rw [nI_clamp (n := j) (by omega)]
  exact br_f hp h
theorem dz_xmsg0 {post : Int32 → Prop} {v : Int32} (hr : pc ≤ 6) (hv : v < 0 ∨ nI pc ≤ v ∨ ∃ j, j < pc ∧ v = nI j ∧ pd j = 0) (h : post 0) : wpX_msgOk post (nI nr, nI ne, nI tc, nI pc, nI ec, nI c, kd, ag, iw, ps, sa, rs, gc, ms, mt, pd) v := by
  by_cases z : v < 0
  · exact br_t z h
  · by_cases z2 : nI pc ≤ v
    · exact br_f z (br_t z2 h)
    · obtain ⟨j, hj, rfl, hp⟩ := (hv.resolve_left z).resolve_left z2
      refine br_f z (br_f z2 ⟨vp_in_nI (by omega) (by decide), ?_⟩)
      rw [nI_clamp (n := j) (by omega)]
      exact br_t hp h
/-! a new event -/
theorem dz_xissue {post : SX → Prop} {r : Nat} {k a : Int32} (hc : c < 64) (hr : r < 5)
    (h : post (nI nr, nI ne, nI tc, nI pc, nI ec, nI (c + 1), upd kd c k, upd ag c a, upd iw c (nI r), upd ps c (gc r + 1), vp_updL sa c (rs r), vp_updL rs r ((rs r) ||| ((1 : Int64) <<< ((nI c).toInt64 &&& 63))), upd gc r (gc r + 1), ms, mt, pd)) :
    wpX_issue post (nI nr, nI ne, nI tc, nI pc, nI ec, nI c, kd, ag, iw, ps, sa, rs, gc, ms, mt, pd) (nI r) k a := by
  have cl : (nI c).toNatClampNeg = c := nI_clamp (by omega)
  have cr : (nI r).toNatClampNeg = r := nI_clamp (by omega)
  have vc : vp_in (nI c) 64 := vp_in_nI (by omega) (by decide)
  have vr : vp_in (nI r) 5 := vp_in_nI (by omega) (by decide)
  unfold wpX_issue
  dsimp only
  rw [cl, cr]
  refine ⟨vc, nm_e ⟨vc, nm_e ⟨vc, nm_e ⟨vr, vr, nm_e ⟨vr, vc, nm_r (e' := upd ps c (gc r + 1)) ?_ ⟨vr, vc, nm_e ⟨vr, vr, nm_e (nm_r (nI_1 c) h)⟩⟩⟩⟩⟩⟩⟩
  rw [pk_us]
end
end
section
/-! Y against the same pure functions -/
def dz_YH (c ec : Nat) (kd ag : Nat → Int32) (sa : Nat → Int64) (el hs : Nat → Int32) : Prop :=
  c ≤ ec ∧ ec ≤ 64 ∧ (∀ i, i < c → kd i = 0 ∨ kd i = 1 → el i = ag i) ∧ (∀ i j, i < c → j < ec → (hs (i * ec + j) = 1 ↔ dz_b (sa i) j = true))
def dz_rows (row : Nat → Int32) (b c : Nat) (s : Int64) : Prop := ∀ j, j < c → (row (b + j) = 1 ↔ dz_b s j = true)
section
variable {nr ne tc pc ec c : Nat} {kd ag iw ps : Nat → Int32} {sa rs : Nat → Int64} {gc : Nat → Int32} {ms : Nat → Int64} {mt pd : Nat → Int32} {el am hs ry mr mu my sc : Nat → Int32}
theorem dz_ylive_l_repSeen {post : Int32 → Prop} {s : Int64} {a b : Nat} (H : dz_YH c ec kd ag sa el hs) (hrow : dz_rows ry b c s) (hb : b + c ≤ 320) (ha : a < c) (hka : kd a = 0)
    (h1 : dz_ex (dz_kill kd ag sa s a) c = false → post 1) (h0 : dz_ex (dz_kill kd ag sa s a) c = true → post 0) :
    ∀ n i : Nat, i ≤ c → c < n + i → dz_ex (dz_kill kd ag sa s a) i = false → wY_live__repSeen_23 post (nI b) (nI a) (nI nr) (nI ne) (nI tc) (nI pc) (nI ec) (nI c) kd el am iw hs ry mr mu my sc n (nI i) := by
  obtain ⟨H1, H2, H3, H4⟩ := H
  intro n
  induction n with
  | zero => intro i h2 h3; omega
  | succ n ih =>
    intro i hi hn he
    refine pk_le c i (fun hci => ?_) (fun hic => ?_)
    · have e : i = c := by omega
      rw [e] at he
      exact h1 he
    · have nx : dz_kill kd ag sa s a i = false → ∀ x, x = nI i + 1 → wY_live__repSeen_23 post (nI b) (nI a) (nI nr) (nI ne) (nI tc) (nI pc) (nI ec) (nI c) kd el am iw hs ry mr mu my sc n x :=
        fun hk => nm_r (nI_1 i) (ih (i + 1) (by omega) (by omega) (dz_ex_n he hk))
      have hx : i * ec + a < 64 * 64 := dz_ix (by omega) (by omega) H2
      have vi : vp_in (nI i) 64 := vp_in_nI (by omega) (by decide)
      have va : vp_in (nI a) 64 := vp_in_nI (by omega) (by decide)
      rw [nI_add b i, dz_mi i ec a, nI_clamp (n := b + i) (by omega), nI_clamp (n := i) (by omega), nI_clamp (n := a) (by omega), nI_clamp (n := i * ec + a) (by omega)]
      refine ⟨vp_in_nI (by omega) (by decide), ?_⟩
      by_cases hr : ry (b + i) = 1
      · refine br_t hr ⟨vi, ?_⟩
        have hs' := (hrow i hic).mp hr
        by_cases hk : kd i = 1
        · refine br_t hk ⟨vi, va, ?_⟩
          rw [H3 i hic (Or.inr hk), H3 a ha (Or.inl hka)]
          by_cases hg : ag i = ag a
          · refine br_t hg ⟨vp_in_nI (by omega) (by decide), ?_⟩
            by_cases hq : hs (i * ec + a) = 1
            · exact br_t hq (h0 (dz_ex_t.mpr ⟨i, hic, by unfold dz_kill; rw [hs', decide_eq_true hk, decide_eq_true hg, (H4 i a hic (by omega)).mp hq]; rfl⟩))
            · have hq' : dz_b (sa i) a = false := Bool.eq_false_iff.mpr (fun z => hq ((H4 i a hic (by omega)).mpr z))
              exact br_f hq (nx (by unfold dz_kill; rw [hq']; simp))
          · exact br_f hg (nx (by unfold dz_kill; simp [hg]))
        · exact br_f hk (nx (by unfold dz_kill; simp [hk]))
      · have hs' : dz_b s i = false := Bool.eq_false_iff.mpr (fun z => hr ((hrow i hic).mpr z))
        exact br_f hr (nx (by unfold dz_kill; rw [hs']; rfl))
theorem dz_ylive_repSeen {post : Int32 → Prop} {s : Int64} {a b : Nat} (H : dz_YH c ec kd ag sa el hs) (hrow : dz_rows ry b c s) (hb : b + c ≤ 320) (ha : a < c)
    (h1 : dz_live c kd ag sa s a = true → post 1) (h0 : dz_live c kd ag sa s a = false → post 0) : wpY_live__repSeen post (nI nr, nI ne, nI tc, nI pc, nI ec, nI c, kd, el, am, iw, hs, ry, mr, mu, my, sc) (nI b) (nI a) := by
  have H1 := H.1
  have H2 := H.2.1
  unfold wpY_live__repSeen
  dsimp only
  rw [nI_add b a, nI_clamp (n := b + a) (by omega), nI_clamp (n := a) (by omega)]
  refine ⟨vp_in_nI (by omega) (by decide), ?_⟩
  by_cases hr : ry (b + a) = 1
  · refine br_t hr ⟨vp_in_nI (by omega) (by decide), ?_⟩
    have hs' := (hrow a ha).mp hr
    by_cases hk : kd a = 0
    · refine br_t hk ⟨c + 1, ?_⟩
      exact dz_ylive_l_repSeen H hrow hb ha hk (fun z => h1 (by unfold dz_live; rw [hs', decide_eq_true hk, z]; rfl)) (fun z => h0 (by unfold dz_live; rw [z]; simp)) (c + 1) 0 (by omega) (by omega) rfl
    · exact br_f hk (h0 (by unfold dz_live; simp [hk]))
  · have hs' : dz_b s a = false := Bool.eq_false_iff.mpr (fun z => hr ((hrow a ha).mpr z))
    exact br_f hr (h0 (by unfold dz_live; rw [hs']; rfl))
theorem dz_ydot_l_repSeen {post : Int32 → Prop} {s : Int64} {b : Nat} {e w : Int32} (H : dz_YH c ec kd ag sa el hs) (hrow : dz_rows ry b c s) (hb : b + c ≤ 320) (h : post (nI (dz_dot c kd ag iw sa s e w))) :
    ∀ n i : Nat, i ≤ c → c < n + i → wY_dot__repSeen_9 post (nI b) e w (nI nr) (nI ne) (nI tc) (nI pc) (nI ec) (nI c) kd el am iw hs ry mr mu my sc n (nI (dz_D c kd ag iw sa s e w i)) (nI (dz_ord iw w i)) (nI i) := by
  have H1 := H.1
  have H2 := H.2.1
  have H3 := H.2.2.1
  intro n
  induction n with
  | zero => intro i h2 h3; omega
  | succ n ih =>
    intro i hi hn
    refine pk_le c i (fun hci => ?_) (fun hic => ?_)
    · have e : i = c := by omega
      rw [e]
      exact h
    · have z := ih (i + 1) (by omega) (by omega)
      have vi : vp_in (nI i) 64 := vp_in_nI (by omega) (by decide)
      refine ⟨vi, ?_⟩
      rw [nI_clamp (n := i) (by omega)]
      by_cases hw : iw i = w
      · rw [dz_ord_t hw] at z
        refine br_t hw (nm_r (nI_1 _) ⟨vi, ?_⟩)
        have nx : dz_g c kd ag iw sa s e w i = false → ∀ x, x = nI i + 1 → wY_dot__repSeen_9 post (nI b) e w (nI nr) (nI ne) (nI tc) (nI pc) (nI ec) (nI c) kd el am iw hs ry mr mu my sc n (nI (dz_D c kd ag iw sa s e w i)) (nI (dz_ord iw w i + 1)) x := by
          intro hk
          rw [dz_D_f hk] at z
          exact nm_r (nI_1 i) z
        by_cases hk : kd i = 0
        · refine br_t hk ⟨vi, ?_⟩
          rw [H3 i hic (Or.inl hk)]
          by_cases hg : ag i = e
          · refine br_t hg (dz_ylive_repSeen H hrow hb hic (fun hl => ?_) (fun hl => ?_))
            · rw [dz_D_t (dz_g_iff.mpr ⟨hw, hk, hg, hl⟩), dz_ord_t hw] at z
              exact br_f (by decide) (nm_r (nI_1 i) z)
            · exact br_t rfl (nx (by unfold dz_g; rw [hl]; simp))
          · exact br_f hg (nx (by unfold dz_g; simp [hg]))
        · exact br_f hk (nx (by unfold dz_g; simp [hk]))
      · rw [dz_ord_f hw, dz_D_f (by unfold dz_g; simp [hw])] at z
        exact br_f hw (nm_r (nI_1 i) z)
theorem dz_ydot_repSeen {post : Int32 → Prop} {s : Int64} {b : Nat} {e w : Int32} (H : dz_YH c ec kd ag sa el hs) (hrow : dz_rows ry b c s) (hb : b + c ≤ 320) (h : post (nI (dz_dot c kd ag iw sa s e w))) : wpY_dot__repSeen post (nI nr, nI ne, nI tc, nI pc, nI ec, nI c, kd, el, am, iw, hs, ry, mr, mu, my, sc) (nI b) e w :=
  Exists.intro (c + 1) (dz_ydot_l_repSeen H hrow hb h (c + 1) 0 (Nat.zero_le _) (by omega))
theorem dz_ylive_l_scratch {post : Int32 → Prop} {s : Int64} {a b : Nat} (H : dz_YH c ec kd ag sa el hs) (hrow : dz_rows sc b c s) (hb : b + c ≤ 64) (ha : a < c) (hka : kd a = 0)
    (h1 : dz_ex (dz_kill kd ag sa s a) c = false → post 1) (h0 : dz_ex (dz_kill kd ag sa s a) c = true → post 0) :
    ∀ n i : Nat, i ≤ c → c < n + i → dz_ex (dz_kill kd ag sa s a) i = false → wY_live__scratch_23 post (nI b) (nI a) (nI nr) (nI ne) (nI tc) (nI pc) (nI ec) (nI c) kd el am iw hs ry mr mu my sc n (nI i) := by
  obtain ⟨H1, H2, H3, H4⟩ := H
  intro n
  induction n with
  | zero => intro i h2 h3; omega
  | succ n ih =>
    intro i hi hn he
    refine pk_le c i (fun hci => ?_) (fun hic => ?_)
    · have e : i = c := by omega
      rw [e] at he
      exact h1 he
    · have nx : dz_kill kd ag sa s a i = false → ∀ x, x = nI i + 1 → wY_live__scratch_23 post (nI b) (nI a) (nI nr) (nI ne) (nI tc) (nI pc) (nI ec) (nI c) kd el am iw hs ry mr mu my sc n x :=
        fun hk => nm_r (nI_1 i) (ih (i + 1) (by omega) (by omega) (dz_ex_n he hk))
      have hx : i * ec + a < 64 * 64 := dz_ix (by omega) (by omega) H2
      have vi : vp_in (nI i) 64 := vp_in_nI (by omega) (by decide)
      have va : vp_in (nI a) 64 := vp_in_nI (by omega) (by decide)
      rw [nI_add b i, dz_mi i ec a, nI_clamp (n := b + i) (by omega), nI_clamp (n := i) (by omega), nI_clamp (n := a) (by omega), nI_clamp (n := i * ec + a) (by omega)]
      refine ⟨vp_in_nI (by omega) (by decide), ?_⟩
      by_cases hr : sc (b + i) = 1
      · refine br_t hr ⟨vi, ?_⟩
        have hs' := (hrow i hic).mp hr
        by_cases hk : kd i = 1
        · refine br_t hk ⟨vi, va, ?_⟩
          rw [H3 i hic (Or.inr hk), H3 a ha (Or.inl hka)]
          by_cases hg : ag i = ag a
          · refine br_t hg ⟨vp_in_nI (by omega) (by decide), ?_⟩
            by_cases hq : hs (i * ec + a) = 1
            · exact br_t hq (h0 (dz_ex_t.mpr ⟨i, hic, by unfold dz_kill; rw [hs', decide_eq_true hk, decide_eq_true hg, (H4 i a hic (by omega)).mp hq]; rfl⟩))
            · have hq' : dz_b (sa i) a = false := Bool.eq_false_iff.mpr (fun z => hq ((H4 i a hic (by omega)).mpr z))
              exact br_f hq (nx (by unfold dz_kill; rw [hq']; simp))
          · exact br_f hg (nx (by unfold dz_kill; simp [hg]))
        · exact br_f hk (nx (by unfold dz_kill; simp [hk]))
      · have hs' : dz_b s i = false := Bool.eq_false_iff.mpr (fun z => hr ((hrow i hic).mpr z))
        exact br_f hr (nx (by unfold dz_kill; rw [hs']; rfl))
theorem dz_ylive_scratch {post : Int32 → Prop} {s : Int64} {a b : Nat} (H : dz_YH c ec kd ag sa el hs) (hrow : dz_rows sc b c s) (hb : b + c ≤ 64) (ha : a < c)
    (h1 : dz_live c kd ag sa s a = true → post 1) (h0 : dz_live c kd ag sa s a = false → post 0) : wpY_live__scratch post (nI nr, nI ne, nI tc, nI pc, nI ec, nI c, kd, el, am, iw, hs, ry, mr, mu, my, sc) (nI b) (nI a) := by
  have H1 := H.1
  have H2 := H.2.1
  unfold wpY_live__scratch
  dsimp only
  rw [nI_add b a, nI_clamp (n := b + a) (by omega), nI_clamp (n := a) (by omega)]
  refine ⟨vp_in_nI (by omega) (by decide), ?_⟩
  by_cases hr : sc (b + a) = 1
  · refine br_t hr ⟨vp_in_nI (by omega) (by decide), ?_⟩
    have hs' := (hrow a ha).mp hr
    by_cases hk : kd a = 0
    · refine br_t hk ⟨c + 1, ?_⟩
      exact dz_ylive_l_scratch H hrow hb ha hk (fun z => h1 (by unfold dz_live; rw [hs', decide_eq_true hk, z]; rfl)) (fun z => h0 (by unfold dz_live; rw [z]; simp)) (c + 1) 0 (by omega) (by omega) rfl
    · exact br_f hk (h0 (by unfold dz_live; simp [hk]))
  · have hs' : dz_b s a = false := Bool.eq_false_iff.mpr (fun z => hr ((hrow a ha).mpr z))
    exact br_f hr (h0 (by unfold dz_live; rw [hs']; rfl))
theorem dz_ydot_l_scratch {post : Int32 → Prop} {s : Int64} {b : Nat} {e w : Int32} (H : dz_YH c ec kd ag sa el hs) (hrow : dz_rows sc b c s) (hb : b + c ≤ 64) (h : post (nI (dz_dot c kd ag iw sa s e w))) :
    ∀ n i : Nat, i ≤ c → c < n + i → wY_dot__scratch_9 post (nI b) e w (nI nr) (nI ne) (nI tc) (nI pc) (nI ec) (nI c) kd el am iw hs ry mr mu my sc n (nI (dz_D c kd ag iw sa s e w i)) (nI (dz_ord iw w i)) (nI i) := by
  have H1 := H.1
  have H2 := H.2.1
  have H3 := H.2.2.1
  intro n
  induction n with
  | zero => intro i h2 h3; omega
  | succ n ih =>
    intro i hi hn
    refine pk_le c i (fun hci => ?_) (fun hic => ?_)
    · have e : i = c := by omega
      rw [e]
      exact h
    · have z := ih (i + 1) (by omega) (by omega)
      have vi : vp_in (nI i) 64 := vp_in_nI (by omega) (by decide)
      refine ⟨vi, ?_⟩
      rw [nI_clamp (n := i) (by omega)]
      by_cases hw : iw i = w
      · rw [dz_ord_t hw] at z
        refine br_t hw (nm_r (nI_1 _) ⟨vi, ?_⟩)
        have nx : dz_g c kd ag iw sa s e w i = false → ∀ x, x = nI i + 1 → wY_dot__scratch_9 post (nI b) e w (nI nr) (nI ne) (nI tc) (nI pc) (nI ec) (nI c) kd el am iw hs ry mr mu my sc n (nI (dz_D c kd ag iw sa s e w i)) (nI (dz_ord iw w i + 1)) x := by
          intro hk
          rw [dz_D_f hk] at z
          exact nm_r (nI_1 i) z
        by_cases hk : kd i = 0
        · refine br_t hk ⟨vi, ?_⟩
          rw [H3 i hic (Or.inl hk)]
          by_cases hg : ag i = e
          · refine br_t hg (dz_ylive_scratch H hrow hb hic (fun hl => ?_) (fun hl => ?_))
            · rw [dz_D_t (dz_g_iff.mpr ⟨hw, hk, hg, hl⟩), dz_ord_t hw] at z
              exact br_f (by decide) (nm_r (nI_1 i) z)
            · exact br_t rfl (nx (by unfold dz_g; rw [hl]; simp))
          · exact br_f hg (nx (by unfold dz_g; simp [hg]))
        · exact br_f hk (nx (by unfold dz_g; simp [hk]))
      · rw [dz_ord_f hw, dz_D_f (by unfold dz_g; simp [hw])] at z
        exact br_f hw (nm_r (nI_1 i) z)
theorem dz_ydot_scratch {post : Int32 → Prop} {s : Int64} {b : Nat} {e w : Int32} (H : dz_YH c ec kd ag sa el hs) (hrow : dz_rows sc b c s) (hb : b + c ≤ 64) (h : post (nI (dz_dot c kd ag iw sa s e w))) : wpY_dot__scratch post (nI nr, nI ne, nI tc, nI pc, nI ec, nI c, kd, el, am, iw, hs, ry, mr, mu, my, sc) (nI b) e w :=
  Exists.intro (c + 1) (dz_ydot_l_scratch H hrow hb h (c + 1) 0 (Nat.zero_le _) (by omega))
theorem dz_ylive_l_msgRow {post : Int32 → Prop} {s : Int64} {a b : Nat} (H : dz_YH c ec kd ag sa el hs) (hrow : dz_rows mr b c s) (hb : b + c ≤ 384) (ha : a < c) (hka : kd a = 0)
    (h1 : dz_ex (dz_kill kd ag sa s a) c = false → post 1) (h0 : dz_ex (dz_kill kd ag sa s a) c = true → post 0) :
    ∀ n i : Nat, i ≤ c → c < n + i → dz_ex (dz_kill kd ag sa s a) i = false → wY_live__msgRow_23 post (nI b) (nI a) (nI nr) (nI ne) (nI tc) (nI pc) (nI ec) (nI c) kd el am iw hs ry mr mu my sc n (nI i) := by
  obtain ⟨H1, H2, H3, H4⟩ := H
  intro n
  induction n with
  | zero => intro i h2 h3; omega
  | succ n ih =>
    intro i hi hn he
    refine pk_le c i (fun hci => ?_) (fun hic => ?_)
    · have e : i = c := by omega
      rw [e] at he
      exact h1 he
    · have nx : dz_kill kd ag sa s a i = false → ∀ x, x = nI i + 1 → wY_live__msgRow_23 post (nI b) (nI a) (nI nr) (nI ne) (nI tc) (nI pc) (nI ec) (nI c) kd el am iw hs ry mr mu my sc n x :=
        fun hk => nm_r (nI_1 i) (ih (i + 1) (by omega) (by omega) (dz_ex_n he hk))
      have hx : i * ec + a < 64 * 64 := dz_ix (by omega) (by omega) H2
      have vi : vp_in (nI i) 64 := vp_in_nI (by omega) (by decide)
      have va : vp_in (nI a) 64 := vp_in_nI (by omega) (by decide)
      rw [nI_add b i, dz_mi i ec a, nI_clamp (n := b + i) (by omega), nI_clamp (n := i) (by omega), nI_clamp (n := a) (by omega), nI_clamp (n := i * ec + a) (by omega)]
      refine ⟨vp_in_nI (by omega) (by decide), ?_⟩
      by_cases hr : mr (b + i) = 1
      · refine br_t hr ⟨vi, ?_⟩
        have hs' := (hrow i hic).mp hr
        by_cases hk : kd i = 1
        · refine br_t hk ⟨vi, va, ?_⟩
          rw [H3 i hic (Or.inr hk), H3 a ha (Or.inl hka)]
          by_cases hg : ag i = ag a
          · refine br_t hg ⟨vp_in_nI (by omega) (by decide), ?_⟩
            by_cases hq : hs (i * ec + a) = 1
            · exact br_t hq (h0 (dz_ex_t.mpr ⟨i, hic, by unfold dz_kill; rw [hs', decide_eq_true hk, decide_eq_true hg, (H4 i a hic (by omega)).mp hq]; rfl⟩))
            · have hq' : dz_b (sa i) a = false := Bool.eq_false_iff.mpr (fun z => hq ((H4 i a hic (by omega)).mpr z))
              exact br_f hq (nx (by unfold dz_kill; rw [hq']; simp))
          · exact br_f hg (nx (by unfold dz_kill; simp [hg]))
        · exact br_f hk (nx (by unfold dz_kill; simp [hk]))
      · have hs' : dz_b s i = false := Bool.eq_false_iff.mpr (fun z => hr ((hrow i hic).mpr z))
        exact br_f hr (nx (by unfold dz_kill; rw [hs']; rfl))
theorem dz_ylive_msgRow {post : Int32 → Prop} {s : Int64} {a b : Nat} (H : dz_YH c ec kd ag sa el hs) (hrow : dz_rows mr b c s) (hb : b + c ≤ 384) (ha : a < c)
    (h1 : dz_live c kd ag sa s a = true → post 1) (h0 : dz_live c kd ag sa s a = false → post 0) : wpY_live__msgRow post (nI nr, nI ne, nI tc, nI pc, nI ec, nI c, kd, el, am, iw, hs, ry, mr, mu, my, sc) (nI b) (nI a) := by
  have H1 := H.1
  have H2 := H.2.1
  unfold wpY_live__msgRow
  dsimp only
  rw [nI_add b a, nI_clamp (n := b + a) (by omega), nI_clamp (n := a) (by omega)]
  refine ⟨vp_in_nI (by omega) (by decide), ?_⟩
  by_cases hr : mr (b + a) = 1
  · refine br_t hr ⟨vp_in_nI (by omega) (by decide), ?_⟩
    have hs' := (hrow a ha).mp hr
    by_cases hk : kd a = 0
    · refine br_t hk ⟨c + 1, ?_⟩
      exact dz_ylive_l_msgRow H hrow hb ha hk (fun z => h1 (by unfold dz_live; rw [hs', decide_eq_true hk, z]; rfl)) (fun z => h0 (by unfold dz_live; rw [z]; simp)) (c + 1) 0 (by omega) (by omega) rfl
    · exact br_f hk (h0 (by unfold dz_live; simp [hk]))
  · have hs' : dz_b s a = false := Bool.eq_false_iff.mpr (fun z => hr ((hrow a ha).mpr z))
    exact br_f hr (h0 (by unfold dz_live; rw [hs']; rfl))
theorem dz_ydot_l_msgRow {post : Int32 → Prop} {s : Int64} {b : Nat} {e w : Int32} (H : dz_YH c ec kd ag sa el hs) (hrow : dz_rows mr b c s) (hb : b + c ≤ 384) (h : post (nI (dz_dot c kd ag iw sa s e w))) :
    ∀ n i : Nat, i ≤ c → c < n + i → wY_dot__msgRow_9 post (nI b) e w (nI nr) (nI ne) (nI tc) (nI pc) (nI ec) (nI c) kd el am iw hs ry mr mu my sc n (nI (dz_D c kd ag iw sa s e w i)) (nI (dz_ord iw w i)) (nI i) := by
  have H1 := H.1
  have H2 := H.2.1
  have H3 := H.2.2.1
  intro n
  induction n with
  | zero => intro i h2 h3; omega
  | succ n ih =>
    intro i hi hn
    refine pk_le c i (fun hci => ?_) (fun hic => ?_)
    · have e : i = c := by omega
      rw [e]
      exact h
    · have z := ih (i + 1) (by omega) (by omega)
      have vi : vp_in (nI i) 64 := vp_in_nI (by omega) (by decide)
      refine ⟨vi, ?_⟩
      rw [nI_clamp (n := i) (by omega)]
      by_cases hw : iw i = w
      · rw [dz_ord_t hw] at z
        refine br_t hw (nm_r (nI_1 _) ⟨vi, ?_⟩)
        have nx : dz_g c kd ag iw sa s e w i = false → ∀ x, x = nI i + 1 → wY_dot__msgRow_9 post (nI b) e w (nI nr) (nI ne) (nI tc) (nI pc) (nI ec) (nI c) kd el am iw hs ry mr mu my sc n (nI (dz_D c kd ag iw sa s e w i)) (nI (dz_ord iw w i + 1)) x := by
          intro hk
          rw [dz_D_f hk] at z
          exact nm_r (nI_1 i) z
        by_cases hk : kd i = 0
        · refine br_t hk ⟨vi, ?_⟩
          rw [H3 i hic (Or.inl hk)]
          by_cases hg : ag i = e
          · refine br_t hg (dz_ylive_msgRow H hrow hb hic (fun hl => ?_) (fun hl => ?_))
            · rw [dz_D_t (dz_g_iff.mpr ⟨hw, hk, hg, hl⟩), dz_ord_t hw] at z
              exact br_f (by decide) (nm_r (nI_1 i) z)
            · exact br_t rfl (nx (by unfold dz_g; rw [hl]; simp))
          · exact br_f hg (nx (by unfold dz_g; simp [hg]))
        · exact br_f hk (nx (by unfold dz_g; simp [hk]))
      · rw [dz_ord_f hw, dz_D_f (by unfold dz_g; simp [hw])] at z
        exact br_f hw (nm_r (nI_1 i) z)
theorem dz_ydot_msgRow {post : Int32 → Prop} {s : Int64} {b : Nat} {e w : Int32} (H : dz_YH c ec kd ag sa el hs) (hrow : dz_rows mr b c s) (hb : b + c ≤ 384) (h : post (nI (dz_dot c kd ag iw sa s e w))) : wpY_dot__msgRow post (nI nr, nI ne, nI tc, nI pc, nI ec, nI c, kd, el, am, iw, hs, ry, mr, mu, my, sc) (nI b) e w :=
  Exists.intro (c + 1) (dz_ydot_l_msgRow H hrow hb h (c + 1) 0 (Nat.zero_le _) (by omega))
theorem dz_ypr_i_repSeen {post : Int32 → Prop} {J : Int32 → Int32 → Prop} {s : Int64} {b e t : Nat} (H : dz_YH c ec kd ag sa el hs) (hrow : dz_rows ry b c s) (hb : b + c ≤ 320) (hr : nr ≤ 5)
    (h : J (nI (t + dz_cnt (fun w => decide (0 < dz_dot c kd ag iw sa s (nI e) (nI w))) nr)) (nI (e + 1))) :
    ∀ n w : Nat, w ≤ nr → nr < n + w → wY_pairs__repSeen_17 post J (nI b) (nI e) (nI nr) (nI ne) (nI tc) (nI pc) (nI ec) (nI c) kd el am iw hs ry mr mu my sc n (nI (t + dz_cnt (fun w => decide (0 < dz_dot c kd ag iw sa s (nI e) (nI w))) w)) (nI w) := by
  have H1 := H.1
  have H2 := H.2.1
  intro n
  induction n with
  | zero => intro i h2 h3; omega
  | succ n ih =>
    intro w hw hn
    refine pk_le nr w (fun hci => ?_) (fun hic => ?_)
    · have e : w = nr := by omega
      rw [e]
      exact nm_r (nI_1 _) h
    · refine dz_ydot_repSeen H hrow hb ?_
      have hl := dz_dot_le (c := c) (kd := kd) (ag := ag) (iw := iw) (sa := sa) (s := s) (e := nI e) (w := nI w)
      have z := ih (w + 1) (by omega) (by omega)
      refine pk_le (dz_dot c kd ag iw sa s (nI e) (nI w)) 0 (fun h0 => ?_) (fun h0 => ?_)
      · rw [dz_cnt_f (f := fun w => decide (0 < dz_dot c kd ag iw sa s (nI e) (nI w))) (fun y => absurd (of_decide_eq_true y) (by omega))] at z
        exact nm_r (nI_1 _) z
      · rw [dz_cnt_t (f := fun w => decide (0 < dz_dot c kd ag iw sa s (nI e) (nI w))) (decide_eq_true h0), ← Nat.add_assoc] at z
        exact nm_r (nI_1 _) (nm_r (nI_1 _) z)
theorem dz_ypr_o_repSeen {post : Int32 → Prop} {s : Int64} {b : Nat} (H : dz_YH c ec kd ag sa el hs) (hrow : dz_rows ry b c s) (hb : b + c ≤ 320) (hr : nr ≤ 5) (he : ne ≤ 5) (h : post (nI (dz_prs c kd ag iw sa s nr ne))) :
    ∀ n e : Nat, e ≤ ne → ne < n + e → wY_pairs__repSeen_5 post (nI b) (nI nr) (nI ne) (nI tc) (nI pc) (nI ec) (nI c) kd el am iw hs ry mr mu my sc n (nI (dz_prs c kd ag iw sa s nr e)) (nI e) := by
  intro n
  induction n with
  | zero => intro i h2 h3; omega
  | succ n ih =>
    intro e h2 hn
    refine pk_le ne e (fun hci => ?_) (fun hic => ?_)
    · have e1 : e = ne := by omega
      rw [e1]
      exact h
    · exact ⟨nr + 1, dz_ypr_i_repSeen (t := dz_prs c kd ag iw sa s nr e) H hrow hb hr (ih (e + 1) (by omega) (by omega)) (nr + 1) 0 (Nat.zero_le _) (by omega)⟩
theorem dz_ypr_repSeen {post : Int32 → Prop} {s : Int64} {b : Nat} (H : dz_YH c ec kd ag sa el hs) (hrow : dz_rows ry b c s) (hb : b + c ≤ 320) (hr : nr ≤ 5) (he : ne ≤ 5) (h : post (nI (dz_prs c kd ag iw sa s nr ne))) : wpY_pairs__repSeen post (nI nr, nI ne, nI tc, nI pc, nI ec, nI c, kd, el, am, iw, hs, ry, mr, mu, my, sc) (nI b) :=
  Exists.intro (ne + 1) (dz_ypr_o_repSeen H hrow hb hr he h (ne + 1) 0 (Nat.zero_le _) (by omega))
theorem dz_ypr_i_scratch {post : Int32 → Prop} {J : Int32 → Int32 → Prop} {s : Int64} {b e t : Nat} (H : dz_YH c ec kd ag sa el hs) (hrow : dz_rows sc b c s) (hb : b + c ≤ 64) (hr : nr ≤ 5)
    (h : J (nI (t + dz_cnt (fun w => decide (0 < dz_dot c kd ag iw sa s (nI e) (nI w))) nr)) (nI (e + 1))) :
    ∀ n w : Nat, w ≤ nr → nr < n + w → wY_pairs__scratch_17 post J (nI b) (nI e) (nI nr) (nI ne) (nI tc) (nI pc) (nI ec) (nI c) kd el am iw hs ry mr mu my sc n (nI (t + dz_cnt (fun w => decide (0 < dz_dot c kd ag iw sa s (nI e) (nI w))) w)) (nI w) := by
  have H1 := H.1
  have H2 := H.2.1
  intro n
  induction n with
  | zero => intro i h2 h3; omega
  | succ n ih =>
    intro w hw hn
    refine pk_le nr w (fun hci => ?_) (fun hic => ?_)
    · have e : w = nr := by omega
      rw [e]
      exact nm_r (nI_1 _) h
    · refine dz_ydot_scratch H hrow hb ?_
      have hl := dz_dot_le (c := c) (kd := kd) (ag := ag) (iw := iw) (sa := sa) (s := s) (e := nI e) (w := nI w)
      have z := ih (w + 1) (by omega) (by omega)
      refine pk_le (dz_dot c kd ag iw sa s (nI e) (nI w)) 0 (fun h0 => ?_) (fun h0 => ?_)
      · rw [dz_cnt_f (f := fun w => decide (0 < dz_dot c kd ag iw sa s (nI e) (nI w))) (fun y => absurd (of_decide_eq_true y) (by omega))] at z
        exact nm_r (nI_1 _) z
      · rw [dz_cnt_t (f := fun w => decide (0 < dz_dot c kd ag iw sa s (nI e) (nI w))) (decide_eq_true h0), ← Nat.add_assoc] at z
        exact nm_r (nI_1 _) (nm_r (nI_1 _) z)
theorem dz_ypr_o_scratch {post : Int32 → Prop} {s : Int64} {b : Nat} (H : dz_YH c ec kd ag sa el hs) (hrow : dz_rows sc b c s) (hb : b + c ≤ 64) (hr : nr ≤ 5) (he : ne ≤ 5) (h : post (nI (dz_prs c kd ag iw sa s nr ne))) :
    ∀ n e : Nat, e ≤ ne → ne < n + e → wY_pairs__scratch_5 post (nI b) (nI nr) (nI ne) (nI tc) (nI pc) (nI ec) (nI c) kd el am iw hs ry mr mu my sc n (nI (dz_prs c kd ag iw sa s nr e)) (nI e) := by
  intro n
  induction n with
  | zero => intro i h2 h3; omega
  | succ n ih =>
    intro e h2 hn
    refine pk_le ne e (fun hci => ?_) (fun hic => ?_)
    · have e1 : e = ne := by omega
      rw [e1]
      exact h
    · exact ⟨nr + 1, dz_ypr_i_scratch (t := dz_prs c kd ag iw sa s nr e) H hrow hb hr (ih (e + 1) (by omega) (by omega)) (nr + 1) 0 (Nat.zero_le _) (by omega)⟩
theorem dz_ypr_scratch {post : Int32 → Prop} {s : Int64} {b : Nat} (H : dz_YH c ec kd ag sa el hs) (hrow : dz_rows sc b c s) (hb : b + c ≤ 64) (hr : nr ≤ 5) (he : ne ≤ 5) (h : post (nI (dz_prs c kd ag iw sa s nr ne))) : wpY_pairs__scratch post (nI nr, nI ne, nI tc, nI pc, nI ec, nI c, kd, el, am, iw, hs, ry, mr, mu, my, sc) (nI b) :=
  Exists.intro (ne + 1) (dz_ypr_o_scratch H hrow hb hr he h (ne + 1) 0 (Nat.zero_le _) (by omega))
theorem dz_ycnt_l_repSeen {post : Int32 → Prop} {s : Int64} {b : Nat} {w : Int32} (hc : c ≤ 64) (hrow : dz_rows ry b c s) (hb : b + c ≤ 320) (h : post (nI (dz_seen iw s w c))) :
    ∀ n i : Nat, i ≤ c → c < n + i → wY_countOf__repSeen_6 post (nI b) w (nI nr) (nI ne) (nI tc) (nI pc) (nI ec) (nI c) kd el am iw hs ry mr mu my sc n (nI (dz_seen iw s w i)) (nI i) := by
  intro n
  induction n with
  | zero => intro i h2 h3; omega
  | succ n ih =>
    intro i hi hn
    refine pk_le c i (fun hci => ?_) (fun hic => ?_)
    · have e : i = c := by omega
      rw [e]
      exact h
    · have z := ih (i + 1) (by omega) (by omega)
      have nx : ¬ (dz_b s i && decide (iw i = w)) = true → ∀ x, x = nI i + 1 → wY_countOf__repSeen_6 post (nI b) w (nI nr) (nI ne) (nI tc) (nI pc) (nI ec) (nI c) kd el am iw hs ry mr mu my sc n (nI (dz_seen iw s w i)) x := by
        intro hk
        unfold dz_seen at z ⊢
        rw [dz_cnt_f hk] at z
        exact nm_r (nI_1 i) z
      have vi : vp_in (nI i) 64 := vp_in_nI (by omega) (by decide)
      rw [nI_add b i, nI_clamp (n := b + i) (by omega), nI_clamp (n := i) (by omega)]
      refine ⟨vp_in_nI (by omega) (by decide), ?_⟩
      by_cases hr : ry (b + i) = 1
      · refine br_t hr ⟨vi, ?_⟩
        have hs' := (hrow i hic).mp hr
        by_cases hw : iw i = w
        · refine br_t hw (nm_r (nI_1 _) (nm_r (nI_1 _) ?_))
          unfold dz_seen at z ⊢
          rw [dz_cnt_t (by rw [hs', decide_eq_true hw]; rfl)] at z
          exact z
        · exact br_f hw (nx (by simp [hw]))
      · have hs' : dz_b s i = false := Bool.eq_false_iff.mpr (fun z => hr ((hrow i hic).mpr z))
        exact br_f hr (nx (by simp [hs']))
theorem dz_ycnt_repSeen {post : Int32 → Prop} {s : Int64} {b : Nat} {w : Int32} (hc : c ≤ 64) (hrow : dz_rows ry b c s) (hb : b + c ≤ 320) (h : post (nI (dz_seen iw s w c))) : wpY_countOf__repSeen post (nI nr, nI ne, nI tc, nI pc, nI ec, nI c, kd, el, am, iw, hs, ry, mr, mu, my, sc) (nI b) w :=
  Exists.intro (c + 1) (dz_ycnt_l_repSeen hc hrow hb h (c + 1) 0 (Nat.zero_le _) (by omega))
theorem dz_ysum_l_repSeen {post : Int32 → Prop} {s : Int64} {b : Nat} {w k : Int32} (hc : c ≤ 64) (hrow : dz_rows ry b c s) (hb : b + c ≤ 320) (hm : ∀ i, i < c → kd i = k → am i = ag i) (h : post (dz_tot kd ag iw s w k c)) :
    ∀ n i : Nat, i ≤ c → c < n + i → wY_sumOf__repSeen_6 post (nI b) w k (nI nr) (nI ne) (nI tc) (nI pc) (nI ec) (nI c) kd el am iw hs ry mr mu my sc n (dz_tot kd ag iw s w k i) (nI i) := by
  intro n
  induction n with
  | zero => intro i h2 h3; omega
  | succ n ih =>
    intro i hi hn
    refine pk_le c i (fun hci => ?_) (fun hic => ?_)
    · have e : i = c := by omega
      rw [e]
      exact h
    · have z := ih (i + 1) (by omega) (by omega)
      have nx : ¬ (dz_b s i && (decide (iw i = w) && decide (kd i = k))) = true → ∀ x, x = nI i + 1 → wY_sumOf__repSeen_6 post (nI b) w k (nI nr) (nI ne) (nI tc) (nI pc) (nI ec) (nI c) kd el am iw hs ry mr mu my sc n (dz_tot kd ag iw s w k i) x := by
        intro hk
        unfold dz_tot at z ⊢
        rw [dz_sum, if_neg hk] at z
        exact nm_r (nI_1 i) z
      have vi : vp_in (nI i) 64 := vp_in_nI (by omega) (by decide)
      rw [nI_add b i, nI_clamp (n := b + i) (by omega), nI_clamp (n := i) (by omega)]
      refine ⟨vp_in_nI (by omega) (by decide), ?_⟩
      by_cases hr : ry (b + i) = 1
      · refine br_t hr ⟨vi, ?_⟩
        have hs' := (hrow i hic).mp hr
        by_cases hw : iw i = w
        · refine br_t hw ⟨vi, ?_⟩
          by_cases hk : kd i = k
          · refine br_t hk ⟨vi, nm_e (nm_r (nI_1 _) ?_)⟩
            rw [hm i hic hk]
            unfold dz_tot at z ⊢
            rw [dz_sum, if_pos (by rw [hs', decide_eq_true hw, decide_eq_true hk]; rfl)] at z
            exact z
          · exact br_f hk (nx (by simp [hk]))
        · exact br_f hw (nx (by simp [hw]))
      · have hs' : dz_b s i = false := Bool.eq_false_iff.mpr (fun z => hr ((hrow i hic).mpr z))
        exact br_f hr (nx (by simp [hs']))
theorem dz_ysum_repSeen {post : Int32 → Prop} {s : Int64} {b : Nat} {w k : Int32} (hc : c ≤ 64) (hrow : dz_rows ry b c s) (hb : b + c ≤ 320) (hm : ∀ i, i < c → kd i = k → am i = ag i) (h : post (dz_tot kd ag iw s w k c)) : wpY_sumOf__repSeen post (nI nr, nI ne, nI tc, nI pc, nI ec, nI c, kd, el, am, iw, hs, ry, mr, mu, my, sc) (nI b) w k :=
  Exists.intro (c + 1) (dz_ysum_l_repSeen hc hrow hb hm h (c + 1) 0 (Nat.zero_le _) (by omega))
theorem dz_ycnt_l_msgRow {post : Int32 → Prop} {s : Int64} {b : Nat} {w : Int32} (hc : c ≤ 64) (hrow : dz_rows mr b c s) (hb : b + c ≤ 384) (h : post (nI (dz_seen iw s w c))) :
    ∀ n i : Nat, i ≤ c → c < n + i → wY_countOf__msgRow_6 post (nI b) w (nI nr) (nI ne) (nI tc) (nI pc) (nI ec) (nI c) kd el am iw hs ry mr mu my sc n (nI (dz_seen iw s w i)) (nI i) := by
  intro n
  induction n with
  | zero => intro i h2 h3; omega
  | succ n ih =>
    intro i hi hn
    refine pk_le c i (fun hci => ?_) (fun hic => ?_)
    · have e : i = c := by omega
      rw [e]
      exact h
    · have z := ih (i + 1) (by omega) (by omega)
      have nx : ¬ (dz_b s i && decide (iw i = w)) = true → ∀ x, x = nI i + 1 → wY_countOf__msgRow_6 post (nI b) w (nI nr) (nI ne) (nI tc) (nI pc) (nI ec) (nI c) kd el am iw hs ry mr mu my sc n (nI (dz_seen iw s w i)) x := by
        intro hk
        unfold dz_seen at z ⊢
        rw [dz_cnt_f hk] at z
        exact nm_r (nI_1 i) z
      have vi : vp_in (nI i) 64 := vp_in_nI (by omega) (by decide)
      rw [nI_add b i, nI_clamp (n := b + i) (by omega), nI_clamp (n := i) (by omega)]
      refine ⟨vp_in_nI (by omega) (by decide), ?_⟩
      by_cases hr : mr (b + i) = 1
      · refine br_t hr ⟨vi, ?_⟩
        have hs' := (hrow i hic).mp hr
        by_cases hw : iw i = w
        · refine br_t hw (nm_r (nI_1 _) (nm_r (nI_1 _) ?_))
          unfold dz_seen at z ⊢
          rw [dz_cnt_t (by rw [hs', decide_eq_true hw]; rfl)] at z
          exact z
        · exact br_f hw (nx (by simp [hw]))
      · have hs' : dz_b s i = false := Bool.eq_false_iff.mpr (fun z => hr ((hrow i hic).mpr z))
        exact br_f hr (nx (by simp [hs']))
theorem dz_ycnt_msgRow {post : Int32 → Prop} {s : Int64} {b : Nat} {w : Int32} (hc : c ≤ 64) (hrow : dz_rows mr b c s) (hb : b + c ≤ 384) (h : post (nI (dz_seen iw s w c))) : wpY_countOf__msgRow post (nI nr, nI ne, nI tc, nI pc, nI ec, nI c, kd, el, am, iw, hs, ry, mr, mu, my, sc) (nI b) w :=
  Exists.intro (c + 1) (dz_ycnt_l_msgRow hc hrow hb h (c + 1) 0 (Nat.zero_le _) (by omega))
theorem dz_ysum_l_msgRow {post : Int32 → Prop} {s : Int64} {b : Nat} {w k : Int32} (hc : c ≤ 64) (hrow : dz_rows mr b c s) (hb : b + c ≤ 384) (hm : ∀ i, i < c → kd i = k → am i = ag i) (h : post (dz_tot kd ag iw s w k c)) :
    ∀ n i : Nat, i ≤ c → c < n + i → wY_sumOf__msgRow_6 post (nI b) w k (nI nr) (nI ne) (nI tc) (nI pc) (nI ec) (nI c) kd el am iw hs ry mr mu my sc n (dz_tot kd ag iw s w k i) (nI i) := by
  intro n
  induction n with
  | zero => intro i h2 h3; omega
  | succ n ih =>
    intro i hi hn
    refine pk_le c i (fun hci => ?_) (fun hic => ?_)
    · have e : i = c := by omega
      rw [e]
      exact h
    · have z := ih (i + 1) (by omega) (by omega)
      have nx : ¬ (dz_b s i && (decide (iw i = w) && decide (kd i = k))) = true → ∀ x, x = nI i + 1 → wY_sumOf__msgRow_6 post (nI b) w k (nI nr) (nI ne) (nI tc) (nI pc) (nI ec) (nI c) kd el am iw hs ry mr mu my sc n (dz_tot kd ag iw s w k i) x := by
        intro hk
        unfold dz_tot at z ⊢
        rw [dz_sum, if_neg hk] at z
        exact nm_r (nI_1 i) z
      have vi : vp_in (nI i) 64 := vp_in_nI (by omega) (by decide)
      rw [nI_add b i, nI_clamp (n := b + i) (by omega), nI_clamp (n := i) (by omega)]
      refine ⟨vp_in_nI (by omega) (by decide), ?_⟩
      by_cases hr : mr (b + i) = 1
      · refine br_t hr ⟨vi, ?_⟩
        have hs' := (hrow i hic).mp hr
        by_cases hw : iw i = w
        · refine br_t hw ⟨vi, ?_⟩
          by_cases hk : kd i = k
          · refine br_t hk ⟨vi, nm_e (nm_r (nI_1 _) ?_)⟩
            rw [hm i hic hk]
            unfold dz_tot at z ⊢
            rw [dz_sum, if_pos (by rw [hs', decide_eq_true hw, decide_eq_true hk]; rfl)] at z
            exact z
          · exact br_f hk (nx (by simp [hk]))
        · exact br_f hw (nx (by simp [hw]))
      · have hs' : dz_b s i = false := Bool.eq_false_iff.mpr (fun z => hr ((hrow i hic).mpr z))
        exact br_f hr (nx (by simp [hs']))
theorem dz_ysum_msgRow {post : Int32 → Prop} {s : Int64} {b : Nat} {w k : Int32} (hc : c ≤ 64) (hrow : dz_rows mr b c s) (hb : b + c ≤ 384) (hm : ∀ i, i < c → kd i = k → am i = ag i) (h : post (dz_tot kd ag iw s w k c)) : wpY_sumOf__msgRow post (nI nr, nI ne, nI tc, nI pc, nI ec, nI c, kd, el, am, iw, hs, ry, mr, mu, my, sc) (nI b) w k :=
  Exists.intro (c + 1) (dz_ysum_l_msgRow hc hrow hb hm h (c + 1) 0 (Nat.zero_le _) (by omega))
end
end
section
/-! the reference: the other walks -/
section
variable {nr ne tc pc ec c : Nat} {kd ag iw ps : Nat → Int32} {sa rs : Nat → Int64} {gc : Nat → Int32} {ms : Nat → Int64} {mt pd : Nat → Int32} {el am hs ry mr mu my sc : Nat → Int32}
theorem dz_yval_l {post : Int32 → Prop} {s : Int64} {r : Nat} (hc : c ≤ 64) (hrow : dz_rows ry (r * ec) c s) (hb : r * ec + c ≤ 320) (hm : ∀ i, i < c → kd i = 2 ∨ kd i = 3 → am i = ag i) (h : post (dz_val kd ag s c)) :
    ∀ n i : Nat, i ≤ c → c < n + i → wY_value_14 post (nI r) (nI nr) (nI ne) (nI tc) (nI pc) (nI ec) (nI c) kd el am iw hs ry mr mu my sc n (dz_val kd ag s i) (nI i) := by
  intro n
  induction n with
  | zero => intro i h2 h3; omega
  | succ n ih =>
    intro i hi hn
    refine pk_le c i (fun hci => ?_) (fun hic => ?_)
    · have e : i = c := by omega
      rw [e]
      exact h
    · have z := ih (i + 1) (by omega) (by omega)
      rw [dz_val] at z
      have vi : vp_in (nI i) 64 := vp_in_nI (by omega) (by decide)
      rw [dz_mi r ec i, nI_clamp (n := r * ec + i) (by omega), nI_clamp (n := i) (by omega)]
      refine ⟨vp_in_nI (by omega) (by decide), ?_⟩
      by_cases hr : ry (r * ec + i) = 1
      · rw [if_pos ((hrow i hic).mp hr)] at z
        refine br_t hr ⟨vi, ?_⟩
        by_cases h2 : kd i = 2
        · rw [if_pos h2] at z
          refine br_t h2 ⟨vi, ?_⟩
          rw [hm i hic (Or.inl h2)]
          exact nm_e (nm_r (nI_1 _) z)
        · rw [if_neg h2] at z
          refine br_f h2 ⟨vi, ?_⟩
          by_cases h3 : kd i = 3
          · rw [if_pos h3] at z
            refine br_t h3 ⟨vi, ?_⟩
            rw [hm i hic (Or.inr h3)]
            exact nm_e (nm_r (nI_1 _) z)
          · rw [if_neg h3] at z
            exact br_f h3 (nm_r (nI_1 _) z)
      · rw [if_neg (fun y => hr ((hrow i hic).mpr y))] at z
        exact br_f hr (nm_r (nI_1 _) z)
theorem dz_ycon_l {post : Int32 → Prop} {r : Nat} {s : Int64} {e : Int32} (H : dz_YH c ec kd ag sa el hs) (hrow : dz_rows ry (r * ec) c s) (hb : r * ec + c ≤ 320)
    (h1 : dz_conY c kd ag sa s e c = true → post 1) (h0 : dz_conY c kd ag sa s e c = false → post 0) :
    ∀ n i : Nat, i ≤ c → c < n + i → dz_conY c kd ag sa s e i = false → wY_contains_20 post (nI r) e (nI nr) (nI ne) (nI tc) (nI pc) (nI ec) (nI c) kd el am iw hs ry mr mu my sc n (nI i) := by
  have H1 := H.1
  have H2 := H.2.1
  intro n
  induction n with
  | zero => intro i h2 h3; omega
  | succ n ih =>
    intro i hi hn hx
    refine pk_le c i (fun hci => ?_) (fun hic => ?_)
    · have e : i = c := by omega
      rw [e] at hx
      exact h0 hx
    · have vi : vp_in (nI i) 64 := vp_in_nI (by omega) (by decide)
      have nx : (decide (kd i = 0) && (decide (ag i = e) && dz_live c kd ag sa s i)) = false → ∀ x, x = nI i + 1 → wY_contains_20 post (nI r) e (nI nr) (nI ne) (nI tc) (nI pc) (nI ec) (nI c) kd el am iw hs ry mr mu my sc n x :=
        fun hk => nm_r (nI_1 i) (ih (i + 1) (by omega) (by omega) (dz_ex_n hx hk))
      rw [pk_mul, nI_clamp (n := i) (by omega)]
      refine ⟨vi, ?_⟩
      by_cases hk : kd i = 0
      · refine br_t hk ⟨vi, ?_⟩
        rw [H.2.2.1 i hic (Or.inl hk)]
        by_cases hg : ag i = e
        · refine br_t hg (dz_ylive_repSeen H hrow hb hic (fun hl => ?_) (fun hl => ?_))
          · exact br_f (by decide) (h1 (dz_ex_t.mpr ⟨i, hic, by rw [decide_eq_true hk, decide_eq_true hg, hl]; rfl⟩))
          · exact br_t rfl (nx (by rw [hl]; simp))
        · exact br_f hg (nx (by simp [hg]))
      · exact br_f hk (nx (by simp [hk]))
theorem dz_yfree1 {post : Int32 → Prop} {i : Nat} (hp : pc ≤ 6) (hi : i < pc) (hf : mu i = 0) (hb : ∀ j, j < i → ¬ mu j = 0) (h : post (nI i)) : wpY_freeSlot post (nI nr, nI ne, nI tc, nI pc, nI ec, nI c, kd, el, am, iw, hs, ry, mr, mu, my, sc) := by
  have L : ∀ n j : Nat, j ≤ i → i < n + j → wY_freeSlot_2 post (nI nr) (nI ne) (nI tc) (nI pc) (nI ec) (nI c) kd el am iw hs ry mr mu my sc n (nI j) := by
    intro n
    induction n with
    | zero => intro i h2 h3; omega
    | succ n ih =>
      intro j hj hn
      refine br_f (nI_ge (by omega) (by omega)) ⟨vp_in_nI (by omega) (by decide), ?_⟩
      rw [nI_clamp (n := j) (by omega)]
      rcases Nat.lt_or_ge j i with z | z
      · exact br_f (hb j z) (nm_r (nI_1 _) (ih (j + 1) (by omega) (by omega)))
      · have e : j = i := by omega
        subst e
        exact br_t hf h
  exact Exists.intro (i + 1) (L (i + 1) 0 (Nat.zero_le _) (by omega))
theorem dz_yfree0 {post : Int32 → Prop} (hp : pc ≤ 6) (hb : ∀ j, j < pc → ¬ mu j = 0) (h : post (-1)) : wpY_freeSlot post (nI nr, nI ne, nI tc, nI pc, nI ec, nI c, kd, el, am, iw, hs, ry, mr, mu, my, sc) := by
  have L : ∀ n j : Nat, j ≤ pc → pc < n + j → wY_freeSlot_2 post (nI nr) (nI ne) (nI tc) (nI pc) (nI ec) (nI c) kd el am iw hs ry mr mu my sc n (nI j) := by
    intro n
    induction n with
    | zero => intro i h2 h3; omega
    | succ n ih =>
      intro j hj hn
      refine pk_le pc j (fun z => h) (fun z => ⟨vp_in_nI (by omega) (by decide), ?_⟩)
      rw [nI_clamp (n := j) (by omega)]
      exact br_f (hb j z) (nm_r (nI_1 _) (ih (j + 1) (by omega) (by omega)))
  exact Exists.intro (pc + 1) (L (pc + 1) 0 (Nat.zero_le _) (by omega))
theorem dz_ypool {post : Int32 → Prop} (hp : pc ≤ 6) (h : post (nI (dz_cnt (fun j => decide (mu j = 1)) pc))) : wpY_pooled post (nI nr, nI ne, nI tc, nI pc, nI ec, nI c, kd, el, am, iw, hs, ry, mr, mu, my, sc) := by
  have L : ∀ n j : Nat, j ≤ pc → pc < n + j → wY_pooled_4 post (nI nr) (nI ne) (nI tc) (nI pc) (nI ec) (nI c) kd el am iw hs ry mr mu my sc n (nI (dz_cnt (fun j => decide (mu j = 1)) j)) (nI j) := by
    intro n
    induction n with
    | zero => intro i h2 h3; omega
    | succ n ih =>
      intro j hj hn
      refine pk_le pc j (fun z => ?_) (fun z => ⟨vp_in_nI (by omega) (by decide), ?_⟩)
      · have e : j = pc := by omega
        rw [e]
        exact h
      · rw [nI_clamp (n := j) (by omega)]
        have y := ih (j + 1) (by omega) (by omega)
        by_cases hz : mu j = 1
        · rw [dz_cnt_t (f := fun j => decide (mu j = 1)) (by simp [hz])] at y
          exact br_t hz (nm_r (nI_1 _) (nm_r (nI_1 _) y))
        · rw [dz_cnt_f (f := fun j => decide (mu j = 1)) (by simp [hz])] at y
          exact br_f hz (nm_r (nI_1 _) y)
  exact Exists.intro (pc + 1) (L (pc + 1) 0 (Nat.zero_le _) (by omega))
theorem dz_yrep1 {post : Int32 → Prop} {j : Nat} (hj : j < nr) (hr : nr ≤ 5) (h : post 1) : wpY_repOk post (nI nr, nI ne, nI tc, nI pc, nI ec, nI c, kd, el, am, iw, hs, ry, mr, mu, my, sc) (nI j) :=
  br_f (nI_pos (by omega)) (br_f (nI_ge hj (by omega)) h)
theorem dz_yrep0 {post : Int32 → Prop} {v : Int32} (hv : v < 0 ∨ nI nr ≤ v) (h : post 0) : wpY_repOk post (nI nr, nI ne, nI tc, nI pc, nI ec, nI c, kd, el, am, iw, hs, ry, mr, mu, my, sc) v := by
  by_cases z : v < 0
  · exact br_t z h
  · exact br_f z (br_t (hv.resolve_left z) h)
theorem dz_yelm1 {post : Int32 → Prop} {j : Nat} (hj : j < ne) (hr : ne ≤ 5) (h : post 1) : wpY_elemOk post (nI nr, nI ne, nI tc, nI pc, nI ec, nI c, kd, el, am, iw, hs, ry, mr, mu, my, sc) (nI j) :=
  br_f (nI_pos (by omega)) (br_f (nI_ge hj (by omega)) h)
theorem dz_yelm0 {post : Int32 → Prop} {v : Int32} (hv : v < 0 ∨ nI ne ≤ v) (h : post 0) : wpY_elemOk post (nI nr, nI ne, nI tc, nI pc, nI ec, nI c, kd, el, am, iw, hs, ry, mr, mu, my, sc) v := by
  by_cases z : v < 0
  · exact br_t z h
  · exact br_f z (br_t (hv.resolve_left z) h)
theorem dz_ymsg1 {post : Int32 → Prop} {j : Nat} (hj : j < pc) (hr : pc ≤ 6) (hp : mu j = 1) (h : post 1) : wpY_isPending post (nI nr, nI ne, nI tc, nI pc, nI ec, nI c, kd, el, am, iw, hs, ry, mr, mu, my, sc) (nI j) := by
  refine br_f (nI_pos (by omega)) (br_f (nI_ge hj (by omega)) ⟨vp_in_nI (by omega) (by decide), ?_⟩)
  rw [nI_clamp (n := j) (by omega)]
  exact br_t hp h
theorem dz_ymsg0 {post : Int32 → Prop} {v : Int32} (hr : pc ≤ 6) (hv : v < 0 ∨ nI pc ≤ v ∨ ∃ j, j < pc ∧ v = nI j ∧ ¬ mu j = 1) (h : post 0) : wpY_isPending post (nI nr, nI ne, nI tc, nI pc, nI ec, nI c, kd, el, am, iw, hs, ry, mr, mu, my, sc) v := by
  by_cases z : v < 0
  · exact br_t z h
  · by_cases z2 : nI pc ≤ v
    · exact br_f z (br_t z2 h)
    · obtain ⟨j, hj, rfl, hp⟩ := (hv.resolve_left z).resolve_left z2
      refine br_f z (br_f z2 ⟨vp_in_nI (by omega) (by decide), ?_⟩)
      rw [nI_clamp (n := j) (by omega)]
      exact br_f hp h
end
/-! rows copied -/
def dz_cp (f g : Nat → Int32) (b d : Nat) : Nat → (Nat → Int32)
  | 0 => f
  | n + 1 => upd (dz_cp f g b d n) (b + n) (g (d + n))
theorem dz_cp_out {f g : Nat → Int32} {b d q : Nat} : ∀ n : Nat, (∀ i, i < n → q ≠ b + i) → dz_cp f g b d n q = f q := by
  intro n
  induction n with
  | zero => intro _; rfl
  | succ n ih =>
    intro h
    rw [dz_cp, pk_un (h n (by omega))]
    exact ih (fun i hi => h i (by omega))
theorem dz_cp_in {f g : Nat → Int32} {b d j : Nat} : ∀ n : Nat, j < n → dz_cp f g b d n (b + j) = g (d + j) := by
  intro n
  induction n with
  | zero => intro h; omega
  | succ n ih =>
    intro h
    rw [dz_cp]
    rcases Nat.lt_or_ge j n with z | z
    · rw [pk_un (by omega)]
      exact ih z
    · have e : j = n := by omega
      subst e
      exact pk_us
section
variable {nr ne tc pc ec c : Nat} {kd ag iw ps : Nat → Int32} {sa rs : Nat → Int64} {gc : Nat → Int32} {ms : Nat → Int64} {mt pd : Nat → Int32} {el am hs ry mr mu my sc : Nat → Int32}
theorem dz_ynote {post : SY → Prop} {r : Nat} {k e m : Int32} (hc : c < ec) (hec : ec ≤ 64) (hr : r < 5)
    (h : post (nI nr, nI ne, nI tc, nI pc, nI ec, nI (c + 1), upd kd c k, upd el c e, upd am c m, upd iw c (nI r), dz_cp hs ry (c * ec) (r * ec) c, upd ry (r * ec + c) 1, mr, mu, my, sc)) :
    wpY_noteEvent post (nI nr, nI ne, nI tc, nI pc, nI ec, nI c, kd, el, am, iw, hs, ry, mr, mu, my, sc) k e m (nI r) := by
  have cl : (nI c).toNatClampNeg = c := nI_clamp (by omega)
  have vc : vp_in (nI c) 64 := vp_in_nI (by omega) (by decide)
  have L : ∀ n j : Nat, j ≤ c → c < n + j → wY_noteEvent_42 post (nI r) (nI c) (nI nr) (nI ne) (nI tc) (nI pc) (nI ec) (nI c) n (nI j) (upd kd c k) (upd el c e) (upd am c m) (upd iw c (nI r)) (dz_cp hs ry (c * ec) (r * ec) j) ry mr mu my sc := by
    intro n
    induction n with
    | zero => intro i h2 h3; omega
    | succ n ih =>
      intro j hj hn
      refine pk_le c j (fun z => ?_) (fun z => ?_)
      · have e : j = c := by omega
        subst e
        have hx : r * ec + j < 5 * 64 := dz_ix hr hc hec
        rw [dz_mi, nI_clamp (n := r * ec + j) (by omega)]
        exact ⟨vp_in_nI (by omega) (by decide), nm_e (nm_r (nI_1 _) h)⟩
      · have hx : r * ec + j < 5 * 64 := dz_ix hr (by omega) hec
        have hy : c * ec + j < 64 * 64 := dz_ix (by omega) (by omega) hec
        rw [dz_mi r, dz_mi c, nI_clamp (n := r * ec + j) (by omega), nI_clamp (n := c * ec + j) (by omega)]
        exact ⟨vp_in_nI (by omega) (by decide), vp_in_nI (by omega) (by decide), nm_e (nm_r (nI_1 _) (ih (j + 1) (by omega) (by omega)))⟩
  unfold wpY_noteEvent
  dsimp only
  rw [cl]
  exact ⟨vc, nm_e ⟨vc, nm_e ⟨vc, nm_e ⟨vc, nm_e ⟨c + 1, L (c + 1) 0 (Nat.zero_le _) (by omega)⟩⟩⟩⟩⟩
theorem dz_ygos_l {post : Int32 → SY → Prop} {r s : Nat} {t : Int32} (hec : ec ≤ 64) (hr : r < 5) (hs' : s < 6)
    (h : post (nI s) (nI nr, nI ne, nI tc, nI pc, nI ec, nI c, kd, el, am, iw, hs, ry, dz_cp mr ry (s * ec) (r * ec) ec, upd mu s 1, upd my s t, sc)) :
    ∀ n j : Nat, j ≤ ec → ec < n + j → wY_gossip_33 post (nI r) t (nI s) (nI nr) (nI ne) (nI tc) (nI pc) (nI ec) (nI c) n (nI j) kd el am iw hs ry (dz_cp mr ry (s * ec) (r * ec) j) mu my sc := by
  intro n
  induction n with
  | zero => intro i h2 h3; omega
  | succ n ih =>
    intro j hj hn
    refine pk_le ec j (fun z => ?_) (fun z => ?_)
    · have e : j = ec := by omega
      subst e
      rw [nI_clamp (n := s) (by omega)]
      exact ⟨vp_in_nI (by omega) (by decide), nm_e ⟨vp_in_nI (by omega) (by decide), nm_e h⟩⟩
    · have hx : r * ec + j < 5 * 64 := dz_ix hr (by omega) hec
      have hy : s * ec + j < 6 * 64 := dz_ix hs' (by omega) hec
      rw [dz_mi r, dz_mi s, nI_clamp (n := r * ec + j) (by omega), nI_clamp (n := s * ec + j) (by omega)]
      exact ⟨vp_in_nI (by omega) (by decide), vp_in_nI (by omega) (by decide), nm_e (nm_r (nI_1 _) (ih (j + 1) (by omega) (by omega)))⟩
theorem dz_ydup_l {post : Int32 → SY → Prop} {m s : Nat} (hec : ec ≤ 64) (hm : m < 6) (hs' : s < 6) (hne : m ≠ s)
    (h : post (nI s) (nI nr, nI ne, nI tc, nI pc, nI ec, nI c, kd, el, am, iw, hs, ry, dz_cp mr mr (s * ec) (m * ec) ec, upd mu s 1, upd my s (my m), sc)) :
    ∀ n j : Nat, j ≤ ec → ec < n + j → wY_dup_24 post (nI m) (nI s) (nI nr) (nI ne) (nI tc) (nI pc) (nI ec) (nI c) n (nI j) kd el am iw hs ry (dz_cp mr mr (s * ec) (m * ec) j) mu my sc := by
  intro n
  induction n with
  | zero => intro i h2 h3; omega
  | succ n ih =>
    intro j hj hn
    refine pk_le ec j (fun z => ?_) (fun z => ?_)
    · have e : j = ec := by omega
      subst e
      rw [nI_clamp (n := s) (by omega), nI_clamp (n := m) (by omega)]
      exact ⟨vp_in_nI (by omega) (by decide), nm_e ⟨vp_in_nI (by omega) (by decide), vp_in_nI (by omega) (by decide), nm_e h⟩⟩
    · have hx : m * ec + j < 6 * 64 := dz_ix hm (by omega) hec
      have hy : s * ec + j < 6 * 64 := dz_ix hs' (by omega) hec
      have hq : dz_cp mr mr (s * ec) (m * ec) j (m * ec + j) = mr (m * ec + j) := dz_cp_out j (fun i hi => dz_ne (by omega) (by omega) (Or.inl hne))
      rw [dz_mi m, dz_mi s, nI_clamp (n := m * ec + j) (by omega), nI_clamp (n := s * ec + j) (by omega), hq]
      exact ⟨vp_in_nI (by omega) (by decide), vp_in_nI (by omega) (by decide), nm_e (nm_r (nI_1 _) (ih (j + 1) (by omega) (by omega)))⟩
theorem dz_ydel_c {post : Int32 → SY → Prop} {m t : Nat} (hec : ec ≤ 64) (hm : m < 6) (ht : t < 5)
    (h : post 0 (nI nr, nI ne, nI tc, nI pc, nI ec, nI c, kd, el, am, iw, hs, dz_cp ry sc (t * ec) 0 ec, mr, upd mu m 0, my, sc)) :
    ∀ n j : Nat, j ≤ ec → ec < n + j → wY_deliver_98 post (nI m) (nI t) (nI nr) (nI ne) (nI tc) (nI pc) (nI ec) (nI c) n (nI j) kd el am iw hs (dz_cp ry sc (t * ec) 0 j) mr mu my sc := by
  intro n
  induction n with
  | zero => intro i h2 h3; omega
  | succ n ih =>
    intro j hj hn
    refine pk_le ec j (fun z => ?_) (fun z => ?_)
    · have e : j = ec := by omega
      subst e
      rw [nI_clamp (n := m) (by omega)]
      exact ⟨vp_in_nI (by omega) (by decide), nm_e h⟩
    · have hx : t * ec + j < 5 * 64 := dz_ix ht (by omega) hec
      have y := ih (j + 1) (by omega) (by omega)
      rw [dz_cp, Nat.zero_add] at y
      rw [dz_mi t, nI_clamp (n := t * ec + j) (by omega), nI_clamp (n := j) (by omega)]
      exact ⟨vp_in_nI (by omega) (by decide), vp_in_nI (by omega) (by decide), nm_e (nm_r (nI_1 _) y)⟩
theorem dz_ydel_s {post : Int32 → SY → Prop} {s : Int64} {m t : Nat} (H : dz_YH c ec kd ag sa el hs) (hr : nr ≤ 5) (he : ne ≤ 5) (htc : tc ≤ 32) (hm : m < 6) (ht : t < 5)
    (hu : ∀ j, j < ec → ((ry (t * ec + j) = 1 ∨ mr (m * ec + j) = 1) ↔ dz_b s j = true))
    (h1 : dz_prs c kd ag iw sa s nr ne ≤ tc → ∀ sc' : Nat → Int32, (∀ j, j < ec → (sc' j = 1 ↔ dz_b s j = true)) → post 0 (nI nr, nI ne, nI tc, nI pc, nI ec, nI c, kd, el, am, iw, hs, dz_cp ry sc' (t * ec) 0 ec, mr, upd mu m 0, my, sc'))
    (h2 : ¬ dz_prs c kd ag iw sa s nr ne ≤ tc → ∀ sc' : Nat → Int32, post 2 (nI nr, nI ne, nI tc, nI pc, nI ec, nI c, kd, el, am, iw, hs, ry, mr, mu, my, sc')) :
    ∀ (n j : Nat) (sc' : Nat → Int32), j ≤ ec → ec < n + j → (∀ i, i < j → (sc' i = 1 ↔ dz_b s i = true)) → wY_deliver_19 post (nI m) (nI t) (nI nr) (nI ne) (nI tc) (nI pc) (nI ec) (nI c) n (nI j) kd el am iw hs ry mr mu my sc' := by
  have H1 := H.1
  have H2 := H.2.1
  intro n
  induction n with
  | zero => intro j sc' h2 h3; omega
  | succ n ih =>
    intro j sc' hj hn hsc
    refine pk_le ec j (fun z => ?_) (fun z => ?_)
    · have e : j = ec := by omega
      have hpl : dz_prs c kd ag iw sa s nr ne ≤ ne * nr := dz_c2_le _ _ _
      have hpl2 : ne * nr ≤ 5 * 5 := Nat.mul_le_mul he hr
      refine dz_ypr_scratch (b := 0) (s := s) H (fun i hi => ?_) (by omega) hr he ?_
      · rw [Nat.zero_add]
        exact hsc i (by omega)
      · refine pk_le (dz_prs c kd ag iw sa s nr ne) tc (fun y => ?_) (fun y => ?_)
        · exact ⟨ec + 1, dz_ydel_c H2 hm ht (h1 y sc' (fun i hi => hsc i (by omega))) (ec + 1) 0 (Nat.zero_le _) (by omega)⟩
        · exact h2 (by omega) sc'
    · have hx : t * ec + j < 5 * 64 := dz_ix ht (by omega) H2
      have hy : m * ec + j < 6 * 64 := dz_ix hm (by omega) H2
      have vj : vp_in (nI j) 64 := vp_in_nI (by omega) (by decide)
      have st : ∀ x : Int32, (x = 1 ↔ dz_b s j = true) → ∀ y, y = nI j + 1 → wY_deliver_19 post (nI m) (nI t) (nI nr) (nI ne) (nI tc) (nI pc) (nI ec) (nI c) n y kd el am iw hs ry mr mu my (upd sc' j x) := by
        intro x hxx
        refine nm_r (nI_1 _) (ih (j + 1) (upd sc' j x) (by omega) (by omega) (fun i hi => ?_))
        rcases Nat.lt_or_ge i j with q | q
        · rw [pk_un (by omega)]
          exact hsc i q
        · have e : i = j := by omega
          subst e
          rw [pk_us]
          exact hxx
      rw [dz_mi t, dz_mi m, nI_clamp (n := t * ec + j) (by omega), nI_clamp (n := m * ec + j) (by omega), nI_clamp (n := j) (by omega)]
      refine ⟨vp_in_nI (by omega) (by decide), ?_⟩
      by_cases q1 : ry (t * ec + j) = 1
      · exact br_t q1 ⟨vj, nm_e (st 1 ⟨fun _ => (hu j z).mp (Or.inl q1), fun _ => rfl⟩)⟩
      · refine br_f q1 ⟨vp_in_nI (by omega) (by decide), ?_⟩
        by_cases q2 : mr (m * ec + j) = 1
        · exact br_t q2 ⟨vj, nm_e (st 1 ⟨fun _ => (hu j z).mp (Or.inr q2), fun _ => rfl⟩)⟩
        · exact br_f q2 ⟨vj, nm_e (st 0 ⟨fun y => absurd y (by decide), fun y => ((hu j z).mpr y).elim (fun w => absurd w q1) (fun w => absurd w q2)⟩)⟩
end
end
section
/-! the relation -/
def dz_I1 (nr ne tc pc ec c : Nat) : Prop := nr ≤ 5 ∧ ne ≤ 5 ∧ tc ≤ 32 ∧ pc ≤ 6 ∧ ec ≤ 64 ∧ c ≤ ec
def dz_I2 (nr ec c : Nat) (kd ag iw ps : Nat → Int32) (sa : Nat → Int64) (gc el am hs : Nat → Int32) : Prop :=
  (∀ i, c ≤ i → sa i = 0) ∧ (∀ i, i < c → ∃ w, w < nr ∧ iw i = nI w) ∧ (∀ i, i < c → ps i = nI (dz_ord iw (iw i) (i + 1))) ∧
  (∀ r, r < nr → gc r = nI (dz_ord iw (nI r) c)) ∧ (∀ i, i < c → kd i = 0 ∨ kd i = 1 → el i = ag i) ∧ (∀ i, i < c → kd i = 2 ∨ kd i = 3 → am i = ag i) ∧
  (∀ i j, j < ec → (hs (i * ec + j) = 1 ↔ dz_b (sa i) j = true))
def dz_I3 (ec c : Nat) (rs : Nat → Int64) (ry : Nat → Int32) : Prop :=
  (∀ r j, c ≤ j → dz_b (rs r) j = false) ∧ (∀ r j, j < ec → (ry (r * ec + j) = 1 ↔ dz_b (rs r) j = true))
def dz_slot (nr ec : Nat) (ms : Nat → Int64) (mt mr my : Nat → Int32) (s : Nat) : Prop :=
  my s = mt s ∧ (∃ w, w < nr ∧ mt s = nI w) ∧ ∀ j, j < ec → (mr (s * ec + j) = 1 ↔ dz_b (ms s) j = true)
def dz_I4 (nr pc ec c : Nat) (ms : Nat → Int64) (mt pd mr mu my : Nat → Int32) : Prop :=
  (∀ s j, c ≤ j → dz_b (ms s) j = false) ∧ ∀ s, s < pc → (pd s = 0 ∧ mu s = 0) ∨ (pd s = 1 ∧ mu s = 1 ∧ dz_slot nr ec ms mt mr my s)
def dz_I5 (nr ne tc c : Nat) (kd ag iw : Nat → Int32) (sa rs : Nat → Int64) : Prop := ∀ r, r < nr → dz_prs c kd ag iw sa (rs r) nr ne ≤ tc
def i_Rel (k : Nat) (u : SX) (v : SY) : Prop :=
  ∃ (nr ne tc pc ec c : Nat) (kd ag iw ps : Nat → Int32) (sa rs : Nat → Int64) (gc : Nat → Int32) (ms : Nat → Int64) (mt pd el am hs ry mr mu my sc : Nat → Int32),
    u = (nI nr, nI ne, nI tc, nI pc, nI ec, nI c, kd, ag, iw, ps, sa, rs, gc, ms, mt, pd) ∧ v = (nI nr, nI ne, nI tc, nI pc, nI ec, nI c, kd, el, am, iw, hs, ry, mr, mu, my, sc) ∧ dz_I1 nr ne tc pc ec c ∧ dz_I2 nr ec c kd ag iw ps sa gc el am hs ∧ dz_I3 ec c rs ry ∧ dz_I4 nr pc ec c ms mt pd mr mu my ∧ dz_I5 nr ne tc c kd ag iw sa rs
theorem i_up {k : Nat} {u : SX} {v : SY} (h : i_Rel k u v) : i_Rel (k + 4) u v := h
theorem dz_el {P : SX → SY → Prop} {k : Nat} {u : SX} {v : SY} (I : i_Rel k u v)
    (h : ∀ (nr ne tc pc ec c : Nat) (kd ag iw ps : Nat → Int32) (sa rs : Nat → Int64) (gc : Nat → Int32) (ms : Nat → Int64) (mt pd el am hs ry mr mu my sc : Nat → Int32),
      dz_I1 nr ne tc pc ec c → dz_I2 nr ec c kd ag iw ps sa gc el am hs → dz_I3 ec c rs ry → dz_I4 nr pc ec c ms mt pd mr mu my → dz_I5 nr ne tc c kd ag iw sa rs → P (nI nr, nI ne, nI tc, nI pc, nI ec, nI c, kd, ag, iw, ps, sa, rs, gc, ms, mt, pd) (nI nr, nI ne, nI tc, nI pc, nI ec, nI c, kd, el, am, iw, hs, ry, mr, mu, my, sc)) : P u v :=
  Exists.elim I fun nr z => Exists.elim z fun ne z => Exists.elim z fun tc z => Exists.elim z fun pc z => Exists.elim z fun ec z => Exists.elim z fun c z =>
  Exists.elim z fun kd z => Exists.elim z fun ag z => Exists.elim z fun iw z => Exists.elim z fun ps z => Exists.elim z fun sa z => Exists.elim z fun rs z =>
  Exists.elim z fun gc z => Exists.elim z fun ms z => Exists.elim z fun mt z => Exists.elim z fun pd z => Exists.elim z fun el z => Exists.elim z fun am z =>
  Exists.elim z fun hs z => Exists.elim z fun ry z => Exists.elim z fun mr z => Exists.elim z fun mu z => Exists.elim z fun my z => Exists.elim z fun sc z => by
    rw [z.1, z.2.1]
    exact h nr ne tc pc ec c kd ag iw ps sa rs gc ms mt pd el am hs ry mr mu my sc z.2.2.1 z.2.2.2.1 z.2.2.2.2.1 z.2.2.2.2.2.1 z.2.2.2.2.2.2
section
variable {nr ne tc pc ec c : Nat} {kd ag iw ps : Nat → Int32} {sa rs : Nat → Int64} {gc : Nat → Int32} {ms : Nat → Int64} {mt pd : Nat → Int32} {el am hs ry mr mu my sc : Nat → Int32} {k : Nat}
theorem dz_in (h1 : dz_I1 nr ne tc pc ec c) (h2 : dz_I2 nr ec c kd ag iw ps sa gc el am hs) (h3 : dz_I3 ec c rs ry) (h4 : dz_I4 nr pc ec c ms mt pd mr mu my) (h5 : dz_I5 nr ne tc c kd ag iw sa rs) : i_Rel k (nI nr, nI ne, nI tc, nI pc, nI ec, nI c, kd, ag, iw, ps, sa, rs, gc, ms, mt, pd) (nI nr, nI ne, nI tc, nI pc, nI ec, nI c, kd, el, am, iw, hs, ry, mr, mu, my, sc) :=
  ⟨nr, ne, tc, pc, ec, c, kd, ag, iw, ps, sa, rs, gc, ms, mt, pd, el, am, hs, ry, mr, mu, my, sc, rfl, rfl, h1, h2, h3, h4, h5⟩
/-! what the walks need of it -/
theorem dz_H (h1 : dz_I1 nr ne tc pc ec c) (h2 : dz_I2 nr ec c kd ag iw ps sa gc el am hs) : dz_YH c ec kd ag sa el hs :=
  ⟨h1.2.2.2.2.2, h1.2.2.2.2.1, h2.2.2.2.2.1, fun i j _ hj => h2.2.2.2.2.2.2 i j hj⟩
theorem dz_c64 (h1 : dz_I1 nr ne tc pc ec c) : c ≤ 64 := Nat.le_trans h1.2.2.2.2.2 h1.2.2.2.2.1
theorem dz_RR (h1 : dz_I1 nr ne tc pc ec c) (h3 : dz_I3 ec c rs ry) (r : Nat) : dz_rows ry (r * ec) c (rs r) := fun j hj => h3.2 r j (Nat.lt_of_lt_of_le hj h1.2.2.2.2.2)
theorem dz_bnd {r N : Nat} (h1 : dz_I1 nr ne tc pc ec c) (hr : r < N) : r * ec + c ≤ N * 64 := by
  have a1 : (r + 1) * ec ≤ N * ec := Nat.mul_le_mul_right ec hr
  have a2 : N * ec ≤ N * 64 := Nat.mul_le_mul_left N h1.2.2.2.2.1
  have a3 := h1.2.2.2.2.2
  rw [Nat.add_mul] at a1
  omega
theorem dz_arg (v : Int32) {n : Nat} (hn : n ≤ 6) : (v < 0 ∨ nI n ≤ v) ∨ ∃ j, j < n ∧ v = nI j := by
  rcases pk_ix v (n := n) (by omega) with h | h | h
  · exact Or.inl (Or.inl h)
  · exact Or.inl (Or.inr h)
  · exact Or.inr h
theorem dz_marg (v : Int32) (h1 : dz_I1 nr ne tc pc ec c) (h4 : dz_I4 nr pc ec c ms mt pd mr mu my) :
    ((v < 0 ∨ nI pc ≤ v ∨ ∃ j, j < pc ∧ v = nI j ∧ pd j = 0) ∧ (v < 0 ∨ nI pc ≤ v ∨ ∃ j, j < pc ∧ v = nI j ∧ ¬ mu j = 1)) ∨
    ∃ j, j < pc ∧ v = nI j ∧ pd j = 1 ∧ mu j = 1 ∧ dz_slot nr ec ms mt mr my j := by
  have hp := h1.2.2.2.1
  rcases pk_ix v (n := pc) (by omega) with h | h | ⟨j, hj, hv⟩
  · exact Or.inl ⟨Or.inl h, Or.inl h⟩
  · exact Or.inl ⟨Or.inr (Or.inl h), Or.inr (Or.inl h)⟩
  · rcases h4.2 j hj with ⟨a, b⟩ | ⟨a, b, d⟩
    · refine Or.inl ⟨Or.inr (Or.inr ⟨j, hj, hv, a⟩), Or.inr (Or.inr ⟨j, hj, hv, ?_⟩)⟩
      rw [b]
      decide
    · exact Or.inr ⟨j, hj, hv, a, b, d⟩
theorem dz_MR (h1 : dz_I1 nr ne tc pc ec c) {m : Nat} (hs : dz_slot nr ec ms mt mr my m) : dz_rows mr (m * ec) c (ms m) := fun j hj => hs.2.2 j (Nat.lt_of_lt_of_le hj h1.2.2.2.2.2)
/-- the first free slot, or none -/
theorem dz_fr (h4 : dz_I4 nr pc ec c ms mt pd mr mu my) :
    (∃ s, s < pc ∧ pd s = 0 ∧ mu s = 0 ∧ (∀ j, j < s → ¬ pd j = 0) ∧ (∀ j, j < s → ¬ mu j = 0)) ∨ ((∀ j, j < pc → ¬ pd j = 0) ∧ (∀ j, j < pc → ¬ mu j = 0)) := by
  have L : ∀ n, n ≤ pc → (∃ s, s < pc ∧ pd s = 0 ∧ mu s = 0 ∧ (∀ j, j < s → ¬ pd j = 0) ∧ (∀ j, j < s → ¬ mu j = 0)) ∨ ((∀ j, j < n → ¬ pd j = 0) ∧ (∀ j, j < n → ¬ mu j = 0)) := by
    intro n
    induction n with
    | zero => intro _; exact Or.inr ⟨fun j hj => absurd hj (by omega), fun j hj => absurd hj (by omega)⟩
    | succ n ih =>
      intro hn
      rcases ih (by omega) with h | ⟨ha, hb⟩
      · exact Or.inl h
      · rcases h4.2 n (by omega) with ⟨a, b⟩ | ⟨a, b, _⟩
        · exact Or.inl ⟨n, by omega, a, b, ha, hb⟩
        · refine Or.inr ⟨lt_s ha ?_, lt_s hb ?_⟩
          · rw [a]; decide
          · rw [b]; decide
  exact L pc (Nat.le_refl _)
/-! keeping it: the pool -/
theorem dz_put {s d t : Nat} {x : Int64} {g : Nat → Int32} (h4 : dz_I4 nr pc ec c ms mt pd mr mu my) (hx : ∀ j, c ≤ j → dz_b x j = false) (ht : t < nr) (hg : ∀ j, j < ec → (g (d + j) = 1 ↔ dz_b x j = true)) :
    dz_I4 nr pc ec c (vp_updL ms s x) (upd mt s (nI t)) (upd pd s 1) (dz_cp mr g (s * ec) d ec) (upd mu s 1) (upd my s (nI t)) := by
  refine ⟨fun q j hj => ?_, fun q hq => ?_⟩
  · by_cases e : q = s
    · subst e
      rw [pk_uLs]
      exact hx j hj
    · rw [pk_uLn e]
      exact h4.1 q j hj
  · by_cases e : q = s
    · subst e
      refine Or.inr ⟨pk_us, pk_us, ?_, ⟨t, ht, pk_us⟩, fun j hj => ?_⟩
      · rw [pk_us, pk_us]
      · rw [pk_uLs, dz_cp_in ec hj]
        exact hg j hj
    · unfold dz_slot
      rw [pk_un e, pk_un e, pk_un e, pk_un e, pk_uLn e]
      rcases h4.2 q hq with z | ⟨z1, z2, z3, z4, z5⟩
      · exact Or.inl z
      · refine Or.inr ⟨z1, z2, z3, z4, fun j hj => ?_⟩
        rw [dz_cp_out ec (fun i hi => dz_ne hj hi (Or.inl e))]
        exact z5 j hj
theorem dz_del {s : Nat} (h4 : dz_I4 nr pc ec c ms mt pd mr mu my) : dz_I4 nr pc ec c (vp_updL ms s 0) (upd mt s 0) (upd pd s 0) mr (upd mu s 0) my := by
  refine ⟨fun q j hj => ?_, fun q hq => ?_⟩
  · by_cases e : q = s
    · subst e
      rw [pk_uLs]
      exact dz_0 j
    · rw [pk_uLn e]
      exact h4.1 q j hj
  · by_cases e : q = s
    · subst e
      exact Or.inl ⟨pk_us, pk_us⟩
    · unfold dz_slot
      rw [pk_un e, pk_un e, pk_un e, pk_uLn e]
      exact h4.2 q hq
/-! keeping it: a delivered set -/
theorem dz_rep {t : Nat} {x : Int64} (h3 : dz_I3 ec c rs ry) (hx : ∀ j, c ≤ j → dz_b x j = false) (hg : ∀ j, j < ec → (sc j = 1 ↔ dz_b x j = true)) : dz_I3 ec c (vp_updL rs t x) (dz_cp ry sc (t * ec) 0 ec) := by
  refine ⟨fun q j hj => ?_, fun q j hj => ?_⟩
  · by_cases e : q = t
    · subst e
      rw [pk_uLs]
      exact hx j hj
    · rw [pk_uLn e]
      exact h3.1 q j hj
  · by_cases e : q = t
    · subst e
      rw [pk_uLs, dz_cp_in ec hj, Nat.zero_add]
      exact hg j hj
    · rw [pk_uLn e, dz_cp_out ec (fun i hi => dz_ne hj hi (Or.inl e))]
      exact h3.2 q j hj
theorem dz_rep5 {t : Nat} {x : Int64} (h5 : dz_I5 nr ne tc c kd ag iw sa rs) (hx : dz_prs c kd ag iw sa x nr ne ≤ tc) : dz_I5 nr ne tc c kd ag iw sa (vp_updL rs t x) := by
  intro r hr
  by_cases e : r = t
  · subst e
    rw [pk_uLs]
    exact hx
  · rw [pk_uLn e]
    exact h5 r hr
/-! keeping it: a new event -/
theorem dz_ord_cg {i1 i2 : Nat → Int32} {w : Int32} {n : Nat} (h : ∀ j, j < n → i1 j = i2 j) : dz_ord i1 w n = dz_ord i2 w n :=
  dz_cnt_cg (fun j hj => by rw [h j hj])
theorem dz_ev2 {r : Nat} {q a e m : Int32} (h1 : dz_I1 nr ne tc pc ec c) (h2 : dz_I2 nr ec c kd ag iw ps sa gc el am hs) (h3 : dz_I3 ec c rs ry) (hc : c < ec) (hr : r < nr)
    (he : q = 0 ∨ q = 1 → e = a) (hm : q = 2 ∨ q = 3 → m = a) :
    dz_I2 nr ec (c + 1) (upd kd c q) (upd ag c a) (upd iw c (nI r)) (upd ps c (gc r + 1)) (vp_updL sa c (rs r)) (upd gc r (gc r + 1)) (upd el c e) (upd am c m) (dz_cp hs ry (c * ec) (r * ec) c) := by
  obtain ⟨a1, a2, a3, a4, a5, a6, a7⟩ := h2
  have h5 := h1.1
  have hec := h1.2.2.2.2.1
  have low : ∀ n, n ≤ c → ∀ w, dz_ord (upd iw c (nI r)) w n = dz_ord iw w n := fun n hn w => dz_ord_cg (fun j hj => pk_un (by omega))
  refine ⟨fun i hi => ?_, fun i hi => ?_, fun i hi => ?_, fun r' hr' => ?_, fun i hi => ?_, fun i hi => ?_, fun i j hj => ?_⟩
  · rw [pk_uLn (by omega)]
    exact a1 i (by omega)
  · by_cases z : i = c
    · subst z
      exact ⟨r, hr, pk_us⟩
    · rw [pk_un z]
      exact a2 i (by omega)
  · by_cases z : i = c
    · subst z
      rw [pk_us, pk_us, dz_ord_t pk_us, low i (Nat.le_refl _), a4 r hr, nI_1]
    · rw [pk_un z, pk_un z, low (i + 1) (by omega)]
      exact a3 i (by omega)
  · by_cases z : r' = r
    · subst z
      rw [pk_us, dz_ord_t pk_us, low c (Nat.le_refl _), a4 r' hr, nI_1]
    · have nn : ¬ upd iw c (nI r) c = nI r' := by
        rw [pk_us, nI_eq (by omega) (by omega)]
        omega
      rw [pk_un z, dz_ord_f nn, low c (Nat.le_refl _)]
      exact a4 r' hr'
  · by_cases z : i = c
    · subst z
      rw [pk_us, pk_us, pk_us]
      exact he
    · rw [pk_un z, pk_un z, pk_un z]
      exact a5 i (by omega)
  · by_cases z : i = c
    · subst z
      rw [pk_us, pk_us, pk_us]
      exact hm
    · rw [pk_un z, pk_un z, pk_un z]
      exact a6 i (by omega)
  · by_cases z : i = c
    · subst z
      rw [pk_uLs]
      rcases Nat.lt_or_ge j i with y | y
      · rw [dz_cp_in i y]
        exact h3.2 r j hj
      · rw [dz_cp_out i (fun x hx => by omega), a7 i j hj, a1 i (Nat.le_refl _), dz_0, h3.1 r j y]
    · rw [pk_uLn z, dz_cp_out c (fun x hx => dz_ne hj (by omega) (Or.inl z))]
      exact a7 i j hj
theorem dz_ev3 {r : Nat} (h1 : dz_I1 nr ne tc pc ec c) (h3 : dz_I3 ec c rs ry) (hc : c < ec) :
    dz_I3 ec (c + 1) (vp_updL rs r ((rs r) ||| ((1 : Int64) <<< ((nI c).toInt64 &&& 63)))) (upd ry (r * ec + c) 1) := by
  have hec := h1.2.2.2.2.1
  refine ⟨fun q j hj => ?_, fun q j hj => ?_⟩
  · by_cases z : q = r
    · subst z
      rw [pk_uLs, dz_ior (by omega), h3.1 q j (by omega), decide_eq_false (by omega)]
      rfl
    · rw [pk_uLn z]
      exact h3.1 q j (by omega)
  · by_cases z : q = r
    · subst z
      rw [pk_uLs, dz_ior (by omega)]
      by_cases y : c = j
      · subst y
        rw [pk_us, decide_eq_true rfl, Bool.or_true]
        exact ⟨fun _ => rfl, fun _ => rfl⟩
      · rw [pk_un (dz_ne hj hc (Or.inr (fun x => y x.symm))), decide_eq_false y, Bool.or_false]
        exact h3.2 q j hj
    · rw [pk_uLn z, pk_un (dz_ne hj hc (Or.inl z))]
      exact h3.2 q j hj
theorem dz_ev4 (h4 : dz_I4 nr pc ec c ms mt pd mr mu my) : dz_I4 nr pc ec (c + 1) ms mt pd mr mu my := ⟨fun s j hj => h4.1 s j (by omega), h4.2⟩
theorem dz_ev5 {r : Nat} {q a : Int32} (h1 : dz_I1 nr ne tc pc ec c) (h3 : dz_I3 ec c rs ry) (h5 : dz_I5 nr ne tc c kd ag iw sa rs) (hc : c < ec) (hr : r < nr)
    (hq : ¬ q = 0 ∨ 0 < dz_dot c kd ag iw sa (rs r) a (nI r) ∨ (dz_prs c kd ag iw sa (rs r) nr ne < tc ∧ ∃ e, e < ne ∧ a = nI e)) :
    dz_I5 nr ne tc (c + 1) (upd kd c q) (upd ag c a) (upd iw c (nI r)) (vp_updL sa c (rs r)) (vp_updL rs r ((rs r) ||| ((1 : Int64) <<< ((nI c).toInt64 &&& 63)))) := by
  have hec := h1.2.2.2.2.1
  have hnr := h1.1
  have hne := h1.2.1
  intro r' hr'
  by_cases z : r' = r
  · subst z
    rw [pk_uLs]
    have hs : ∀ i, i < c → dz_b ((rs r') ||| ((1 : Int64) <<< ((nI c).toInt64 &&& 63))) i = dz_b (rs r') i := by
      intro i hi
      rw [dz_ior (by omega), decide_eq_false (by omega), Bool.or_false]
    rcases hq with y | y | ⟨y, e, he, rfl⟩
    · exact Nat.le_trans (dz_prs_le hs (Or.inl y)) (h5 r' hr')
    · exact Nat.le_trans (dz_prs_le hs (Or.inr (Or.inr y))) (h5 r' hr')
    · exact Nat.le_trans (dz_prs_le1 hs (by omega) (by omega) (by omega) (by omega)) y
  · rw [pk_uLn z]
    exact Nat.le_trans (dz_prs_le (fun i hi => rfl) (Or.inr (Or.inl (h3.1 r' c (Nat.le_refl _))))) (h5 r' hr')
theorem dz_ev1 (h1 : dz_I1 nr ne tc pc ec c) (hc : c < ec) : dz_I1 nr ne tc pc ec (c + 1) := ⟨h1.1, h1.2.1, h1.2.2.1, h1.2.2.2.1, h1.2.2.2.2.1, hc⟩
theorem dz_prs_25 {s : Int64} (h1 : dz_I1 nr ne tc pc ec c) : dz_prs c kd ag iw sa s nr ne ≤ 25 := Nat.le_trans (dz_c2_le _ _ _) (Nat.mul_le_mul h1.2.1 h1.1)
end
/-! the constructors -/
theorem dz_clamp (v m : Int32) (M : Nat) (hm : m = nI M) (hM : M < 2 ^ 31) : ∃ t, t ≤ M ∧ (∀ A : Int32 → Prop, A (nI t) → ((0 ≤ v → ((v ≤ m → A v) ∧ (¬ v ≤ m → A m))) ∧ (¬ 0 ≤ v → A 0))) := by
  subst hm
  by_cases h : 0 ≤ v
  · obtain ⟨j, hj, rfl⟩ := nI_of (x := v) (Int32.not_lt.mpr h)
    by_cases h2 : j ≤ M
    · exact ⟨j, h2, fun A a => br_t h (br_t (nI_le h2 hM) a)⟩
    · exact ⟨M, Nat.le_refl _, fun A a => br_t h (br_f (nI_ge (by omega) hj) a)⟩
  · exact ⟨0, Nat.zero_le _, fun A a => br_f h a⟩
theorem dz_c2_0 {f : Nat → Nat → Bool} {m n : Nat} (h : ∀ e w, f e w = false) : dz_c2 f m n = 0 := by
  have h1 : ∀ e k, dz_cnt (f e) k = 0 := by
    intro e k
    induction k with
    | zero => rfl
    | succ k ih => rw [dz_cnt_f (by rw [h e k]; decide), ih]
  induction n with
  | zero => rfl
  | succ n ih => rw [dz_c2, ih, h1]
def dz_CL (v m : Int32) (t : Nat) : Prop := ∀ A : Int32 → Prop, A (nI t) → ((0 ≤ v → ((v ≤ m → A v) ∧ (¬ v ≤ m → A m))) ∧ (¬ 0 ≤ v → A 0))
theorem dz_xinit {post : SX → Prop} {k0 k1 k2 k3 k4 : Int32} {t0 t1 t2 t3 t4 : Nat} (A0 : dz_CL k0 5 t0) (A1 : dz_CL k1 5 t1) (A2 : dz_CL k2 32 t2) (A3 : dz_CL k3 6 t3) (A4 : dz_CL k4 64 t4)
    (h : post (nI t0, nI t1, nI t2, nI t3, nI t4, 0, (fun _ => 0), (fun _ => 0), (fun _ => 0), (fun _ => 0), (fun _ => 0), (fun _ => 0), (fun _ => 0), (fun _ => 0), (fun _ => 0), (fun _ => 0))) : wpX_init post k0 k1 k2 k3 k4 := by
  refine A0 (fun z => wX_init_101 post k1 k2 k3 k4 z 0 0 0 0 0 0 (fun _ => 0) (fun _ => 0) (fun _ => 0) (fun _ => 0) (fun _ => 0) (fun _ => 0) (fun _ => 0) (fun _ => 0) (fun _ => 0) (fun _ => 0)) ?_
  refine A1 (fun z => wX_init_123 post k2 k3 k4 z (nI t0) 0 0 0 0 0 (fun _ => 0) (fun _ => 0) (fun _ => 0) (fun _ => 0) (fun _ => 0) (fun _ => 0) (fun _ => 0) (fun _ => 0) (fun _ => 0) (fun _ => 0)) ?_
  refine A2 (fun z => wX_init_147 post k3 k4 z (nI t0) (nI t1) 0 0 0 0 (fun _ => 0) (fun _ => 0) (fun _ => 0) (fun _ => 0) (fun _ => 0) (fun _ => 0) (fun _ => 0) (fun _ => 0) (fun _ => 0) (fun _ => 0)) ?_
  refine A3 (fun z => wX_init_174 post k4 z (nI t0) (nI t1) (nI t2) 0 0 0 (fun _ => 0) (fun _ => 0) (fun _ => 0) (fun _ => 0) (fun _ => 0) (fun _ => 0) (fun _ => 0) (fun _ => 0) (fun _ => 0) (fun _ => 0)) ?_
  exact A4 (fun z => post (nI t0, nI t1, nI t2, nI t3, z, 0, (fun _ => 0), (fun _ => 0), (fun _ => 0), (fun _ => 0), (fun _ => 0), (fun _ => 0), (fun _ => 0), (fun _ => 0), (fun _ => 0), (fun _ => 0))) h
theorem dz_ycl {post : Int32 → Prop} {v m : Int32} {t : Nat} (A : dz_CL v m t) (h : post (nI t)) : wpY_clamp post v m := A post h
theorem dz_yinit {post : SY → Prop} {k0 k1 k2 k3 k4 : Int32} {t0 t1 t2 t3 t4 : Nat} (A0 : dz_CL k0 5 t0) (A1 : dz_CL k1 5 t1) (A2 : dz_CL k2 32 t2) (A3 : dz_CL k3 6 t3) (A4 : dz_CL k4 64 t4)
    (h : post (nI t0, nI t1, nI t2, nI t3, nI t4, 0, (fun _ => 0), (fun _ => 0), (fun _ => 0), (fun _ => 0), (fun _ => 0), (fun _ => 0), (fun _ => 0), (fun _ => 0), (fun _ => 0), (fun _ => 0))) : wpY_init post k0 k1 k2 k3 k4 := by
  unfold wpY_init
  exact dz_ycl A0 (dz_ycl A1 (dz_ycl A2 (dz_ycl A3 (dz_ycl A4 h))))
theorem dz_zz (j : Nat) : (0 : Int32) = 1 ↔ dz_b 0 j = true := by
  rw [dz_0]
  exact ⟨fun z => absurd z (by decide), fun z => absurd z (by decide)⟩
theorem i_vc0 (k0 : Int32) (k1 : Int32) (k2 : Int32) (k3 : Int32) (k4 : Int32) : wpX_init (fun u => wpY_init (fun v => i_Rel 5 u v) k0 k1 k2 k3 k4) k0 k1 k2 k3 k4 := by
  obtain ⟨t0, b0, A0⟩ := dz_clamp k0 5 5 rfl (by decide)
  obtain ⟨t1, b1, A1⟩ := dz_clamp k1 5 5 rfl (by decide)
  obtain ⟨t2, b2, A2⟩ := dz_clamp k2 32 32 rfl (by decide)
  obtain ⟨t3, b3, A3⟩ := dz_clamp k3 6 6 rfl (by decide)
  obtain ⟨t4, b4, A4⟩ := dz_clamp k4 64 64 rfl (by decide)
  refine dz_xinit A0 A1 A2 A3 A4 (dz_yinit A0 A1 A2 A3 A4 ?_)
  refine dz_in (c := 0) ⟨b0, b1, b2, b3, b4, Nat.zero_le _⟩ ⟨fun _ _ => rfl, fun i hi => absurd hi (Nat.not_lt_zero _), fun i hi => absurd hi (Nat.not_lt_zero _), fun r hr => rfl, fun i hi => absurd hi (Nat.not_lt_zero _), fun i hi => absurd hi (Nat.not_lt_zero _), fun i j hj => dz_zz j⟩ ⟨fun r j hj => dz_0 j, fun r j hj => dz_zz j⟩ ⟨fun s j hj => dz_0 j, fun s hs => Or.inl ⟨rfl, rfl⟩⟩ ?_
  intro r hr
  exact Nat.le_trans (Nat.le_of_eq (dz_c2_0 (fun e w => rfl))) (Nat.zero_le _)
end
section
/-! the calls that only read -/
theorem i_vc_replicas {k : Nat} {u : SX} {v : SY} (I : i_Rel k u v) (hk : k + 4 ≤ 2053) : wpX_replicas (fun r => wpY_replicas (fun r' => r' = r ∧ i_Rel (k + 4) u v) v) u := by
  refine dz_el (P := fun u v => wpX_replicas (fun r => wpY_replicas (fun r' => r' = r ∧ i_Rel (k + 4) u v) v) u) I ?_
  intro nr ne tc pc ec c kd ag iw ps sa rs gc ms mt pd el am hs ry mr mu my sc h1 h2 h3 h4 h5
  have RR : i_Rel (k + 4) (nI nr, nI ne, nI tc, nI pc, nI ec, nI c, kd, ag, iw, ps, sa, rs, gc, ms, mt, pd) (nI nr, nI ne, nI tc, nI pc, nI ec, nI c, kd, el, am, iw, hs, ry, mr, mu, my, sc) := dz_in h1 h2 h3 h4 h5
  have hc := dz_c64 h1
  have hr5 := h1.1
  have he5 := h1.2.1
  have hp6 := h1.2.2.2.1
  exact ⟨rfl, RR⟩
theorem i_vc_elements {k : Nat} {u : SX} {v : SY} (I : i_Rel k u v) (hk : k + 4 ≤ 2053) : wpX_elements (fun r => wpY_elements (fun r' => r' = r ∧ i_Rel (k + 4) u v) v) u := by
  refine dz_el (P := fun u v => wpX_elements (fun r => wpY_elements (fun r' => r' = r ∧ i_Rel (k + 4) u v) v) u) I ?_
  intro nr ne tc pc ec c kd ag iw ps sa rs gc ms mt pd el am hs ry mr mu my sc h1 h2 h3 h4 h5
  have RR : i_Rel (k + 4) (nI nr, nI ne, nI tc, nI pc, nI ec, nI c, kd, ag, iw, ps, sa, rs, gc, ms, mt, pd) (nI nr, nI ne, nI tc, nI pc, nI ec, nI c, kd, el, am, iw, hs, ry, mr, mu, my, sc) := dz_in h1 h2 h3 h4 h5
  have hc := dz_c64 h1
  have hr5 := h1.1
  have he5 := h1.2.1
  have hp6 := h1.2.2.2.1
  exact ⟨rfl, RR⟩
theorem i_vc_tagCapacity {k : Nat} {u : SX} {v : SY} (I : i_Rel k u v) (hk : k + 4 ≤ 2053) : wpX_tagCapacity (fun r => wpY_tagCapacity (fun r' => r' = r ∧ i_Rel (k + 4) u v) v) u := by
  refine dz_el (P := fun u v => wpX_tagCapacity (fun r => wpY_tagCapacity (fun r' => r' = r ∧ i_Rel (k + 4) u v) v) u) I ?_
  intro nr ne tc pc ec c kd ag iw ps sa rs gc ms mt pd el am hs ry mr mu my sc h1 h2 h3 h4 h5
  have RR : i_Rel (k + 4) (nI nr, nI ne, nI tc, nI pc, nI ec, nI c, kd, ag, iw, ps, sa, rs, gc, ms, mt, pd) (nI nr, nI ne, nI tc, nI pc, nI ec, nI c, kd, el, am, iw, hs, ry, mr, mu, my, sc) := dz_in h1 h2 h3 h4 h5
  have hc := dz_c64 h1
  have hr5 := h1.1
  have he5 := h1.2.1
  have hp6 := h1.2.2.2.1
  exact ⟨rfl, RR⟩
theorem i_vc_poolCapacity {k : Nat} {u : SX} {v : SY} (I : i_Rel k u v) (hk : k + 4 ≤ 2053) : wpX_poolCapacity (fun r => wpY_poolCapacity (fun r' => r' = r ∧ i_Rel (k + 4) u v) v) u := by
  refine dz_el (P := fun u v => wpX_poolCapacity (fun r => wpY_poolCapacity (fun r' => r' = r ∧ i_Rel (k + 4) u v) v) u) I ?_
  intro nr ne tc pc ec c kd ag iw ps sa rs gc ms mt pd el am hs ry mr mu my sc h1 h2 h3 h4 h5
  have RR : i_Rel (k + 4) (nI nr, nI ne, nI tc, nI pc, nI ec, nI c, kd, ag, iw, ps, sa, rs, gc, ms, mt, pd) (nI nr, nI ne, nI tc, nI pc, nI ec, nI c, kd, el, am, iw, hs, ry, mr, mu, my, sc) := dz_in h1 h2 h3 h4 h5
  have hc := dz_c64 h1
  have hr5 := h1.1
  have he5 := h1.2.1
  have hp6 := h1.2.2.2.1
  exact ⟨rfl, RR⟩
theorem i_vc_eventCapacity {k : Nat} {u : SX} {v : SY} (I : i_Rel k u v) (hk : k + 4 ≤ 2053) : wpX_eventCapacity (fun r => wpY_eventCapacity (fun r' => r' = r ∧ i_Rel (k + 4) u v) v) u := by
  refine dz_el (P := fun u v => wpX_eventCapacity (fun r => wpY_eventCapacity (fun r' => r' = r ∧ i_Rel (k + 4) u v) v) u) I ?_
  intro nr ne tc pc ec c kd ag iw ps sa rs gc ms mt pd el am hs ry mr mu my sc h1 h2 h3 h4 h5
  have RR : i_Rel (k + 4) (nI nr, nI ne, nI tc, nI pc, nI ec, nI c, kd, ag, iw, ps, sa, rs, gc, ms, mt, pd) (nI nr, nI ne, nI tc, nI pc, nI ec, nI c, kd, el, am, iw, hs, ry, mr, mu, my, sc) := dz_in h1 h2 h3 h4 h5
  have hc := dz_c64 h1
  have hr5 := h1.1
  have he5 := h1.2.1
  have hp6 := h1.2.2.2.1
  exact ⟨rfl, RR⟩
theorem i_vc_events {k : Nat} {u : SX} {v : SY} (I : i_Rel k u v) (hk : k + 4 ≤ 2053) : wpX_events (fun r => wpY_events (fun r' => r' = r ∧ i_Rel (k + 4) u v) v) u := by
  refine dz_el (P := fun u v => wpX_events (fun r => wpY_events (fun r' => r' = r ∧ i_Rel (k + 4) u v) v) u) I ?_
  intro nr ne tc pc ec c kd ag iw ps sa rs gc ms mt pd el am hs ry mr mu my sc h1 h2 h3 h4 h5
  have RR : i_Rel (k + 4) (nI nr, nI ne, nI tc, nI pc, nI ec, nI c, kd, ag, iw, ps, sa, rs, gc, ms, mt, pd) (nI nr, nI ne, nI tc, nI pc, nI ec, nI c, kd, el, am, iw, hs, ry, mr, mu, my, sc) := dz_in h1 h2 h3 h4 h5
  have hc := dz_c64 h1
  have hr5 := h1.1
  have he5 := h1.2.1
  have hp6 := h1.2.2.2.1
  exact ⟨rfl, RR⟩
section
variable {nr ne tc pc ec c : Nat} {kd ag iw ps : Nat → Int32} {sa rs : Nat → Int64} {gc : Nat → Int32} {ms : Nat → Int64} {mt pd : Nat → Int32} {el am hs ry mr mu my sc : Nat → Int32}
/-- contains, on both sides, for good arguments -/
theorem dz_xcon {post : Int32 → Prop} {r e : Nat} (h1 : dz_I1 nr ne tc pc ec c) (h2 : dz_I2 nr ec c kd ag iw ps sa gc el am hs) (hr : r < nr) (he : e < ne)
    (g1 : dz_con c kd ag iw sa (rs r) nr (nI e) = true → post 1) (g0 : dz_con c kd ag iw sa (rs r) nr (nI e) = false → post 0) : wpX_contains post (nI nr, nI ne, nI tc, nI pc, nI ec, nI c, kd, ag, iw, ps, sa, rs, gc, ms, mt, pd) (nI r) (nI e) := by
  unfold wpX_contains
  dsimp only
  refine dz_xrep1 hr h1.1 (br_f (by decide) (dz_xelm1 he h1.2.1 (br_f (by decide) ⟨nr + 1, ?_⟩)))
  exact dz_xcon_l (dz_c64 h1) h2.2.2.1 h1.1 hr g1 g0 (nr + 1) 0 (Nat.zero_le _) (by omega) rfl
theorem dz_ycon {post : Int32 → Prop} {r e : Nat} (h1 : dz_I1 nr ne tc pc ec c) (h2 : dz_I2 nr ec c kd ag iw ps sa gc el am hs) (h3 : dz_I3 ec c rs ry) (hr : r < nr) (he : e < ne)
    (g1 : dz_con c kd ag iw sa (rs r) nr (nI e) = true → post 1) (g0 : dz_con c kd ag iw sa (rs r) nr (nI e) = false → post 0) : wpY_contains post (nI nr, nI ne, nI tc, nI pc, nI ec, nI c, kd, el, am, iw, hs, ry, mr, mu, my, sc) (nI r) (nI e) := by
  have hb := dz_bnd (N := 5) h1 (Nat.lt_of_lt_of_le hr h1.1)
  rw [dz_con_eq h2.2.1] at g1 g0
  unfold wpY_contains
  dsimp only
  refine dz_yrep1 hr h1.1 (br_f (by decide) (dz_yelm1 he h1.2.1 (br_f (by decide) ⟨c + 1, ?_⟩)))
  exact dz_ycon_l (dz_H h1 h2) (dz_RR h1 h3 r) hb g1 g0 (c + 1) 0 (Nat.zero_le _) (by omega) rfl
theorem dz_xsz {post : Int32 → Prop} {r : Nat} (h1 : dz_I1 nr ne tc pc ec c) (h2 : dz_I2 nr ec c kd ag iw ps sa gc el am hs) (hr : r < nr)
    (h : post (nI (dz_cnt (fun e => dz_con c kd ag iw sa (rs r) nr (nI e)) ne))) :
    ∀ n e : Nat, e ≤ ne → ne < n + e → wX_sizeOf_14 post (nI r) (nI nr) (nI ne) (nI tc) (nI pc) (nI ec) (nI c) kd ag iw ps sa rs gc ms mt pd n (nI (dz_cnt (fun e => dz_con c kd ag iw sa (rs r) nr (nI e)) e)) (nI e) := by
  have he5 := h1.2.1
  intro n
  induction n with
  | zero => intro i a b; omega
  | succ n ih =>
    intro e a b
    refine pk_le ne e (fun z => ?_) (fun z => ?_)
    · have e1 : e = ne := by omega
      rw [e1]
      exact h
    · have y := ih (e + 1) (by omega) (by omega)
      refine dz_xcon h1 h2 hr z (fun w => ?_) (fun w => ?_)
      · rw [dz_cnt_t (f := fun e => dz_con c kd ag iw sa (rs r) nr (nI e)) w] at y
        exact br_f (by decide) (nm_r (nI_1 _) (nm_r (nI_1 _) y))
      · rw [dz_cnt_f (f := fun e => dz_con c kd ag iw sa (rs r) nr (nI e)) (by simp [w])] at y
        exact br_t rfl (nm_r (nI_1 _) y)
theorem dz_ysz {post : Int32 → Prop} {r : Nat} (h1 : dz_I1 nr ne tc pc ec c) (h2 : dz_I2 nr ec c kd ag iw ps sa gc el am hs) (h3 : dz_I3 ec c rs ry) (hr : r < nr)
    (h : post (nI (dz_cnt (fun e => dz_con c kd ag iw sa (rs r) nr (nI e)) ne))) :
    ∀ n e : Nat, e ≤ ne → ne < n + e → wY_sizeOf_14 post (nI r) (nI nr) (nI ne) (nI tc) (nI pc) (nI ec) (nI c) kd el am iw hs ry mr mu my sc n (nI (dz_cnt (fun e => dz_con c kd ag iw sa (rs r) nr (nI e)) e)) (nI e) := by
  have he5 := h1.2.1
  intro n
  induction n with
  | zero => intro i a b; omega
  | succ n ih =>
    intro e a b
    refine pk_le ne e (fun z => ?_) (fun z => ?_)
    · have e1 : e = ne := by omega
      rw [e1]
      exact h
    · have y := ih (e + 1) (by omega) (by omega)
      refine dz_ycon h1 h2 h3 hr z (fun w => ?_) (fun w => ?_)
      · rw [dz_cnt_t (f := fun e => dz_con c kd ag iw sa (rs r) nr (nI e)) w] at y
        exact br_f (by decide) (nm_r (nI_1 _) (nm_r (nI_1 _) y))
      · rw [dz_cnt_f (f := fun e => dz_con c kd ag iw sa (rs r) nr (nI e)) (by simp [w])] at y
        exact br_t rfl (nm_r (nI_1 _) y)
end
theorem i_vc_contains {k : Nat} {u : SX} {v : SY} (I : i_Rel k u v) (hk : k + 4 ≤ 2053) (v1 : Int32) (v2 : Int32) : wpX_contains (fun r => wpY_contains (fun r' => r' = r ∧ i_Rel (k + 4) u v) v v1 v2) u v1 v2 := by
  refine dz_el (P := fun u v => wpX_contains (fun r => wpY_contains (fun r' => r' = r ∧ i_Rel (k + 4) u v) v v1 v2) u v1 v2) I ?_
  intro nr ne tc pc ec c kd ag iw ps sa rs gc ms mt pd el am hs ry mr mu my sc h1 h2 h3 h4 h5
  have RR : i_Rel (k + 4) (nI nr, nI ne, nI tc, nI pc, nI ec, nI c, kd, ag, iw, ps, sa, rs, gc, ms, mt, pd) (nI nr, nI ne, nI tc, nI pc, nI ec, nI c, kd, el, am, iw, hs, ry, mr, mu, my, sc) := dz_in h1 h2 h3 h4 h5
  have hc := dz_c64 h1
  have hr5 := h1.1
  have he5 := h1.2.1
  have hp6 := h1.2.2.2.1
  rcases dz_arg v1 (n := nr) (by omega) with hv | ⟨r, hr, rfl⟩
  · unfold wpX_contains wpY_contains
    dsimp only
    exact dz_xrep0 hv (br_t rfl (dz_yrep0 hv (br_t rfl ⟨rfl, RR⟩)))
  · rcases dz_arg v2 (n := ne) (by omega) with hw | ⟨e, he, rfl⟩
    · unfold wpX_contains wpY_contains
      dsimp only
      exact dz_xrep1 hr hr5 (br_f (by decide) (dz_xelm0 hw (br_t rfl (dz_yrep1 hr hr5 (br_f (by decide) (dz_yelm0 hw (br_t rfl ⟨rfl, RR⟩)))))))
    · refine dz_xcon h1 h2 hr he (fun z => ?_) (fun z => ?_)
      · exact dz_ycon h1 h2 h3 hr he (fun _ => ⟨rfl, RR⟩) (fun y => absurd (z.symm.trans y) (by decide))
      · exact dz_ycon h1 h2 h3 hr he (fun y => absurd (z.symm.trans y) (by decide)) (fun _ => ⟨rfl, RR⟩)
theorem i_vc_sizeOf {k : Nat} {u : SX} {v : SY} (I : i_Rel k u v) (hk : k + 4 ≤ 2053) (v1 : Int32) : wpX_sizeOf (fun r => wpY_sizeOf (fun r' => r' = r ∧ i_Rel (k + 4) u v) v v1) u v1 := by
  refine dz_el (P := fun u v => wpX_sizeOf (fun r => wpY_sizeOf (fun r' => r' = r ∧ i_Rel (k + 4) u v) v v1) u v1) I ?_
  intro nr ne tc pc ec c kd ag iw ps sa rs gc ms mt pd el am hs ry mr mu my sc h1 h2 h3 h4 h5
  have RR : i_Rel (k + 4) (nI nr, nI ne, nI tc, nI pc, nI ec, nI c, kd, ag, iw, ps, sa, rs, gc, ms, mt, pd) (nI nr, nI ne, nI tc, nI pc, nI ec, nI c, kd, el, am, iw, hs, ry, mr, mu, my, sc) := dz_in h1 h2 h3 h4 h5
  have hc := dz_c64 h1
  have hr5 := h1.1
  have he5 := h1.2.1
  have hp6 := h1.2.2.2.1
  unfold wpX_sizeOf wpY_sizeOf
  dsimp only
  rcases dz_arg v1 (n := nr) (by omega) with hv | ⟨r, hr, rfl⟩
  · exact dz_xrep0 hv (br_t rfl (dz_yrep0 hv (br_t rfl ⟨rfl, RR⟩)))
  · refine dz_xrep1 hr hr5 (br_f (by decide) ⟨ne + 1, ?_⟩)
    refine dz_xsz h1 h2 hr ?_ (ne + 1) 0 (Nat.zero_le _) (by omega)
    refine dz_yrep1 hr hr5 (br_f (by decide) ⟨ne + 1, ?_⟩)
    exact dz_ysz h1 h2 h3 hr ⟨rfl, RR⟩ (ne + 1) 0 (Nat.zero_le _) (by omega)
theorem i_vc_value {k : Nat} {u : SX} {v : SY} (I : i_Rel k u v) (hk : k + 4 ≤ 2053) (v1 : Int32) : wpX_value (fun r => wpY_value (fun r' => r' = r ∧ i_Rel (k + 4) u v) v v1) u v1 := by
  refine dz_el (P := fun u v => wpX_value (fun r => wpY_value (fun r' => r' = r ∧ i_Rel (k + 4) u v) v v1) u v1) I ?_
  intro nr ne tc pc ec c kd ag iw ps sa rs gc ms mt pd el am hs ry mr mu my sc h1 h2 h3 h4 h5
  have RR : i_Rel (k + 4) (nI nr, nI ne, nI tc, nI pc, nI ec, nI c, kd, ag, iw, ps, sa, rs, gc, ms, mt, pd) (nI nr, nI ne, nI tc, nI pc, nI ec, nI c, kd, el, am, iw, hs, ry, mr, mu, my, sc) := dz_in h1 h2 h3 h4 h5
  have hc := dz_c64 h1
  have hr5 := h1.1
  have he5 := h1.2.1
  have hp6 := h1.2.2.2.1
  unfold wpX_value wpY_value
  dsimp only
  rcases dz_arg v1 (n := nr) (by omega) with hv | ⟨r, hr, rfl⟩
  · exact dz_xrep0 hv (br_t rfl (dz_yrep0 hv (br_t rfl ⟨rfl, RR⟩)))
  · refine dz_xrep1 hr hr5 (br_f (by decide) ⟨vp_in_nI (by omega) (by decide), ?_⟩)
    rw [nI_clamp (n := r) (by omega)]
    refine nm_e ⟨c + 1, ?_⟩
    refine dz_xval_l hc ?_ (c + 1) 0 (Nat.zero_le _) (by omega)
    refine dz_yrep1 hr hr5 (br_f (by decide) ⟨c + 1, ?_⟩)
    exact dz_yval_l hc (dz_RR h1 h3 r) (dz_bnd (N := 5) h1 (by omega)) h2.2.2.2.2.2.1 ⟨rfl, RR⟩ (c + 1) 0 (Nat.zero_le _) (by omega)
theorem i_vc_tagsOf {k : Nat} {u : SX} {v : SY} (I : i_Rel k u v) (hk : k + 4 ≤ 2053) (v1 : Int32) : wpX_tagsOf (fun r => wpY_tagsOf (fun r' => r' = r ∧ i_Rel (k + 4) u v) v v1) u v1 := by
  refine dz_el (P := fun u v => wpX_tagsOf (fun r => wpY_tagsOf (fun r' => r' = r ∧ i_Rel (k + 4) u v) v v1) u v1) I ?_
  intro nr ne tc pc ec c kd ag iw ps sa rs gc ms mt pd el am hs ry mr mu my sc h1 h2 h3 h4 h5
  have RR : i_Rel (k + 4) (nI nr, nI ne, nI tc, nI pc, nI ec, nI c, kd, ag, iw, ps, sa, rs, gc, ms, mt, pd) (nI nr, nI ne, nI tc, nI pc, nI ec, nI c, kd, el, am, iw, hs, ry, mr, mu, my, sc) := dz_in h1 h2 h3 h4 h5
  have hc := dz_c64 h1
  have hr5 := h1.1
  have he5 := h1.2.1
  have hp6 := h1.2.2.2.1
  unfold wpX_tagsOf wpY_tagsOf
  dsimp only
  rcases dz_arg v1 (n := nr) (by omega) with hv | ⟨r, hr, rfl⟩
  · exact dz_xrep0 hv (br_t rfl (dz_yrep0 hv (br_t rfl ⟨rfl, RR⟩)))
  · refine dz_xrep1 hr hr5 (br_f (by decide) ⟨vp_in_nI (by omega) (by decide), ?_⟩)
    rw [nI_clamp (n := r) (by omega), pk_mul]
    refine dz_xpr hc h2.2.2.1 hr5 he5 ?_
    refine dz_yrep1 hr hr5 (br_f (by decide) ?_)
    exact dz_ypr_repSeen (dz_H h1 h2) (dz_RR h1 h3 r) (dz_bnd (N := 5) h1 (by omega)) hr5 he5 ⟨rfl, RR⟩
theorem i_vc_seenOf {k : Nat} {u : SX} {v : SY} (I : i_Rel k u v) (hk : k + 4 ≤ 2053) (v1 : Int32) (v2 : Int32) : wpX_seenOf (fun r => wpY_seenOf (fun r' => r' = r ∧ i_Rel (k + 4) u v) v v1 v2) u v1 v2 := by
  refine dz_el (P := fun u v => wpX_seenOf (fun r => wpY_seenOf (fun r' => r' = r ∧ i_Rel (k + 4) u v) v v1 v2) u v1 v2) I ?_
  intro nr ne tc pc ec c kd ag iw ps sa rs gc ms mt pd el am hs ry mr mu my sc h1 h2 h3 h4 h5
  have RR : i_Rel (k + 4) (nI nr, nI ne, nI tc, nI pc, nI ec, nI c, kd, ag, iw, ps, sa, rs, gc, ms, mt, pd) (nI nr, nI ne, nI tc, nI pc, nI ec, nI c, kd, el, am, iw, hs, ry, mr, mu, my, sc) := dz_in h1 h2 h3 h4 h5
  have hc := dz_c64 h1
  have hr5 := h1.1
  have he5 := h1.2.1
  have hp6 := h1.2.2.2.1
  unfold wpX_seenOf wpY_seenOf
  dsimp only
  rcases dz_arg v1 (n := nr) (by omega) with hv | ⟨r, hr, rfl⟩
  · exact dz_xrep0 hv (br_t rfl (dz_yrep0 hv (br_t rfl ⟨rfl, RR⟩)))
  · refine dz_xrep1 hr hr5 (br_f (by decide) ?_)
    rcases dz_arg v2 (n := nr) (by omega) with hv | ⟨w, hw, rfl⟩
    · exact dz_xrep0 hv (br_t rfl (dz_yrep1 hr hr5 (br_f (by decide) (dz_yrep0 hv (br_t rfl ⟨rfl, RR⟩)))))
    · refine dz_xrep1 hw hr5 (br_f (by decide) ⟨vp_in_nI (by omega) (by decide), ?_⟩)
      rw [nI_clamp (n := r) (by omega), pk_mul]
      refine dz_xcnt hc ?_
      refine dz_yrep1 hr hr5 (br_f (by decide) (dz_yrep1 hw hr5 (br_f (by decide) ?_)))
      exact dz_ycnt_repSeen hc (dz_RR h1 h3 r) (dz_bnd (N := 5) h1 (by omega)) ⟨rfl, RR⟩
theorem i_vc_plusOf {k : Nat} {u : SX} {v : SY} (I : i_Rel k u v) (hk : k + 4 ≤ 2053) (v1 : Int32) (v2 : Int32) : wpX_plusOf (fun r => wpY_plusOf (fun r' => r' = r ∧ i_Rel (k + 4) u v) v v1 v2) u v1 v2 := by
  refine dz_el (P := fun u v => wpX_plusOf (fun r => wpY_plusOf (fun r' => r' = r ∧ i_Rel (k + 4) u v) v v1 v2) u v1 v2) I ?_
  intro nr ne tc pc ec c kd ag iw ps sa rs gc ms mt pd el am hs ry mr mu my sc h1 h2 h3 h4 h5
  have RR : i_Rel (k + 4) (nI nr, nI ne, nI tc, nI pc, nI ec, nI c, kd, ag, iw, ps, sa, rs, gc, ms, mt, pd) (nI nr, nI ne, nI tc, nI pc, nI ec, nI c, kd, el, am, iw, hs, ry, mr, mu, my, sc) := dz_in h1 h2 h3 h4 h5
  have hc := dz_c64 h1
  have hr5 := h1.1
  have he5 := h1.2.1
  have hp6 := h1.2.2.2.1
  unfold wpX_plusOf wpY_plusOf
  dsimp only
  rcases dz_arg v1 (n := nr) (by omega) with hv | ⟨r, hr, rfl⟩
  · exact dz_xrep0 hv (br_t rfl (dz_yrep0 hv (br_t rfl ⟨rfl, RR⟩)))
  · refine dz_xrep1 hr hr5 (br_f (by decide) ?_)
    rcases dz_arg v2 (n := nr) (by omega) with hv | ⟨w, hw, rfl⟩
    · exact dz_xrep0 hv (br_t rfl (dz_yrep1 hr hr5 (br_f (by decide) (dz_yrep0 hv (br_t rfl ⟨rfl, RR⟩)))))
    · refine dz_xrep1 hw hr5 (br_f (by decide) ⟨vp_in_nI (by omega) (by decide), ?_⟩)
      rw [nI_clamp (n := r) (by omega), pk_mul]
      refine dz_xsum hc ?_
      refine dz_yrep1 hr hr5 (br_f (by decide) (dz_yrep1 hw hr5 (br_f (by decide) ?_)))
      exact dz_ysum_repSeen hc (dz_RR h1 h3 r) (dz_bnd (N := 5) h1 (by omega)) (fun i hi hq => h2.2.2.2.2.2.1 i hi (Or.inl hq)) ⟨rfl, RR⟩
theorem i_vc_minusOf {k : Nat} {u : SX} {v : SY} (I : i_Rel k u v) (hk : k + 4 ≤ 2053) (v1 : Int32) (v2 : Int32) : wpX_minusOf (fun r => wpY_minusOf (fun r' => r' = r ∧ i_Rel (k + 4) u v) v v1 v2) u v1 v2 := by
  refine dz_el (P := fun u v => wpX_minusOf (fun r => wpY_minusOf (fun r' => r' = r ∧ i_Rel (k + 4) u v) v v1 v2) u v1 v2) I ?_
  intro nr ne tc pc ec c kd ag iw ps sa rs gc ms mt pd el am hs ry mr mu my sc h1 h2 h3 h4 h5
  have RR : i_Rel (k + 4) (nI nr, nI ne, nI tc, nI pc, nI ec, nI c, kd, ag, iw, ps, sa, rs, gc, ms, mt, pd) (nI nr, nI ne, nI tc, nI pc, nI ec, nI c, kd, el, am, iw, hs, ry, mr, mu, my, sc) := dz_in h1 h2 h3 h4 h5
  have hc := dz_c64 h1
  have hr5 := h1.1
  have he5 := h1.2.1
  have hp6 := h1.2.2.2.1
  unfold wpX_minusOf wpY_minusOf
  dsimp only
  rcases dz_arg v1 (n := nr) (by omega) with hv | ⟨r, hr, rfl⟩
  · exact dz_xrep0 hv (br_t rfl (dz_yrep0 hv (br_t rfl ⟨rfl, RR⟩)))
  · refine dz_xrep1 hr hr5 (br_f (by decide) ?_)
    rcases dz_arg v2 (n := nr) (by omega) with hv | ⟨w, hw, rfl⟩
    · exact dz_xrep0 hv (br_t rfl (dz_yrep1 hr hr5 (br_f (by decide) (dz_yrep0 hv (br_t rfl ⟨rfl, RR⟩)))))
    · refine dz_xrep1 hw hr5 (br_f (by decide) ⟨vp_in_nI (by omega) (by decide), ?_⟩)
      rw [nI_clamp (n := r) (by omega), pk_mul]
      refine dz_xsum hc ?_
      refine dz_yrep1 hr hr5 (br_f (by decide) (dz_yrep1 hw hr5 (br_f (by decide) ?_)))
      exact dz_ysum_repSeen hc (dz_RR h1 h3 r) (dz_bnd (N := 5) h1 (by omega)) (fun i hi hq => h2.2.2.2.2.2.1 i hi (Or.inr hq)) ⟨rfl, RR⟩
theorem i_vc_dotOf {k : Nat} {u : SX} {v : SY} (I : i_Rel k u v) (hk : k + 4 ≤ 2053) (v1 : Int32) (v2 : Int32) (v3 : Int32) : wpX_dotOf (fun r => wpY_dotOf (fun r' => r' = r ∧ i_Rel (k + 4) u v) v v1 v2 v3) u v1 v2 v3 := by
  refine dz_el (P := fun u v => wpX_dotOf (fun r => wpY_dotOf (fun r' => r' = r ∧ i_Rel (k + 4) u v) v v1 v2 v3) u v1 v2 v3) I ?_
  intro nr ne tc pc ec c kd ag iw ps sa rs gc ms mt pd el am hs ry mr mu my sc h1 h2 h3 h4 h5
  have RR : i_Rel (k + 4) (nI nr, nI ne, nI tc, nI pc, nI ec, nI c, kd, ag, iw, ps, sa, rs, gc, ms, mt, pd) (nI nr, nI ne, nI tc, nI pc, nI ec, nI c, kd, el, am, iw, hs, ry, mr, mu, my, sc) := dz_in h1 h2 h3 h4 h5
  have hc := dz_c64 h1
  have hr5 := h1.1
  have he5 := h1.2.1
  have hp6 := h1.2.2.2.1
  unfold wpX_dotOf wpY_dotOf
  dsimp only
  rcases dz_arg v1 (n := nr) (by omega) with hv | ⟨r, hr, rfl⟩
  · exact dz_xrep0 hv (br_t rfl (dz_yrep0 hv (br_t rfl ⟨rfl, RR⟩)))
  · refine dz_xrep1 hr hr5 (br_f (by decide) ?_)
    rcases dz_arg v2 (n := ne) (by omega) with hv | ⟨e, he, rfl⟩
    · exact dz_xelm0 hv (br_t rfl (dz_yrep1 hr hr5 (br_f (by decide) (dz_yelm0 hv (br_t rfl ⟨rfl, RR⟩)))))
    · refine dz_xelm1 he he5 (br_f (by decide) ?_)
      rcases dz_arg v3 (n := nr) (by omega) with hv | ⟨w, hw, rfl⟩
      · exact dz_xrep0 hv (br_t rfl (dz_yrep1 hr hr5 (br_f (by decide) (dz_yelm1 he he5 (br_f (by decide) (dz_yrep0 hv (br_t rfl ⟨rfl, RR⟩)))))))
      · refine dz_xrep1 hw hr5 (br_f (by decide) ⟨vp_in_nI (by omega) (by decide), ?_⟩)
        rw [nI_clamp (n := r) (by omega), pk_mul]
        refine dz_xdot hc h2.2.2.1 ?_
        refine dz_yrep1 hr hr5 (br_f (by decide) (dz_yelm1 he he5 (br_f (by decide) (dz_yrep1 hw hr5 (br_f (by decide) ?_)))))
        exact dz_ydot_repSeen (dz_H h1 h2) (dz_RR h1 h3 r) (dz_bnd (N := 5) h1 (by omega)) ⟨rfl, RR⟩
theorem i_vc_isPending {k : Nat} {u : SX} {v : SY} (I : i_Rel k u v) (hk : k + 4 ≤ 2053) (v1 : Int32) : wpX_isPending (fun r => wpY_isPending (fun r' => r' = r ∧ i_Rel (k + 4) u v) v v1) u v1 := by
  refine dz_el (P := fun u v => wpX_isPending (fun r => wpY_isPending (fun r' => r' = r ∧ i_Rel (k + 4) u v) v v1) u v1) I ?_
  intro nr ne tc pc ec c kd ag iw ps sa rs gc ms mt pd el am hs ry mr mu my sc h1 h2 h3 h4 h5
  have RR : i_Rel (k + 4) (nI nr, nI ne, nI tc, nI pc, nI ec, nI c, kd, ag, iw, ps, sa, rs, gc, ms, mt, pd) (nI nr, nI ne, nI tc, nI pc, nI ec, nI c, kd, el, am, iw, hs, ry, mr, mu, my, sc) := dz_in h1 h2 h3 h4 h5
  have hc := dz_c64 h1
  have hr5 := h1.1
  have he5 := h1.2.1
  have hp6 := h1.2.2.2.1
  unfold wpX_isPending
  dsimp only
  rcases dz_marg v1 h1 h4 with ⟨ha, hb⟩ | ⟨m, hm, rfl, ha, hb, hs'⟩
  · exact dz_xmsg0 hp6 ha ⟨narrow_b0, dz_ymsg0 hp6 hb ⟨rfl, RR⟩⟩
  · exact dz_xmsg1 hm hp6 (by rw [ha]; decide) ⟨narrow_b1, dz_ymsg1 hm hp6 hb ⟨rfl, RR⟩⟩
theorem i_vc_addressee {k : Nat} {u : SX} {v : SY} (I : i_Rel k u v) (hk : k + 4 ≤ 2053) (v1 : Int32) : wpX_addressee (fun r => wpY_addressee (fun r' => r' = r ∧ i_Rel (k + 4) u v) v v1) u v1 := by
  refine dz_el (P := fun u v => wpX_addressee (fun r => wpY_addressee (fun r' => r' = r ∧ i_Rel (k + 4) u v) v v1) u v1) I ?_
  intro nr ne tc pc ec c kd ag iw ps sa rs gc ms mt pd el am hs ry mr mu my sc h1 h2 h3 h4 h5
  have RR : i_Rel (k + 4) (nI nr, nI ne, nI tc, nI pc, nI ec, nI c, kd, ag, iw, ps, sa, rs, gc, ms, mt, pd) (nI nr, nI ne, nI tc, nI pc, nI ec, nI c, kd, el, am, iw, hs, ry, mr, mu, my, sc) := dz_in h1 h2 h3 h4 h5
  have hc := dz_c64 h1
  have hr5 := h1.1
  have he5 := h1.2.1
  have hp6 := h1.2.2.2.1
  unfold wpX_addressee wpY_addressee
  dsimp only
  rcases dz_marg v1 h1 h4 with ⟨ha, hb⟩ | ⟨m, hm, rfl, ha, hb, hs'⟩
  · exact dz_xmsg0 hp6 ha (br_t rfl (dz_ymsg0 hp6 hb (br_t rfl ⟨rfl, RR⟩)))
  · refine dz_xmsg1 hm hp6 (by rw [ha]; decide) (br_f (by decide) ⟨vp_in_nI (by omega) (by decide), ?_⟩)
    refine dz_ymsg1 hm hp6 hb (br_f (by decide) ⟨vp_in_nI (by omega) (by decide), ?_⟩)
    rw [nI_clamp (n := m) (by omega)]
    exact ⟨hs'.1, RR⟩
theorem i_vc_pooled {k : Nat} {u : SX} {v : SY} (I : i_Rel k u v) (hk : k + 4 ≤ 2053) : wpX_pooled (fun r => wpY_pooled (fun r' => r' = r ∧ i_Rel (k + 4) u v) v) u := by
  refine dz_el (P := fun u v => wpX_pooled (fun r => wpY_pooled (fun r' => r' = r ∧ i_Rel (k + 4) u v) v) u) I ?_
  intro nr ne tc pc ec c kd ag iw ps sa rs gc ms mt pd el am hs ry mr mu my sc h1 h2 h3 h4 h5
  have RR : i_Rel (k + 4) (nI nr, nI ne, nI tc, nI pc, nI ec, nI c, kd, ag, iw, ps, sa, rs, gc, ms, mt, pd) (nI nr, nI ne, nI tc, nI pc, nI ec, nI c, kd, el, am, iw, hs, ry, mr, mu, my, sc) := dz_in h1 h2 h3 h4 h5
  have hc := dz_c64 h1
  have hr5 := h1.1
  have he5 := h1.2.1
  have hp6 := h1.2.2.2.1
  refine dz_xpool hp6 (dz_ypool hp6 ⟨?_, RR⟩)
  refine congrArg nI (dz_cnt_cg (fun j hj => ?_))
  rcases h4.2 j hj with ⟨a, b⟩ | ⟨a, b, _⟩
  · rw [a, b]; decide
  · rw [a, b]; decide
theorem i_vc_msgSeen {k : Nat} {u : SX} {v : SY} (I : i_Rel k u v) (hk : k + 4 ≤ 2053) (v1 : Int32) (v2 : Int32) : wpX_msgSeen (fun r => wpY_msgSeen (fun r' => r' = r ∧ i_Rel (k + 4) u v) v v1 v2) u v1 v2 := by
  refine dz_el (P := fun u v => wpX_msgSeen (fun r => wpY_msgSeen (fun r' => r' = r ∧ i_Rel (k + 4) u v) v v1 v2) u v1 v2) I ?_
  intro nr ne tc pc ec c kd ag iw ps sa rs gc ms mt pd el am hs ry mr mu my sc h1 h2 h3 h4 h5
  have RR : i_Rel (k + 4) (nI nr, nI ne, nI tc, nI pc, nI ec, nI c, kd, ag, iw, ps, sa, rs, gc, ms, mt, pd) (nI nr, nI ne, nI tc, nI pc, nI ec, nI c, kd, el, am, iw, hs, ry, mr, mu, my, sc) := dz_in h1 h2 h3 h4 h5
  have hc := dz_c64 h1
  have hr5 := h1.1
  have he5 := h1.2.1
  have hp6 := h1.2.2.2.1
  unfold wpX_msgSeen wpY_msgSeen
  dsimp only
  rcases dz_marg v1 h1 h4 with ⟨ha, hb⟩ | ⟨m, hm, rfl, ha, hb, hs'⟩
  · exact dz_xmsg0 hp6 ha (br_t rfl (dz_ymsg0 hp6 hb (br_t rfl ⟨rfl, RR⟩)))
  · refine dz_xmsg1 hm hp6 (by rw [ha]; decide) (br_f (by decide) ?_)
    rcases dz_arg v2 (n := nr) (by omega) with hv | ⟨w, hw, rfl⟩
    · exact dz_xrep0 hv (br_t rfl (dz_ymsg1 hm hp6 hb (br_f (by decide) (dz_yrep0 hv (br_t rfl ⟨rfl, RR⟩)))))
    · refine dz_xrep1 hw hr5 (br_f (by decide) ⟨vp_in_nI (by omega) (by decide), ?_⟩)
      rw [nI_clamp (n := m) (by omega), pk_mul]
      refine dz_xcnt hc ?_
      refine dz_ymsg1 hm hp6 hb (br_f (by decide) (dz_yrep1 hw hr5 (br_f (by decide) ?_)))
      exact dz_ycnt_msgRow hc (dz_MR h1 hs') (dz_bnd (N := 6) h1 (by omega)) ⟨rfl, RR⟩
theorem i_vc_msgPlus {k : Nat} {u : SX} {v : SY} (I : i_Rel k u v) (hk : k + 4 ≤ 2053) (v1 : Int32) (v2 : Int32) : wpX_msgPlus (fun r => wpY_msgPlus (fun r' => r' = r ∧ i_Rel (k + 4) u v) v v1 v2) u v1 v2 := by
  refine dz_el (P := fun u v => wpX_msgPlus (fun r => wpY_msgPlus (fun r' => r' = r ∧ i_Rel (k + 4) u v) v v1 v2) u v1 v2) I ?_
  intro nr ne tc pc ec c kd ag iw ps sa rs gc ms mt pd el am hs ry mr mu my sc h1 h2 h3 h4 h5
  have RR : i_Rel (k + 4) (nI nr, nI ne, nI tc, nI pc, nI ec, nI c, kd, ag, iw, ps, sa, rs, gc, ms, mt, pd) (nI nr, nI ne, nI tc, nI pc, nI ec, nI c, kd, el, am, iw, hs, ry, mr, mu, my, sc) := dz_in h1 h2 h3 h4 h5
  have hc := dz_c64 h1
  have hr5 := h1.1
  have he5 := h1.2.1
  have hp6 := h1.2.2.2.1
  unfold wpX_msgPlus wpY_msgPlus
  dsimp only
  rcases dz_marg v1 h1 h4 with ⟨ha, hb⟩ | ⟨m, hm, rfl, ha, hb, hs'⟩
  · exact dz_xmsg0 hp6 ha (br_t rfl (dz_ymsg0 hp6 hb (br_t rfl ⟨rfl, RR⟩)))
  · refine dz_xmsg1 hm hp6 (by rw [ha]; decide) (br_f (by decide) ?_)
    rcases dz_arg v2 (n := nr) (by omega) with hv | ⟨w, hw, rfl⟩
    · exact dz_xrep0 hv (br_t rfl (dz_ymsg1 hm hp6 hb (br_f (by decide) (dz_yrep0 hv (br_t rfl ⟨rfl, RR⟩)))))
    · refine dz_xrep1 hw hr5 (br_f (by decide) ⟨vp_in_nI (by omega) (by decide), ?_⟩)
      rw [nI_clamp (n := m) (by omega), pk_mul]
      refine dz_xsum hc ?_
      refine dz_ymsg1 hm hp6 hb (br_f (by decide) (dz_yrep1 hw hr5 (br_f (by decide) ?_)))
      exact dz_ysum_msgRow hc (dz_MR h1 hs') (dz_bnd (N := 6) h1 (by omega)) (fun i hi hq => h2.2.2.2.2.2.1 i hi (Or.inl hq)) ⟨rfl, RR⟩
theorem i_vc_msgMinus {k : Nat} {u : SX} {v : SY} (I : i_Rel k u v) (hk : k + 4 ≤ 2053) (v1 : Int32) (v2 : Int32) : wpX_msgMinus (fun r => wpY_msgMinus (fun r' => r' = r ∧ i_Rel (k + 4) u v) v v1 v2) u v1 v2 := by
  refine dz_el (P := fun u v => wpX_msgMinus (fun r => wpY_msgMinus (fun r' => r' = r ∧ i_Rel (k + 4) u v) v v1 v2) u v1 v2) I ?_
  intro nr ne tc pc ec c kd ag iw ps sa rs gc ms mt pd el am hs ry mr mu my sc h1 h2 h3 h4 h5
  have RR : i_Rel (k + 4) (nI nr, nI ne, nI tc, nI pc, nI ec, nI c, kd, ag, iw, ps, sa, rs, gc, ms, mt, pd) (nI nr, nI ne, nI tc, nI pc, nI ec, nI c, kd, el, am, iw, hs, ry, mr, mu, my, sc) := dz_in h1 h2 h3 h4 h5
  have hc := dz_c64 h1
  have hr5 := h1.1
  have he5 := h1.2.1
  have hp6 := h1.2.2.2.1
  unfold wpX_msgMinus wpY_msgMinus
  dsimp only
  rcases dz_marg v1 h1 h4 with ⟨ha, hb⟩ | ⟨m, hm, rfl, ha, hb, hs'⟩
  · exact dz_xmsg0 hp6 ha (br_t rfl (dz_ymsg0 hp6 hb (br_t rfl ⟨rfl, RR⟩)))
  · refine dz_xmsg1 hm hp6 (by rw [ha]; decide) (br_f (by decide) ?_)
    rcases dz_arg v2 (n := nr) (by omega) with hv | ⟨w, hw, rfl⟩
    · exact dz_xrep0 hv (br_t rfl (dz_ymsg1 hm hp6 hb (br_f (by decide) (dz_yrep0 hv (br_t rfl ⟨rfl, RR⟩)))))
    · refine dz_xrep1 hw hr5 (br_f (by decide) ⟨vp_in_nI (by omega) (by decide), ?_⟩)
      rw [nI_clamp (n := m) (by omega), pk_mul]
      refine dz_xsum hc ?_
      refine dz_ymsg1 hm hp6 hb (br_f (by decide) (dz_yrep1 hw hr5 (br_f (by decide) ?_)))
      exact dz_ysum_msgRow hc (dz_MR h1 hs') (dz_bnd (N := 6) h1 (by omega)) (fun i hi hq => h2.2.2.2.2.2.1 i hi (Or.inr hq)) ⟨rfl, RR⟩
theorem i_vc_msgDot {k : Nat} {u : SX} {v : SY} (I : i_Rel k u v) (hk : k + 4 ≤ 2053) (v1 : Int32) (v2 : Int32) (v3 : Int32) : wpX_msgDot (fun r => wpY_msgDot (fun r' => r' = r ∧ i_Rel (k + 4) u v) v v1 v2 v3) u v1 v2 v3 := by
  refine dz_el (P := fun u v => wpX_msgDot (fun r => wpY_msgDot (fun r' => r' = r ∧ i_Rel (k + 4) u v) v v1 v2 v3) u v1 v2 v3) I ?_
  intro nr ne tc pc ec c kd ag iw ps sa rs gc ms mt pd el am hs ry mr mu my sc h1 h2 h3 h4 h5
  have RR : i_Rel (k + 4) (nI nr, nI ne, nI tc, nI pc, nI ec, nI c, kd, ag, iw, ps, sa, rs, gc, ms, mt, pd) (nI nr, nI ne, nI tc, nI pc, nI ec, nI c, kd, el, am, iw, hs, ry, mr, mu, my, sc) := dz_in h1 h2 h3 h4 h5
  have hc := dz_c64 h1
  have hr5 := h1.1
  have he5 := h1.2.1
  have hp6 := h1.2.2.2.1
  unfold wpX_msgDot wpY_msgDot
  dsimp only
  rcases dz_marg v1 h1 h4 with ⟨ha, hb⟩ | ⟨m, hm, rfl, ha, hb, hs'⟩
  · exact dz_xmsg0 hp6 ha (br_t rfl (dz_ymsg0 hp6 hb (br_t rfl ⟨rfl, RR⟩)))
  · refine dz_xmsg1 hm hp6 (by rw [ha]; decide) (br_f (by decide) ?_)
    rcases dz_arg v2 (n := ne) (by omega) with hv | ⟨e, he, rfl⟩
    · exact dz_xelm0 hv (br_t rfl (dz_ymsg1 hm hp6 hb (br_f (by decide) (dz_yelm0 hv (br_t rfl ⟨rfl, RR⟩)))))
    · refine dz_xelm1 he he5 (br_f (by decide) ?_)
      rcases dz_arg v3 (n := nr) (by omega) with hv | ⟨w, hw, rfl⟩
      · exact dz_xrep0 hv (br_t rfl (dz_ymsg1 hm hp6 hb (br_f (by decide) (dz_yelm1 he he5 (br_f (by decide) (dz_yrep0 hv (br_t rfl ⟨rfl, RR⟩)))))))
      · refine dz_xrep1 hw hr5 (br_f (by decide) ⟨vp_in_nI (by omega) (by decide), ?_⟩)
        rw [nI_clamp (n := m) (by omega), pk_mul]
        refine dz_xdot hc h2.2.2.1 ?_
        refine dz_ymsg1 hm hp6 hb (br_f (by decide) (dz_yelm1 he he5 (br_f (by decide) (dz_yrep1 hw hr5 (br_f (by decide) ?_)))))
        exact dz_ydot_msgRow (dz_H h1 h2) (dz_MR h1 hs') (dz_bnd (N := 6) h1 (by omega)) ⟨rfl, RR⟩
end
section
/-! the calls that store: each side by its own walk -/
section
variable {nr ne tc pc ec c : Nat} {kd ag iw ps : Nat → Int32} {sa rs : Nat → Int64} {gc : Nat → Int32} {ms : Nat → Int64} {mt pd : Nat → Int32} {el am hs ry mr mu my sc : Nat → Int32}
theorem dz_xadd {post : Int32 → SX → Prop} {r e : Nat} (h1 : dz_I1 nr ne tc pc ec c) (h2 : dz_I2 nr ec c kd ag iw ps sa gc el am hs) (hr : r < nr) (he : e < ne) (hce : c < ec)
    (g2 : dz_dot c kd ag iw sa (rs r) (nI e) (nI r) = 0 → ¬ dz_prs c kd ag iw sa (rs r) nr ne < tc → post 2 (nI nr, nI ne, nI tc, nI pc, nI ec, nI c, kd, ag, iw, ps, sa, rs, gc, ms, mt, pd))
    (g0 : (dz_dot c kd ag iw sa (rs r) (nI e) (nI r) = 0 → dz_prs c kd ag iw sa (rs r) nr ne < tc) → post 0 (nI nr, nI ne, nI tc, nI pc, nI ec, nI (c + 1), upd kd c 0, upd ag c (nI e), upd iw c (nI r), upd ps c (gc r + 1), vp_updL sa c (rs r), vp_updL rs r ((rs r) ||| ((1 : Int64) <<< ((nI c).toInt64 &&& 63))), upd gc r (gc r + 1), ms, mt, pd)) :
    wpX_add post (nI nr, nI ne, nI tc, nI pc, nI ec, nI c, kd, ag, iw, ps, sa, rs, gc, ms, mt, pd) (nI r) (nI e) := by
  have hr5 := h1.1
  have he5 := h1.2.1
  have htc := h1.2.2.1
  have hec := h1.2.2.2.2.1
  have hc := dz_c64 h1
  have hd := dz_dot_le (c := c) (kd := kd) (ag := ag) (iw := iw) (sa := sa) (s := rs r) (e := nI e) (w := nI r)
  have hq := dz_prs_25 (kd := kd) (ag := ag) (iw := iw) (sa := sa) (s := rs r) h1
  have vr : vp_in (nI r) 5 := vp_in_nI (by omega) (by decide)
  unfold wpX_add
  dsimp only
  refine dz_xrep1 hr hr5 (br_f (by decide) (dz_xelm1 he he5 (br_f (by decide) (br_t (nI_lt hce (by omega)) ⟨vr, ?_⟩))))
  rw [nI_clamp (n := r) (by omega)]
  refine dz_xdot hc h2.2.2.1 ?_
  refine pk_eq (dz_dot c kd ag iw sa (rs r) (nI e) (nI r)) 0 (fun z => ?_) (fun z => ?_)
  · refine ⟨vr, dz_xpr hc h2.2.2.1 hr5 he5 ?_⟩
    refine pk_lt (dz_prs c kd ag iw sa (rs r) nr ne) tc (fun y => ?_) (fun y => ?_)
    · unfold wX_add_65
      exact dz_xissue (by omega) (by omega) (g0 (fun _ => y))
    · exact g2 z (by omega)
  · unfold wX_add_65
    exact dz_xissue (by omega) (by omega) (g0 (fun y => absurd y z))
theorem dz_yadd {post : Int32 → SY → Prop} {r e : Nat} (h1 : dz_I1 nr ne tc pc ec c) (h2 : dz_I2 nr ec c kd ag iw ps sa gc el am hs) (h3 : dz_I3 ec c rs ry) (hr : r < nr) (he : e < ne) (hce : c < ec)
    (g2 : (dz_dot c kd ag iw sa (rs r) (nI e) (nI r) = 0 → ¬ dz_prs c kd ag iw sa (rs r) nr ne < tc) → (¬ dz_dot c kd ag iw sa (rs r) (nI e) (nI r) = 0 → ¬ dz_prs c kd ag iw sa (rs r) nr ne ≤ tc) → post 2 (nI nr, nI ne, nI tc, nI pc, nI ec, nI c, kd, el, am, iw, hs, ry, mr, mu, my, sc))
    (g0 : (dz_dot c kd ag iw sa (rs r) (nI e) (nI r) = 0 → dz_prs c kd ag iw sa (rs r) nr ne < tc) → post 0 (nI nr, nI ne, nI tc, nI pc, nI ec, nI (c + 1), upd kd c 0, upd el c (nI e), upd am c 0, upd iw c (nI r), dz_cp hs ry (c * ec) (r * ec) c, upd ry (r * ec + c) 1, mr, mu, my, sc)) :
    wpY_add post (nI nr, nI ne, nI tc, nI pc, nI ec, nI c, kd, el, am, iw, hs, ry, mr, mu, my, sc) (nI r) (nI e) := by
  have hr5 := h1.1
  have he5 := h1.2.1
  have htc := h1.2.2.1
  have hec := h1.2.2.2.2.1
  have hc := dz_c64 h1
  have hd := dz_dot_le (c := c) (kd := kd) (ag := ag) (iw := iw) (sa := sa) (s := rs r) (e := nI e) (w := nI r)
  have hq := dz_prs_25 (kd := kd) (ag := ag) (iw := iw) (sa := sa) (s := rs r) h1
  have hb := dz_bnd (N := 5) h1 (Nat.lt_of_lt_of_le hr hr5)
  unfold wpY_add
  dsimp only
  refine dz_yrep1 hr hr5 (br_f (by decide) (dz_yelm1 he he5 (br_f (by decide) (br_t (nI_lt hce (by omega)) ?_))))
  rw [pk_mul]
  refine dz_ypr_repSeen (dz_H h1 h2) (dz_RR h1 h3 r) hb hr5 he5 ?_
  refine dz_ydot_repSeen (dz_H h1 h2) (dz_RR h1 h3 r) hb ?_
  refine pk_eq (dz_dot c kd ag iw sa (rs r) (nI e) (nI r)) 0 (fun z => ?_) (fun z => ?_)
  · refine nm_r (nI_1 _) ?_
    unfold wY_add_69
    refine pk_le (dz_prs c kd ag iw sa (rs r) nr ne + 1) tc (fun y => ?_) (fun y => ?_)
    · exact dz_ynote hce hec (by omega) (g0 (fun _ => y))
    · exact g2 (fun _ => by omega) (fun w => absurd z w)
  · unfold wY_add_69
    refine pk_le (dz_prs c kd ag iw sa (rs r) nr ne) tc (fun y => ?_) (fun y => ?_)
    · exact dz_ynote hce hec (by omega) (g0 (fun w => absurd w z))
    · exact g2 (fun w => absurd w z) (fun _ => by omega)
end
theorem i_vc_add {k : Nat} {u : SX} {v : SY} (I : i_Rel k u v) (hk : k + 4 ≤ 2053) (v1 : Int32) (v2 : Int32) : wpX_add (fun r u' => wpY_add (fun r' v' => r' = r ∧ i_Rel (k + 4) u' v') v v1 v2) u v1 v2 := by
  refine dz_el (P := fun u v => wpX_add (fun r u' => wpY_add (fun r' v' => r' = r ∧ i_Rel (k + 4) u' v') v v1 v2) u v1 v2) I ?_
  intro nr ne tc pc ec c kd ag iw ps sa rs gc ms mt pd el am hs ry mr mu my sc h1 h2 h3 h4 h5
  have RR : i_Rel (k + 4) (nI nr, nI ne, nI tc, nI pc, nI ec, nI c, kd, ag, iw, ps, sa, rs, gc, ms, mt, pd) (nI nr, nI ne, nI tc, nI pc, nI ec, nI c, kd, el, am, iw, hs, ry, mr, mu, my, sc) := dz_in h1 h2 h3 h4 h5
  have hc := dz_c64 h1
  have hr5 := h1.1
  have he5 := h1.2.1
  have hp6 := h1.2.2.2.1
  rcases dz_arg v1 (n := nr) (by omega) with hv | ⟨r, hr, rfl⟩
  · unfold wpX_add wpY_add
    dsimp only
    exact dz_xrep0 hv (br_t rfl (dz_yrep0 hv (br_t rfl ⟨rfl, RR⟩)))
  · rcases dz_arg v2 (n := ne) (by omega) with hv | ⟨e, he, rfl⟩
    · unfold wpX_add wpY_add
      dsimp only
      exact dz_xrep1 hr hr5 (br_f (by decide) (dz_xelm0 hv (br_t rfl (dz_yrep1 hr hr5 (br_f (by decide) (dz_yelm0 hv (br_t rfl ⟨rfl, RR⟩)))))))
    · rcases Nat.lt_or_ge c ec with hce | hce
      · refine dz_xadd h1 h2 hr he hce (fun z y => ?_) (fun z => ?_)
        · exact dz_yadd h1 h2 h3 hr he hce (fun _ _ => ⟨rfl, RR⟩) (fun w => absurd (w z) y)
        · refine dz_yadd h1 h2 h3 hr he hce (fun w x => ?_) (fun w => ⟨rfl, ?_⟩)
          · have h6 := h5 r hr
            by_cases q : dz_dot c kd ag iw sa (rs r) (nI e) (nI r) = 0
            · exact absurd (z q) (w q)
            · exact absurd h6 (x q)
          · refine dz_in (dz_ev1 h1 hce) (dz_ev2 h1 h2 h3 hce hr (fun _ => rfl) (fun y => absurd y (by decide))) (dz_ev3 h1 h3 hce) (dz_ev4 h4) (dz_ev5 h1 h3 h5 hce hr ?_)
            by_cases q : dz_dot c kd ag iw sa (rs r) (nI e) (nI r) = 0
            · exact Or.inr (Or.inr ⟨z q, e, he, rfl⟩)
            · exact Or.inr (Or.inl (Nat.pos_of_ne_zero q))
      · unfold wpX_add wpY_add
        dsimp only
        have hn : ¬ nI c < nI ec := nI_nlt hce (by omega)
        exact dz_xrep1 hr hr5 (br_f (by decide) (dz_xelm1 he he5 (br_f (by decide) (br_f hn (dz_yrep1 hr hr5 (br_f (by decide) (dz_yelm1 he he5 (br_f (by decide) (br_f hn ⟨rfl, RR⟩)))))))))
theorem i_vc_remove {k : Nat} {u : SX} {v : SY} (I : i_Rel k u v) (hk : k + 4 ≤ 2053) (v1 : Int32) (v2 : Int32) : wpX_remove (fun r u' => wpY_remove (fun r' v' => r' = r ∧ i_Rel (k + 4) u' v') v v1 v2) u v1 v2 := by
  refine dz_el (P := fun u v => wpX_remove (fun r u' => wpY_remove (fun r' v' => r' = r ∧ i_Rel (k + 4) u' v') v v1 v2) u v1 v2) I ?_
  intro nr ne tc pc ec c kd ag iw ps sa rs gc ms mt pd el am hs ry mr mu my sc h1 h2 h3 h4 h5
  have RR : i_Rel (k + 4) (nI nr, nI ne, nI tc, nI pc, nI ec, nI c, kd, ag, iw, ps, sa, rs, gc, ms, mt, pd) (nI nr, nI ne, nI tc, nI pc, nI ec, nI c, kd, el, am, iw, hs, ry, mr, mu, my, sc) := dz_in h1 h2 h3 h4 h5
  have hc := dz_c64 h1
  have hr5 := h1.1
  have he5 := h1.2.1
  have hp6 := h1.2.2.2.1
  unfold wpX_remove wpY_remove
  dsimp only
  rcases dz_arg v1 (n := nr) (by omega) with hv | ⟨r, hr, rfl⟩
  · exact dz_xrep0 hv (br_t rfl (dz_yrep0 hv (br_t rfl ⟨rfl, RR⟩)))
  · rcases dz_arg v2 (n := ne) (by omega) with hv | ⟨e, he, rfl⟩
    · exact dz_xrep1 hr hr5 (br_f (by decide) (dz_xelm0 hv (br_t rfl (dz_yrep1 hr hr5 (br_f (by decide) (dz_yelm0 hv (br_t rfl ⟨rfl, RR⟩)))))))
    · rcases Nat.lt_or_ge c ec with hce | hce
      · have hec := h1.2.2.2.2.1
        have hn : nI c < nI ec := nI_lt hce (by omega)
        refine dz_xrep1 hr hr5 (br_f (by decide) (dz_xelm1 he he5 (br_f (by decide) (br_t hn (dz_xissue (by omega) (by omega) ?_)))))
        refine dz_yrep1 hr hr5 (br_f (by decide) (dz_yelm1 he he5 (br_f (by decide) (br_t hn (dz_ynote hce hec (by omega) ⟨rfl, ?_⟩)))))
        exact dz_in (dz_ev1 h1 hce) (dz_ev2 h1 h2 h3 hce hr (fun _ => rfl) (fun y => absurd y (by decide))) (dz_ev3 h1 h3 hce) (dz_ev4 h4) (dz_ev5 h1 h3 h5 hce hr (Or.inl (by decide)))
      · have hn : ¬ nI c < nI ec := nI_nlt hce (by omega)
        exact dz_xrep1 hr hr5 (br_f (by decide) (dz_xelm1 he he5 (br_f (by decide) (br_f hn (dz_yrep1 hr hr5 (br_f (by decide) (dz_yelm1 he he5 (br_f (by decide) (br_f hn ⟨rfl, RR⟩)))))))))
theorem i_vc_inc {k : Nat} {u : SX} {v : SY} (I : i_Rel k u v) (hk : k + 4 ≤ 2053) (v1 : Int32) (v2 : Int32) : wpX_inc (fun r u' => wpY_inc (fun r' v' => r' = r ∧ i_Rel (k + 4) u' v') v v1 v2) u v1 v2 := by
  refine dz_el (P := fun u v => wpX_inc (fun r u' => wpY_inc (fun r' v' => r' = r ∧ i_Rel (k + 4) u' v') v v1 v2) u v1 v2) I ?_
  intro nr ne tc pc ec c kd ag iw ps sa rs gc ms mt pd el am hs ry mr mu my sc h1 h2 h3 h4 h5
  have RR : i_Rel (k + 4) (nI nr, nI ne, nI tc, nI pc, nI ec, nI c, kd, ag, iw, ps, sa, rs, gc, ms, mt, pd) (nI nr, nI ne, nI tc, nI pc, nI ec, nI c, kd, el, am, iw, hs, ry, mr, mu, my, sc) := dz_in h1 h2 h3 h4 h5
  have hc := dz_c64 h1
  have hr5 := h1.1
  have he5 := h1.2.1
  have hp6 := h1.2.2.2.1
  unfold wpX_inc wpY_inc
  dsimp only
  rcases dz_arg v1 (n := nr) (by omega) with hv | ⟨r, hr, rfl⟩
  · exact dz_xrep0 hv (br_t rfl (dz_yrep0 hv (br_t rfl ⟨rfl, RR⟩)))
  · by_cases hb : 0 ≤ v2
    · rcases Nat.lt_or_ge c ec with hce | hce
      · have hec := h1.2.2.2.2.1
        have hn : nI c < nI ec := nI_lt hce (by omega)
        refine dz_xrep1 hr hr5 (br_f (by decide) (br_t hb (br_t hn (dz_xissue (by omega) (by omega) ?_))))
        refine dz_yrep1 hr hr5 (br_f (by decide) (br_t hb (br_t hn (dz_ynote hce hec (by omega) ⟨rfl, ?_⟩))))
        exact dz_in (dz_ev1 h1 hce) (dz_ev2 h1 h2 h3 hce hr (fun y => absurd y (by decide)) (fun _ => rfl)) (dz_ev3 h1 h3 hce) (dz_ev4 h4) (dz_ev5 h1 h3 h5 hce hr (Or.inl (by decide)))
      · have hn : ¬ nI c < nI ec := nI_nlt hce (by omega)
        exact dz_xrep1 hr hr5 (br_f (by decide) (br_t hb (br_f hn (dz_yrep1 hr hr5 (br_f (by decide) (br_t hb (br_f hn ⟨rfl, RR⟩)))))))
    · exact dz_xrep1 hr hr5 (br_f (by decide) (br_f hb (dz_yrep1 hr hr5 (br_f (by decide) (br_f hb ⟨rfl, RR⟩)))))
theorem i_vc_dec {k : Nat} {u : SX} {v : SY} (I : i_Rel k u v) (hk : k + 4 ≤ 2053) (v1 : Int32) (v2 : Int32) : wpX_dec (fun r u' => wpY_dec (fun r' v' => r' = r ∧ i_Rel (k + 4) u' v') v v1 v2) u v1 v2 := by
  refine dz_el (P := fun u v => wpX_dec (fun r u' => wpY_dec (fun r' v' => r' = r ∧ i_Rel (k + 4) u' v') v v1 v2) u v1 v2) I ?_
  intro nr ne tc pc ec c kd ag iw ps sa rs gc ms mt pd el am hs ry mr mu my sc h1 h2 h3 h4 h5
  have RR : i_Rel (k + 4) (nI nr, nI ne, nI tc, nI pc, nI ec, nI c, kd, ag, iw, ps, sa, rs, gc, ms, mt, pd) (nI nr, nI ne, nI tc, nI pc, nI ec, nI c, kd, el, am, iw, hs, ry, mr, mu, my, sc) := dz_in h1 h2 h3 h4 h5
  have hc := dz_c64 h1
  have hr5 := h1.1
  have he5 := h1.2.1
  have hp6 := h1.2.2.2.1
  unfold wpX_dec wpY_dec
  dsimp only
  rcases dz_arg v1 (n := nr) (by omega) with hv | ⟨r, hr, rfl⟩
  · exact dz_xrep0 hv (br_t rfl (dz_yrep0 hv (br_t rfl ⟨rfl, RR⟩)))
  · by_cases hb : 0 ≤ v2
    · rcases Nat.lt_or_ge c ec with hce | hce
      · have hec := h1.2.2.2.2.1
        have hn : nI c < nI ec := nI_lt hce (by omega)
        refine dz_xrep1 hr hr5 (br_f (by decide) (br_t hb (br_t hn (dz_xissue (by omega) (by omega) ?_))))
        refine dz_yrep1 hr hr5 (br_f (by decide) (br_t hb (br_t hn (dz_ynote hce hec (by omega) ⟨rfl, ?_⟩))))
        exact dz_in (dz_ev1 h1 hce) (dz_ev2 h1 h2 h3 hce hr (fun y => absurd y (by decide)) (fun _ => rfl)) (dz_ev3 h1 h3 hce) (dz_ev4 h4) (dz_ev5 h1 h3 h5 hce hr (Or.inl (by decide)))
      · have hn : ¬ nI c < nI ec := nI_nlt hce (by omega)
        exact dz_xrep1 hr hr5 (br_f (by decide) (br_t hb (br_f hn (dz_yrep1 hr hr5 (br_f (by decide) (br_t hb (br_f hn ⟨rfl, RR⟩)))))))
    · exact dz_xrep1 hr hr5 (br_f (by decide) (br_f hb (dz_yrep1 hr hr5 (br_f (by decide) (br_f hb ⟨rfl, RR⟩)))))
end
section
/-! the calls that store: the pool -/
theorem dz_upn0 {f : Nat → Int32} {k : Nat} : upd f k (vp_nar .boolean 0) = upd f k 0 := by rw [dz_nb0]
theorem dz_upn1 {f : Nat → Int32} {k : Nat} : upd f k (vp_nar .boolean 1) = upd f k 1 := by rw [dz_nb1]
section
variable {nr ne tc pc ec c : Nat} {kd ag iw ps : Nat → Int32} {sa rs : Nat → Int64} {gc : Nat → Int32} {ms : Nat → Int64} {mt pd : Nat → Int32} {el am hs ry mr mu my sc : Nat → Int32}
theorem dz_xdel {post : Int32 → SX → Prop} {m t : Nat} (h1 : dz_I1 nr ne tc pc ec c) (h2 : dz_I2 nr ec c kd ag iw ps sa gc el am hs) (hm : m < pc) (hpd : pd m = 1) (hmt : mt m = nI t) (ht : t < nr)
    (g0 : dz_prs c kd ag iw sa (rs t ||| ms m) nr ne ≤ tc → post 0 (nI nr, nI ne, nI tc, nI pc, nI ec, nI c, kd, ag, iw, ps, sa, vp_updL rs t (rs t ||| ms m), gc, vp_updL ms m 0, upd mt m 0, upd pd m 0))
    (g2 : ¬ dz_prs c kd ag iw sa (rs t ||| ms m) nr ne ≤ tc → post 2 (nI nr, nI ne, nI tc, nI pc, nI ec, nI c, kd, ag, iw, ps, sa, rs, gc, ms, mt, pd)) : wpX_deliver post (nI nr, nI ne, nI tc, nI pc, nI ec, nI c, kd, ag, iw, ps, sa, rs, gc, ms, mt, pd) (nI m) := by
  have hr5 := h1.1
  have he5 := h1.2.1
  have htc := h1.2.2.1
  have hp6 := h1.2.2.2.1
  have hc := dz_c64 h1
  have hq := dz_prs_25 (kd := kd) (ag := ag) (iw := iw) (sa := sa) (s := rs t ||| ms m) h1
  have vm : vp_in (nI m) 6 := vp_in_nI (by omega) (by decide)
  have vt : vp_in (nI t) 5 := vp_in_nI (by omega) (by decide)
  unfold wpX_deliver
  dsimp only
  refine dz_xmsg1 hm hp6 (by rw [hpd]; decide) (br_f (by decide) ⟨vm, ?_⟩)
  rw [nI_clamp (n := m) (by omega), hmt]
  refine nm_e ⟨vt, vm, ?_⟩
  rw [nI_clamp (n := t) (by omega)]
  refine nm_e (dz_xpr hc h2.2.2.1 hr5 he5 ?_)
  refine pk_le (dz_prs c kd ag iw sa (rs t ||| ms m) nr ne) tc (fun z => ?_) (fun z => ?_)
  · exact ⟨vt, nm_e ⟨vm, nm_r dz_upn0 ⟨vm, nm_e ⟨vm, nm_e (g0 z)⟩⟩⟩⟩
  · exact g2 (by omega)
theorem dz_ydel {post : Int32 → SY → Prop} {m t : Nat} (h1 : dz_I1 nr ne tc pc ec c) (h2 : dz_I2 nr ec c kd ag iw ps sa gc el am hs) (h3 : dz_I3 ec c rs ry) (hm : m < pc) (hmu : mu m = 1) (hs' : dz_slot nr ec ms mt mr my m) (hmt : mt m = nI t) (ht : t < nr)
    (g0 : dz_prs c kd ag iw sa (rs t ||| ms m) nr ne ≤ tc → ∀ sc' : Nat → Int32, (∀ j, j < ec → (sc' j = 1 ↔ dz_b (rs t ||| ms m) j = true)) → post 0 (nI nr, nI ne, nI tc, nI pc, nI ec, nI c, kd, el, am, iw, hs, dz_cp ry sc' (t * ec) 0 ec, mr, upd mu m 0, my, sc'))
    (g2 : ¬ dz_prs c kd ag iw sa (rs t ||| ms m) nr ne ≤ tc → ∀ sc' : Nat → Int32, post 2 (nI nr, nI ne, nI tc, nI pc, nI ec, nI c, kd, el, am, iw, hs, ry, mr, mu, my, sc')) : wpY_deliver post (nI nr, nI ne, nI tc, nI pc, nI ec, nI c, kd, el, am, iw, hs, ry, mr, mu, my, sc) (nI m) := by
  have hr5 := h1.1
  have hp6 := h1.2.2.2.1
  unfold wpY_deliver
  dsimp only
  refine dz_ymsg1 hm hp6 hmu (br_f (by decide) ⟨vp_in_nI (by omega) (by decide), ?_⟩)
  rw [nI_clamp (n := m) (by omega), hs'.1, hmt]
  refine nm_e ⟨ec + 1, ?_⟩
  refine dz_ydel_s (dz_H h1 h2) hr5 h1.2.1 h1.2.2.1 (by omega) (by omega) (fun j hj => ?_) g0 g2 (ec + 1) 0 sc (Nat.zero_le _) (by omega) (fun i hi => absurd hi (Nat.not_lt_zero _))
  rw [dz_or, Bool.or_eq_true, h3.2 t j hj, hs'.2.2 j hj]
end
theorem i_vc_deliver {k : Nat} {u : SX} {v : SY} (I : i_Rel k u v) (hk : k + 4 ≤ 2053) (v1 : Int32) : wpX_deliver (fun r u' => wpY_deliver (fun r' v' => r' = r ∧ i_Rel (k + 4) u' v') v v1) u v1 := by
  refine dz_el (P := fun u v => wpX_deliver (fun r u' => wpY_deliver (fun r' v' => r' = r ∧ i_Rel (k + 4) u' v') v v1) u v1) I ?_
  intro nr ne tc pc ec c kd ag iw ps sa rs gc ms mt pd el am hs ry mr mu my sc h1 h2 h3 h4 h5
  have RR : i_Rel (k + 4) (nI nr, nI ne, nI tc, nI pc, nI ec, nI c, kd, ag, iw, ps, sa, rs, gc, ms, mt, pd) (nI nr, nI ne, nI tc, nI pc, nI ec, nI c, kd, el, am, iw, hs, ry, mr, mu, my, sc) := dz_in h1 h2 h3 h4 h5
  have hc := dz_c64 h1
  have hr5 := h1.1
  have he5 := h1.2.1
  have hp6 := h1.2.2.2.1
  rcases dz_marg v1 h1 h4 with ⟨ha, hb⟩ | ⟨m, hm, rfl, ha, hb, hs'⟩
  · unfold wpX_deliver wpY_deliver
    dsimp only
    exact dz_xmsg0 hp6 ha (br_t rfl (dz_ymsg0 hp6 hb (br_t rfl ⟨rfl, RR⟩)))
  · obtain ⟨t, ht, hmt⟩ := hs'.2.1
    have hx : ∀ j, c ≤ j → dz_b (rs t ||| ms m) j = false := by
      intro j hj
      rw [dz_or, h3.1 t j hj, h4.1 m j hj]
      rfl
    refine dz_xdel h1 h2 hm ha hmt ht (fun z => ?_) (fun z => ?_)
    · refine dz_ydel h1 h2 h3 hm hb hs' hmt ht (fun y sc' hsc => ⟨rfl, ?_⟩) (fun y => absurd z y)
      exact dz_in h1 h2 (dz_rep h3 hx hsc) (dz_del h4) (dz_rep5 h5 z)
    · exact dz_ydel h1 h2 h3 hm hb hs' hmt ht (fun y => absurd y z) (fun y sc' => ⟨rfl, dz_in h1 h2 h3 h4 h5⟩)
theorem i_vc_drop {k : Nat} {u : SX} {v : SY} (I : i_Rel k u v) (hk : k + 4 ≤ 2053) (v1 : Int32) : wpX_drop (fun r u' => wpY_drop (fun r' v' => r' = r ∧ i_Rel (k + 4) u' v') v v1) u v1 := by
  refine dz_el (P := fun u v => wpX_drop (fun r u' => wpY_drop (fun r' v' => r' = r ∧ i_Rel (k + 4) u' v') v v1) u v1) I ?_
  intro nr ne tc pc ec c kd ag iw ps sa rs gc ms mt pd el am hs ry mr mu my sc h1 h2 h3 h4 h5
  have RR : i_Rel (k + 4) (nI nr, nI ne, nI tc, nI pc, nI ec, nI c, kd, ag, iw, ps, sa, rs, gc, ms, mt, pd) (nI nr, nI ne, nI tc, nI pc, nI ec, nI c, kd, el, am, iw, hs, ry, mr, mu, my, sc) := dz_in h1 h2 h3 h4 h5
  have hc := dz_c64 h1
  have hr5 := h1.1
  have he5 := h1.2.1
  have hp6 := h1.2.2.2.1
  unfold wpX_drop wpY_drop
  dsimp only
  rcases dz_marg v1 h1 h4 with ⟨ha, hb⟩ | ⟨m, hm, rfl, ha, hb, hs'⟩
  · exact dz_xmsg0 hp6 ha (br_t rfl (dz_ymsg0 hp6 hb (br_t rfl ⟨rfl, RR⟩)))
  · have vm : vp_in (nI m) 6 := vp_in_nI (by omega) (by decide)
    rw [nI_clamp (n := m) (by omega)]
    refine dz_xmsg1 hm hp6 (by rw [ha]; decide) (br_f (by decide) ⟨vm, nm_r dz_upn0 ⟨vm, nm_e ⟨vm, nm_e ?_⟩⟩⟩)
    refine dz_ymsg1 hm hp6 hb (br_f (by decide) ⟨vm, nm_e ⟨rfl, ?_⟩⟩)
    exact dz_in h1 h2 h3 (dz_del h4) h5
theorem i_vc_gossip {k : Nat} {u : SX} {v : SY} (I : i_Rel k u v) (hk : k + 4 ≤ 2053) (v1 : Int32) (v2 : Int32) : wpX_gossip (fun r u' => wpY_gossip (fun r' v' => r' = r ∧ i_Rel (k + 4) u' v') v v1 v2) u v1 v2 := by
  refine dz_el (P := fun u v => wpX_gossip (fun r u' => wpY_gossip (fun r' v' => r' = r ∧ i_Rel (k + 4) u' v') v v1 v2) u v1 v2) I ?_
  intro nr ne tc pc ec c kd ag iw ps sa rs gc ms mt pd el am hs ry mr mu my sc h1 h2 h3 h4 h5
  have RR : i_Rel (k + 4) (nI nr, nI ne, nI tc, nI pc, nI ec, nI c, kd, ag, iw, ps, sa, rs, gc, ms, mt, pd) (nI nr, nI ne, nI tc, nI pc, nI ec, nI c, kd, el, am, iw, hs, ry, mr, mu, my, sc) := dz_in h1 h2 h3 h4 h5
  have hc := dz_c64 h1
  have hr5 := h1.1
  have he5 := h1.2.1
  have hp6 := h1.2.2.2.1
  unfold wpX_gossip wpY_gossip
  dsimp only
  rcases dz_arg v1 (n := nr) (by omega) with hv | ⟨r, hr, rfl⟩
  · exact dz_xrep0 hv (br_t rfl (dz_yrep0 hv (br_t rfl ⟨rfl, RR⟩)))
  · rcases dz_arg v2 (n := nr) (by omega) with hv | ⟨t, ht, rfl⟩
    · exact dz_xrep1 hr hr5 (br_f (by decide) (dz_xrep0 hv (br_t rfl (dz_yrep1 hr hr5 (br_f (by decide) (dz_yrep0 hv (br_t rfl ⟨rfl, RR⟩)))))))
    · refine dz_xrep1 hr hr5 (br_f (by decide) (dz_xrep1 ht hr5 (br_f (by decide) ?_)))
      rcases dz_fr h4 with ⟨s, hs1, hs2, hs3, hs4, hs5⟩ | ⟨hs4, hs5⟩
      · have vs : vp_in (nI s) 6 := vp_in_nI (by omega) (by decide)
        have ps' : 0 ≤ nI s := nI_pos' (by omega)
        refine dz_xfree1 hp6 hs1 hs2 hs4 (br_t ps' ⟨vs, ?_⟩)
        rw [nI_clamp (n := s) (by omega), nI_clamp (n := r) (by omega)]
        refine nm_r dz_upn1 ⟨vs, nm_e ⟨vp_in_nI (by omega) (by decide), vs, nm_e ?_⟩⟩
        refine dz_yrep1 hr hr5 (br_f (by decide) (dz_yrep1 ht hr5 (br_f (by decide) (dz_yfree1 hp6 hs1 hs3 hs5 (br_t ps' ⟨ec + 1, ?_⟩)))))
        refine dz_ygos_l h1.2.2.2.2.1 (by omega) (by omega) ⟨rfl, ?_⟩ (ec + 1) 0 (Nat.zero_le _) (by omega)
        exact dz_in h1 h2 h3 (dz_put h4 (h3.1 r) ht (h3.2 r)) h5
      · refine dz_xfree0 hp6 hs4 (br_f (by decide) ?_)
        exact dz_yrep1 hr hr5 (br_f (by decide) (dz_yrep1 ht hr5 (br_f (by decide) (dz_yfree0 hp6 hs5 (br_f (by decide) ⟨rfl, RR⟩)))))
theorem i_vc_dup {k : Nat} {u : SX} {v : SY} (I : i_Rel k u v) (hk : k + 4 ≤ 2053) (v1 : Int32) : wpX_dup (fun r u' => wpY_dup (fun r' v' => r' = r ∧ i_Rel (k + 4) u' v') v v1) u v1 := by
  refine dz_el (P := fun u v => wpX_dup (fun r u' => wpY_dup (fun r' v' => r' = r ∧ i_Rel (k + 4) u' v') v v1) u v1) I ?_
  intro nr ne tc pc ec c kd ag iw ps sa rs gc ms mt pd el am hs ry mr mu my sc h1 h2 h3 h4 h5
  have RR : i_Rel (k + 4) (nI nr, nI ne, nI tc, nI pc, nI ec, nI c, kd, ag, iw, ps, sa, rs, gc, ms, mt, pd) (nI nr, nI ne, nI tc, nI pc, nI ec, nI c, kd, el, am, iw, hs, ry, mr, mu, my, sc) := dz_in h1 h2 h3 h4 h5
  have hc := dz_c64 h1
  have hr5 := h1.1
  have he5 := h1.2.1
  have hp6 := h1.2.2.2.1
  unfold wpX_dup wpY_dup
  dsimp only
  rcases dz_marg v1 h1 h4 with ⟨ha, hb⟩ | ⟨m, hm, rfl, ha, hb, hs'⟩
  · exact dz_xmsg0 hp6 ha (br_t rfl (dz_ymsg0 hp6 hb (br_t rfl ⟨rfl, RR⟩)))
  · obtain ⟨t, ht, hmt⟩ := hs'.2.1
    refine dz_xmsg1 hm hp6 (by rw [ha]; decide) (br_f (by decide) ?_)
    rcases dz_fr h4 with ⟨s, hs1, hs2, hs3, hs4, hs5⟩ | ⟨hs4, hs5⟩
    · have vs : vp_in (nI s) 6 := vp_in_nI (by omega) (by decide)
      have vm : vp_in (nI m) 6 := vp_in_nI (by omega) (by decide)
      have ps' : 0 ≤ nI s := nI_pos' (by omega)
      have hne : m ≠ s := by
        intro e
        rw [e, hs2] at ha
        exact absurd ha (by decide)
      refine dz_xfree1 hp6 hs1 hs2 hs4 (br_t ps' ⟨vs, ?_⟩)
      rw [nI_clamp (n := s) (by omega), nI_clamp (n := m) (by omega), hmt]
      refine nm_r dz_upn1 ⟨vm, vs, nm_e ⟨vm, vs, nm_e ?_⟩⟩
      refine dz_ymsg1 hm hp6 hb (br_f (by decide) (dz_yfree1 hp6 hs1 hs3 hs5 (br_t ps' ⟨ec + 1, ?_⟩)))
      refine dz_ydup_l h1.2.2.2.2.1 (by omega) (by omega) hne ⟨rfl, ?_⟩ (ec + 1) 0 (Nat.zero_le _) (by omega)
      rw [hs'.1, hmt]
      exact dz_in h1 h2 h3 (dz_put h4 (h4.1 m) ht hs'.2.2) h5
    · refine dz_xfree0 hp6 hs4 (br_f (by decide) ?_)
      exact dz_ymsg1 hm hp6 hb (br_f (by decide) (dz_yfree0 hp6 hs5 (br_f (by decide) ⟨rfl, RR⟩)))
end
