section
/-! ===== Int32 by its bits: bt x i (a family of kit/laws/BITS.to-paste, pasted) ===== -/
def bt (x : Int32) (i : Nat) : Bool := x.toBitVec.getLsbD i
theorem b_ext {x y : Int32} (h : ∀ i, i < 32 → bt x i = bt y i) : x = y := Int32.toBitVec_inj.mp (BitVec.eq_of_getLsbD_eq (fun i hi => h i hi))
theorem b_or (x y : Int32) (i : Nat) : bt (x ||| y) i = (bt x i || bt y i) := by unfold bt; rw [Int32.toBitVec_or, BitVec.getLsbD_or]
theorem b_and (x y : Int32) (i : Nat) : bt (x &&& y) i = (bt x i && bt y i) := by unfold bt; rw [Int32.toBitVec_and, BitVec.getLsbD_and]
theorem b_xor (x y : Int32) (i : Nat) : bt (x ^^^ y) i = (bt x i ^^ bt y i) := by unfold bt; rw [Int32.toBitVec_xor, BitVec.getLsbD_xor]
theorem b_m1 : ∀ i, i < 32 → bt (-1) i = true := by decide +kernel
theorem b_0 (i : Nat) : bt 0 i = false := BitVec.getLsbD_zero
theorem s_l : ∀ n, n < 32 → ((nI n &&& 31).toBitVec.smod 32).toNat = n := by decide +kernel
theorem b_sshr (n : Nat) (hn : n < 32) (x : Int32) {i : Nat} (hi : i < 32) : bt (x >>> (nI n &&& 31)) i = if n + i < 32 then bt x (n + i) else bt x 31 := by
  unfold bt
  rw [Int32.toBitVec_shiftRight]
  show (x.toBitVec.sshiftRight ((nI n &&& 31).toBitVec.smod 32).toNat).getLsbD i = _
  rw [s_l n hn, BitVec.getLsbD_sshiftRight, BitVec.msb_eq_getLsbD_last]
  simp [hi]
/-! ===== one bit ===== -/
theorem sv_1 : ∀ k, k < 32 → bt 1 k = decide (k = 0) := by decide +kernel
theorem sv_bit : ∀ a, a < 32 → ∀ k, k < 32 → bt ((1 : Int32) <<< (nI a &&& 31)) k = decide (k = a) := by decide +kernel
theorem sv_and0 (x : Int32) {a : Nat} (ha : a < 32) : (x &&& ((1 : Int32) <<< (nI a &&& 31))) = 0 ↔ bt x a = false := by
  constructor
  · intro h
    have h2 := congrArg (fun z => bt z a) h
    simp only [b_and, b_0, sv_bit a ha a ha] at h2
    simpa using h2
  · intro h
    apply b_ext
    intro k hk
    rw [b_and, sv_bit a ha k hk, b_0]
    by_cases e : k = a
    · subst e
      simp [h]
    · simp [e]
theorem sv_sh (x : Int32) {a : Nat} (ha : a < 32) : ((x >>> (nI a &&& 31)) &&& 1) = 1 ↔ bt x a = true := by
  constructor
  · intro h
    have h2 := congrArg (fun z => bt z 0) h
    simp only [b_and, b_sshr a ha x (show 0 < 32 by omega), sv_1 0 (by omega)] at h2
    simpa [ha] using h2
  · intro h
    apply b_ext
    intro k hk
    rw [b_and, sv_1 k hk]
    by_cases e : k = 0
    · subst e
      rw [b_sshr a ha x hk]
      simp [ha, h]
    · simp [e]
theorem sv_orb (x : Int32) {a b : Nat} (ha : a < 32) (hb : b < 32) : bt (x ||| ((1 : Int32) <<< (nI a &&& 31))) b = (bt x b || decide (b = a)) := by
  rw [b_or, sv_bit a ha b hb]
theorem sv_orS (x : Int32) {a : Nat} (ha : a < 32) : bt (x ||| ((1 : Int32) <<< (nI a &&& 31))) a = true := by
  rw [sv_orb x ha ha]
  simp
theorem sv_orN (x : Int32) {a b : Nat} (ha : a < 32) (hb : b < 32) (h : b ≠ a) : bt (x ||| ((1 : Int32) <<< (nI a &&& 31))) b = bt x b := by
  rw [sv_orb x ha hb]
  simp [h]
theorem sv_ix (i v : Nat) : nI i * 3 + nI (v + 1) - 1 = nI (3 * i + v) := by
  show nI i * nI 3 + nI (v + 1) - 1 = _
  rw [pk_mul, nI_add, show i * 3 + (v + 1) = (3 * i + v) + 1 by omega, nI_pred]
theorem sv_ix0 (i v : Nat) : nI i * 3 + nI v = nI (3 * i + v) := by
  show nI i * nI 3 + nI v = _
  rw [pk_mul, nI_add, Nat.mul_comm]
theorem sv_ix4 (c j : Nat) : nI c * 4 + nI j = nI (4 * c + j) := by
  show nI c * nI 4 + nI j = _
  rw [pk_mul, nI_add, Nat.mul_comm]
/-! ===== how many of the first n ===== -/
def sv_c (p : Nat → Bool) : Nat → Nat
  | 0 => 0
  | n + 1 => sv_c p n + (if p n = true then 1 else 0)
theorem sv_c_le (p : Nat → Bool) : ∀ n, sv_c p n ≤ n := by
  intro n
  induction n with
  | zero => exact Nat.le_refl 0
  | succ n ih =>
    show sv_c p n + (if p n = true then 1 else 0) ≤ n + 1
    split <;> omega
theorem sv_c_mono {p q : Nat → Bool} : ∀ n, (∀ a, a < n → p a = true → q a = true) → sv_c p n ≤ sv_c q n := by
  intro n
  induction n with
  | zero => exact fun _ => Nat.le_refl 0
  | succ n ih =>
    intro h
    have h1 := ih (fun a ha => h a (by omega))
    have h2 := h n (by omega)
    show sv_c p n + (if p n = true then 1 else 0) ≤ sv_c q n + (if q n = true then 1 else 0)
    by_cases e : p n = true
    · rw [if_pos e, if_pos (h2 e)]
      omega
    · rw [if_neg e]
      omega
theorem sv_c_eq {p q : Nat → Bool} (n : Nat) (h : ∀ a, a < n → p a = q a) : sv_c p n = sv_c q n :=
  Nat.le_antisymm (sv_c_mono n (fun a ha e => by rw [← h a ha]; exact e)) (sv_c_mono n (fun a ha e => by rw [h a ha]; exact e))
theorem sv_c_add {p q : Nat → Bool} {a : Nat} : ∀ n, a < n → p a = false → q a = true → (∀ b, b < n → b ≠ a → q b = p b) → sv_c q n = sv_c p n + 1 := by
  intro n
  induction n with
  | zero => exact fun h => absurd h (by omega)
  | succ n ih =>
    intro h hp hq hb
    show sv_c q n + (if q n = true then 1 else 0) = sv_c p n + (if p n = true then 1 else 0) + 1
    by_cases e : n = a
    · subst e
      rw [sv_c_eq (p := q) (q := p) n (fun b hbn => hb b (by omega) (by omega)), if_pos hq, hp]
      simp
    · rw [ih (by omega) hp hq (fun b hbn hne => hb b (by omega) hne), hb n (by omega) e]
      omega
theorem sv_c_lt {p : Nat → Bool} {a : Nat} (n : Nat) (ha : a < n) (hp : p a = false) : sv_c p n < n := by
  have h := sv_c_add (p := p) (q := fun b => p b || decide (b = a)) n ha hp (by simp) (fun b _ hne => by simp [hne])
  have h2 := sv_c_le (fun b => p b || decide (b = a)) n
  omega
theorem sv_c_full {p : Nat → Bool} (n : Nat) (h : n ≤ sv_c p n) : ∀ a, a < n → p a = true := by
  intro a ha
  by_cases e : p a = true
  · exact e
  · have := sv_c_lt n ha (by simpa using e)
    omega
/-! ===== the picture ===== -/
def sv_k (ye no : Int32) : Nat := sv_c (fun a => bt ye a || bt no a) 12
/-- the sets of atoms: disjoint; the trail's length; without a solution: level 0; with one: it agrees -/
def sv_Ok (s : Prop) (x : Nat → Nat) (lv ye no tl : Int32) (a10 : Nat → Int32) : Prop :=
  (∀ a, a < 12 → bt ye a = true → bt no a = true → False) ∧
  tl = nI (sv_k ye no) ∧
  (¬ s → lv = 0 ∧ ∀ a, a < 12 → (bt ye a = true ∨ bt no a = true) → a10 a = 0) ∧
  (s → ∀ a, a < 12 → (bt ye a = true → a % 3 < x (a / 3)) ∧ (bt no a = true → x (a / 3) ≤ a % 3))
/-- a clash: only without a solution, and its atoms are assigned -/
def sv_Cl (s : Prop) (ye no cl cy cn : Int32) : Prop :=
  ¬ cl = 0 → ¬ s ∧ ∀ a, a < 12 → (bt cy a = true ∨ bt cn a = true) → (bt ye a = true ∨ bt no a = true)
/-- a round's part: p, q are the sets at its start -/
def sv_Rd (D : Nat → Prop) (p q : Nat → Bool) (F : Prop) (ye no cl mv : Int32) : Prop :=
  (∀ a, a < 12 → D a → (bt ye a = true ∨ bt no a = true)) ∧
  (∀ a, a < 12 → p a = true → bt ye a = true) ∧ (∀ a, a < 12 → q a = true → bt no a = true) ∧
  (mv = 0 → ∀ a, a < 12 → bt ye a = p a ∧ bt no a = q a) ∧
  (¬ mv = 0 → sv_c (fun a => p a || q a) 12 < sv_k ye no) ∧
  (mv = 0 → cl = 0 → F)
def sv_J (s : Prop) (x : Nat → Nat) (D : Nat → Prop) (p q : Nat → Bool) (F : Prop) (lv ye no tl cl cy cn mv : Int32) (a10 : Nat → Int32) : Prop :=
  sv_Ok s x lv ye no tl a10 ∧ sv_Cl s ye no cl cy cn ∧ sv_Rd D p q F ye no cl mv
section
variable {s : Prop} {x : Nat → Nat} {D D' : Nat → Prop} {p q : Nat → Bool} {F F' G : Prop} {lv ye no tl cl cy cn mv : Int32} {a10 : Nat → Int32}
theorem sv_J_and (h : sv_J s x D p q F lv ye no tl cl cy cn mv a10) (g : mv = 0 → cl = 0 → (∀ a, a < 12 → bt ye a = p a ∧ bt no a = q a) → F → F') : sv_J s x D p q F' lv ye no tl cl cy cn mv a10 := by
  obtain ⟨h1, h2, d, r1, r2, r3, r4, r5⟩ := h
  exact ⟨h1, h2, d, r1, r2, r3, r4, fun m c => g m c (r3 m) (r5 m c)⟩
theorem sv_J_cl (h : sv_J s x D p q F lv ye no tl cl cy cn mv a10) (hc : ¬ cl = 0) : sv_J s x D p q F' lv ye no tl cl cy cn mv a10 :=
  sv_J_and h (fun _ c => absurd c hc)
theorem sv_J_D (h : sv_J s x D p q F lv ye no tl cl cy cn mv a10) (hd : ∀ a, a < 12 → D' a → (bt ye a = true ∨ bt no a = true)) : sv_J s x D' p q F lv ye no tl cl cy cn mv a10 := by
  obtain ⟨h1, h2, d, r⟩ := h
  exact ⟨h1, h2, hd, r⟩
theorem sv_okT {a : Nat} (ha : a < 12) (h : sv_Ok s x lv ye no tl a10) (hy : bt ye a = false) (hn : bt no a = false) (hT : s → a % 3 < x (a / 3)) :
    sv_k ye no < 12 ∧ sv_k (ye ||| ((1 : Int32) <<< (nI a &&& 31))) no = sv_k ye no + 1 ∧ sv_Ok s x lv (ye ||| ((1 : Int32) <<< (nI a &&& 31))) no (nI (sv_k ye no + 1)) (upd a10 a lv) := by
  obtain ⟨h1, h2, h3, h4⟩ := h
  have hk : sv_k ye no < 12 := sv_c_lt 12 ha (by simp [hy, hn])
  have hk2 : sv_k (ye ||| ((1 : Int32) <<< (nI a &&& 31))) no = sv_k ye no + 1 :=
    sv_c_add 12 ha (by simp [hy, hn]) (by simp [sv_orS ye (show a < 32 by omega)]) (fun b hb hne => by simp [sv_orN ye (show a < 32 by omega) (show b < 32 by omega) hne])
  refine ⟨hk, hk2, ?_, by rw [hk2], fun ns => ?_, fun hs => ?_⟩
  · intro b hb e1 e2
    by_cases e : b = a
    · subst e
      rw [hn] at e2
      exact Bool.noConfusion e2
    · rw [sv_orN ye (show a < 32 by omega) (show b < 32 by omega) e] at e1
      exact h1 b hb e1 e2
  · refine ⟨(h3 ns).1, fun b hb e1 => ?_⟩
    by_cases e : b = a
    · subst e
      rw [pk_us]
      exact (h3 ns).1
    · rw [pk_un e]
      rw [sv_orN ye (show a < 32 by omega) (show b < 32 by omega) e] at e1
      exact (h3 ns).2 b hb e1
  · intro b hb
    refine ⟨fun e1 => ?_, (h4 hs b hb).2⟩
    by_cases e : b = a
    · subst e
      exact hT hs
    · rw [sv_orN ye (show a < 32 by omega) (show b < 32 by omega) e] at e1
      exact (h4 hs b hb).1 e1
theorem sv_okF {a : Nat} (ha : a < 12) (h : sv_Ok s x lv ye no tl a10) (hy : bt ye a = false) (hn : bt no a = false) (hT : s → x (a / 3) ≤ a % 3) :
    sv_k ye no < 12 ∧ sv_k ye (no ||| ((1 : Int32) <<< (nI a &&& 31))) = sv_k ye no + 1 ∧ sv_Ok s x lv ye (no ||| ((1 : Int32) <<< (nI a &&& 31))) (nI (sv_k ye no + 1)) (upd a10 a lv) := by
  obtain ⟨h1, h2, h3, h4⟩ := h
  have hk : sv_k ye no < 12 := sv_c_lt 12 ha (by simp [hy, hn])
  have hk2 : sv_k ye (no ||| ((1 : Int32) <<< (nI a &&& 31))) = sv_k ye no + 1 :=
    sv_c_add 12 ha (by simp [hy, hn]) (by simp [sv_orS no (show a < 32 by omega)]) (fun b hb hne => by simp [sv_orN no (show a < 32 by omega) (show b < 32 by omega) hne])
  refine ⟨hk, hk2, ?_, by rw [hk2], fun ns => ?_, fun hs => ?_⟩
  · intro b hb e1 e2
    by_cases e : b = a
    · subst e
      rw [hy] at e1
      exact Bool.noConfusion e1
    · rw [sv_orN no (show a < 32 by omega) (show b < 32 by omega) e] at e2
      exact h1 b hb e1 e2
  · refine ⟨(h3 ns).1, fun b hb e1 => ?_⟩
    by_cases e : b = a
    · subst e
      rw [pk_us]
      exact (h3 ns).1
    · rw [pk_un e]
      rw [sv_orN no (show a < 32 by omega) (show b < 32 by omega) e] at e1
      exact (h3 ns).2 b hb e1
  · intro b hb
    refine ⟨(h4 hs b hb).1, fun e1 => ?_⟩
    by_cases e : b = a
    · subst e
      exact hT hs
    · rw [sv_orN no (show a < 32 by omega) (show b < 32 by omega) e] at e1
      exact (h4 hs b hb).2 e1
theorem sv_kT {a : Nat} (ha : a < 12) {b : Nat} (hb : b < 12) (h : bt ye b = true) : bt (ye ||| ((1 : Int32) <<< (nI a &&& 31))) b = true := by
  rw [sv_orb ye (show a < 32 by omega) (show b < 32 by omega), h]
  rfl
theorem sv_k_mono {ye' no' : Int32} (h1 : ∀ a, a < 12 → bt ye a = true → bt ye' a = true) (h2 : ∀ a, a < 12 → bt no a = true → bt no' a = true) : sv_k ye no ≤ sv_k ye' no' :=
  sv_c_mono 12 (fun a ha e => by
    rcases Bool.or_eq_true_iff.mp e with e1 | e1
    · exact Bool.or_eq_true_iff.mpr (Or.inl (h1 a ha e1))
    · exact Bool.or_eq_true_iff.mpr (Or.inr (h2 a ha e1)))
theorem sv_JT {a : Nat} (ha : a < 12) (hJ : sv_J s x D p q F lv ye no tl cl cy cn mv a10) (hc : cl = 0) (hy : bt ye a = false) (hn : bt no a = false) (hT : s → a % 3 < x (a / 3)) :
    sv_k ye no < 12 ∧ sv_J s x D p q F' lv (ye ||| ((1 : Int32) <<< (nI a &&& 31))) no (nI (sv_k ye no + 1)) cl cy cn 1 (upd a10 a lv) := by
  obtain ⟨h1, h2, d, r1, r2, r3, r4, r5⟩ := hJ
  obtain ⟨k1, k2, k3⟩ := sv_okT ha h1 hy hn hT
  refine ⟨k1, k3, fun z => absurd hc z, fun b hb db => ?_, fun b hb e => sv_kT ha hb (r1 b hb e), r2, fun m => absurd m (by decide), fun _ => ?_, fun m => absurd m (by decide)⟩
  · rcases d b hb db with e | e
    · exact Or.inl (sv_kT ha hb e)
    · exact Or.inr e
  · have hm : sv_c (fun a => p a || q a) 12 ≤ sv_k ye no := sv_c_mono 12 (fun a ha e => by
      rcases Bool.or_eq_true_iff.mp e with e1 | e1
      · exact Bool.or_eq_true_iff.mpr (Or.inl (r1 a ha e1))
      · exact Bool.or_eq_true_iff.mpr (Or.inr (r2 a ha e1)))
    omega
theorem sv_JF {a : Nat} (ha : a < 12) (hJ : sv_J s x D p q F lv ye no tl cl cy cn mv a10) (hc : cl = 0) (hy : bt ye a = false) (hn : bt no a = false) (hT : s → x (a / 3) ≤ a % 3) :
    sv_k ye no < 12 ∧ sv_J s x D p q F' lv ye (no ||| ((1 : Int32) <<< (nI a &&& 31))) (nI (sv_k ye no + 1)) cl cy cn 1 (upd a10 a lv) := by
  obtain ⟨h1, h2, d, r1, r2, r3, r4, r5⟩ := hJ
  obtain ⟨k1, k2, k3⟩ := sv_okF ha h1 hy hn hT
  refine ⟨k1, k3, fun z => absurd hc z, fun b hb db => ?_, r1, fun b hb e => sv_kT ha hb (r2 b hb e), fun m => absurd m (by decide), fun _ => ?_, fun m => absurd m (by decide)⟩
  · rcases d b hb db with e | e
    · exact Or.inl e
    · exact Or.inr (sv_kT ha hb e)
  · have hm : sv_c (fun a => p a || q a) 12 ≤ sv_k ye no := sv_c_mono 12 (fun a ha e => by
      rcases Bool.or_eq_true_iff.mp e with e1 | e1
      · exact Bool.or_eq_true_iff.mpr (Or.inl (r1 a ha e1))
      · exact Bool.or_eq_true_iff.mpr (Or.inr (r2 a ha e1)))
    omega
theorem sv_JC {cl' cy' cn' : Int32} (hJ : sv_J s x D p q F lv ye no tl cl cy cn mv a10) (hc : ¬ cl' = 0) (hs : ¬ s) (hr : ∀ a, a < 12 → (bt cy' a = true ∨ bt cn' a = true) → (bt ye a = true ∨ bt no a = true)) :
    sv_J s x D p q F' lv ye no tl cl' cy' cn' mv a10 := by
  obtain ⟨h1, h2, d, r1, r2, r3, r4, r5⟩ := hJ
  exact ⟨h1, fun _ => ⟨hs, hr⟩, d, r1, r2, r3, r4, fun _ c => absurd c hc⟩
end
end
section
/-! ===== the methods that only read ===== -/
def sv_lo (p : Nat → Bool) (i : Nat) : Nat := if p (3 * i + 2) = true then 3 else if p (3 * i + 1) = true then 2 else if p (3 * i) = true then 1 else 0
def sv_hi (q : Nat → Bool) (i : Nat) : Nat := if q (3 * i) = true then 0 else if q (3 * i + 1) = true then 1 else if q (3 * i + 2) = true then 2 else 3
def sv_tm (z : Int32) (p q : Nat → Bool) (j : Nat) : Int32 := if z ≤ 0 then z * nI (sv_hi q j) else z * nI (sv_lo p j)
theorem sv_lo_le (p : Nat → Bool) (i : Nat) : sv_lo p i ≤ 3 := by
  unfold sv_lo
  split
  · omega
  · split
    · omega
    · split <;> omega
theorem sv_hi_le (p : Nat → Bool) (i : Nat) : sv_hi p i ≤ 3 := by
  unfold sv_hi
  split
  · omega
  · split
    · omega
    · split <;> omega
theorem sv_lo_s {p : Nat → Bool} {i v : Nat} (h : sv_lo p i = v + 1) : v < 3 ∧ p (3 * i + v) = true := by
  unfold sv_lo at h
  by_cases h2 : p (3 * i + 2) = true
  · rw [if_pos h2] at h
    have e : v = 2 := by omega
    rw [e]
    exact ⟨by omega, h2⟩
  · rw [if_neg h2] at h
    by_cases h1 : p (3 * i + 1) = true
    · rw [if_pos h1] at h
      have e : v = 1 := by omega
      rw [e]
      exact ⟨by omega, h1⟩
    · rw [if_neg h1] at h
      by_cases h0 : p (3 * i) = true
      · rw [if_pos h0] at h
        have e : v = 0 := by omega
        rw [e]
        exact ⟨by omega, h0⟩
      · rw [if_neg h0] at h
        exact absurd h (by omega)
theorem sv_hi_s {p : Nat → Bool} {i : Nat} (h : sv_hi p i ≠ 3) : sv_hi p i < 3 ∧ p (3 * i + sv_hi p i) = true := by
  unfold sv_hi at h ⊢
  by_cases h0 : p (3 * i) = true
  · rw [if_pos h0]
    exact ⟨by omega, h0⟩
  · rw [if_neg h0] at h ⊢
    by_cases h1 : p (3 * i + 1) = true
    · rw [if_pos h1]
      exact ⟨by omega, h1⟩
    · rw [if_neg h1] at h ⊢
      by_cases h2 : p (3 * i + 2) = true
      · rw [if_pos h2]
        exact ⟨by omega, h2⟩
      · rw [if_neg h2] at h
        exact absurd rfl h
theorem sv_lo_eq {p q : Nat → Bool} {i : Nat} (hi : i < 4) (h : ∀ a, a < 12 → p a = q a) : sv_lo p i = sv_lo q i := by
  unfold sv_lo
  rw [h (3 * i + 2) (by omega), h (3 * i + 1) (by omega), h (3 * i) (by omega)]
theorem sv_hi_eq {p q : Nat → Bool} {i : Nat} (hi : i < 4) (h : ∀ a, a < 12 → p a = q a) : sv_hi p i = sv_hi q i := by
  unfold sv_hi
  rw [h (3 * i + 2) (by omega), h (3 * i + 1) (by omega), h (3 * i) (by omega)]
theorem sv_shx (x : Int32) {i v a : Nat} (he : a = 3 * i + v) (ha : a < 32) : ((x >>> (((nI i * 3) + nI (v + 1) - 1) &&& 31)) &&& 1) = 1 ↔ bt x a = true := by
  rw [sv_ix, ← he]
  exact sv_sh x ha
theorem sv_low_s {post : Int32 → Prop} {md fo ye no tl lv de ct le cl cy cn mv : Int32} {a1 a2 a3 a4 a5 a6 a7 a8 a9 a10 a11 a12 a13 a14 a15 a16 : Nat → Int32} {x2 : Int32} {i v a n : Nat} (hi : i < 4) (hv : v < 3) (he : a = 3 * i + v)
    (H1 : bt ye a = true → wX_low_4 post (nI i) md fo ye no tl lv de ct le cl cy cn mv a1 a2 a3 a4 a5 a6 a7 a8 a9 a10 a11 a12 a13 a14 a15 a16 n (nI (v + 1)) (nI (v + 2))) (H0 : ¬ bt ye a = true → wX_low_4 post (nI i) md fo ye no tl lv de ct le cl cy cn mv a1 a2 a3 a4 a5 a6 a7 a8 a9 a10 a11 a12 a13 a14 a15 a16 n x2 (nI (v + 2))) :
    wX_low_4 post (nI i) md fo ye no tl lv de ct le cl cy cn mv a1 a2 a3 a4 a5 a6 a7 a8 a9 a10 a11 a12 a13 a14 a15 a16 (n + 1) x2 (nI (v + 1)) :=
  pk_lt 3 (v + 1) (fun z => absurd z (by omega)) (fun _ => ek_if (sv_shx ye he (by omega)) (fun h => nm_r (nI_1 (v + 1)) (H1 h)) (fun h => nm_r (nI_1 (v + 1)) (H0 h)))
theorem sv_low {post : Int32 → Prop} {md fo ye no tl lv de ct le cl cy cn mv : Int32} {a1 a2 a3 a4 a5 a6 a7 a8 a9 a10 a11 a12 a13 a14 a15 a16 : Nat → Int32} {i : Nat} (hi : i < 4) (h : post (nI (sv_lo (bt ye) i))) : wpX_low post (md, fo, ye, no, tl, lv, de, ct, le, cl, cy, cn, mv, a1, a2, a3, a4, a5, a6, a7, a8, a9, a10, a11, a12, a13, a14, a15, a16) (nI i) := by
  have e : ∀ f, f = sv_lo (bt ye) i → wX_low_4 post (nI i) md fo ye no tl lv de ct le cl cy cn mv a1 a2 a3 a4 a5 a6 a7 a8 a9 a10 a11 a12 a13 a14 a15 a16 1 (nI f) (nI 4) := fun f hf => br_t (by decide) (by rw [hf]; exact h)
  unfold wpX_low
  dsimp only
  refine ⟨4, ?_⟩
  show wX_low_4 post (nI i) md fo ye no tl lv de ct le cl cy cn mv a1 a2 a3 a4 a5 a6 a7 a8 a9 a10 a11 a12 a13 a14 a15 a16 4 (nI 0) (nI 1)
  refine sv_low_s (v := 0) (a := 3 * i) hi (by omega) rfl (fun h0 => ?_) (fun h0 => ?_) <;> refine sv_low_s (v := 1) (a := 3 * i + 1) hi (by omega) rfl (fun h1 => ?_) (fun h1 => ?_) <;> refine sv_low_s (v := 2) (a := 3 * i + 2) hi (by omega) rfl (fun h2 => ?_) (fun h2 => ?_) <;> exact e _ (by simp [sv_lo, h0, h1, h2])
theorem sv_high_s {post : Int32 → Prop} {md fo ye no tl lv de ct le cl cy cn mv : Int32} {a1 a2 a3 a4 a5 a6 a7 a8 a9 a10 a11 a12 a13 a14 a15 a16 : Nat → Int32} {x2 : Int32} {i v a n : Nat} (hi : i < 4) (hv : v < 3) (he : a = 3 * i + v)
    (H1 : bt no a = true → wX_high_4 post (nI i) md fo ye no tl lv de ct le cl cy cn mv a1 a2 a3 a4 a5 a6 a7 a8 a9 a10 a11 a12 a13 a14 a15 a16 n (nI v) (nI v)) (H0 : ¬ bt no a = true → wX_high_4 post (nI i) md fo ye no tl lv de ct le cl cy cn mv a1 a2 a3 a4 a5 a6 a7 a8 a9 a10 a11 a12 a13 a14 a15 a16 n x2 (nI v)) :
    wX_high_4 post (nI i) md fo ye no tl lv de ct le cl cy cn mv a1 a2 a3 a4 a5 a6 a7 a8 a9 a10 a11 a12 a13 a14 a15 a16 (n + 1) x2 (nI (v + 1)) :=
  pk_lt (v + 1) 1 (fun z => absurd z (by omega)) (fun _ => ek_if (sv_shx no he (by omega)) (fun h => nm_r (nI_pred v) (nm_r (pk_m1 v) (H1 h))) (fun h => nm_r (pk_m1 v) (H0 h)))
theorem sv_high {post : Int32 → Prop} {md fo ye no tl lv de ct le cl cy cn mv : Int32} {a1 a2 a3 a4 a5 a6 a7 a8 a9 a10 a11 a12 a13 a14 a15 a16 : Nat → Int32} {i : Nat} (hi : i < 4) (h : post (nI (sv_hi (bt no) i))) : wpX_high post (md, fo, ye, no, tl, lv, de, ct, le, cl, cy, cn, mv, a1, a2, a3, a4, a5, a6, a7, a8, a9, a10, a11, a12, a13, a14, a15, a16) (nI i) := by
  have e : ∀ f, f = sv_hi (bt no) i → wX_high_4 post (nI i) md fo ye no tl lv de ct le cl cy cn mv a1 a2 a3 a4 a5 a6 a7 a8 a9 a10 a11 a12 a13 a14 a15 a16 1 (nI f) (nI 0) := fun f hf => br_t (by decide) (by rw [hf]; exact h)
  unfold wpX_high
  dsimp only
  refine ⟨4, ?_⟩
  show wX_high_4 post (nI i) md fo ye no tl lv de ct le cl cy cn mv a1 a2 a3 a4 a5 a6 a7 a8 a9 a10 a11 a12 a13 a14 a15 a16 4 (nI 3) (nI 3)
  refine sv_high_s (v := 2) (a := 3 * i + 2) hi (by omega) rfl (fun h2 => ?_) (fun h2 => ?_) <;> refine sv_high_s (v := 1) (a := 3 * i + 1) hi (by omega) rfl (fun h1 => ?_) (fun h1 => ?_) <;> refine sv_high_s (v := 0) (a := 3 * i) hi (by omega) rfl (fun h0 => ?_) (fun h0 => ?_) <;> exact e _ (by simp [sv_hi, h0, h1, h2])
theorem sv_lowAtom {post : Int32 → Prop} {md fo ye no tl lv de ct le cl cy cn mv : Int32} {a1 a2 a3 a4 a5 a6 a7 a8 a9 a10 a11 a12 a13 a14 a15 a16 : Nat → Int32} {i : Nat} (hi : i < 4) (H : ∀ r, (∀ b, b < 12 → bt r b = true → bt ye b = true) → post r) : wpX_lowAtom post (md, fo, ye, no, tl, lv, de, ct, le, cl, cy, cn, mv, a1, a2, a3, a4, a5, a6, a7, a8, a9, a10, a11, a12, a13, a14, a15, a16) (nI i) := by
  unfold wpX_lowAtom
  dsimp only
  have hl := sv_lo_le (bt ye) i
  refine sv_low hi (pk_eq (sv_lo (bt ye) i) 0 (fun e => H 0 (fun b _ z => ?_)) (fun e => ?_))
  · rw [b_0] at z
    exact Bool.noConfusion z
  · obtain ⟨v, hv⟩ : ∃ v, sv_lo (bt ye) i = v + 1 := ⟨sv_lo (bt ye) i - 1, by omega⟩
    obtain ⟨h1, h2⟩ := sv_lo_s hv
    rw [hv, sv_ix]
    refine H _ (fun b hb z => ?_)
    rw [sv_bit (3 * i + v) (by omega) b (by omega)] at z
    rw [of_decide_eq_true z]
    exact h2
theorem sv_highAtom {post : Int32 → Prop} {md fo ye no tl lv de ct le cl cy cn mv : Int32} {a1 a2 a3 a4 a5 a6 a7 a8 a9 a10 a11 a12 a13 a14 a15 a16 : Nat → Int32} {i : Nat} (hi : i < 4) (H : ∀ r, (∀ b, b < 12 → bt r b = true → bt no b = true) → post r) : wpX_highAtom post (md, fo, ye, no, tl, lv, de, ct, le, cl, cy, cn, mv, a1, a2, a3, a4, a5, a6, a7, a8, a9, a10, a11, a12, a13, a14, a15, a16) (nI i) := by
  unfold wpX_highAtom
  dsimp only
  have hl := sv_hi_le (bt no) i
  refine sv_high hi (pk_eq (sv_hi (bt no) i) 3 (fun e => H 0 (fun b _ z => ?_)) (fun e => ?_))
  · rw [b_0] at z
    exact Bool.noConfusion z
  · obtain ⟨h1, h2⟩ := sv_hi_s e
    rw [sv_ix0]
    refine H _ (fun b hb z => ?_)
    rw [sv_bit (3 * i + sv_hi (bt no) i) (by omega) b (by omega)] at z
    rw [of_decide_eq_true z]
    exact h2
theorem sv_leastTerm {post : Int32 → Prop} {md fo ye no tl lv de ct le cl cy cn mv : Int32} {a1 a2 a3 a4 a5 a6 a7 a8 a9 a10 a11 a12 a13 a14 a15 a16 : Nat → Int32} {c j : Nat} (hc : c < 11) (hj : j < 4) (h : post (sv_tm (a3 (4 * c + j)) (bt ye) (bt no) j)) : wpX_leastTerm post (md, fo, ye, no, tl, lv, de, ct, le, cl, cy, cn, mv, a1, a2, a3, a4, a5, a6, a7, a8, a9, a10, a11, a12, a13, a14, a15, a16) (nI c) (nI j) := by
  unfold wpX_leastTerm
  dsimp only
  rw [sv_ix4, nI_clamp (show 4 * c + j < 2 ^ 31 by omega)]
  refine ⟨vp_in_nI (by omega) (by omega), nm_e (br_c (fun z => sv_high hj ?_) (fun z => sv_low hj ?_))⟩
  · unfold sv_tm at h
    rw [if_pos z] at h
    exact h
  · unfold sv_tm at h
    rw [if_neg z] at h
    exact h
theorem sv_hl0 {post : Int32 → Prop} {md fo ye no tl lv de ct le cl cy cn mv : Int32} {a1 a2 a3 a4 a5 a6 a7 a8 a9 a10 a11 a12 a13 a14 a15 a16 : Nat → Int32} {w : Int32} (hw : ∀ a, a < 12 → bt w a = true → a10 a = 0) (h : post 0) : wpX_highestLevel post (md, fo, ye, no, tl, lv, de, ct, le, cl, cy, cn, mv, a1, a2, a3, a4, a5, a6, a7, a8, a9, a10, a11, a12, a13, a14, a15, a16) w := by
  unfold wpX_highestLevel
  dsimp only
  refine pk_loop (σ := Unit) (fun n a _ => wX_highestLevel_4 post w md fo ye no tl lv de ct le cl cy cn mv a1 a2 a3 a4 a5 a6 a7 a8 a9 a10 a11 a12 a13 a14 a15 a16 n 0 (nI a)) (fun _ _ => True) 12 0 () (by omega) trivial (fun n _ _ => pk_le 12 12 (fun _ => h) (fun z => absurd z (by omega))) (fun n a _ ha _ hn => ?_)
  refine pk_le 12 a (fun z => absurd z (by omega)) (fun _ => ek_if (sv_sh w (show a < 32 by omega)) (fun hb => ⟨pk_in a 12 ha, br_t ?_ (nm_r (nI_1 a) (hn () trivial))⟩) (fun hb => nm_r (nI_1 a) (hn () trivial)))
  rw [nI_clamp (show a < 2 ^ 31 by omega), hw a ha hb]
  decide
theorem sv_ans_s {post : Int32 → Prop} {md fo ye no tl lv de ct le cl cy cn mv : Int32} {a1 a2 a3 a4 a5 a6 a7 a8 a9 a10 a11 a12 a13 a14 a15 a16 : Nat → Int32} {w j n : Nat} (hj : j < 4) (H : wX_answer_4 post md fo ye no tl lv de ct le cl cy cn mv a1 a2 a3 a4 a5 a6 a7 a8 a9 a10 a11 a12 a13 a14 a15 a16 n (nI (w * 4 + sv_lo (bt ye) j)) (nI (j + 1))) : wX_answer_4 post md fo ye no tl lv de ct le cl cy cn mv a1 a2 a3 a4 a5 a6 a7 a8 a9 a10 a11 a12 a13 a14 a15 a16 (n + 1) (nI w) (nI j) := by
  refine pk_le 4 j (fun z => absurd z (by omega)) (fun _ => sv_low hj (nm_r ?_ (nm_r (nI_1 j) H)))
  show nI w * nI 4 + nI (sv_lo (bt ye) j) = _
  rw [pk_mul, nI_add]
theorem sv_answer {post : Int32 → Prop} {md fo ye no tl lv de ct le cl cy cn mv : Int32} {a1 a2 a3 a4 a5 a6 a7 a8 a9 a10 a11 a12 a13 a14 a15 a16 : Nat → Int32} (h : post (nI (((sv_lo (bt ye) 0 * 4 + sv_lo (bt ye) 1) * 4 + sv_lo (bt ye) 2) * 4 + sv_lo (bt ye) 3))) : wpX_answer post (md, fo, ye, no, tl, lv, de, ct, le, cl, cy, cn, mv, a1, a2, a3, a4, a5, a6, a7, a8, a9, a10, a11, a12, a13, a14, a15, a16) := by
  unfold wpX_answer
  dsimp only
  refine ⟨5, ?_⟩
  show wX_answer_4 post md fo ye no tl lv de ct le cl cy cn mv a1 a2 a3 a4 a5 a6 a7 a8 a9 a10 a11 a12 a13 a14 a15 a16 5 (nI 0) (nI 0)
  refine sv_ans_s (by omega) (sv_ans_s (by omega) (sv_ans_s (by omega) (sv_ans_s (by omega) (br_t (by decide) ?_))))
  rw [Nat.zero_mul, Nat.zero_add]
  exact h
end
section
/-! ===== assign, imply, chain ===== -/
theorem sv_asgT {post : St2 → Prop} {md fo ye no tl lv de ct le cl cy cn mv : Int32} {a1 a2 a3 a4 a5 a6 a7 a8 a9 a10 a11 a12 a13 a14 a15 a16 : Nat → Int32} {r1 r2 : Int32} {a k : Nat} (ha : a < 12) (hk : k < 12) (ht : tl = nI k)
    (H : post (md, fo, ye ||| ((1 : Int32) <<< (nI a &&& 31)), no, nI (k + 1), lv, de, ct, le, cl, cy, cn, mv, a1, a2, a3, a4, a5, a6, a7, a8, upd a9 k (nI a), upd a10 a lv, upd a11 a r1, upd a12 a r2, a13, a14, a15, a16)) :
    wpX_assign post (md, fo, ye, no, tl, lv, de, ct, le, cl, cy, cn, mv, a1, a2, a3, a4, a5, a6, a7, a8, a9, a10, a11, a12, a13, a14, a15, a16) (nI a) 1 r1 r2 := by
  subst ht
  have e1 : (nI k).toNatClampNeg = k := nI_clamp (by omega)
  have e2 : (nI a).toNatClampNeg = a := nI_clamp (by omega)
  unfold wpX_assign
  dsimp only
  refine br_f (by decide) (nm_e ⟨pk_in k 12 hk, nm_r (by rw [e1]) (nm_r (nI_1 k) ⟨pk_in a 12 ha, nm_r (by rw [e2]) ⟨pk_in a 12 ha, nm_r (by rw [e2]) ⟨pk_in a 12 ha, nm_r (by rw [e2]) H⟩⟩⟩)⟩)
theorem sv_asgF {post : St2 → Prop} {md fo ye no tl lv de ct le cl cy cn mv : Int32} {a1 a2 a3 a4 a5 a6 a7 a8 a9 a10 a11 a12 a13 a14 a15 a16 : Nat → Int32} {r1 r2 : Int32} {a k : Nat} (ha : a < 12) (hk : k < 12) (ht : tl = nI k)
    (H : post (md, fo, ye, no ||| ((1 : Int32) <<< (nI a &&& 31)), nI (k + 1), lv, de, ct, le, cl, cy, cn, mv, a1, a2, a3, a4, a5, a6, a7, a8, upd a9 k (nI a), upd a10 a lv, upd a11 a r1, upd a12 a r2, a13, a14, a15, a16)) :
    wpX_assign post (md, fo, ye, no, tl, lv, de, ct, le, cl, cy, cn, mv, a1, a2, a3, a4, a5, a6, a7, a8, a9, a10, a11, a12, a13, a14, a15, a16) (nI a) 0 r1 r2 := by
  subst ht
  have e1 : (nI k).toNatClampNeg = k := nI_clamp (by omega)
  have e2 : (nI a).toNatClampNeg = a := nI_clamp (by omega)
  unfold wpX_assign
  dsimp only
  refine br_t rfl (nm_e ⟨pk_in k 12 hk, nm_r (by rw [e1]) (nm_r (nI_1 k) ⟨pk_in a 12 ha, nm_r (by rw [e2]) ⟨pk_in a 12 ha, nm_r (by rw [e2]) ⟨pk_in a 12 ha, nm_r (by rw [e2]) H⟩⟩⟩)⟩)
section
variable {post : St2 → Prop} {s : Prop} {x : Nat → Nat} {D : Nat → Prop} {p q : Nat → Bool} {F : Prop}
theorem sv_impT {md fo ye no tl lv de ct le cl cy cn mv : Int32} {a1 a2 a3 a4 a5 a6 a7 a8 a9 a10 a11 a12 a13 a14 a15 a16 : Nat → Int32} {r1 r2 : Int32} {a : Nat} (ha : a < 12) (hc : cl = 0) (hJ : sv_J s x D p q F lv ye no tl cl cy cn mv a10) (hT : s → a % 3 < x (a / 3))
    (hr : ∀ b, b < 12 → (bt r1 b = true ∨ bt r2 b = true) → (bt ye b = true ∨ bt no b = true))
    (H : ∀ (ye' no' tl' cl' cy' cn' mv' : Int32) (a9' a10' a11' a12' : Nat → Int32), sv_J s x D p q (F ∧ p a = true) lv ye' no' tl' cl' cy' cn' mv' a10' → post (md, fo, ye', no', tl', lv, de, ct, le, cl', cy', cn', mv', a1, a2, a3, a4, a5, a6, a7, a8, a9', a10', a11', a12', a13, a14, a15, a16)) :
    wpX_imply post (md, fo, ye, no, tl, lv, de, ct, le, cl, cy, cn, mv, a1, a2, a3, a4, a5, a6, a7, a8, a9, a10, a11, a12, a13, a14, a15, a16) (nI a) 1 r1 r2 := by
  have ha' : a < 32 := by omega
  unfold wpX_imply
  dsimp only
  refine nm_e (br_f (by decide) (ek_if (sv_and0 no ha') (fun hn => ?_) (fun hn => ?_)))
  · refine br_f (by decide) (ek_if (sv_and0 (ye ||| no) ha') (fun hb => ?_) (fun hb => ?_))
    · rw [b_or, hn, Bool.or_false] at hb
      obtain ⟨k1, k2⟩ := sv_JT (F' := F ∧ p a = true) ha hJ hc hb hn hT
      exact sv_asgT ha k1 hJ.1.2.1 (H _ _ _ _ _ _ _ _ _ _ _ k2)
    · rw [b_or, hn, Bool.or_false] at hb
      refine H _ _ _ _ _ _ _ _ _ _ _ (sv_J_and hJ (fun _ _ e f => ⟨f, ?_⟩))
      rw [← (e a ha).1]
      simpa using hb
  · have hn' : bt no a = true := by simpa using hn
    refine H _ _ _ _ _ _ _ _ _ _ _ (sv_JC hJ (show ¬ (1 : Int32) = 0 by decide) (fun hs => ?_) (fun b hb z => ?_))
    · have h1 := (hJ.1.2.2.2 hs a ha).2 hn'
      have h2 := hT hs
      omega
    · rcases z with z | z
      · exact hr b hb (Or.inl z)
      · by_cases e : b = a
        · rw [e]
          exact Or.inr hn'
        · rw [sv_orN r2 ha' (by omega) e] at z
          exact hr b hb (Or.inr z)
theorem sv_impF {md fo ye no tl lv de ct le cl cy cn mv : Int32} {a1 a2 a3 a4 a5 a6 a7 a8 a9 a10 a11 a12 a13 a14 a15 a16 : Nat → Int32} {r1 r2 : Int32} {a : Nat} (ha : a < 12) (hc : cl = 0) (hJ : sv_J s x D p q F lv ye no tl cl cy cn mv a10) (hT : s → x (a / 3) ≤ a % 3)
    (hr : ∀ b, b < 12 → (bt r1 b = true ∨ bt r2 b = true) → (bt ye b = true ∨ bt no b = true))
    (H : ∀ (ye' no' tl' cl' cy' cn' mv' : Int32) (a9' a10' a11' a12' : Nat → Int32), sv_J s x D p q (F ∧ q a = true) lv ye' no' tl' cl' cy' cn' mv' a10' → post (md, fo, ye', no', tl', lv, de, ct, le, cl', cy', cn', mv', a1, a2, a3, a4, a5, a6, a7, a8, a9', a10', a11', a12', a13, a14, a15, a16)) :
    wpX_imply post (md, fo, ye, no, tl, lv, de, ct, le, cl, cy, cn, mv, a1, a2, a3, a4, a5, a6, a7, a8, a9, a10, a11, a12, a13, a14, a15, a16) (nI a) 0 r1 r2 := by
  have ha' : a < 32 := by omega
  unfold wpX_imply
  dsimp only
  refine nm_e (br_t rfl (br_t rfl (ek_if (sv_and0 ye ha') (fun hn => ?_) (fun hn => ?_))))
  · refine ek_if (sv_and0 (ye ||| no) ha') (fun hb => ?_) (fun hb => ?_)
    · rw [b_or, hn, Bool.false_or] at hb
      obtain ⟨k1, k2⟩ := sv_JF (F' := F ∧ q a = true) ha hJ hc hn hb hT
      exact sv_asgF ha k1 hJ.1.2.1 (H _ _ _ _ _ _ _ _ _ _ _ k2)
    · rw [b_or, hn, Bool.false_or] at hb
      refine H _ _ _ _ _ _ _ _ _ _ _ (sv_J_and hJ (fun _ _ e f => ⟨f, ?_⟩))
      rw [← (e a ha).2]
      simpa using hb
  · have hn' : bt ye a = true := by simpa using hn
    refine H _ _ _ _ _ _ _ _ _ _ _ (sv_JC hJ (show ¬ (1 : Int32) = 0 by decide) (fun hs => ?_) (fun b hb z => ?_))
    · have h1 := (hJ.1.2.2.2 hs a ha).1 hn'
      have h2 := hT hs
      omega
    · rcases z with z | z
      · by_cases e : b = a
        · rw [e]
          exact Or.inl hn'
        · rw [sv_orN r1 ha' (by omega) e] at z
          exact hr b hb (Or.inl z)
      · exact hr b hb (Or.inr z)
/-- one step of chain's first inner loop: at v + 2 (v < 2), atom a + 1 = 3 i + v + 1 -/
theorem sv_ch9 {K : Int32 → Int32 → Int32 → Int32 → Int32 → Int32 → Int32 → Int32 → Int32 → Int32 → Int32 → Int32 → Int32 → Int32 → (Nat → Int32) → (Nat → Int32) → (Nat → Int32) → (Nat → Int32) → (Nat → Int32) → (Nat → Int32) → (Nat → Int32) → (Nat → Int32) → (Nat → Int32) → (Nat → Int32) → (Nat → Int32) → (Nat → Int32) → (Nat → Int32) → (Nat → Int32) → (Nat → Int32) → (Nat → Int32) → Prop}
    {md fo ye no tl lv de ct le cl cy cn mv : Int32} {a1 a2 a3 a4 a5 a6 a7 a8 a9 a10 a11 a12 a13 a14 a15 a16 : Nat → Int32} {i v n : Nat} (hi : i < 4) (hv : v < 2) (hJ : sv_J s x D p q F lv ye no tl cl cy cn mv a10)
    (Hc : ¬ cl = 0 → ∃ fu, wX_chain_61 post K (nI i) fu 1 md fo ye no tl lv de ct le cl cy cn mv a1 a2 a3 a4 a5 a6 a7 a8 a9 a10 a11 a12 a13 a14 a15 a16)
    (H : ∀ (ye' no' tl' cl' cy' cn' mv' : Int32) (a9' a10' a11' a12' : Nat → Int32), sv_J s x D p q (F ∧ (p (3 * i + v + 1) = true → p (3 * i + v) = true)) lv ye' no' tl' cl' cy' cn' mv' a10' → wX_chain_9 post K (nI i) n (nI (v + 1)) md fo ye' no' tl' lv de ct le cl' cy' cn' mv' a1 a2 a3 a4 a5 a6 a7 a8 a9' a10' a11' a12' a13 a14 a15 a16) :
    wX_chain_9 post K (nI i) (n + 1) (nI (v + 2)) md fo ye no tl lv de ct le cl cy cn mv a1 a2 a3 a4 a5 a6 a7 a8 a9 a10 a11 a12 a13 a14 a15 a16 := by
  refine pk_le (v + 2) 1 (fun z => absurd z (by omega)) (fun _ => br_c (fun c => nm_r (sv_ix i (v + 1)) (ek_if (sv_sh ye (show 3 * i + (v + 1) < 32 by omega)) (fun hb => ?_) (fun hb => ?_))) (fun c => Hc c))
  · rw [show nI (3 * i + (v + 1)) - 1 = nI (3 * i + v) from nI_pred (3 * i + v)]
    refine sv_impT (a := 3 * i + v) (by omega) c hJ (fun hs => ?_) (fun b hb' z => ?_) (fun ye' no' tl' cl' cy' cn' mv' a9' a10' a11' a12' h => nm_r (pk_m1 (v + 1)) (H _ _ _ _ _ _ _ _ _ _ _ (sv_J_and h (fun _ _ _ f => ⟨f.1, fun _ => f.2⟩))))
    · have h1 := (hJ.1.2.2.2 hs (3 * i + (v + 1)) (by omega)).1 hb
      rw [show (3 * i + (v + 1)) / 3 = i by omega] at h1
      rw [show (3 * i + v) / 3 = i by omega]
      omega
    · rcases z with z | z
      · rw [sv_bit (3 * i + (v + 1)) (by omega) b (by omega)] at z
        rw [of_decide_eq_true z]
        exact Or.inl hb
      · rw [b_0] at z
        exact Bool.noConfusion z
  · refine nm_r (pk_m1 (v + 1)) (H _ _ _ _ _ _ _ _ _ _ _ (sv_J_and hJ (fun _ _ e f => ⟨f, fun z => ?_⟩)))
    rw [← (e (3 * i + v + 1) (by omega)).1] at z
    exact absurd z hb
theorem sv_ch61 {K : Int32 → Int32 → Int32 → Int32 → Int32 → Int32 → Int32 → Int32 → Int32 → Int32 → Int32 → Int32 → Int32 → Int32 → (Nat → Int32) → (Nat → Int32) → (Nat → Int32) → (Nat → Int32) → (Nat → Int32) → (Nat → Int32) → (Nat → Int32) → (Nat → Int32) → (Nat → Int32) → (Nat → Int32) → (Nat → Int32) → (Nat → Int32) → (Nat → Int32) → (Nat → Int32) → (Nat → Int32) → (Nat → Int32) → Prop}
    {md fo ye no tl lv de ct le cl cy cn mv : Int32} {a1 a2 a3 a4 a5 a6 a7 a8 a9 a10 a11 a12 a13 a14 a15 a16 : Nat → Int32} {i v n : Nat} (hi : i < 4) (hv : v < 2) (hJ : sv_J s x D p q F lv ye no tl cl cy cn mv a10)
    (Hc : ¬ cl = 0 → K (nI (i + 1)) md fo ye no tl lv de ct le cl cy cn mv a1 a2 a3 a4 a5 a6 a7 a8 a9 a10 a11 a12 a13 a14 a15 a16)
    (H : ∀ (ye' no' tl' cl' cy' cn' mv' : Int32) (a9' a10' a11' a12' : Nat → Int32), sv_J s x D p q (F ∧ (q (3 * i + v) = true → q (3 * i + v + 1) = true)) lv ye' no' tl' cl' cy' cn' mv' a10' → wX_chain_61 post K (nI i) n (nI (v + 2)) md fo ye' no' tl' lv de ct le cl' cy' cn' mv' a1 a2 a3 a4 a5 a6 a7 a8 a9' a10' a11' a12' a13 a14 a15 a16) :
    wX_chain_61 post K (nI i) (n + 1) (nI (v + 1)) md fo ye no tl lv de ct le cl cy cn mv a1 a2 a3 a4 a5 a6 a7 a8 a9 a10 a11 a12 a13 a14 a15 a16 := by
  refine pk_le 3 (v + 1) (fun z => absurd z (by omega)) (fun _ => br_c (fun c => nm_r (sv_ix i v) (ek_if (sv_sh no (show 3 * i + v < 32 by omega)) (fun hb => ?_) (fun hb => ?_))) (fun c => nm_r (nI_1 i) (Hc c)))
  · rw [show nI (3 * i + v) + 1 = nI (3 * i + v + 1) from nI_1 (3 * i + v)]
    refine sv_impF (a := 3 * i + v + 1) (by omega) c hJ (fun hs => ?_) (fun b hb' z => ?_) (fun ye' no' tl' cl' cy' cn' mv' a9' a10' a11' a12' h => nm_r (nI_1 (v + 1)) (H _ _ _ _ _ _ _ _ _ _ _ (sv_J_and h (fun _ _ _ f => ⟨f.1, fun _ => f.2⟩))))
    · have h1 := (hJ.1.2.2.2 hs (3 * i + v) (by omega)).2 hb
      rw [show (3 * i + v) / 3 = i by omega] at h1
      rw [show (3 * i + v + 1) / 3 = i by omega]
      omega
    · rcases z with z | z
      · rw [b_0] at z
        exact Bool.noConfusion z
      · rw [sv_bit (3 * i + v) (by omega) b (by omega)] at z
        rw [of_decide_eq_true z]
        exact Or.inr hb
  · refine nm_r (nI_1 (v + 1)) (H _ _ _ _ _ _ _ _ _ _ _ (sv_J_and hJ (fun _ _ e f => ⟨f, fun z => ?_⟩)))
    rw [← (e (3 * i + v) (by omega)).2] at z
    exact absurd z hb
/-- what chain has closed at variable i -/
def sv_Ch (p q : Nat → Bool) (i : Nat) : Prop :=
  (p (3 * i + 2) = true → p (3 * i + 1) = true) ∧ (p (3 * i + 1) = true → p (3 * i) = true) ∧ (q (3 * i) = true → q (3 * i + 1) = true) ∧ (q (3 * i + 1) = true → q (3 * i + 2) = true)
theorem sv_chB {K : Int32 → Int32 → Int32 → Int32 → Int32 → Int32 → Int32 → Int32 → Int32 → Int32 → Int32 → Int32 → Int32 → Int32 → (Nat → Int32) → (Nat → Int32) → (Nat → Int32) → (Nat → Int32) → (Nat → Int32) → (Nat → Int32) → (Nat → Int32) → (Nat → Int32) → (Nat → Int32) → (Nat → Int32) → (Nat → Int32) → (Nat → Int32) → (Nat → Int32) → (Nat → Int32) → (Nat → Int32) → (Nat → Int32) → Prop}
    {md fo ye no tl lv de ct le cl cy cn mv : Int32} {a1 a2 a3 a4 a5 a6 a7 a8 a9 a10 a11 a12 a13 a14 a15 a16 : Nat → Int32} {i : Nat} (hi : i < 4) (hJ : sv_J s x D p q F lv ye no tl cl cy cn mv a10)
    (H : ∀ (ye' no' tl' cl' cy' cn' mv' : Int32) (a9' a10' a11' a12' : Nat → Int32), sv_J s x D p q (F ∧ (q (3 * i) = true → q (3 * i + 1) = true) ∧ (q (3 * i + 1) = true → q (3 * i + 2) = true)) lv ye' no' tl' cl' cy' cn' mv' a10' → K (nI (i + 1)) md fo ye' no' tl' lv de ct le cl' cy' cn' mv' a1 a2 a3 a4 a5 a6 a7 a8 a9' a10' a11' a12' a13 a14 a15 a16) :
    ∃ fu, wX_chain_61 post K (nI i) fu 1 md fo ye no tl lv de ct le cl cy cn mv a1 a2 a3 a4 a5 a6 a7 a8 a9 a10 a11 a12 a13 a14 a15 a16 := by
  refine ⟨3, ?_⟩
  refine sv_ch61 (v := 0) hi (by omega) hJ (fun c => H _ _ _ _ _ _ _ _ _ _ _ (sv_J_cl hJ c)) (fun ye' no' tl' cl' cy' cn' mv' a9' a10' a11' a12' h1 => ?_)
  refine sv_ch61 (v := 1) hi (by omega) h1 (fun c => H _ _ _ _ _ _ _ _ _ _ _ (sv_J_cl h1 c)) (fun ye no tl cl cy cn mv a9 a10 a11 a12 h2 => ?_)
  exact br_t (by decide) (nm_r (nI_1 i) (H _ _ _ _ _ _ _ _ _ _ _ (sv_J_and h2 (fun _ _ _ f => ⟨f.1.1, f.1.2, f.2⟩))))
theorem sv_chA {K : Int32 → Int32 → Int32 → Int32 → Int32 → Int32 → Int32 → Int32 → Int32 → Int32 → Int32 → Int32 → Int32 → Int32 → (Nat → Int32) → (Nat → Int32) → (Nat → Int32) → (Nat → Int32) → (Nat → Int32) → (Nat → Int32) → (Nat → Int32) → (Nat → Int32) → (Nat → Int32) → (Nat → Int32) → (Nat → Int32) → (Nat → Int32) → (Nat → Int32) → (Nat → Int32) → (Nat → Int32) → (Nat → Int32) → Prop}
    {md fo ye no tl lv de ct le cl cy cn mv : Int32} {a1 a2 a3 a4 a5 a6 a7 a8 a9 a10 a11 a12 a13 a14 a15 a16 : Nat → Int32} {i : Nat} (hi : i < 4) (hJ : sv_J s x D p q F lv ye no tl cl cy cn mv a10)
    (H : ∀ (ye' no' tl' cl' cy' cn' mv' : Int32) (a9' a10' a11' a12' : Nat → Int32), sv_J s x D p q (F ∧ sv_Ch p q i) lv ye' no' tl' cl' cy' cn' mv' a10' → K (nI (i + 1)) md fo ye' no' tl' lv de ct le cl' cy' cn' mv' a1 a2 a3 a4 a5 a6 a7 a8 a9' a10' a11' a12' a13 a14 a15 a16) :
    ∃ fu, wX_chain_9 post K (nI i) fu 3 md fo ye no tl lv de ct le cl cy cn mv a1 a2 a3 a4 a5 a6 a7 a8 a9 a10 a11 a12 a13 a14 a15 a16 := by
  have K1 : ∀ (ye' no' tl' cl' cy' cn' mv' : Int32) (a9' a10' a11' a12' : Nat → Int32), sv_J s x D p q (F ∧ (p (3 * i + 2) = true → p (3 * i + 1) = true) ∧ (p (3 * i + 1) = true → p (3 * i) = true)) lv ye' no' tl' cl' cy' cn' mv' a10' → ∃ fu, wX_chain_61 post K (nI i) fu 1 md fo ye' no' tl' lv de ct le cl' cy' cn' mv' a1 a2 a3 a4 a5 a6 a7 a8 a9' a10' a11' a12' a13 a14 a15 a16 :=
    fun ye' no' tl' cl' cy' cn' mv' a9' a10' a11' a12' h => sv_chB hi h (fun ye no tl cl cy cn mv a9 a10 a11 a12 h' => H _ _ _ _ _ _ _ _ _ _ _ (sv_J_and h' (fun _ _ _ f => ⟨f.1.1, f.1.2.1, f.1.2.2, f.2.1, f.2.2⟩)))
  refine ⟨3, ?_⟩
  refine sv_ch9 (v := 1) hi (by omega) hJ (fun c => K1 _ _ _ _ _ _ _ _ _ _ _ (sv_J_cl hJ c)) (fun ye' no' tl' cl' cy' cn' mv' a9' a10' a11' a12' h1 => ?_)
  refine sv_ch9 (v := 0) hi (by omega) h1 (fun c => K1 _ _ _ _ _ _ _ _ _ _ _ (sv_J_cl h1 c)) (fun ye no tl cl cy cn mv a9 a10 a11 a12 h2 => ?_)
  exact br_t (by decide) (K1 _ _ _ _ _ _ _ _ _ _ _ (sv_J_and h2 (fun _ _ _ f => ⟨f.1.1, f.1.2, f.2⟩)))
theorem sv_ch2 : ∀ (k : Nat) {i : Nat} {F : Prop} {md fo ye no tl lv de ct le cl cy cn mv : Int32} {a1 a2 a3 a4 a5 a6 a7 a8 a9 a10 a11 a12 a13 a14 a15 a16 : Nat → Int32}, i + k = 4 → sv_J s x D p q F lv ye no tl cl cy cn mv a10 →
    (∀ (ye' no' tl' cl' cy' cn' mv' : Int32) (a9' a10' a11' a12' : Nat → Int32), sv_J s x D p q (F ∧ ∀ j, i ≤ j → j < 4 → sv_Ch p q j) lv ye' no' tl' cl' cy' cn' mv' a10' → post (md, fo, ye', no', tl', lv, de, ct, le, cl', cy', cn', mv', a1, a2, a3, a4, a5, a6, a7, a8, a9', a10', a11', a12', a13, a14, a15, a16)) → wX_chain_2 post (k + 1) (nI i) md fo ye no tl lv de ct le cl cy cn mv a1 a2 a3 a4 a5 a6 a7 a8 a9 a10 a11 a12 a13 a14 a15 a16 := by
  intro k
  induction k with
  | zero =>
    intro i F md fo ye no tl lv de ct le cl cy cn mv a1 a2 a3 a4 a5 a6 a7 a8 a9 a10 a11 a12 a13 a14 a15 a16 hk hJ H
    exact pk_le 4 i (fun _ => H _ _ _ _ _ _ _ _ _ _ _ (sv_J_and hJ (fun _ _ _ f => ⟨f, fun j h1 h2 => absurd h1 (by omega)⟩))) (fun z => absurd z (by omega))
  | succ k ih =>
    intro i F md fo ye no tl lv de ct le cl cy cn mv a1 a2 a3 a4 a5 a6 a7 a8 a9 a10 a11 a12 a13 a14 a15 a16 hk hJ H
    refine pk_le 4 i (fun z => absurd z (by omega)) (fun _ => sv_chA (K := wX_chain_2 post (k + 1)) (by omega) hJ (fun ye' no' tl' cl' cy' cn' mv' a9' a10' a11' a12' h => ih (by omega) h (fun ye no tl cl cy cn mv a9 a10 a11 a12 h' => H _ _ _ _ _ _ _ _ _ _ _ (sv_J_and h' (fun _ _ _ f => ⟨f.1.1, fun j h1 h2 => ?_⟩)))))
    by_cases e : j = i
    · rw [e]
      exact f.1.2
    · exact f.2 j (by omega) h2
theorem sv_chain {md fo ye no tl lv de ct le cl cy cn mv : Int32} {a1 a2 a3 a4 a5 a6 a7 a8 a9 a10 a11 a12 a13 a14 a15 a16 : Nat → Int32} (hJ : sv_J s x D p q F lv ye no tl cl cy cn mv a10)
    (H : ∀ (ye' no' tl' cl' cy' cn' mv' : Int32) (a9' a10' a11' a12' : Nat → Int32), sv_J s x D p q (F ∧ ∀ j, j < 4 → sv_Ch p q j) lv ye' no' tl' cl' cy' cn' mv' a10' → post (md, fo, ye', no', tl', lv, de, ct, le, cl', cy', cn', mv', a1, a2, a3, a4, a5, a6, a7, a8, a9', a10', a11', a12', a13, a14, a15, a16)) : wpX_chain post (md, fo, ye, no, tl, lv, de, ct, le, cl, cy, cn, mv, a1, a2, a3, a4, a5, a6, a7, a8, a9, a10, a11, a12, a13, a14, a15, a16) := by
  unfold wpX_chain
  dsimp only
  exact ⟨5, sv_ch2 4 (i := 0) (by omega) hJ (fun ye' no' tl' cl' cy' cn' mv' a9' a10' a11' a12' h => H _ _ _ _ _ _ _ _ _ _ _ (sv_J_and h (fun _ _ _ f => ⟨f.1, fun j h2 => f.2 j (by omega) h2⟩)))⟩
end
end
section
/-! ===== squeeze, linearWake, wake ===== -/
theorem sv_mul {f : Int32} {w : Nat} (h1 : -5 ≤ f.toInt) (h2 : f.toInt ≤ 5) (hw : w ≤ 3) : (f * nI w).toInt = f.toInt * (w : Int) := by
  rw [Int32.toInt_mul, nI_toInt (show w < 2 ^ 31 by omega)]
  have hw' : w = 0 ∨ w = 1 ∨ w = 2 ∨ w = 3 := by omega
  apply Int.bmod_eq_of_le
  · rcases hw' with e | e | e | e <;> subst e <;> omega
  · rcases hw' with e | e | e | e <;> subst e <;> omega
theorem sv_mle {f b : Int32} {w : Nat} (h1 : -5 ≤ f.toInt) (h2 : f.toInt ≤ 5) (hw : w ≤ 3) : f * nI w ≤ b ↔ f.toInt * (w : Int) ≤ b.toInt := by
  rw [Int32.le_iff_toInt_le, sv_mul h1 h2 hw]
theorem sv_le0 (f : Int32) : f ≤ 0 ↔ f.toInt ≤ 0 := by
  rw [Int32.le_iff_toInt_le]
  exact Iff.rfl
theorem sv_ge0 (f : Int32) : 0 ≤ f ↔ 0 ≤ f.toInt := by
  rw [Int32.le_iff_toInt_le]
  exact Iff.rfl
theorem sv_x1 {f b : Int32} {X v : Nat} (h1 : -5 ≤ f.toInt) (h2 : f.toInt ≤ 5) (hX : X ≤ 3) (hv : v < 3) (hs : f * nI X ≤ b) (hf : ¬ f ≤ 0) (h : ¬ f * nI (v + 1) ≤ b) : X ≤ v := by
  rw [sv_mle h1 h2 hX] at hs
  rw [sv_mle h1 h2 (by omega)] at h
  rw [sv_le0] at hf
  have hX' : X = 0 ∨ X = 1 ∨ X = 2 ∨ X = 3 := by omega
  have hv' : v = 0 ∨ v = 1 ∨ v = 2 := by omega
  rcases hX' with e | e | e | e <;> subst e <;> rcases hv' with e | e | e <;> subst e <;> omega
theorem sv_x2 {f b : Int32} {X v : Nat} (h1 : -5 ≤ f.toInt) (h2 : f.toInt ≤ 5) (hX : X ≤ 3) (hv : v < 3) (hs : f * nI X ≤ b) (hf : ¬ 0 ≤ f) (h : ¬ f * nI v ≤ b) : v < X := by
  rw [sv_mle h1 h2 hX] at hs
  rw [sv_mle h1 h2 (by omega)] at h
  rw [sv_ge0] at hf
  have hX' : X = 0 ∨ X = 1 ∨ X = 2 ∨ X = 3 := by omega
  have hv' : v = 0 ∨ v = 1 ∨ v = 2 := by omega
  rcases hX' with e | e | e | e <;> subst e <;> rcases hv' with e | e | e <;> subst e <;> omega
theorem sv_x3 {f b : Int32} {X l h : Nat} (h1 : -5 ≤ f.toInt) (h2 : f.toInt ≤ 5) (hl : l ≤ X) (hX : X ≤ h) (hh : h ≤ 3) (hs : f * nI X ≤ b) : (f ≤ 0 → f * nI h ≤ b) ∧ (¬ f ≤ 0 → f * nI l ≤ b) := by
  rw [sv_mle h1 h2 (by omega)] at hs
  rw [sv_mle h1 h2 (by omega), sv_mle h1 h2 (by omega), sv_le0]
  have hX' : X = 0 ∨ X = 1 ∨ X = 2 ∨ X = 3 := by omega
  have hl' : l = 0 ∨ l = 1 ∨ l = 2 ∨ l = 3 := by omega
  have hh' : h = 0 ∨ h = 1 ∨ h = 2 ∨ h = 3 := by omega
  constructor
  · intro hf
    rcases hX' with e | e | e | e <;> subst e <;> rcases hh' with e | e | e | e <;> subst e <;> omega
  · intro hf
    rcases hX' with e | e | e | e <;> subst e <;> rcases hl' with e | e | e | e <;> subst e <;> omega
def sv_S (f b : Int32) (p q : Nat → Bool) (i v : Nat) : Prop :=
  (¬ f ≤ 0 → ¬ f * nI (v + 1) ≤ b → q (3 * i + v) = true) ∧ (¬ 0 ≤ f → ¬ f * nI v ≤ b → p (3 * i + v) = true)
def sv_L (f b : Int32) (p q : Nat → Bool) (i : Nat) : Prop := sv_tm f p q i ≤ b ∧ ∀ v, v < 3 → sv_S f b p q i v
/-- the values of variable i that the constraints counted allow -/
def sv_A (i : Nat) (ct : Int32) (a3 a4 : Nat → Int32) (w : Nat) : Prop := ∀ c, c < 11 → bt ct c = true → a3 (4 * c + i) * nI w ≤ a4 c
def sv_C (i : Nat) (ct : Int32) (a2 a3 : Nat → Int32) : Prop := ∀ c, c < 11 → bt ct c = true → a2 c = 0 ∧ (∀ j, j < 4 → j ≠ i → a3 (4 * c + j) = 0) ∧ -5 ≤ (a3 (4 * c + i)).toInt ∧ (a3 (4 * c + i)).toInt ≤ 5
theorem sv_sq0_s {post : St2 → Prop} {md fo ye no tl lv de ct le cl cy cn mv : Int32} {a1 a2 a3 a4 a5 a6 a7 a8 a9 a10 a11 a12 a13 a14 a15 a16 : Nat → Int32} {y room r1 r2 : Int32} {v n : Nat} (hv : v < 4) (H : wX_squeeze_3 post y 0 room r1 r2 n (nI (v + 1)) md fo ye no tl lv de ct le cl cy cn mv a1 a2 a3 a4 a5 a6 a7 a8 a9 a10 a11 a12 a13 a14 a15 a16) (hv3 : v ≤ 3) : wX_squeeze_3 post y 0 room r1 r2 (n + 1) (nI v) md fo ye no tl lv de ct le cl cy cn mv a1 a2 a3 a4 a5 a6 a7 a8 a9 a10 a11 a12 a13 a14 a15 a16 :=
  pk_lt 3 v (fun z => absurd z (by omega)) (fun _ => br_t (by decide) (br_t (by decide) (nm_r (nI_1 v) H)))
theorem sv_sq0 {post : St2 → Prop} {md fo ye no tl lv de ct le cl cy cn mv : Int32} {a1 a2 a3 a4 a5 a6 a7 a8 a9 a10 a11 a12 a13 a14 a15 a16 : Nat → Int32} {y room r1 r2 : Int32} (h : post (md, fo, ye, no, tl, lv, de, ct, le, cl, cy, cn, mv, a1, a2, a3, a4, a5, a6, a7, a8, a9, a10, a11, a12, a13, a14, a15, a16)) : wpX_squeeze post (md, fo, ye, no, tl, lv, de, ct, le, cl, cy, cn, mv, a1, a2, a3, a4, a5, a6, a7, a8, a9, a10, a11, a12, a13, a14, a15, a16) y 0 room r1 r2 := by
  unfold wpX_squeeze
  dsimp only
  refine ⟨4, ?_⟩
  show wX_squeeze_3 post y 0 room r1 r2 4 (nI 1) md fo ye no tl lv de ct le cl cy cn mv a1 a2 a3 a4 a5 a6 a7 a8 a9 a10 a11 a12 a13 a14 a15 a16
  exact sv_sq0_s (by omega) (sv_sq0_s (by omega) (sv_sq0_s (by omega) (br_t (by decide) h) (by omega)) (by omega)) (by omega)
section
variable {post : St2 → Prop} {s : Prop} {x : Nat → Nat} {D : Nat → Prop} {p q : Nat → Bool} {F : Prop}
theorem sv_sq45 {K : Int32 → Int32 → Int32 → Int32 → Int32 → Int32 → Int32 → Int32 → Int32 → Int32 → Int32 → Int32 → Int32 → Int32 → (Nat → Int32) → (Nat → Int32) → (Nat → Int32) → (Nat → Int32) → (Nat → Int32) → (Nat → Int32) → (Nat → Int32) → (Nat → Int32) → (Nat → Int32) → (Nat → Int32) → (Nat → Int32) → (Nat → Int32) → (Nat → Int32) → (Nat → Int32) → (Nat → Int32) → (Nat → Int32) → Prop} {md fo ye no tl lv de ct le cl cy cn mv : Int32} {a1 a2 a3 a4 a5 a6 a7 a8 a9 a10 a11 a12 a13 a14 a15 a16 : Nat → Int32} {f b r1 r2 : Int32} {i v : Nat} (hi : i < 4) (hv : v < 3) (hJ : sv_J s x D p q F lv ye no tl cl cy cn mv a10)
    (hT : s → ¬ 0 ≤ f → ¬ f * nI v ≤ b → v < x i) (hr : ∀ b, b < 12 → (bt r1 b = true ∨ bt r2 b = true) → D b)
    (H : ∀ (ye' no' tl' cl' cy' cn' mv' : Int32) (a9' a10' a11' a12' : Nat → Int32), sv_J s x D p q (F ∧ (¬ 0 ≤ f → ¬ f * nI v ≤ b → p (3 * i + v) = true)) lv ye' no' tl' cl' cy' cn' mv' a10' → K (nI (v + 2)) md fo ye' no' tl' lv de ct le cl' cy' cn' mv' a1 a2 a3 a4 a5 a6 a7 a8 a9' a10' a11' a12' a13 a14 a15 a16) :
    wX_squeeze_45 post K (nI i) f b r1 r2 (nI (v + 1)) md fo ye no tl lv de ct le cl cy cn mv a1 a2 a3 a4 a5 a6 a7 a8 a9 a10 a11 a12 a13 a14 a15 a16 := by
  unfold wX_squeeze_45
  rw [nI_pred v, sv_ix i v]
  refine br_c (fun z => ?_) (fun z => br_c (fun z2 => ?_) (fun z2 => br_c (fun z3 => ?_) (fun z3 => ?_)))
  · exact nm_r (nI_1 (v + 1)) (H _ _ _ _ _ _ _ _ _ _ _ (sv_J_and hJ (fun _ _ _ g => ⟨g, fun z' => absurd z z'⟩)))
  · exact nm_r (nI_1 (v + 1)) (H _ _ _ _ _ _ _ _ _ _ _ (sv_J_and hJ (fun _ _ _ g => ⟨g, fun _ z' => absurd z2 z'⟩)))
  · refine sv_impT (a := 3 * i + v) (by omega) z3 hJ (fun hs => ?_) (fun b hb e => hJ.2.2.1 b hb (hr b hb e)) (fun ye' no' tl' cl' cy' cn' mv' a9' a10' a11' a12' h => nm_r (nI_1 (v + 1)) (H _ _ _ _ _ _ _ _ _ _ _ (sv_J_and h (fun _ _ _ g => ⟨g.1, fun _ _ => g.2⟩))))
    rw [show (3 * i + v) / 3 = i by omega, show (3 * i + v) % 3 = v by omega]
    exact hT hs z z2
  · exact nm_r (nI_1 (v + 1)) (H _ _ _ _ _ _ _ _ _ _ _ (sv_J_cl hJ z3))
theorem sv_sq3s {md fo ye no tl lv de ct le cl cy cn mv : Int32} {a1 a2 a3 a4 a5 a6 a7 a8 a9 a10 a11 a12 a13 a14 a15 a16 : Nat → Int32} {f b r1 r2 : Int32} {i v n : Nat} (hi : i < 4) (hv : v < 3) (hJ : sv_J s x D p q F lv ye no tl cl cy cn mv a10)
    (hT1 : s → ¬ f ≤ 0 → ¬ f * nI (v + 1) ≤ b → x i ≤ v) (hT : s → ¬ 0 ≤ f → ¬ f * nI v ≤ b → v < x i) (hr : ∀ b, b < 12 → (bt r1 b = true ∨ bt r2 b = true) → D b)
    (H : ∀ (ye' no' tl' cl' cy' cn' mv' : Int32) (a9' a10' a11' a12' : Nat → Int32), sv_J s x D p q (F ∧ sv_S f b p q i v) lv ye' no' tl' cl' cy' cn' mv' a10' → wX_squeeze_3 post (nI i) f b r1 r2 n (nI (v + 2)) md fo ye' no' tl' lv de ct le cl' cy' cn' mv' a1 a2 a3 a4 a5 a6 a7 a8 a9' a10' a11' a12' a13 a14 a15 a16) :
    wX_squeeze_3 post (nI i) f b r1 r2 (n + 1) (nI (v + 1)) md fo ye no tl lv de ct le cl cy cn mv a1 a2 a3 a4 a5 a6 a7 a8 a9 a10 a11 a12 a13 a14 a15 a16 := by
  have K1 : ∀ (ye' no' tl' cl' cy' cn' mv' : Int32) (a9' a10' a11' a12' : Nat → Int32), sv_J s x D p q (F ∧ (¬ f ≤ 0 → ¬ f * nI (v + 1) ≤ b → q (3 * i + v) = true)) lv ye' no' tl' cl' cy' cn' mv' a10' → wX_squeeze_45 post (wX_squeeze_3 post (nI i) f b r1 r2 n) (nI i) f b r1 r2 (nI (v + 1)) md fo ye' no' tl' lv de ct le cl' cy' cn' mv' a1 a2 a3 a4 a5 a6 a7 a8 a9' a10' a11' a12' a13 a14 a15 a16 :=
    fun ye' no' tl' cl' cy' cn' mv' a9' a10' a11' a12' h => sv_sq45 hi hv h hT hr (fun ye no tl cl cy cn mv a9 a10 a11 a12 h' => H _ _ _ _ _ _ _ _ _ _ _ (sv_J_and h' (fun _ _ _ g => ⟨g.1.1, g.1.2, g.2⟩)))
  refine pk_lt 3 (v + 1) (fun z => absurd z (by omega)) (fun _ => br_c (fun z => ?_) (fun z => br_c (fun z2 => ?_) (fun z2 => br_c (fun z3 => ?_) (fun z3 => ?_))))
  · exact K1 _ _ _ _ _ _ _ _ _ _ _ (sv_J_and hJ (fun _ _ _ g => ⟨g, fun z' => absurd z z'⟩))
  · exact K1 _ _ _ _ _ _ _ _ _ _ _ (sv_J_and hJ (fun _ _ _ g => ⟨g, fun _ z' => absurd z2 z'⟩))
  · rw [sv_ix i v]
    refine sv_impF (a := 3 * i + v) (by omega) z3 hJ (fun hs => ?_) (fun b hb e => hJ.2.2.1 b hb (hr b hb e)) (fun ye' no' tl' cl' cy' cn' mv' a9' a10' a11' a12' h => K1 _ _ _ _ _ _ _ _ _ _ _ (sv_J_and h (fun _ _ _ g => ⟨g.1, fun _ _ => g.2⟩)))
    rw [show (3 * i + v) / 3 = i by omega, show (3 * i + v) % 3 = v by omega]
    exact hT1 hs z z2
  · exact K1 _ _ _ _ _ _ _ _ _ _ _ (sv_J_cl hJ z3)
theorem sv_squeeze {md fo ye no tl lv de ct le cl cy cn mv : Int32} {a1 a2 a3 a4 a5 a6 a7 a8 a9 a10 a11 a12 a13 a14 a15 a16 : Nat → Int32} {f b r1 r2 : Int32} {i : Nat} (hi : i < 4) (hJ : sv_J s x D p q F lv ye no tl cl cy cn mv a10)
    (hf1 : -5 ≤ f.toInt) (hf2 : f.toInt ≤ 5) (hs : s → x i ≤ 3 ∧ f * nI (x i) ≤ b) (hr : ∀ b, b < 12 → (bt r1 b = true ∨ bt r2 b = true) → D b)
    (H : ∀ (ye' no' tl' cl' cy' cn' mv' : Int32) (a9' a10' a11' a12' : Nat → Int32), sv_J s x D p q (F ∧ ∀ v, v < 3 → sv_S f b p q i v) lv ye' no' tl' cl' cy' cn' mv' a10' → post (md, fo, ye', no', tl', lv, de, ct, le, cl', cy', cn', mv', a1, a2, a3, a4, a5, a6, a7, a8, a9', a10', a11', a12', a13, a14, a15, a16)) :
    wpX_squeeze post (md, fo, ye, no, tl, lv, de, ct, le, cl, cy, cn, mv, a1, a2, a3, a4, a5, a6, a7, a8, a9, a10, a11, a12, a13, a14, a15, a16) (nI i) f b r1 r2 := by
  have t1 : ∀ v, v < 3 → s → ¬ f ≤ 0 → ¬ f * nI (v + 1) ≤ b → x i ≤ v := fun v hv h z z2 => sv_x1 hf1 hf2 (hs h).1 hv (hs h).2 z z2
  have t2 : ∀ v, v < 3 → s → ¬ 0 ≤ f → ¬ f * nI v ≤ b → v < x i := fun v hv h z z2 => sv_x2 hf1 hf2 (hs h).1 hv (hs h).2 z z2
  unfold wpX_squeeze
  dsimp only
  refine ⟨4, ?_⟩
  show wX_squeeze_3 post (nI i) f b r1 r2 4 (nI 1) md fo ye no tl lv de ct le cl cy cn mv a1 a2 a3 a4 a5 a6 a7 a8 a9 a10 a11 a12 a13 a14 a15 a16
  refine sv_sq3s (v := 0) hi (by omega) hJ (t1 0 (by omega)) (t2 0 (by omega)) hr (fun ye' no' tl' cl' cy' cn' mv' a9' a10' a11' a12' h => ?_)
  refine sv_sq3s (v := 1) hi (by omega) h (t1 1 (by omega)) (t2 1 (by omega)) hr (fun ye' no' tl' cl' cy' cn' mv' a9' a10' a11' a12' h => ?_)
  refine sv_sq3s (v := 2) hi (by omega) h (t1 2 (by omega)) (t2 2 (by omega)) hr (fun ye' no' tl' cl' cy' cn' mv' a9' a10' a11' a12' h => ?_)
  refine br_t (by decide) (H _ _ _ _ _ _ _ _ _ _ _ (sv_J_and h (fun _ _ _ g => ⟨g.1.1.1, fun v hv => ?_⟩)))
  have hv' : v = 0 ∨ v = 1 ∨ v = 2 := by omega
  rcases hv' with e | e | e <;> subst e
  · exact g.1.1.2
  · exact g.1.2
  · exact g.2
end
section
variable {post : St2 → Prop}
theorem sv_tm0 (p q : Nat → Bool) (j : Nat) : sv_tm 0 p q j = 0 := by
  unfold sv_tm
  rw [if_pos (by decide), Int32.zero_mul]
theorem sv_108a {i c : Nat} (hc : c < 11) {t r1 r2 : Int32} : ∀ (k : Nat) {j : Nat} {md fo ye no tl lv de ct le cl cy cn mv : Int32} {a1 a2 a3 a4 a5 a6 a7 a8 a9 a10 a11 a12 a13 a14 a15 a16 : Nat → Int32}, (∀ j, j < 4 → j ≠ i → a3 (4 * c + j) = 0) → j + k = 4 → i < j → post (md, fo, ye, no, tl, lv, de, ct, le, cl, cy, cn, mv, a1, a2, a3, a4, a5, a6, a7, a8, a9, a10, a11, a12, a13, a14, a15, a16) → wX_linearWake_108 post (nI c) t r1 r2 (k + 1) (nI j) md fo ye no tl lv de ct le cl cy cn mv a1 a2 a3 a4 a5 a6 a7 a8 a9 a10 a11 a12 a13 a14 a15 a16 := by
  intro k
  induction k with
  | zero =>
    intro j md fo ye no tl lv de ct le cl cy cn mv a1 a2 a3 a4 a5 a6 a7 a8 a9 a10 a11 a12 a13 a14 a15 a16 h0 hk hj h
    exact pk_le 4 j (fun _ => h) (fun z => absurd z (by omega))
  | succ k ih =>
    intro j md fo ye no tl lv de ct le cl cy cn mv a1 a2 a3 a4 a5 a6 a7 a8 a9 a10 a11 a12 a13 a14 a15 a16 h0 hk hj h
    refine pk_le 4 j (fun z => absurd z (by omega)) (fun _ => br_c (fun z => sv_leastTerm hc (by omega) ⟨pk_in c 11 hc, nm_e (nm_e ?_)⟩) (fun _ => h))
    rw [sv_ix4, nI_clamp (show 4 * c + j < 2 ^ 31 by omega), h0 j (by omega) (by omega)]
    exact ⟨vp_in_nI (by omega) (by omega), sv_sq0 (nm_r (nI_1 j) (ih h0 (by omega) (by omega) h))⟩
theorem sv_108b {i c : Nat} (hi : i < 4) (hc : c < 11) {t r1 r2 : Int32} {n : Nat} {md fo ye no tl lv de ct le cl cy cn mv : Int32} {a1 a2 a3 a4 a5 a6 a7 a8 a9 a10 a11 a12 a13 a14 a15 a16 : Nat → Int32} (h0 : ∀ j, j < 4 → j ≠ i → a3 (4 * c + j) = 0) (hcl : cl = 0)
    (h : wX_linearWake_108 post (nI c) t r1 r2 n (nI i) md fo ye no tl lv de ct le cl cy cn mv a1 a2 a3 a4 a5 a6 a7 a8 a9 a10 a11 a12 a13 a14 a15 a16) : ∀ (k : Nat) {j : Nat}, j + k = i → wX_linearWake_108 post (nI c) t r1 r2 (n + k) (nI j) md fo ye no tl lv de ct le cl cy cn mv a1 a2 a3 a4 a5 a6 a7 a8 a9 a10 a11 a12 a13 a14 a15 a16 := by
  intro k
  induction k with
  | zero =>
    intro j hk
    have e : j = i := by omega
    rw [e]
    exact h
  | succ k ih =>
    intro j hk
    show wX_linearWake_108 post (nI c) t r1 r2 (n + k + 1) (nI j) md fo ye no tl lv de ct le cl cy cn mv a1 a2 a3 a4 a5 a6 a7 a8 a9 a10 a11 a12 a13 a14 a15 a16
    refine pk_le 4 j (fun z => absurd z (by omega)) (fun _ => br_t hcl (sv_leastTerm hc (by omega) ⟨pk_in c 11 hc, nm_e (nm_e ?_)⟩))
    rw [sv_ix4, nI_clamp (show 4 * c + j < 2 ^ 31 by omega), h0 j (by omega) (by omega)]
    exact ⟨vp_in_nI (by omega) (by omega), sv_sq0 (nm_r (nI_1 j) (ih (by omega)))⟩
theorem sv_lw10 {i c : Nat} (hi : i < 4) (hc : c < 11) {md fo ye no tl lv de ct le cl cy cn mv : Int32} {a1 a2 a3 a4 a5 a6 a7 a8 a9 a10 a11 a12 a13 a14 a15 a16 : Nat → Int32} (h0 : ∀ j, j < 4 → j ≠ i → a3 (4 * c + j) = 0)
    (H1 : ∀ r1 r2, (∀ b, b < 12 → bt r1 b = true → bt ye b = true) → (∀ b, b < 12 → bt r2 b = true → bt no b = true) → sv_tm (a3 (4 * c + i)) (bt ye) (bt no) i ≤ a4 c → ∃ fu, wX_linearWake_108 post (nI c) (sv_tm (a3 (4 * c + i)) (bt ye) (bt no) i) r1 r2 fu 0 md fo ye no tl lv de ct le cl cy cn mv a1 a2 a3 a4 a5 a6 a7 a8 a9 a10 a11 a12 a13 a14 a15 a16)
    (H2 : ∀ r1 r2, (∀ b, b < 12 → bt r1 b = true → bt ye b = true) → (∀ b, b < 12 → bt r2 b = true → bt no b = true) → ¬ sv_tm (a3 (4 * c + i)) (bt ye) (bt no) i ≤ a4 c → post (md, fo, ye, no, tl, lv, de, ct, le, 1, r1, r2, mv, a1, a2, a3, a4, a5, a6, a7, a8, a9, a10, a11, a12, a13, a14, a15, a16)) :
    ∀ (k : Nat) {j : Nat} {sm r1 r2 : Int32}, j + k = 4 → sm = (if i < j then sv_tm (a3 (4 * c + i)) (bt ye) (bt no) i else 0) → (∀ b, b < 12 → bt r1 b = true → bt ye b = true) → (∀ b, b < 12 → bt r2 b = true → bt no b = true) → wX_linearWake_10 post (nI c) md fo ye no tl lv de ct le cl cy cn mv a1 a2 a3 a4 a5 a6 a7 a8 a9 a10 a11 a12 a13 a14 a15 a16 (k + 1) sm r1 r2 (nI j) := by
  have ec : (nI c).toNatClampNeg = c := nI_clamp (by omega)
  intro k
  induction k with
  | zero =>
    intro j sm r1 r2 hk hsm hr1 hr2
    rw [if_pos (by omega)] at hsm
    subst hsm
    refine pk_le 4 j (fun _ => ⟨pk_in c 11 hc, ?_⟩) (fun z => absurd z (by omega))
    rw [ec]
    exact br_c (fun z => H1 r1 r2 hr1 hr2 z) (fun z => H2 r1 r2 hr1 hr2 z)
  | succ k ih =>
    intro j sm r1 r2 hk hsm hr1 hr2
    have hsm' : sm + sv_tm (a3 (4 * c + j)) (bt ye) (bt no) j = (if i < j + 1 then sv_tm (a3 (4 * c + i)) (bt ye) (bt no) i else 0) := by
      by_cases e : j = i
      · subst e
        rw [hsm, if_neg (by omega), if_pos (by omega), Int32.zero_add]
      · rw [h0 j (by omega) e, sv_tm0, Int32.add_zero, hsm]
        by_cases e2 : i < j
        · rw [if_pos e2, if_pos (by omega)]
        · rw [if_neg e2, if_neg (by omega)]
    have J1 : ∀ r1 r2, (∀ b, b < 12 → bt r1 b = true → bt ye b = true) → (∀ b, b < 12 → bt r2 b = true → bt no b = true) → wX_linearWake_10 post (nI c) md fo ye no tl lv de ct le cl cy cn mv a1 a2 a3 a4 a5 a6 a7 a8 a9 a10 a11 a12 a13 a14 a15 a16 (k + 1) (if i < j + 1 then sv_tm (a3 (4 * c + i)) (bt ye) (bt no) i else 0) r1 r2 (nI (j + 1)) := fun r1 r2 g1 g2 => ih (by omega) rfl g1 g2
    refine pk_le 4 j (fun z => absurd z (by omega)) (fun _ => sv_leastTerm hc (by omega) (nm_r hsm' ?_))
    rw [sv_ix4, nI_clamp (show 4 * c + j < 2 ^ 31 by omega)]
    refine ⟨vp_in_nI (by omega) (by omega), br_c (fun z => ⟨vp_in_nI (by omega) (by omega), br_c (fun z2 => nm_r (nI_1 j) (J1 r1 r2 hr1 hr2)) (fun z2 => sv_highAtom (by omega) (fun r hr => nm_e (nm_r (nI_1 j) (J1 _ _ hr1 (fun b hb e => ?_)))))⟩) (fun z => sv_lowAtom (by omega) (fun r hr => nm_e (nm_r (nI_1 j) (J1 _ _ (fun b hb e => ?_) hr2))))⟩
    · rw [b_or] at e
      rcases Bool.or_eq_true_iff.mp e with e | e
      · exact hr2 b hb e
      · exact hr b hb e
    · rw [b_or] at e
      rcases Bool.or_eq_true_iff.mp e with e | e
      · exact hr1 b hb e
      · exact hr b hb e
end
section
variable {post : St2 → Prop} {s : Prop} {x : Nat → Nat} {D : Nat → Prop} {p q : Nat → Bool} {F : Prop}
/-- the bounds hold the solution -/
theorem sv_agr {i : Nat} (hi : i < 4) {lv ye no tl : Int32} {a10 : Nat → Int32} (h : sv_Ok s x lv ye no tl a10) (hs : s) (hx : x i ≤ 3) : sv_lo (bt ye) i ≤ x i ∧ x i ≤ sv_hi (bt no) i := by
  constructor
  · by_cases e : sv_lo (bt ye) i = 0
    · omega
    · obtain ⟨v, hv⟩ : ∃ v, sv_lo (bt ye) i = v + 1 := ⟨sv_lo (bt ye) i - 1, by omega⟩
      obtain ⟨h1, h2⟩ := sv_lo_s hv
      have h3 := (h.2.2.2 hs (3 * i + v) (by omega)).1 h2
      rw [show (3 * i + v) / 3 = i by omega] at h3
      omega
  · by_cases e : sv_hi (bt no) i = 3
    · omega
    · obtain ⟨h1, h2⟩ := sv_hi_s e
      have h3 := (h.2.2.2 hs (3 * i + sv_hi (bt no) i) (by omega)).2 h2
      rw [show (3 * i + sv_hi (bt no) i) / 3 = i by omega] at h3
      omega
theorem sv_lwake {md fo ye no tl lv de ct le cl cy cn mv : Int32} {a1 a2 a3 a4 a5 a6 a7 a8 a9 a10 a11 a12 a13 a14 a15 a16 : Nat → Int32} {i c : Nat} (hi : i < 4) (hc : c < 11) (h0 : ∀ j, j < 4 → j ≠ i → a3 (4 * c + j) = 0) (hf1 : -5 ≤ (a3 (4 * c + i)).toInt) (hf2 : (a3 (4 * c + i)).toInt ≤ 5)
    (hs : s → x i ≤ 3 ∧ a3 (4 * c + i) * nI (x i) ≤ a4 c) (hcl : cl = 0) (hJ : sv_J s x D p q F lv ye no tl cl cy cn mv a10)
    (H : ∀ (ye' no' tl' cl' cy' cn' mv' : Int32) (a9' a10' a11' a12' : Nat → Int32), sv_J s x D p q (F ∧ sv_L (a3 (4 * c + i)) (a4 c) p q i) lv ye' no' tl' cl' cy' cn' mv' a10' → post (md, fo, ye', no', tl', lv, de, ct, le, cl', cy', cn', mv', a1, a2, a3, a4, a5, a6, a7, a8, a9', a10', a11', a12', a13, a14, a15, a16)) :
    wpX_linearWake post (md, fo, ye, no, tl, lv, de, ct, le, cl, cy, cn, mv, a1, a2, a3, a4, a5, a6, a7, a8, a9, a10, a11, a12, a13, a14, a15, a16) (nI c) := by
  have ec : (nI c).toNatClampNeg = c := nI_clamp (by omega)
  unfold wpX_linearWake
  dsimp only
  refine ⟨5, ?_⟩
  refine sv_lw10 (i := i) hi hc h0 (fun r1 r2 hr1 hr2 ht => ?_) (fun r1 r2 hr1 hr2 ht => ?_) 4 (j := 0) (by omega) rfl (fun b _ e => ?_) (fun b _ e => ?_)
  · refine ⟨(3 - i + 1) + 1 + i, ?_⟩
    refine sv_108b hi hc h0 hcl ?_ i (j := 0) (by omega)
    refine pk_le 4 i (fun z => absurd z (by omega)) (fun _ => br_t hcl (sv_leastTerm hc hi ⟨pk_in c 11 hc, nm_e (nm_e ?_)⟩))
    rw [sv_ix4, nI_clamp (show 4 * c + i < 2 ^ 31 by omega), ec, Int32.sub_add_cancel]
    refine ⟨vp_in_nI (by omega) (by omega), ?_⟩
    refine sv_squeeze (D := fun a => bt ye a = true ∨ bt no a = true) (F := F ∧ sv_tm (a3 (4 * c + i)) p q i ≤ a4 c) hi (sv_J_D (sv_J_and hJ (fun _ _ e g => ⟨g, ?_⟩)) (fun a _ e => e)) hf1 hf2 hs (fun b hb e => ?_) (fun ye' no' tl' cl' cy' cn' mv' a9' a10' a11' a12' h => nm_r (nI_1 i) ?_)
    · have e1 := sv_lo_eq hi (fun a ha => (e a ha).1)
      have e2 := sv_hi_eq hi (fun a ha => (e a ha).2)
      unfold sv_tm at ht ⊢
      rw [← e1, ← e2]
      exact ht
    · rw [b_and, b_and] at e
      rcases e with e | e
      · exact Or.inl (hr1 b hb (Bool.and_eq_true_iff.mp e).1)
      · exact Or.inr (hr2 b hb (Bool.and_eq_true_iff.mp e).1)
    · have hd := hJ.2.2.1
      refine sv_108a (i := i) (j := i + 1) hc (3 - i) h0 (by omega) (by omega) (H _ _ _ _ _ _ _ _ _ _ _ (sv_J_D (sv_J_and h (fun _ _ _ g => ⟨g.1.1, g.1.2, g.2⟩)) (fun a ha da => h.2.2.1 a ha (hd a ha da))))
  · refine H _ _ _ _ _ _ _ _ _ _ _ (sv_JC hJ (show ¬ (1 : Int32) = 0 by decide) (fun h => ht ?_) (fun b hb e => ?_))
    · obtain ⟨g1, g2⟩ := sv_agr hi hJ.1 h (hs h).1
      have g3 := sv_x3 hf1 hf2 g1 g2 (sv_hi_le _ _) (hs h).2
      unfold sv_tm
      by_cases z : a3 (4 * c + i) ≤ 0
      · rw [if_pos z]
        exact g3.1 z
      · rw [if_neg z]
        exact g3.2 z
    · rcases e with e | e
      · exact Or.inl (hr1 b hb e)
      · exact Or.inr (hr2 b hb e)
  · rw [b_0] at e
    exact Bool.noConfusion e
  · rw [b_0] at e
    exact Bool.noConfusion e
theorem sv_wake {md fo ye no tl lv de ct le cl cy cn mv : Int32} {a1 a2 a3 a4 a5 a6 a7 a8 a9 a10 a11 a12 a13 a14 a15 a16 : Nat → Int32} {i c : Nat} (hi : i < 4) (hc : c < 11) (hk : a2 c = 0) (h0 : ∀ j, j < 4 → j ≠ i → a3 (4 * c + j) = 0) (hf1 : -5 ≤ (a3 (4 * c + i)).toInt) (hf2 : (a3 (4 * c + i)).toInt ≤ 5)
    (hs : s → x i ≤ 3 ∧ a3 (4 * c + i) * nI (x i) ≤ a4 c) (hcl : cl = 0) (hJ : sv_J s x D p q F lv ye no tl cl cy cn mv a10)
    (H : ∀ (ye' no' tl' cl' cy' cn' mv' : Int32) (a9' a10' a11' a12' : Nat → Int32), sv_J s x D p q (F ∧ sv_L (a3 (4 * c + i)) (a4 c) p q i) lv ye' no' tl' cl' cy' cn' mv' a10' → post (md, fo, ye', no', tl', lv, de, ct, le, cl', cy', cn', mv', a1, a2, a3, a4, a5, a6, a7, a8, a9', a10', a11', a12', a13, a14, a15, a16)) :
    wpX_wake post (md, fo, ye, no, tl, lv, de, ct, le, cl, cy, cn, mv, a1, a2, a3, a4, a5, a6, a7, a8, a9, a10, a11, a12, a13, a14, a15, a16) (nI c) := by
  unfold wpX_wake
  dsimp only
  refine ⟨pk_in c 11 hc, br_t ?_ (sv_lwake hi hc h0 hf1 hf2 hs hcl hJ H)⟩
  rw [nI_clamp (show c < 2 ^ 31 by omega)]
  exact hk
end
end
section
/-! ===== propagate ===== -/
/-- closed: chain and every constraint counted draw nothing more -/
def sv_Z (i : Nat) (ct : Int32) (a3 a4 : Nat → Int32) (p q : Nat → Bool) : Prop :=
  (∀ j, j < 4 → sv_Ch p q j) ∧ ∀ c, c < 11 → bt ct c = true → sv_L (a3 (4 * c + i)) (a4 c) p q i
theorem sv_Ch_eq {p q p' q' : Nat → Bool} {j : Nat} (hj : j < 4) (e : ∀ a, a < 12 → p' a = p a ∧ q' a = q a) (h : sv_Ch p q j) : sv_Ch p' q' j := by
  unfold sv_Ch at *
  rw [(e (3 * j + 2) (by omega)).1, (e (3 * j + 2) (by omega)).2, (e (3 * j + 1) (by omega)).1, (e (3 * j + 1) (by omega)).2, (e (3 * j) (by omega)).1, (e (3 * j) (by omega)).2]
  exact h
theorem sv_L_eq {f b : Int32} {p q p' q' : Nat → Bool} {i : Nat} (hi : i < 4) (e : ∀ a, a < 12 → p' a = p a ∧ q' a = q a) (h : sv_L f b p q i) : sv_L f b p' q' i := by
  obtain ⟨h1, h2⟩ := h
  refine ⟨?_, fun v hv => ⟨fun z z2 => ?_, fun z z2 => ?_⟩⟩
  · have e1 := sv_lo_eq hi (fun a ha => (e a ha).1)
    have e2 := sv_hi_eq hi (fun a ha => (e a ha).2)
    unfold sv_tm at h1 ⊢
    rw [e1, e2]
    exact h1
  · rw [(e (3 * i + v) (by omega)).2]
    exact (h2 v hv).1 z z2
  · rw [(e (3 * i + v) (by omega)).1]
    exact (h2 v hv).2 z z2
section
variable {post : St2 → Prop} {s : Prop} {x : Nat → Nat} {D : Nat → Prop} {p q : Nat → Bool}
theorem sv_pr82 {K : Int32 → Int32 → Int32 → Int32 → Int32 → Int32 → Int32 → Int32 → Int32 → Int32 → Int32 → Int32 → Int32 → Int32 → (Nat → Int32) → (Nat → Int32) → (Nat → Int32) → (Nat → Int32) → (Nat → Int32) → (Nat → Int32) → (Nat → Int32) → (Nat → Int32) → (Nat → Int32) → (Nat → Int32) → (Nat → Int32) → (Nat → Int32) → (Nat → Int32) → (Nat → Int32) → (Nat → Int32) → (Nat → Int32) → Prop} {i : Nat} (hi : i < 4) {r : Nat} : ∀ (k : Nat) {c : Nat} {F : Prop} {md fo ye no tl lv de ct le cl cy cn mv : Int32} {a1 a2 a3 a4 a5 a6 a7 a8 a9 a10 a11 a12 a13 a14 a15 a16 : Nat → Int32}, sv_C i ct a2 a3 → (s → x i ≤ 3 ∧ sv_A i ct a3 a4 (x i)) → c + k = 11 → sv_J s x D p q F lv ye no tl cl cy cn mv a10 →
    (∀ (ye' no' tl' cl' cy' cn' mv' : Int32) (a9' a10' a11' a12' : Nat → Int32), sv_J s x D p q (F ∧ ∀ c', c ≤ c' → c' < 11 → bt ct c' = true → sv_L (a3 (4 * c' + i)) (a4 c') p q i) lv ye' no' tl' cl' cy' cn' mv' a10' → K (nI (r + 1)) md fo ye' no' tl' lv de ct le cl' cy' cn' mv' a1 a2 a3 a4 a5 a6 a7 a8 a9' a10' a11' a12' a13 a14 a15 a16) →
    wX_propagate_82 post K (nI r) (k + 1) (nI c) md fo ye no tl lv de ct le cl cy cn mv a1 a2 a3 a4 a5 a6 a7 a8 a9 a10 a11 a12 a13 a14 a15 a16 := by
  intro k
  induction k with
  | zero =>
    intro c F md fo ye no tl lv de ct le cl cy cn mv a1 a2 a3 a4 a5 a6 a7 a8 a9 a10 a11 a12 a13 a14 a15 a16 hC hs hk hJ H
    exact pk_lt 10 c (fun _ => nm_r (nI_1 r) (H _ _ _ _ _ _ _ _ _ _ _ (sv_J_and hJ (fun _ _ _ f => ⟨f, fun c' h1 h2 => absurd h1 (by omega)⟩)))) (fun z => absurd z (by omega))
  | succ k ih =>
    intro c F md fo ye no tl lv de ct le cl cy cn mv a1 a2 a3 a4 a5 a6 a7 a8 a9 a10 a11 a12 a13 a14 a15 a16 hC hs hk hJ H
    refine pk_lt 10 c (fun z => absurd z (by omega)) (fun _ => br_c (fun z => ek_if (sv_sh ct (show c < 32 by omega)) (fun hb => ?_) (fun hb => nm_r (nI_1 c) (ih hC hs (by omega) hJ (fun ye' no' tl' cl' cy' cn' mv' a9' a10' a11' a12' h => H _ _ _ _ _ _ _ _ _ _ _ (sv_J_and h (fun _ _ _ f => ⟨f.1, fun c' h1 h2 h3 => ?_⟩)))))) (fun z => nm_r (nI_1 r) (H _ _ _ _ _ _ _ _ _ _ _ (sv_J_cl hJ z))))
    · obtain ⟨g1, g2, g3, g4⟩ := hC c (by omega) hb
      refine sv_wake hi (by omega) g1 g2 g3 g4 (fun h => ⟨(hs h).1, (hs h).2 c (by omega) hb⟩) z hJ (fun ye' no' tl' cl' cy' cn' mv' a9' a10' a11' a12' h => nm_r (nI_1 c) (ih hC hs (by omega) h (fun ye no tl cl cy cn mv a9 a10 a11 a12 h' => H _ _ _ _ _ _ _ _ _ _ _ (sv_J_and h' (fun _ _ _ f => ⟨f.1.1, fun c' h1 h2 h3 => ?_⟩)))))
      by_cases e : c' = c
      · rw [e]
        exact f.1.2
      · exact f.2 c' (by omega) h2 h3
    · by_cases e : c' = c
      · rw [e] at h3
        exact absurd h3 hb
      · exact f.2 c' (by omega) h2 h3
theorem sv_pr12 {i : Nat} (hi : i < 4) : ∀ (k : Nat) {r : Nat} {md fo ye no tl lv de ct le cl cy cn mv : Int32} {a1 a2 a3 a4 a5 a6 a7 a8 a9 a10 a11 a12 a13 a14 a15 a16 : Nat → Int32}, sv_C i ct a2 a3 → (s → x i ≤ 3 ∧ sv_A i ct a3 a4 (x i)) → r + k = 16 → le = 0 → (¬ mv = 0 → r ≤ sv_k ye no) →
    sv_Ok s x lv ye no tl a10 → sv_Cl s ye no cl cy cn → (mv = 0 → cl = 0 → sv_Z i ct a3 a4 (bt ye) (bt no)) →
    (∀ (ye' no' tl' cl' cy' cn' mv' : Int32) (a9' a10' a11' a12' : Nat → Int32), sv_Ok s x lv ye' no' tl' a10' → sv_Cl s ye' no' cl' cy' cn' → (∀ a, a < 12 → bt ye a = true → bt ye' a = true) → (∀ a, a < 12 → bt no a = true → bt no' a = true) → (cl' = 0 → sv_Z i ct a3 a4 (bt ye') (bt no')) → post (md, fo, ye', no', tl', lv, de, ct, le, cl', cy', cn', mv', a1, a2, a3, a4, a5, a6, a7, a8, a9', a10', a11', a12', a13, a14, a15, a16)) →
    wX_propagate_12 post (k + 1) (nI r) md fo ye no tl lv de ct le cl cy cn mv a1 a2 a3 a4 a5 a6 a7 a8 a9 a10 a11 a12 a13 a14 a15 a16 := by
  intro k
  induction k with
  | zero =>
    intro r md fo ye no tl lv de ct le cl cy cn mv a1 a2 a3 a4 a5 a6 a7 a8 a9 a10 a11 a12 a13 a14 a15 a16 hC hs hk hle hr hO hCl hz H
    have hk12 : sv_k ye no ≤ 12 := sv_c_le _ 12
    refine pk_le 16 r (fun _ => H _ _ _ _ _ _ _ _ _ _ _ hO hCl (fun _ _ e => e) (fun _ _ e => e) (fun c => hz ?_ c)) (fun z => absurd z (by omega))
    by_cases e : mv = 0
    · exact e
    · exact absurd (hr e) (by omega)
  | succ k ih =>
    intro r md fo ye no tl lv de ct le cl cy cn mv a1 a2 a3 a4 a5 a6 a7 a8 a9 a10 a11 a12 a13 a14 a15 a16 hC hs hk hle hr hO hCl hz H
    refine pk_le 16 r (fun z => absurd z (by omega)) (fun _ => br_c (fun m => H _ _ _ _ _ _ _ _ _ _ _ hO hCl (fun _ _ e => e) (fun _ _ e => e) (fun c => hz m c)) (fun m => br_c (fun c => ?_) (fun c => H _ _ _ _ _ _ _ _ _ _ _ hO hCl (fun _ _ e => e) (fun _ _ e => e) (fun c' => absurd c' c))))
    have hJ : sv_J s x (fun _ => False) (bt ye) (bt no) True lv ye no tl cl cy cn 0 a10 := ⟨hO, hCl, fun _ _ f => absurd f id, fun _ _ e => e, fun _ _ e => e, fun _ _ _ => ⟨rfl, rfl⟩, fun z => absurd rfl z, fun _ _ => trivial⟩
    refine sv_chain hJ (fun ye' no' tl' cl' cy' cn' mv' a9' a10' a11' a12' h1 => ⟨1, br_t (by rw [hle]; decide) ⟨12, ?_⟩⟩)
    refine sv_pr82 (K := wX_propagate_12 post (k + 1)) hi 11 (c := 0) hC hs (by omega) h1 (fun ye' no' tl' cl' cy' cn' mv' a9' a10' a11' a12' h2 => ?_)
    obtain ⟨g1, g2, g3, g4, g5, g6, g7, g8⟩ := h2
    refine ih hC hs (by omega) hle (fun m' => ?_) g1 g2 (fun m' c' => ?_) (fun ye' no' tl' cl' cy' cn' mv' a9' a10' a11' a12' k1 k2 k3 k4 k5 => H _ _ _ _ _ _ _ _ _ _ _ k1 k2 (fun a ha e => k3 a ha (g4 a ha e)) (fun a ha e => k4 a ha (g5 a ha e)) k5)
    · have e1 : sv_k ye no < sv_k ye' no' := g7 m'
      have e2 := hr m
      omega
    · have e1 := g6 m'
      have e2 := g8 m' c'
      exact ⟨fun j hj => sv_Ch_eq hj e1 (e2.1.2 j hj), fun c hc hb => sv_L_eq hi e1 (e2.2 c (by omega) hc hb)⟩
theorem sv_prop {i : Nat} (hi : i < 4) {md fo ye no tl lv de ct le cl cy cn mv : Int32} {a1 a2 a3 a4 a5 a6 a7 a8 a9 a10 a11 a12 a13 a14 a15 a16 : Nat → Int32} (hC : sv_C i ct a2 a3) (hs : s → x i ≤ 3 ∧ sv_A i ct a3 a4 (x i)) (hle : le = 0) (hO : sv_Ok s x lv ye no tl a10)
    (H : ∀ (ye' no' tl' cl' cy' cn' mv' : Int32) (a9' a10' a11' a12' : Nat → Int32), sv_Ok s x lv ye' no' tl' a10' → sv_Cl s ye' no' cl' cy' cn' → (∀ a, a < 12 → bt ye a = true → bt ye' a = true) → (∀ a, a < 12 → bt no a = true → bt no' a = true) → (cl' = 0 → sv_Z i ct a3 a4 (bt ye') (bt no')) → post (md, fo, ye', no', tl', lv, de, ct, le, cl', cy', cn', mv', a1, a2, a3, a4, a5, a6, a7, a8, a9', a10', a11', a12', a13, a14, a15, a16)) :
    wpX_propagate post (md, fo, ye, no, tl, lv, de, ct, le, cl, cy, cn, mv, a1, a2, a3, a4, a5, a6, a7, a8, a9, a10, a11, a12, a13, a14, a15, a16) := by
  unfold wpX_propagate
  dsimp only
  exact ⟨17, sv_pr12 (x := x) hi 16 (r := 0) hC hs (by omega) hle (fun _ => by omega) hO (fun z => absurd rfl z) (fun z => absurd z (by decide)) H⟩
end
/-! ===== decide, learn at level 0, begin ===== -/
theorem sv_decide {post : St2 → Prop} {md fo ye no tl lv de ct le cl cy cn mv : Int32} {a1 a2 a3 a4 a5 a6 a7 a8 a9 a10 a11 a12 a13 a14 a15 a16 : Nat → Int32} {op : Int32} {k : Nat} (hk : k < 12) (ht : tl = nI k) (hex : ∃ a, a < 12 ∧ bt op a = true)
    (H : ∀ a, a < 12 → bt op a = true → post (md, fo, ye, no ||| ((1 : Int32) <<< (nI a &&& 31)), nI (k + 1), lv + 1, de ||| ((1 : Int32) <<< (nI a &&& 31)), ct, le, cl, cy, cn, mv, a1, a2, a3, a4, a5, a6, a7, a8, upd a9 k (nI a), upd a10 a (lv + 1), upd a11 a 0, upd a12 a 0, a13, a14, a15, a16)) :
    wpX_decide post (md, fo, ye, no, tl, lv, de, ct, le, cl, cy, cn, mv, a1, a2, a3, a4, a5, a6, a7, a8, a9, a10, a11, a12, a13, a14, a15, a16) op := by
  unfold wpX_decide
  dsimp only
  refine pk_loop (σ := Unit) (fun n a _ => wX_decide_2 post op md fo ye no tl lv de ct le cl cy cn mv a1 a2 a3 a4 a5 a6 a7 a8 a9 a10 a11 a12 a13 a14 a15 a16 n (nI a)) (fun a _ => ∀ b, b < a → bt op b = false) 12 0 () (by omega) (fun b hb => absurd hb (by omega)) (fun n _ h => ?_) (fun n a _ ha h hw => ?_)
  · obtain ⟨a, ha, hb⟩ := hex
    rw [h a ha] at hb
    exact Bool.noConfusion hb
  · refine pk_le 12 a (fun z => absurd z (by omega)) (fun _ => ek_if (sv_sh op (show a < 32 by omega)) (fun hb => nm_e (nm_e (sv_asgF ha hk ht (H a ha hb)))) (fun hb => nm_r (nI_1 a) (hw () (fun b hb' => ?_))))
    by_cases e : b = a
    · rw [e]
      simpa using hb
    · exact h b (by omega)
theorem sv_learn0 {post : Int32 → St2 → Prop} {md fo ye no tl lv de ct le cl cy cn mv : Int32} {a1 a2 a3 a4 a5 a6 a7 a8 a9 a10 a11 a12 a13 a14 a15 a16 : Nat → Int32} (h : ∀ a, a < 12 → (bt cy a = true ∨ bt cn a = true) → a10 a = 0) (H : post 0 (md, fo, ye, no, tl, lv, de, ct, le, cl, cy, cn, mv, a1, a2, a3, a4, a5, a6, a7, a8, a9, a10, a11, a12, a13, a14, a15, a16)) : wpX_learn post (md, fo, ye, no, tl, lv, de, ct, le, cl, cy, cn, mv, a1, a2, a3, a4, a5, a6, a7, a8, a9, a10, a11, a12, a13, a14, a15, a16) := by
  unfold wpX_learn
  dsimp only
  refine sv_hl0 (fun a ha e => h a ha ?_) (br_t rfl H)
  rw [b_or] at e
  exact Bool.or_eq_true_iff.mp e
def sv_Bg (l m : Nat → Nat) (p q : Nat → Bool) (j : Nat) : Prop := (∀ v, l j = v + 1 → p (3 * j + v) = true) ∧ (m j < 3 → q (3 * j + m j) = true)
theorem sv_Bg_mono {l m : Nat → Nat} {p q p' q' : Nat → Bool} {j : Nat} (hj : j < 4) (hl : l j ≤ 3) (h : sv_Bg l m p q j) (e1 : ∀ a, a < 12 → p a = true → p' a = true) (e2 : ∀ a, a < 12 → q a = true → q' a = true) : sv_Bg l m p' q' j :=
  ⟨fun v hv => e1 _ (by omega) (h.1 v hv), fun hm => e2 _ (by omega) (h.2 hm)⟩
section
variable {post : Int32 → St2 → Prop} {s : Prop} {x : Nat → Nat} {l m : Nat → Nat}
theorem sv_bg82 {K : Int32 → Int32 → Int32 → Int32 → Int32 → Int32 → Int32 → Int32 → Int32 → Int32 → Int32 → Int32 → Int32 → Int32 → (Nat → Int32) → (Nat → Int32) → (Nat → Int32) → (Nat → Int32) → (Nat → Int32) → (Nat → Int32) → (Nat → Int32) → (Nat → Int32) → (Nat → Int32) → (Nat → Int32) → (Nat → Int32) → (Nat → Int32) → (Nat → Int32) → (Nat → Int32) → (Nat → Int32) → (Nat → Int32) → Prop} {md fo ye no tl lv de ct le cl cy cn mv : Int32} {a1 a2 a3 a4 a5 a6 a7 a8 a9 a10 a11 a12 a13 a14 a15 a16 : Nat → Int32} {j : Nat} (hj : j < 4) (hm : m j ≤ 3) (hlm : l j ≤ m j) (hx : s → x j ≤ m j) (h14 : a14 j = nI (m j))
    (hO : sv_Ok s x lv ye no tl a10) (hfr : ∀ a, 3 * j + l j ≤ a → a < 12 → bt ye a = false ∧ bt no a = false) (hb : ∀ j', j' < j → sv_Bg l m (bt ye) (bt no) j') (hb2 : ∀ v, l j = v + 1 → bt ye (3 * j + v) = true)
    (H : ∀ (no' tl' : Int32) (a9' a10' a11' a12' : Nat → Int32), sv_Ok s x lv ye no' tl' a10' → (∀ a, 3 * (j + 1) ≤ a → a < 12 → bt ye a = false ∧ bt no' a = false) → (∀ j', j' < j + 1 → sv_Bg l m (bt ye) (bt no') j') → K (nI (j + 1)) md fo ye no' tl' lv de ct le cl cy cn mv a1 a2 a3 a4 a5 a6 a7 a8 a9' a10' a11' a12' a13 a14 a15 a16) :
    wX_begin_82 post K (nI j) md fo ye no tl lv de ct le cl cy cn mv a1 a2 a3 a4 a5 a6 a7 a8 a9 a10 a11 a12 a13 a14 a15 a16 := by
  unfold wX_begin_82
  rw [nI_clamp (show j < 2 ^ 31 by omega), h14]
  refine ⟨pk_in j 4 hj, pk_le 3 (m j) (fun z => nm_r (nI_1 j) (H _ _ _ _ _ _ hO (fun a h1 h2 => hfr a (by omega) h2) (fun j' h1 => ?_))) (fun z => ⟨pk_in j 4 hj, ?_⟩)⟩
  · by_cases e : j' = j
    · rw [e]
      exact ⟨hb2, fun hm' => absurd hm' (by omega)⟩
    · exact hb j' (by omega)
  · rw [sv_ix0]
    have ha : 3 * j + m j < 12 := by omega
    obtain ⟨g1, g2, g3⟩ := sv_okF ha hO (hfr _ (by omega) ha).1 (hfr _ (by omega) ha).2 (fun hs => by
      rw [show (3 * j + m j) / 3 = j by omega, show (3 * j + m j) % 3 = m j by omega]
      exact hx hs)
    refine sv_asgF ha g1 hO.2.1 (nm_r (nI_1 j) (H _ _ _ _ _ _ g3 (fun a h1 h2 => ⟨(hfr a (by omega) h2).1, ?_⟩) (fun j' h1 => ?_)))
    · rw [sv_orN no (by omega) (by omega) (by omega)]
      exact (hfr a (by omega) h2).2
    · by_cases e : j' = j
      · rw [e]
        exact ⟨hb2, fun _ => sv_orS no (by omega)⟩
      · have h3 := hb j' (by omega)
        refine ⟨h3.1, fun hm' => ?_⟩
        exact sv_kT ha (by omega) (h3.2 hm')
theorem sv_bg32 (hlm : ∀ j, j < 4 → l j ≤ m j ∧ m j ≤ 3) (hx : s → ∀ j, j < 4 → l j ≤ x j ∧ x j ≤ m j) : ∀ (k : Nat) {j : Nat} {md fo ye no tl lv de ct le cl cy cn mv : Int32} {a1 a2 a3 a4 a5 a6 a7 a8 a9 a10 a11 a12 a13 a14 a15 a16 : Nat → Int32}, (∀ j, j < 4 → a13 j = nI (l j) ∧ a14 j = nI (m j)) → j + k = 4 →
    sv_Ok s x lv ye no tl a10 → (∀ a, 3 * j ≤ a → a < 12 → bt ye a = false ∧ bt no a = false) → (∀ j', j' < j → sv_Bg l m (bt ye) (bt no) j') →
    (∀ (ye' no' tl' : Int32) (a9' a10' a11' a12' : Nat → Int32), sv_Ok s x lv ye' no' tl' a10' → (∀ j', j' < 4 → sv_Bg l m (bt ye') (bt no') j') → post 1 (md, fo, ye', no', tl', lv, de, ct, le, cl, cy, cn, mv, a1, a2, a3, a4, a5, a6, a7, a8, a9', a10', a11', a12', a13, a14, a15, a16)) →
    wX_begin_32 post (k + 1) (nI j) md fo ye no tl lv de ct le cl cy cn mv a1 a2 a3 a4 a5 a6 a7 a8 a9 a10 a11 a12 a13 a14 a15 a16 := by
  intro k
  induction k with
  | zero =>
    intro j md fo ye no tl lv de ct le cl cy cn mv a1 a2 a3 a4 a5 a6 a7 a8 a9 a10 a11 a12 a13 a14 a15 a16 h13 hk hO hfr hb H
    have e : j = 4 := by omega
    subst e
    exact pk_le 4 4 (fun _ => H _ _ _ _ _ _ _ hO hb) (fun z => absurd z (by omega))
  | succ k ih =>
    intro j md fo ye no tl lv de ct le cl cy cn mv a1 a2 a3 a4 a5 a6 a7 a8 a9 a10 a11 a12 a13 a14 a15 a16 h13 hk hO hfr hb H
    have hj : j < 4 := by omega
    obtain ⟨hl1, hl2⟩ := hlm j hj
    refine pk_le 4 j (fun z => absurd z (by omega)) (fun _ => ⟨pk_in j 4 hj, pk_in j 4 hj, ?_⟩)
    rw [nI_clamp (show j < 2 ^ 31 by omega), (h13 j hj).1, (h13 j hj).2]
    refine pk_le (l j) (m j) (fun _ => ⟨pk_in j 4 hj, pk_le (l j) 0 (fun z => ?_) (fun z => ⟨pk_in j 4 hj, ?_⟩)⟩) (fun z => absurd z (by omega))
    · exact sv_bg82 hj hl2 hl1 (fun hs => (hx hs j hj).2) (h13 j hj).2 hO (fun a h1 h2 => hfr a (by omega) h2) hb (fun v hv => absurd hv (by omega))
        (fun no' tl' a9' a10' a11' a12' g1 g2 g3 => ih h13 (by omega) g1 g2 g3 H)
    · obtain ⟨v, hv⟩ : ∃ v, l j = v + 1 := ⟨l j - 1, by omega⟩
      rw [hv, sv_ix]
      have ha : 3 * j + v < 12 := by omega
      obtain ⟨g1, g2, g3⟩ := sv_okT ha hO (hfr _ (by omega) ha).1 (hfr _ (by omega) ha).2 (fun hs => by
        rw [show (3 * j + v) / 3 = j by omega, show (3 * j + v) % 3 = v by omega]
        have := (hx hs j hj).1
        omega)
      refine sv_asgT ha g1 hO.2.1 (sv_bg82 hj hl2 hl1 (fun hs => (hx hs j hj).2) (h13 j hj).2 g3 (fun a h1 h2 => ⟨?_, (hfr a (by omega) h2).2⟩) (fun j' h1 => ?_) (fun v' hv' => ?_)
        (fun no' tl' a9' a10' a11' a12' k1 k2 k3 => ih h13 (by omega) k1 k2 k3 H))
      · rw [sv_orN ye (by omega) (by omega) (by omega)]
        exact (hfr a (by omega) h2).1
      · have h3 := hb j' h1
        have h4 := hlm j' (by omega)
        exact ⟨fun w hw => sv_kT ha (by omega) (h3.1 w hw), h3.2⟩
      · have e : v' = v := by omega
        rw [e]
        exact sv_orS ye (by omega)
theorem sv_begin (hlm : ∀ j, j < 4 → l j ≤ m j ∧ m j ≤ 3) (hx : s → ∀ j, j < 4 → l j ≤ x j ∧ x j ≤ m j) {md fo ye no tl lv de ct le cl cy cn mv : Int32} {a1 a2 a3 a4 a5 a6 a7 a8 a9 a10 a11 a12 a13 a14 a15 a16 : Nat → Int32} (h13 : ∀ j, j < 4 → a13 j = nI (l j) ∧ a14 j = nI (m j))
    (H : ∀ (ye' no' tl' : Int32) (a9' a10' a11' a12' : Nat → Int32), sv_Ok s x 0 ye' no' tl' a10' → (∀ j', j' < 4 → sv_Bg l m (bt ye') (bt no') j') → post 1 (md, fo, ye', no', tl', 0, 0, ct, 0, cl, cy, cn, mv, a1, a2, a3, a4, a5, a6, a7, a8, a9', a10', a11', a12', a13, a14, a15, a16)) :
    wpX_begin post (md, fo, ye, no, tl, lv, de, ct, le, cl, cy, cn, mv, a1, a2, a3, a4, a5, a6, a7, a8, a9, a10, a11, a12, a13, a14, a15, a16) := by
  unfold wpX_begin
  dsimp only
  have z : ∀ a, bt 0 a = true → False := fun a e => by
    rw [b_0] at e
    exact Bool.noConfusion e
  refine ⟨5, sv_bg32 (j := 0) hlm hx 4 h13 (by omega) ⟨fun a _ e => absurd e (z a), by decide +kernel, fun _ => ⟨rfl, fun a _ e => ?_⟩, fun _ a _ => ⟨fun e => absurd e (z a), fun e => absurd e (z a)⟩⟩ (fun a _ _ => ⟨b_0 a, b_0 a⟩) (fun j' h => absurd h (by omega)) H⟩
  rcases e with e | e
  · exact absurd e (z a)
  · exact absurd e (z a)
end
end
section
/-! ===== what closed sets say ===== -/
theorem sv_lo_iff {p q : Nat → Bool} {i v : Nat} (h : sv_Ch p q i) (hv : v < 3) : p (3 * i + v) = true ↔ v < sv_lo p i := by
  obtain ⟨h1, h2, _, _⟩ := h
  have hv' : v = 0 ∨ v = 1 ∨ v = 2 := by omega
  unfold sv_lo
  by_cases e2 : p (3 * i + 2) = true
  · have e1 := h1 e2
    have e0 := h2 e1
    rcases hv' with e | e | e <;> subst e <;> simp [e2, e1, e0]
  · by_cases e1 : p (3 * i + 1) = true
    · have e0 := h2 e1
      rcases hv' with e | e | e <;> subst e <;> simp [e2, e1, e0]
    · by_cases e0 : p (3 * i) = true
      · rcases hv' with e | e | e <;> subst e <;> simp [e2, e1, e0]
      · rcases hv' with e | e | e <;> subst e <;> simp [e2, e1, e0]
theorem sv_hi_iff {p q : Nat → Bool} {i v : Nat} (h : sv_Ch p q i) (hv : v < 3) : q (3 * i + v) = true ↔ sv_hi q i ≤ v := by
  obtain ⟨_, _, h1, h2⟩ := h
  have hv' : v = 0 ∨ v = 1 ∨ v = 2 := by omega
  unfold sv_hi
  by_cases e0 : q (3 * i) = true
  · have e1 := h1 e0
    have e2 := h2 e1
    rcases hv' with e | e | e <;> subst e <;> simp [e2, e1, e0]
  · by_cases e1 : q (3 * i + 1) = true
    · have e2 := h2 e1
      rcases hv' with e | e | e <;> subst e <;> simp [e2, e1, e0]
    · by_cases e2 : q (3 * i + 2) = true
      · rcases hv' with e | e | e <;> subst e <;> simp [e2, e1, e0]
      · rcases hv' with e | e | e <;> subst e <;> simp [e2, e1, e0]
/-- closed without a clash: the lower bound is allowed -/
theorem sv_P1 {i : Nat} (hi : i < 4) {ct : Int32} {a2 a3 a4 : Nat → Int32} (hC : sv_C i ct a2 a3) {p q : Nat → Bool} (hd : ∀ a, a < 12 → p a = true → q a = true → False) (hZ : sv_Z i ct a3 a4 p q)
    {l m : Nat → Nat} (hl : l i ≤ 3) (hm : m i ≤ 3) (hB : sv_Bg l m p q i) : l i ≤ sv_lo p i ∧ sv_lo p i ≤ m i ∧ sv_A i ct a3 a4 (sv_lo p i) := by
  have hch := hZ.1 i hi
  have h3 := sv_lo_le p i
  have h4 := sv_hi_le q i
  have hlh : sv_lo p i ≤ sv_hi q i := by
    rcases Nat.lt_or_ge (sv_hi q i) (sv_lo p i) with g | g
    · exact absurd ((sv_hi_iff hch (v := sv_hi q i) (by omega)).mpr (Nat.le_refl _)) (fun e => hd (3 * i + sv_hi q i) (by omega) ((sv_lo_iff hch (by omega)).mpr g) e)
    · exact g
  refine ⟨?_, ?_, fun c hc hb => ?_⟩
  · by_cases e : l i = 0
    · omega
    · have := (sv_lo_iff hch (v := l i - 1) (by omega)).mp (hB.1 (l i - 1) (by omega))
      omega
  · by_cases e : m i < 3
    · have := (sv_hi_iff hch (v := m i) (by omega)).mp (hB.2 e)
      omega
    · omega
  · obtain ⟨_, _, f1, f2⟩ := hC c hc hb
    obtain ⟨t, hS⟩ := hZ.2 c hc hb
    unfold sv_tm at t
    by_cases z : a3 (4 * c + i) ≤ 0
    · rw [if_pos z, sv_mle f1 f2 h4] at t
      by_cases z0 : 0 ≤ a3 (4 * c + i)
      · rw [sv_mle f1 f2 h3]
        rw [sv_ge0] at z0
        rw [sv_le0] at z
        have e0 : (a3 (4 * c + i)).toInt = 0 := by omega
        rw [e0] at t ⊢
        omega
      · rcases Nat.lt_or_ge (sv_lo p i) 3 with g | g
        · rcases Classical.em (a3 (4 * c + i) * nI (sv_lo p i) ≤ a4 c) with y | y
          · exact y
          · have := (sv_lo_iff hch g).mp ((hS (sv_lo p i) g).2 z0 y)
            omega
        · rw [sv_mle f1 f2 h3, show sv_lo p i = sv_hi q i by omega]
          exact t
    · rw [if_neg z] at t
      exact t
/-- closed: an atom that isn't true is false in the first solution -/
theorem sv_P2 {i : Nat} (hi : i < 4) {ct : Int32} {a2 a3 a4 : Nat → Int32} (hC : sv_C i ct a2 a3) {p q : Nat → Bool} (hZ : sv_Z i ct a3 a4 p q) {l m : Nat → Nat} (hl : ∀ j, j < 4 → l j ≤ 3) (hB : ∀ j, j < 4 → sv_Bg l m p q j)
    {X : Nat} (hX : X ≤ 3) (hA : sv_A i ct a3 a4 X) (hmin : ∀ w, l i ≤ w → w < X → ¬ sv_A i ct a3 a4 w) {a : Nat} (ha : a < 12) (hy : p a = false) : (if a / 3 = i then X else l (a / 3)) ≤ a % 3 := by
  have hj : a / 3 < 4 := by omega
  have hv : a % 3 < 3 := by omega
  have hea : 3 * (a / 3) + a % 3 = a := by omega
  have hch := hZ.1 (a / 3) hj
  have hlo : sv_lo p (a / 3) ≤ a % 3 := by
    rcases Nat.lt_or_ge (a % 3) (sv_lo p (a / 3)) with g | g
    · have := (sv_lo_iff hch hv).mpr g
      rw [hea, hy] at this
      exact Bool.noConfusion this
    · exact g
  have hll : l (a / 3) ≤ a % 3 := by
    have h3 := hl (a / 3) hj
    by_cases e : l (a / 3) = 0
    · omega
    · have := (sv_lo_iff hch (v := l (a / 3) - 1) (by omega)).mp ((hB (a / 3) hj).1 (l (a / 3) - 1) (by omega))
      omega
  by_cases e : a / 3 = i
  · rw [if_pos e]
    rw [e] at hll hea
    rcases Nat.lt_or_ge (a % 3) X with g | g
    · refine absurd (fun c hc hb => ?_) (hmin (a % 3) hll g)
      obtain ⟨_, _, f1, f2⟩ := hC c hc hb
      rcases Classical.em (a3 (4 * c + i) * nI (a % 3) ≤ a4 c) with y | y
      · exact y
      · rcases Classical.em (0 ≤ a3 (4 * c + i)) with z | z
        · have h1 := hA c hc hb
          rw [sv_mle f1 f2 hX] at h1
          rw [sv_mle f1 f2 (by omega)] at y
          rw [sv_ge0] at z
          have h2 : (a3 (4 * c + i)).toInt * ((a % 3 : Nat) : Int) ≤ (a3 (4 * c + i)).toInt * (X : Int) := Int.mul_le_mul_of_nonneg_left (by omega) z
          omega
        · have := ((hZ.2 c hc hb).2 (a % 3) hv).2 z y
          rw [hea, hy] at this
          exact Bool.noConfusion this
    · exact g
  · rw [if_neg e]
    exact hll
/-- all atoms assigned: the lower bounds are the solution -/
theorem sv_P3 {x : Nat → Nat} {lv ye no tl : Int32} {a10 : Nat → Int32} (hO : sv_Ok True x lv ye no tl a10) (hall : ∀ a, a < 12 → (bt ye a = true ∨ bt no a = true)) {j : Nat} (hj : j < 4) (hx : x j ≤ 3) : sv_lo (bt ye) j = x j := by
  have h : ∀ v, v < 3 → (bt ye (3 * j + v) = true ↔ v < x j) := by
    intro v hv
    have g := hO.2.2.2 trivial (3 * j + v) (by omega)
    rw [show (3 * j + v) / 3 = j by omega, show (3 * j + v) % 3 = v by omega] at g
    refine ⟨g.1, fun e => ?_⟩
    rcases hall (3 * j + v) (by omega) with y | y
    · exact y
    · have := g.2 y
      omega
  have h0 := h 0 (by omega)
  have h1 := h 1 (by omega)
  have h2 := h 2 (by omega)
  rw [Nat.add_zero] at h0
  unfold sv_lo
  by_cases e2 : bt ye (3 * j + 2) = true
  · rw [if_pos e2]
    have := h2.mp e2
    omega
  · rw [if_neg e2]
    have g2 : ¬ 2 < x j := fun z => e2 (h2.mpr z)
    by_cases e1 : bt ye (3 * j + 1) = true
    · rw [if_pos e1]
      have := h1.mp e1
      omega
    · rw [if_neg e1]
      have g1 : ¬ 1 < x j := fun z => e1 (h1.mpr z)
      by_cases e0 : bt ye (3 * j) = true
      · rw [if_pos e0]
        have := h0.mp e0
        omega
      · rw [if_neg e0]
        have g0 : ¬ 0 < x j := fun z => e0 (h0.mpr z)
        omega
theorem sv_4095 : ∀ k, k < 32 → bt 4095 k = decide (k < 12) := by decide +kernel
theorem sv_op (ye no : Int32) {a : Nat} (ha : a < 32) : bt (4095 &&& ((ye ||| no) ^^^ (-1))) a = (decide (a < 12) && !(bt ye a || bt no a)) := by
  rw [b_and, sv_4095 a ha, b_xor, b_or, b_m1 a ha, Bool.xor_true]
theorem sv_op0 {ye no : Int32} (h : 4095 &&& ((ye ||| no) ^^^ (-1)) = 0) : ∀ a, a < 12 → (bt ye a = true ∨ bt no a = true) := by
  intro a ha
  have h2 := congrArg (fun z => bt z a) h
  simp only [sv_op ye no (show a < 32 by omega), b_0] at h2
  rcases Bool.eq_false_or_eq_true (bt ye a) with e | e
  · exact Or.inl e
  · exact Or.inr (by simpa [ha, e] using h2)
theorem sv_op1 {ye no : Int32} (h : ¬ 4095 &&& ((ye ||| no) ^^^ (-1)) = 0) : ∃ a, a < 12 ∧ bt (4095 &&& ((ye ||| no) ^^^ (-1))) a = true := by
  rcases Classical.em (∃ a, a < 12 ∧ bt (4095 &&& ((ye ||| no) ^^^ (-1))) a = true) with y | y
  · exact y
  · refine absurd (b_ext (fun k hk => ?_)) h
    rw [b_0]
    rcases Nat.lt_or_ge k 12 with g | g
    · rcases Bool.eq_false_or_eq_true (bt (4095 &&& ((ye ||| no) ^^^ (-1))) k) with e | e
      · exact absurd ⟨k, g, e⟩ y
      · exact e
    · rw [sv_op ye no hk, decide_eq_false (by omega)]
      rfl
theorem sv_op2 {ye no : Int32} {a : Nat} (ha : a < 12) (h : bt (4095 &&& ((ye ||| no) ^^^ (-1))) a = true) : bt ye a = false ∧ bt no a = false := by
  rw [sv_op ye no (by omega)] at h
  simpa [ha] using h
/-! ===== search ===== -/
section
variable {post : Int32 → St2 → Prop} {x l m : Nat → Nat}
theorem sv_srS {i : Nat} (hi : i < 4) (hx : ∀ j, j < 4 → x j ≤ 3) (hl : ∀ j, j < 4 → l j ≤ 3) : ∀ (k : Nat) {r : Nat} {md fo ye no tl lv de ct le cl cy cn mv : Int32} {a1 a2 a3 a4 a5 a6 a7 a8 a9 a10 a11 a12 a13 a14 a15 a16 : Nat → Int32}, sv_C i ct a2 a3 → sv_A i ct a3 a4 (x i) →
    (∀ p q : Nat → Bool, sv_Z i ct a3 a4 p q → (∀ j, j < 4 → sv_Bg l m p q j) → ∀ a, a < 12 → p a = false → x (a / 3) ≤ a % 3) →
    r + k ≤ 19999 → 12 ≤ sv_k ye no + k → le = 0 → sv_Ok True x lv ye no tl a10 → (∀ j, j < 4 → sv_Bg l m (bt ye) (bt no) j) →
    (∀ (ye' no' tl' lv' de' le' cl' cy' cn' mv' : Int32) (a9' a10' a11' a12' : Nat → Int32), (∀ j, j < 4 → sv_lo (bt ye') j = x j) → post 1 (md, fo, ye', no', tl', lv', de', ct, le', cl', cy', cn', mv', a1, a2, a3, a4, a5, a6, a7, a8, a9', a10', a11', a12', a13, a14, a15, a16)) → wX_search_7 post (k + 1) 1 (nI r) md fo ye no tl lv de ct le cl cy cn mv a1 a2 a3 a4 a5 a6 a7 a8 a9 a10 a11 a12 a13 a14 a15 a16 := by
  intro k
  induction k with
  | zero =>
    intro r md fo ye no tl lv de ct le cl cy cn mv a1 a2 a3 a4 a5 a6 a7 a8 a9 a10 a11 a12 a13 a14 a15 a16 hC hA hP hr hk hle hO hB H
    refine pk_le 20000 r (fun z => absurd z (by omega)) (fun _ => br_f (by decide) (sv_prop (s := True) (x := x) hi hC (fun _ => ⟨hx i hi, hA⟩) hle hO (fun ye' no' tl' cl' cy' cn' mv' a9' a10' a11' a12' g1 g2 g3 g4 g5 => br_c (fun c => nm_e (br_c (fun z => H _ _ _ _ _ _ _ _ _ _ _ _ _ _ (fun j hj => sv_P3 g1 (sv_op0 z) hj (hx j hj))) (fun z => ?_))) (fun c => absurd trivial (g2 c).1))))
    have e1 := sv_k_mono g3 g4
    obtain ⟨a, ha, hb⟩ := sv_op1 z
    have e2 := sv_okF ha g1 (sv_op2 ha hb).1 (sv_op2 ha hb).2 (fun _ => hP _ _ (g5 c) (fun j hj => sv_Bg_mono hj (hl j hj) (hB j hj) g3 g4) a ha (sv_op2 ha hb).1)
    omega
  | succ k ih =>
    intro r md fo ye no tl lv de ct le cl cy cn mv a1 a2 a3 a4 a5 a6 a7 a8 a9 a10 a11 a12 a13 a14 a15 a16 hC hA hP hr hk hle hO hB H
    refine pk_le 20000 r (fun z => absurd z (by omega)) (fun _ => br_f (by decide) (sv_prop (s := True) (x := x) hi hC (fun _ => ⟨hx i hi, hA⟩) hle hO (fun ye' no' tl' cl' cy' cn' mv' a9' a10' a11' a12' g1 g2 g3 g4 g5 => br_c (fun c => nm_e (br_c (fun z => H _ _ _ _ _ _ _ _ _ _ _ _ _ _ (fun j hj => sv_P3 g1 (sv_op0 z) hj (hx j hj))) (fun z => ?_))) (fun c => absurd trivial (g2 c).1))))
    have e1 := sv_k_mono g3 g4
    have hex := sv_op1 z
    have e3 : sv_k ye' no' < 12 := by
      obtain ⟨a, ha, hb⟩ := hex
      exact sv_c_lt 12 ha (by simp [(sv_op2 ha hb).1, (sv_op2 ha hb).2])
    refine sv_decide e3 g1.2.1 hex (fun a ha hb => nm_r (nI_1 r) ?_)
    have hB' : ∀ j, j < 4 → sv_Bg l m (bt ye') (bt no') j := fun j hj => sv_Bg_mono hj (hl j hj) (hB j hj) g3 g4
    obtain ⟨k1, k2, k3⟩ := sv_okF (lv := lv + 1) (s := True) (x := x) (a10 := a10') (tl := tl') ha ⟨g1.1, g1.2.1, fun z => absurd trivial z, g1.2.2.2⟩ (sv_op2 ha hb).1 (sv_op2 ha hb).2 (fun _ => hP _ _ (g5 c) hB' a ha (sv_op2 ha hb).1)
    exact ih hC hA hP (by omega) (by omega) hle k3 (fun j hj => sv_Bg_mono hj (hl j hj) (hB' j hj) (fun _ _ e => e) (fun b hb e => sv_kT ha hb e)) H
theorem sv_search {i : Nat} (hi : i < 4) {md fo ye no tl lv de ct le cl cy cn mv : Int32} {a1 a2 a3 a4 a5 a6 a7 a8 a9 a10 a11 a12 a13 a14 a15 a16 : Nat → Int32} (hlm : ∀ j, j < 4 → l j ≤ m j ∧ m j ≤ 3) (h13 : ∀ j, j < 4 → a13 j = nI (l j) ∧ a14 j = nI (m j)) (hC : sv_C i ct a2 a3)
    (HS : ∀ X, l i ≤ X → X ≤ m i → sv_A i ct a3 a4 X → (∀ w, l i ≤ w → w < X → ¬ sv_A i ct a3 a4 w) → ∀ (ye' no' tl' lv' de' le' cl' cy' cn' mv' : Int32) (a9' a10' a11' a12' : Nat → Int32), (∀ j, j < 4 → sv_lo (bt ye') j = if j = i then X else l j) → post 1 (md, fo, ye', no', tl', lv', de', ct, le', cl', cy', cn', mv', a1, a2, a3, a4, a5, a6, a7, a8, a9', a10', a11', a12', a13, a14, a15, a16))
    (HU : (∀ w, l i ≤ w → w ≤ m i → ¬ sv_A i ct a3 a4 w) → ∀ (ye' no' tl' lv' de' le' cl' cy' cn' mv' : Int32) (a9' a10' a11' a12' : Nat → Int32), post 0 (md, fo, ye', no', tl', lv', de', ct, le', cl', cy', cn', mv', a1, a2, a3, a4, a5, a6, a7, a8, a9', a10', a11', a12', a13, a14, a15, a16)) : wpX_search post (md, fo, ye, no, tl, lv, de, ct, le, cl, cy, cn, mv, a1, a2, a3, a4, a5, a6, a7, a8, a9, a10, a11, a12, a13, a14, a15, a16) := by
  have hl : ∀ j, j < 4 → l j ≤ 3 := fun j hj => Nat.le_trans (hlm j hj).1 (hlm j hj).2
  unfold wpX_search
  dsimp only
  rcases Classical.em (∃ w, l i ≤ w ∧ w ≤ m i ∧ sv_A i ct a3 a4 w) with hex | hex
  · obtain ⟨X, ⟨x1, x2, x3⟩, x4⟩ := pk_least _ hex
    have hX3 : X ≤ 3 := Nat.le_trans x2 (hlm i hi).2
    have hmin : ∀ w, l i ≤ w → w < X → ¬ sv_A i ct a3 a4 w := fun w h1 h2 h3 => x4 w h2 ⟨h1, by omega, h3⟩
    refine sv_begin (s := True) (x := fun j => if j = i then X else l j) hlm (fun _ j hj => ?_) h13 (fun ye' no' tl' a9' a10' a11' a12' g1 g2 => ⟨13, ?_⟩)
    · have h1 := hlm j hj
      by_cases e : j = i
      · subst e
        simp only [if_pos]
        exact ⟨x1, x2⟩
      · simp only [if_neg e]
        exact ⟨Nat.le_refl _, h1.1⟩
    · refine sv_srS (x := fun j => if j = i then X else l j) hi (fun j hj => ?_) hl 12 (r := 0) hC ?_ (fun p q hZ hB a ha hy => ?_) (by omega) (by omega) rfl g1 g2 (HS X x1 x2 x3 hmin)
      · by_cases e : j = i
        · simp only [if_pos e]
          exact hX3
        · simp only [if_neg e]
          exact hl j hj
      · simp only [if_pos]
        exact x3
      · exact sv_P2 hi hC hZ hl hB hX3 x3 hmin ha hy
  · have hno : ∀ w, l i ≤ w → w ≤ m i → ¬ sv_A i ct a3 a4 w := fun w h1 h2 h3 => hex ⟨w, h1, h2, h3⟩
    refine sv_begin (s := False) (x := fun _ => 0) hlm (fun f => absurd f id) h13 (fun ye' no' tl' a9' a10' a11' a12' g1 g2 => ⟨2, ?_⟩)
    refine br_f (by decide) (br_f (by decide) (sv_prop (s := False) (x := fun _ => 0) hi hC (fun f => absurd f id) rfl g1 (fun ye no tl cl cy cn mv a9 a10 a11 a12 k1 k2 k3 k4 k5 => br_c (fun c => ?_) (fun c => ?_))))
    · obtain ⟨p1, p2, p3⟩ := sv_P1 hi hC k1.1 (k5 c) (hl i hi) (hlm i hi).2 (sv_Bg_mono hi (hl i hi) (g2 i hi) k3 k4)
      exact absurd p3 (hno _ p1 p2)
    · exact sv_learn0 (fun a ha e => (k1.2.2.1 id).2 a ha ((k2 c).2 a ha e)) (nm_e (br_f (by decide) (br_t rfl (HU hno _ _ _ _ _ _ _ _ _ _ _ _ _ _))))
end
end
section
/-! ===== ask, setLinear, the picture of the object ===== -/
theorem sv_fill {g : Nat → Int32} {j : Nat} {v : Int32} (h : ∀ k, k < j → g k = v) : ∀ k, k < j + 1 → upd g j v k = v := by
  intro k hk
  by_cases e : k = j
  · rw [e, pk_us]
  · rw [pk_un e]
    exact h k (by omega)
theorem sv_ask {post : St2 → Prop} {md fo ye no tl lv de ct le cl cy cn mv : Int32} {a1 a2 a3 a4 a5 a6 a7 a8 a9 a10 a11 a12 a13 a14 a15 a16 : Nat → Int32} {p0 : Int32} (H : ∀ a13' a14' : Nat → Int32, (∀ j, j < 4 → a13' j = 0) → (∀ j, j < 4 → a14' j = 3) → post (md, fo, ye, no, tl, lv, de, p0, le, cl, cy, cn, mv, a1, a2, a3, a4, a5, a6, a7, a8, a9, a10, a11, a12, a13', a14', a15, a16)) : wpX_ask post (md, fo, ye, no, tl, lv, de, ct, le, cl, cy, cn, mv, a1, a2, a3, a4, a5, a6, a7, a8, a9, a10, a11, a12, a13, a14, a15, a16) p0 := by
  unfold wpX_ask
  dsimp only
  refine pk_loop (σ := (Nat → Int32) × (Nat → Int32)) (fun n j t => wX_ask_7 post md fo ye no tl lv de p0 le cl cy cn mv n (nI j) a1 a2 a3 a4 a5 a6 a7 a8 a9 a10 a11 a12 t.1 t.2 a15 a16) (fun j t => (∀ k, k < j → t.1 k = 0) ∧ (∀ k, k < j → t.2 k = 3)) 4 0 (a13, a14) (by omega) ⟨lt_0, lt_0⟩ (fun n t h => pk_le 4 4 (fun _ => H _ _ h.1 h.2) (fun z => absurd z (by omega))) (fun n j t hj h hw => ?_)
  have ej : (nI j).toNatClampNeg = j := nI_clamp (by omega)
  refine pk_le 4 j (fun z => absurd z (by omega)) (fun _ => ⟨pk_in j 4 hj, nm_r (by rw [ej]) ⟨pk_in j 4 hj, nm_r (by rw [ej]) (nm_r (nI_1 j) (hw (upd t.1 j 0, upd t.2 j 3) ⟨sv_fill h.1, sv_fill h.2⟩))⟩⟩)
theorem sv_setLin {post : St2 → Prop} {md fo ye no tl lv de ct le cl cy cn mv : Int32} {a1 a2 a3 a4 a5 a6 a7 a8 a9 a10 a11 a12 a13 a14 a15 a16 : Nat → Int32} {c : Nat} {bb : Int32} (hc : c < 11)
    (H : ∀ a3' : Nat → Int32, (∀ j, j < 4 → a3' (4 * c + j) = a1 j) → (∀ n, (n < 4 * c ∨ 4 * c + 4 ≤ n) → a3' n = a3 n) → post (md, fo, ye, no, tl, lv, de, ct, le, cl, cy, cn, mv, a1, upd a2 c 0, a3', upd a4 c bb, a5, a6, a7, a8, a9, a10, a11, a12, a13, a14, a15, a16)) : wpX_setLinear post (md, fo, ye, no, tl, lv, de, ct, le, cl, cy, cn, mv, a1, a2, a3, a4, a5, a6, a7, a8, a9, a10, a11, a12, a13, a14, a15, a16) (nI c) 1 bb := by
  have ec : (nI c).toNatClampNeg = c := nI_clamp (by omega)
  unfold wpX_setLinear
  dsimp only
  refine ⟨pk_in c 11 hc, nm_r (by rw [ec]) ⟨pk_in c 11 hc, nm_r (by rw [ec]) ?_⟩⟩
  refine pk_loop (fun n j t => wX_setLinear_17 post (nI c) 1 md fo ye no tl lv de ct le cl cy cn mv n (nI j) a1 (upd a2 c 0) t (upd a4 c bb) a5 a6 a7 a8 a9 a10 a11 a12 a13 a14 a15 a16) (fun j t => (∀ k, k < j → t (4 * c + k) = a1 k) ∧ (∀ n, (n < 4 * c ∨ 4 * c + 4 ≤ n) → t n = a3 n)) 4 0 a3 (by omega) ⟨lt_0, fun _ _ => rfl⟩ (fun n t h => pk_le 4 4 (fun _ => H _ h.1 h.2) (fun z => absurd z (by omega))) (fun n j t hj h hw => ?_)
  have ej : (nI j).toNatClampNeg = j := nI_clamp (by omega)
  have e4 : (nI c * 4 + nI j).toNatClampNeg = 4 * c + j := by rw [sv_ix4, nI_clamp (by omega)]
  refine pk_le 4 j (fun z => absurd z (by omega)) (fun _ => ⟨pk_in j 4 hj, pk_in (4 * c + j) 44 (by omega) (sv_ix4 c j), nm_r (by rw [e4, ej, Int32.one_mul]) (nm_r (nI_1 j) (hw (upd t (4 * c + j) (a1 j)) ⟨fun k hk => ?_, fun n hn => ?_⟩))⟩)
  · by_cases e : k = j
    · rw [e, pk_us]
    · rw [pk_un (by omega)]
      exact h.1 k (by omega)
  · rw [pk_un (by omega)]
    exact h.2 n hn
def sv_Pic (i : Nat) (f b : Int32) (M : Prop) (md fo : Int32) (a1 a2 a3 a4 : Nat → Int32) : Prop :=
  (∀ j, j < 4 → a1 j = if j = i then f else 0) ∧ (∀ c, c < 11 → a2 c = 0) ∧ (-5 ≤ f.toInt ∧ f.toInt ≤ 5) ∧
  (M → md = 1 ∧ (fo = 1 ∨ fo = 0) ∧ (∀ j, j < 4 → a3 j = if j = i then f else 0) ∧ a4 0 = b ∧ -60 ≤ b.toInt ∧ b.toInt ≤ 60) ∧ (¬ M → md = 0 ∧ fo = 0)
def sv_W (f b fo : Int32) (w : Nat) : Prop := fo = 1 → f * nI w ≤ b
theorem sv_1024 : ∀ k, k < 32 → bt 1024 k = decide (k = 10) := by decide +kernel
section
variable {i : Nat} {f b : Int32} {M : Prop} {md fo : Int32} {a1 a2 a3 a4 : Nat → Int32}
theorem sv_Pic_b (hP : sv_Pic i f b M md fo a1 a2 a3 a4) {c : Nat} (hc : c < 11) (hb : bt fo c = true) : c = 0 ∧ fo = 1 ∧ M := by
  obtain ⟨_, _, _, h4, h5⟩ := hP
  have h : fo = 1 ∧ M := by
    rcases Classical.em M with m | m
    · rcases (h4 m).2.1 with e | e
      · exact ⟨e, m⟩
      · rw [e, b_0] at hb
        exact Bool.noConfusion hb
    · rw [(h5 m).2, b_0] at hb
      exact Bool.noConfusion hb
  refine ⟨?_, h⟩
  rw [h.1, sv_1 c (by omega)] at hb
  exact of_decide_eq_true hb
theorem sv_Pic_C (hi : i < 4) (hP : sv_Pic i f b M md fo a1 a2 a3 a4) : sv_C i fo a2 a3 := by
  intro c hc hb
  obtain ⟨e0, e1, m⟩ := sv_Pic_b hP hc hb
  obtain ⟨_, h2, h3, h4, _⟩ := hP
  obtain ⟨_, _, g, _⟩ := h4 m
  subst e0
  simp only [Nat.mul_zero, Nat.zero_add]
  refine ⟨h2 0 hc, fun j hj hne => ?_, ?_⟩
  · rw [g j hj, if_neg hne]
  · rw [g i hi, if_pos rfl]
    exact h3
theorem sv_Pic_A (hi : i < 4) (hP : sv_Pic i f b M md fo a1 a2 a3 a4) {w : Nat} : sv_A i fo a3 a4 w ↔ sv_W f b fo w := by
  constructor
  · intro h e
    have hb : bt fo 0 = true := by rw [e]; decide
    obtain ⟨_, _, m⟩ := sv_Pic_b hP (by omega) hb
    have h1 := h 0 (by omega) hb
    obtain ⟨_, _, g, g4, _⟩ := hP.2.2.2.1 m
    simp only [Nat.mul_zero, Nat.zero_add] at h1
    rw [g i hi, if_pos rfl, g4] at h1
    exact h1
  · intro h c hc hb
    obtain ⟨e0, e1, m⟩ := sv_Pic_b hP hc hb
    obtain ⟨_, _, g, g4, _⟩ := hP.2.2.2.1 m
    subst e0
    simp only [Nat.mul_zero, Nat.zero_add]
    rw [g i hi, if_pos rfl, g4]
    exact h e1
end
theorem sv_C_or {i : Nat} {fo : Int32} {a2 a3 : Nat → Int32} (h : sv_C i fo a2 a3) (h2 : a2 10 = 0) (h0 : ∀ j, j < 4 → j ≠ i → a3 (40 + j) = 0) (hf : -5 ≤ (a3 (40 + i)).toInt ∧ (a3 (40 + i)).toInt ≤ 5) : sv_C i (fo ||| 1024) a2 a3 := by
  intro c hc hb
  by_cases e : c = 10
  · subst e
    exact ⟨h2, h0, hf⟩
  · rw [b_or, sv_1024 c (by omega), decide_eq_false e, Bool.or_false] at hb
    exact h c hc hb
theorem sv_A_or {i : Nat} {fo : Int32} {a3 a4 : Nat → Int32} {w : Nat} : sv_A i (fo ||| 1024) a3 a4 w ↔ sv_A i fo a3 a4 w ∧ a3 (40 + i) * nI w ≤ a4 10 := by
  constructor
  · intro h
    refine ⟨fun c hc hb => h c hc ?_, h 10 (by omega) ?_⟩
    · rw [b_or, hb, Bool.true_or]
    · rw [b_or, sv_1024 10 (by omega)]
      simp
  · intro h c hc hb
    by_cases e : c = 10
    · subst e
      exact h.2
    · rw [b_or, sv_1024 c (by omega), decide_eq_false e, Bool.or_false] at hb
      exact h.1 c hc hb
theorem sv_C_0 {i : Nat} {a2 a3 : Nat → Int32} : sv_C i 0 a2 a3 := by
  intro c hc hb
  rw [b_0] at hb
  exact Bool.noConfusion hb
theorem sv_A_0 {i : Nat} {a3 a4 : Nat → Int32} {w : Nat} : sv_A i 0 a3 a4 w := by
  intro c hc hb
  rw [b_0] at hb
  exact Bool.noConfusion hb
theorem sv_nn (p : Nat → Bool) : ¬ nI (((sv_lo p 0 * 4 + sv_lo p 1) * 4 + sv_lo p 2) * 4 + sv_lo p 3) < 0 := by
  have q0 := sv_lo_le p 0
  have q1 := sv_lo_le p 1
  have q2 := sv_lo_le p 2
  have q3 := sv_lo_le p 3
  exact nI_pos (by omega)
/-! ===== solvable, firstWith, values, after(-1) ===== -/
section
variable {post : Int32 → St2 → Prop} {i : Nat} {f b : Int32} {M : Prop}
theorem sv_solvable (hi : i < 4) {md fo ye no tl lv de ct le cl cy cn mv : Int32} {a1 a2 a3 a4 a5 a6 a7 a8 a9 a10 a11 a12 a13 a14 a15 a16 : Nat → Int32} (hP : sv_Pic i f b M md fo a1 a2 a3 a4)
    (H1 : (∃ w, w ≤ 3 ∧ sv_W f b fo w) → ∀ (ye' no' tl' lv' de' ct' le' cl' cy' cn' mv' : Int32) (a2' a3' a4' a9' a10' a11' a12' a13' a14' : Nat → Int32), sv_Pic i f b M md fo a1 a2' a3' a4' → post 1 (md, fo, ye', no', tl', lv', de', ct', le', cl', cy', cn', mv', a1, a2', a3', a4', a5, a6, a7, a8, a9', a10', a11', a12', a13', a14', a15, a16))
    (H0 : (∀ w, w ≤ 3 → ¬ sv_W f b fo w) → ∀ (ye' no' tl' lv' de' ct' le' cl' cy' cn' mv' : Int32) (a2' a3' a4' a9' a10' a11' a12' a13' a14' : Nat → Int32), sv_Pic i f b M md fo a1 a2' a3' a4' → post 0 (md, fo, ye', no', tl', lv', de', ct', le', cl', cy', cn', mv', a1, a2', a3', a4', a5, a6, a7, a8, a9', a10', a11', a12', a13', a14', a15, a16)) : wpX_solvable post (md, fo, ye, no, tl, lv, de, ct, le, cl, cy, cn, mv, a1, a2, a3, a4, a5, a6, a7, a8, a9, a10, a11, a12, a13, a14, a15, a16) := by
  unfold wpX_solvable
  dsimp only
  refine sv_ask (fun a13' a14' h1 h2 => ?_)
  exact sv_search (l := fun _ => 0) (m := fun _ => 3) hi (fun _ _ => ⟨Nat.zero_le _, Nat.le_refl _⟩) (fun j hj => ⟨h1 j hj, h2 j hj⟩) (sv_Pic_C hi hP)
    (fun X x1 x2 x3 x4 ye' no' tl' lv' de' le' cl' cy' cn' mv' a9' a10' a11' a12' hlo => ⟨rfl, H1 ⟨X, x2, (sv_Pic_A hi hP).mp x3⟩ _ _ _ _ _ _ _ _ _ _ _ _ _ _ _ _ _ _ _ _  hP⟩)
    (fun hno ye' no' tl' lv' de' le' cl' cy' cn' mv' a9' a10' a11' a12' => ⟨rfl, H0 (fun w hw h => hno w (Nat.zero_le _) hw ((sv_Pic_A hi hP).mpr h)) _ _ _ _ _ _ _ _ _ _ _ _ _ _ _ _ _ _ _ _  hP⟩)
theorem sv_after (hi : i < 4) {md fo ye no tl lv de ct le cl cy cn mv : Int32} {a1 a2 a3 a4 a5 a6 a7 a8 a9 a10 a11 a12 a13 a14 a15 a16 : Nat → Int32} (hf : fo = 0) (H : ∀ (ye' no' tl' lv' de' le' cl' cy' cn' mv' : Int32) (a9' a10' a11' a12' : Nat → Int32), ∀ ct' a13' a14', post 0 (md, fo, ye', no', tl', lv', de', ct', le', cl', cy', cn', mv', a1, a2, a3, a4, a5, a6, a7, a8, a9', a10', a11', a12', a13', a14', a15, a16)) : wpX_after post (md, fo, ye, no, tl, lv, de, ct, le, cl, cy, cn, mv, a1, a2, a3, a4, a5, a6, a7, a8, a9, a10, a11, a12, a13, a14, a15, a16) (-1) := by
  subst hf
  unfold wpX_after
  dsimp only
  refine br_f (by decide) (br_t (by decide) (br_t rfl (sv_ask (fun a13' a14' h1 h2 => ?_))))
  refine sv_search (l := fun _ => 0) (m := fun _ => 3) hi (fun _ _ => ⟨Nat.zero_le _, Nat.le_refl _⟩) (fun j hj => ⟨h1 j hj, h2 j hj⟩) sv_C_0
    (fun X x1 x2 x3 x4 ye' no' tl' lv' de' le' cl' cy' cn' mv' a9' a10' a11' a12' hlo => br_f (by decide) (sv_answer ?_)) (fun hno => absurd sv_A_0 (hno 0 (Nat.zero_le _) (Nat.zero_le _)))
  have eX : X = 0 := by
    rcases Nat.eq_zero_or_pos X with e | e
    · exact e
    · exact absurd sv_A_0 (x4 0 (Nat.zero_le _) e)
  have hz : ∀ j, j < 4 → sv_lo (bt ye') j = 0 := fun j hj => by
    rw [hlo j hj, eX]
    split <;> rfl
  rw [hz 0 (by omega), hz 1 (by omega), hz 2 (by omega), hz 3 (by omega)]
  exact H _ _ _ _ _ _ _ _ _ _ _ _ _ _  _ _ _
theorem sv_first (hi : i < 4) {md fo ye no tl lv de ct le cl cy cn mv : Int32} {a1 a2 a3 a4 a5 a6 a7 a8 a9 a10 a11 a12 a13 a14 a15 a16 : Nat → Int32} {w : Nat} (hw : w < 4) (hP : sv_Pic i f b M md fo a1 a2 a3 a4)
    (H1 : sv_W f b fo w → ∀ r : Int32, ¬ r < 0 → ∀ (ye' no' tl' lv' de' ct' le' cl' cy' cn' mv' : Int32) (a2' a3' a4' a9' a10' a11' a12' a13' a14' : Nat → Int32), sv_Pic i f b M md fo a1 a2' a3' a4' → post r (md, fo, ye', no', tl', lv', de', ct', le', cl', cy', cn', mv', a1, a2', a3', a4', a5, a6, a7, a8, a9', a10', a11', a12', a13', a14', a15, a16))
    (H0 : ¬ sv_W f b fo w → ∀ (ye' no' tl' lv' de' ct' le' cl' cy' cn' mv' : Int32) (a2' a3' a4' a9' a10' a11' a12' a13' a14' : Nat → Int32), sv_Pic i f b M md fo a1 a2' a3' a4' → post (-4) (md, fo, ye', no', tl', lv', de', ct', le', cl', cy', cn', mv', a1, a2', a3', a4', a5, a6, a7, a8, a9', a10', a11', a12', a13', a14', a15, a16)) : wpX_firstWith post (md, fo, ye, no, tl, lv, de, ct, le, cl, cy, cn, mv, a1, a2, a3, a4, a5, a6, a7, a8, a9, a10, a11, a12, a13, a14, a15, a16) (nI i) (nI w) := by
  have ei : (nI i).toNatClampNeg = i := nI_clamp (by omega)
  unfold wpX_firstWith
  dsimp only
  refine pk_lt i 0 (fun z => absurd z (by omega)) (fun _ => pk_lt 3 i (fun z => absurd z (by omega)) (fun _ => pk_lt w 0 (fun z => absurd z (by omega)) (fun _ => pk_le w 3 (fun _ => sv_ask (fun a13' a14' h1 h2 => ⟨pk_in i 4 hi, nm_r (by rw [ei]) ⟨pk_in i 4 hi, nm_r (by rw [ei]) ?_⟩⟩)) (fun z => absurd z (by omega)))))
  refine sv_search (l := fun j => if j = i then w else 0) (m := fun j => if j = i then w else 3) hi (fun j _ => ?_) (fun j hj => ?_) (sv_Pic_C hi hP) (fun X x1 x2 x3 x4 ye' no' tl' lv' de' le' cl' cy' cn' mv' a9' a10' a11' a12' hlo => br_f (by decide) (sv_answer ?_)) (fun hno ye' no' tl' lv' de' le' cl' cy' cn' mv' a9' a10' a11' a12' => br_t rfl (H0 (fun h => ?_) _ _ _ _ _ _ _ _ _ _ _ _ _ _ _ _ _ _ _ _  hP))
  · by_cases e : j = i
    · simp only [if_pos e]
      exact ⟨Nat.le_refl _, by omega⟩
    · simp only [if_neg e]
      exact ⟨by omega, by omega⟩
  · by_cases e : j = i
    · subst e
      simp only [if_pos]
      exact ⟨pk_us, pk_us⟩
    · simp only [if_neg e]
      rw [pk_un e, pk_un e]
      exact ⟨h1 j hj, h2 j hj⟩
  · simp only [if_pos] at x1 x2
    have e : X = w := by omega
    subst e
    exact H1 ((sv_Pic_A hi hP).mp x3) _ (sv_nn _) _ _ _ _ _ _ _ _ _ _ _ _ _ _ _ _ _ _ _ _  hP
  · refine hno w ?_ ?_ ((sv_Pic_A hi hP).mpr h)
    · simp only [if_pos]
      exact Nat.le_refl _
    · simp only [if_pos]
      exact Nat.le_refl _
def sv_vs (f b fo : Int32) : Nat → Int32
  | 0 => 0
  | k + 1 => if (fo = 1 → f * nI k ≤ b) then sv_vs f b fo k ||| ((1 : Int32) <<< (nI k &&& 31)) else sv_vs f b fo k
theorem sv_vals (hi : i < 4) : ∀ (k : Nat) {j : Nat} {md fo ye no tl lv de ct le cl cy cn mv : Int32} {a1 a2 a3 a4 a5 a6 a7 a8 a9 a10 a11 a12 a13 a14 a15 a16 : Nat → Int32}, sv_Pic i f b M md fo a1 a2 a3 a4 → j + k = 4 →
    (∀ (ye' no' tl' lv' de' ct' le' cl' cy' cn' mv' : Int32) (a2' a3' a4' a9' a10' a11' a12' a13' a14' : Nat → Int32), sv_Pic i f b M md fo a1 a2' a3' a4' → post (sv_vs f b fo 4) (md, fo, ye', no', tl', lv', de', ct', le', cl', cy', cn', mv', a1, a2', a3', a4', a5, a6, a7, a8, a9', a10', a11', a12', a13', a14', a15, a16)) → wX_values_15 post (nI i) (k + 1) (sv_vs f b fo j) (nI j) md fo ye no tl lv de ct le cl cy cn mv a1 a2 a3 a4 a5 a6 a7 a8 a9 a10 a11 a12 a13 a14 a15 a16 := by
  intro k
  induction k with
  | zero =>
    intro j md fo ye no tl lv de ct le cl cy cn mv a1 a2 a3 a4 a5 a6 a7 a8 a9 a10 a11 a12 a13 a14 a15 a16 hP hk H
    have e : j = 4 := by omega
    subst e
    exact pk_le 4 4 (fun _ => H _ _ _ _ _ _ _ _ _ _ _ _ _ _ _ _ _ _ _ _  hP) (fun z => absurd z (by omega))
  | succ k ih =>
    intro j md fo ye no tl lv de ct le cl cy cn mv a1 a2 a3 a4 a5 a6 a7 a8 a9 a10 a11 a12 a13 a14 a15 a16 hP hk H
    refine pk_le 4 j (fun z => absurd z (by omega)) (fun _ => sv_first hi (w := j) (by omega) hP (fun hW r hr ye' no' tl' lv' de' ct' le' cl' cy' cn' mv' a2' a3' a4' a9' a10' a11' a12' a13' a14' g => br_f hr (nm_r ?_ (nm_r (nI_1 j) (ih g (by omega) H)))) (fun hW ye' no' tl' lv' de' ct' le' cl' cy' cn' mv' a2' a3' a4' a9' a10' a11' a12' a13' a14' g => br_t (by decide) (nm_r (nI_1 j) ?_)))
    · show _ = if (fo = 1 → f * nI j ≤ b) then sv_vs f b fo j ||| ((1 : Int32) <<< (nI j &&& 31)) else sv_vs f b fo j
      rw [if_pos (show fo = 1 → f * nI j ≤ b from hW)]
    · have e : sv_vs f b fo (j + 1) = sv_vs f b fo j := by
        show (if (fo = 1 → f * nI j ≤ b) then sv_vs f b fo j ||| ((1 : Int32) <<< (nI j &&& 31)) else sv_vs f b fo j) = _
        rw [if_neg (show ¬ (fo = 1 → f * nI j ≤ b) from hW)]
      rw [← e]
      exact ih g (by omega) H
theorem sv_values (hi : i < 4) {md fo ye no tl lv de ct le cl cy cn mv : Int32} {a1 a2 a3 a4 a5 a6 a7 a8 a9 a10 a11 a12 a13 a14 a15 a16 : Nat → Int32} (hP : sv_Pic i f b M md fo a1 a2 a3 a4) (H : ∀ (ye' no' tl' lv' de' ct' le' cl' cy' cn' mv' : Int32) (a2' a3' a4' a9' a10' a11' a12' a13' a14' : Nat → Int32), sv_Pic i f b M md fo a1 a2' a3' a4' → post (sv_vs f b fo 4) (md, fo, ye', no', tl', lv', de', ct', le', cl', cy', cn', mv', a1, a2', a3', a4', a5, a6, a7, a8, a9', a10', a11', a12', a13', a14', a15, a16)) : wpX_values post (md, fo, ye, no, tl, lv, de, ct, le, cl, cy, cn, mv, a1, a2, a3, a4, a5, a6, a7, a8, a9, a10, a11, a12, a13, a14, a15, a16) (nI i) := by
  unfold wpX_values
  dsimp only
  exact pk_lt i 0 (fun z => absurd z (by omega)) (fun _ => pk_le i 3 (fun _ => ⟨5, sv_vals hi 4 (j := 0) hP (by omega) H⟩) (fun z => absurd z (by omega)))
end
end
section
/-! ===== smallest ===== -/
theorem sv_Pic_u {i : Nat} {f b : Int32} {M : Prop} {md fo : Int32} {a1 a2 a3 a4 a2' a3' a4' : Nat → Int32} (hP : sv_Pic i f b M md fo a1 a2 a3 a4) (h2 : ∀ c, c < 11 → a2' c = 0) (h3 : ∀ j, j < 4 → a3' j = a3 j) (h4 : a4' 0 = a4 0) : sv_Pic i f b M md fo a1 a2' a3' a4' := by
  obtain ⟨g1, g2, g3, g4, g5⟩ := hP
  refine ⟨g1, h2, g3, fun m => ?_, g5⟩
  obtain ⟨k1, k2, k3, k4, k5⟩ := g4 m
  exact ⟨k1, k2, fun j hj => by rw [h3 j hj, k3 j hj], by rw [h4, k4], k5⟩
theorem sv_sub1 {z : Int32} (h1 : -100 ≤ z.toInt) (h2 : z.toInt ≤ 100) : (z - 1).toInt = z.toInt - 1 := by
  rw [Int32.toInt_sub]
  show (z.toInt - 1).bmod (2 ^ 32) = _
  apply Int.bmod_eq_of_le <;> omega
theorem sv_mulb {f : Int32} {w : Nat} (h1 : -5 ≤ f.toInt) (h2 : f.toInt ≤ 5) (hw : w ≤ 3) : -15 ≤ f.toInt * (w : Int) ∧ f.toInt * (w : Int) ≤ 15 := by
  have hw' : w = 0 ∨ w = 1 ∨ w = 2 ∨ w = 3 := by omega
  rcases hw' with e | e | e | e <;> subst e <;> omega
theorem sv_less {f : Int32} {v w : Nat} (h1 : -5 ≤ f.toInt) (h2 : f.toInt ≤ 5) (hv : v ≤ 3) (hw : w ≤ 3) : f * nI v ≤ f * nI w - 1 ↔ f.toInt * (v : Int) < f.toInt * (w : Int) := by
  have hb := sv_mulb h1 h2 hw
  have e := sv_mul h1 h2 hw
  rw [sv_mle h1 h2 hv, sv_sub1 (by omega) (by omega), e]
  omega
section
variable {post : Int32 → St2 → Prop} {i : Nat} {f b : Int32} {M : Prop}
theorem sv_sm34 {md fo ye no tl lv de ct le cl cy cn mv : Int32} {a1 a2 a3 a4 a5 a6 a7 a8 a9 a10 a11 a12 a13 a14 a15 a16 : Nat → Int32} {K : Int32 → Int32 → Int32 → Int32 → Int32 → Int32 → Int32 → Int32 → Int32 → Int32 → Int32 → Int32 → Int32 → Int32 → Int32 → Int32 → (Nat → Int32) → (Nat → Int32) → (Nat → Int32) → (Nat → Int32) → (Nat → Int32) → (Nat → Int32) → (Nat → Int32) → (Nat → Int32) → (Nat → Int32) → (Nat → Int32) → (Nat → Int32) → (Nat → Int32) → (Nat → Int32) → (Nat → Int32) → (Nat → Int32) → (Nat → Int32) → Prop} {x3 : Int32} {n X : Nat} (hi : i < 4) (ha : ∀ j, j < 4 → a1 j = if j = i then f else 0) (hlo : ∀ j, j < 4 → sv_lo (bt ye) j = if j = i then X else 0)
    (h : wX_smallest_34 post K x3 md fo ye no tl lv de ct le cl cy cn mv a1 a2 a3 a4 a5 a6 a7 a8 a9 a10 a11 a12 a13 a14 a15 a16 (n + 1) (f * nI X) (nI 4)) : ∀ (k : Nat) {j : Nat}, j + k = 4 → wX_smallest_34 post K x3 md fo ye no tl lv de ct le cl cy cn mv a1 a2 a3 a4 a5 a6 a7 a8 a9 a10 a11 a12 a13 a14 a15 a16 (n + 1 + k) (if i < j then f * nI X else 0) (nI j) := by
  intro k
  induction k with
  | zero =>
    intro j hk
    have e : j = 4 := by omega
    subst e
    rw [if_pos hi]
    exact h
  | succ k ih =>
    intro j hk
    have hj : j < 4 := by omega
    show wX_smallest_34 post K x3 md fo ye no tl lv de ct le cl cy cn mv a1 a2 a3 a4 a5 a6 a7 a8 a9 a10 a11 a12 a13 a14 a15 a16 (n + 1 + k + 1) (if i < j then f * nI X else 0) (nI j)
    refine pk_le 4 j (fun z => absurd z (by omega)) (fun _ => sv_low hj ⟨pk_in j 4 hj, nm_r ?_ (nm_r (nI_1 j) (ih (j := j + 1) (by omega)))⟩)
    rw [nI_clamp (show j < 2 ^ 31 by omega), ha j hj, hlo j hj]
    by_cases e : j = i
    · subst e
      rw [if_neg (by omega), if_pos rfl, if_pos rfl, if_pos (by omega), Int32.zero_add]
    · rw [if_neg e, Int32.zero_mul, Int32.add_zero]
      by_cases e2 : i < j
      · rw [if_pos e2, if_pos (by omega)]
      · rw [if_neg e2, if_neg (by omega)]
theorem sv_sm19s (hi : i < 4) {md fo ye no tl lv de ct le cl cy cn mv : Int32} {a1 a2 a3 a4 a5 a6 a7 a8 a9 a10 a11 a12 a13 a14 a15 a16 : Nat → Int32} {k r X : Nat} {x1 : Int32} (hP : sv_Pic i f b M md fo a1 a2 a3 a4) (hlo : ∀ j, j < 4 → sv_lo (bt ye) j = if j = i then X else 0) (hX : X ≤ 3) (hW : sv_W f b fo X) (hr : r < 63)
    (Hn : ∀ X', X' ≤ 3 → sv_W f b fo X' → f.toInt * (X' : Int) < f.toInt * (X : Int) → ∀ (ye' no' tl' lv' de' ct' le' cl' cy' cn' mv' : Int32) (a2' a3' a4' a9' a10' a11' a12' a13' a14' : Nat → Int32), sv_Pic i f b M md fo a1 a2' a3' a4' → (∀ j, j < 4 → sv_lo (bt ye') j = if j = i then X' else 0) → wX_smallest_19 post (k + 1) (f * nI X) 1 (nI (r + 1)) md fo ye' no' tl' lv' de' ct' le' cl' cy' cn' mv' a1 a2' a3' a4' a5 a6 a7 a8 a9' a10' a11' a12' a13' a14' a15 a16)
    (H : (∀ w', w' ≤ 3 → sv_W f b fo w' → f.toInt * (X : Int) ≤ f.toInt * (w' : Int)) → ∀ (ye' no' tl' lv' de' ct' le' cl' cy' cn' mv' : Int32) (a2' a3' a4' a9' a10' a11' a12' a13' a14' : Nat → Int32), sv_Pic i f b M md fo a1 a2' a3' a4' → post (f * nI X) (md, fo, ye', no', tl', lv', de', ct', le', cl', cy', cn', mv', a1, a2', a3', a4', a5, a6, a7, a8, a9', a10', a11', a12', a13', a14', a15, a16)) :
    wX_smallest_19 post (k + 2) x1 1 (nI r) md fo ye no tl lv de ct le cl cy cn mv a1 a2 a3 a4 a5 a6 a7 a8 a9 a10 a11 a12 a13 a14 a15 a16 := by
  obtain ⟨f1, f2⟩ := hP.2.2.1
  refine pk_le 64 r (fun z => absurd z (by omega)) (fun _ => br_f (by decide) ⟨0 + 1 + 4, ?_⟩)
  refine sv_sm34 (f := f) (X := X) hi hP.1 hlo ?_ 4 (j := 0) (by omega)
  refine br_t (by decide) (sv_setLin (c := 10) (by omega) (fun a3' g1 g2 => sv_ask (fun a13' a14' h1 h2 => ?_)))
  have hP' : sv_Pic i f b M md fo a1 (upd a2 10 0) a3' (upd a4 10 (f * nI X - 1)) := sv_Pic_u hP (fun c hc => by
      by_cases e : c = 10
      · rw [e, pk_us]
      · rw [pk_un e]
        exact hP.2.1 c hc) (fun j hj => g2 j (by omega)) (pk_un (by omega))
  have hrow : ∀ j, j < 4 → a3' (40 + j) = if j = i then f else 0 := fun j hj => by
    have t := g1 j hj
    rw [hP.1 j hj] at t
    exact t
  have hrow' : a3' (40 + i) = f := by rw [hrow i hi, if_pos rfl]
  have hA : ∀ w, w ≤ 3 → (sv_A i (fo ||| 1024) a3' (upd a4 10 (f * nI X - 1)) w ↔ sv_W f b fo w ∧ f.toInt * (w : Int) < f.toInt * (X : Int)) := fun w hw => by
    rw [sv_A_or, sv_Pic_A hi hP', hrow', pk_us, sv_less f1 f2 hw hX]
  refine sv_search (l := fun _ => 0) (m := fun _ => 3) hi (fun _ _ => ⟨Nat.zero_le _, Nat.le_refl _⟩) (fun j hj => ⟨h1 j hj, h2 j hj⟩)
    (sv_C_or (sv_Pic_C hi hP') pk_us (fun j hj hne => by rw [hrow j hj, if_neg hne]) (by rw [hrow']; exact ⟨f1, f2⟩))
    (fun X' x1 x2 x3 x4 ye' no' tl' lv' de' le' cl' cy' cn' mv' a9' a10' a11' a12' hlo' => nm_r (nI_1 r) (Hn X' x2 ((hA X' x2).mp x3).1 ((hA X' x2).mp x3).2 _ _ _ _ _ _ _ _ _ _ _ _ _ _ _ _ _ _ _ _  hP' hlo')) (fun hno ye' no' tl' lv' de' le' cl' cy' cn' mv' a9' a10' a11' a12' => nm_r (nI_1 r) (pk_le 64 (r + 1) (fun z => absurd z (by omega)) (fun _ => br_t rfl (H (fun w' hw' hWw => ?_) _ _ _ _ _ _ _ _ _ _ _ _ _ _ _ _ _ _ _ _  hP'))))
  rcases Int.lt_or_le (f.toInt * (w' : Int)) (f.toInt * (X : Int)) with g | g
  · exact absurd ((hA w' hw').mpr ⟨hWw, g⟩) (hno w' (Nat.zero_le _) hw')
  · exact g
theorem sv_sm19 (hi : i < 4) : ∀ (k : Nat) {r X : Nat} {x1 : Int32} {md fo ye no tl lv de ct le cl cy cn mv : Int32} {a1 a2 a3 a4 a5 a6 a7 a8 a9 a10 a11 a12 a13 a14 a15 a16 : Nat → Int32}, sv_Pic i f b M md fo a1 a2 a3 a4 → (∀ j, j < 4 → sv_lo (bt ye) j = if j = i then X else 0) → X ≤ 3 → sv_W f b fo X → f.toInt * (X : Int) + 15 ≤ k → r + k < 63 →
    (∀ w, w ≤ 3 → sv_W f b fo w → (∀ w', w' ≤ 3 → sv_W f b fo w' → f.toInt * (w : Int) ≤ f.toInt * (w' : Int)) → ∀ (ye' no' tl' lv' de' ct' le' cl' cy' cn' mv' : Int32) (a2' a3' a4' a9' a10' a11' a12' a13' a14' : Nat → Int32), sv_Pic i f b M md fo a1 a2' a3' a4' → post (f * nI w) (md, fo, ye', no', tl', lv', de', ct', le', cl', cy', cn', mv', a1, a2', a3', a4', a5, a6, a7, a8, a9', a10', a11', a12', a13', a14', a15, a16)) →
    wX_smallest_19 post (k + 2) x1 1 (nI r) md fo ye no tl lv de ct le cl cy cn mv a1 a2 a3 a4 a5 a6 a7 a8 a9 a10 a11 a12 a13 a14 a15 a16 := by
  intro k
  induction k with
  | zero =>
    intro r X x1 md fo ye no tl lv de ct le cl cy cn mv a1 a2 a3 a4 a5 a6 a7 a8 a9 a10 a11 a12 a13 a14 a15 a16 hP hlo hX hW hk hr H
    refine sv_sm19s hi hP hlo hX hW (by omega) (fun X' hX' hW' hlt => ?_) (fun hmin => H X hX hW hmin)
    have := sv_mulb hP.2.2.1.1 hP.2.2.1.2 hX'
    omega
  | succ k ih =>
    intro r X x1 md fo ye no tl lv de ct le cl cy cn mv a1 a2 a3 a4 a5 a6 a7 a8 a9 a10 a11 a12 a13 a14 a15 a16 hP hlo hX hW hk hr H
    exact sv_sm19s hi hP hlo hX hW (by omega) (fun X' hX' hW' hlt ye' no' tl' lv' de' ct' le' cl' cy' cn' mv' a2' a3' a4' a9' a10' a11' a12' a13' a14' g1 g2 => ih g1 g2 hX' hW' (by omega) (by omega) H) (fun hmin => H X hX hW hmin)
theorem sv_smallest (hi : i < 4) {md fo ye no tl lv de ct le cl cy cn mv : Int32} {a1 a2 a3 a4 a5 a6 a7 a8 a9 a10 a11 a12 a13 a14 a15 a16 : Nat → Int32} (hP : sv_Pic i f b M md fo a1 a2 a3 a4)
    (H1 : ∀ w, w ≤ 3 → sv_W f b fo w → (∀ w', w' ≤ 3 → sv_W f b fo w' → f.toInt * (w : Int) ≤ f.toInt * (w' : Int)) → ∀ (ye' no' tl' lv' de' ct' le' cl' cy' cn' mv' : Int32) (a2' a3' a4' a9' a10' a11' a12' a13' a14' : Nat → Int32), sv_Pic i f b M md fo a1 a2' a3' a4' → post (f * nI w) (md, fo, ye', no', tl', lv', de', ct', le', cl', cy', cn', mv', a1, a2', a3', a4', a5, a6, a7, a8, a9', a10', a11', a12', a13', a14', a15, a16))
    (H0 : (∀ w, w ≤ 3 → ¬ sv_W f b fo w) → ∀ (ye' no' tl' lv' de' ct' le' cl' cy' cn' mv' : Int32) (a2' a3' a4' a9' a10' a11' a12' a13' a14' : Nat → Int32), sv_Pic i f b M md fo a1 a2' a3' a4' → post 1000 (md, fo, ye', no', tl', lv', de', ct', le', cl', cy', cn', mv', a1, a2', a3', a4', a5, a6, a7, a8, a9', a10', a11', a12', a13', a14', a15, a16)) : wpX_smallest post (md, fo, ye, no, tl, lv, de, ct, le, cl, cy, cn, mv, a1, a2, a3, a4, a5, a6, a7, a8, a9, a10, a11, a12, a13, a14, a15, a16) := by
  unfold wpX_smallest
  dsimp only
  refine sv_ask (fun a13' a14' h1 h2 => ?_)
  refine sv_search (l := fun _ => 0) (m := fun _ => 3) hi (fun _ _ => ⟨Nat.zero_le _, Nat.le_refl _⟩) (fun j hj => ⟨h1 j hj, h2 j hj⟩) (sv_Pic_C hi hP)
    (fun X x1 x2 x3 x4 ye' no' tl' lv' de' le' cl' cy' cn' mv' a9' a10' a11' a12' hlo => ⟨30 + 2, sv_sm19 hi 30 (r := 0) hP hlo x2 ((sv_Pic_A hi hP).mp x3) ?_ (by omega) H1⟩)
    (fun hno ye' no' tl' lv' de' le' cl' cy' cn' mv' a9' a10' a11' a12' => ⟨1, br_f (by decide) (br_t rfl (H0 (fun w hw h => hno w (Nat.zero_le _) hw ((sv_Pic_A hi hP).mpr h)) _ _ _ _ _ _ _ _ _ _ _ _ _ _ _ _ _ _ _ _  hP))⟩)
  have := sv_mulb hP.2.2.1.1 hP.2.2.1.2 x2
  omega
/-! ===== blame, follows, force ===== -/
theorem sv_blame (hi : i < 4) {md fo ye no tl lv de ct le cl cy cn mv : Int32} {a1 a2 a3 a4 a5 a6 a7 a8 a9 a10 a11 a12 a13 a14 a15 a16 : Nat → Int32} (hP : sv_Pic i f b M md fo a1 a2 a3 a4)
    (H1 : (∃ w, w ≤ 3 ∧ sv_W f b fo w) → ∀ (ye' no' tl' lv' de' ct' le' cl' cy' cn' mv' : Int32) (a2' a3' a4' a9' a10' a11' a12' a13' a14' : Nat → Int32), sv_Pic i f b M md fo a1 a2' a3' a4' → post 0 (md, fo, ye', no', tl', lv', de', ct', le', cl', cy', cn', mv', a1, a2', a3', a4', a5, a6, a7, a8, a9', a10', a11', a12', a13', a14', a15, a16))
    (H0 : (∀ w, w ≤ 3 → ¬ sv_W f b fo w) → ∀ (ye' no' tl' lv' de' ct' le' cl' cy' cn' mv' : Int32) (a2' a3' a4' a9' a10' a11' a12' a13' a14' : Nat → Int32), sv_Pic i f b M md fo a1 a2' a3' a4' → post 1 (md, fo, ye', no', tl', lv', de', ct', le', cl', cy', cn', mv', a1, a2', a3', a4', a5, a6, a7, a8, a9', a10', a11', a12', a13', a14', a15, a16)) : wpX_blame post (md, fo, ye, no, tl, lv, de, ct, le, cl, cy, cn, mv, a1, a2, a3, a4, a5, a6, a7, a8, a9, a10, a11, a12, a13, a14, a15, a16) := by
  unfold wpX_blame
  dsimp only
  refine sv_ask (fun a13' a14' h1 h2 => ?_)
  refine sv_search (l := fun _ => 0) (m := fun _ => 3) hi (fun _ _ => ⟨Nat.zero_le _, Nat.le_refl _⟩) (fun j hj => ⟨h1 j hj, h2 j hj⟩) (sv_Pic_C hi hP)
    (fun X x1 x2 x3 x4 ye' no' tl' lv' de' le' cl' cy' cn' mv' a9' a10' a11' a12' hlo => br_f (by decide) (H1 ⟨X, x2, (sv_Pic_A hi hP).mp x3⟩ _ _ _ _ _ _ _ _ _ _ _ _ _ _ _ _ _ _ _ _  hP)) (fun hno ye no tl lv de le cl cy cn mv a9 a10 a11 a12 => br_t rfl ⟨2, ?_⟩)
  have hn : ∀ w, w ≤ 3 → ¬ sv_W f b fo w := fun w hw h => hno w (Nat.zero_le _) hw ((sv_Pic_A hi hP).mpr h)
  have hfo : fo = 1 := Classical.byContradiction (fun h => hn 0 (by omega) (fun e => absurd e h))
  have hM : M := Classical.byContradiction (fun h => by
    have e := (hP.2.2.2.2 h).2
    rw [hfo] at e
    exact absurd e (by decide))
  have hmd := (hP.2.2.2.1 hM).1
  subst hfo hmd
  have e0 : (1 : Int32) &&& (((1 : Int32) <<< ((0 : Int32) &&& 31)) ^^^ (-1)) = 0 := by decide
  refine br_f (show ¬ (1 : Int32) ≤ 0 by decide) (br_t (show ((1 : Int32) >>> ((0 : Int32) &&& 31)) &&& 1 = 1 by decide) (sv_ask (fun a13' a14' h1 h2 => ?_)))
  rw [e0]
  exact sv_search (l := fun _ => 0) (m := fun _ => 3) hi (fun _ _ => ⟨Nat.zero_le _, Nat.le_refl _⟩) (fun j hj => ⟨h1 j hj, h2 j hj⟩) sv_C_0
    (fun X x1 x2 x3 x4 ye' no' tl' lv' de' le' cl' cy' cn' mv' a9' a10' a11' a12' hlo => br_f (by decide) (nm_e (br_t (show (1 : Int32) ≤ 0 + 1 by decide) (H0 hn _ _ _ _ _ _ _ _ _ _ _ _ _ _ _ _ _ _ _ _  hP)))) (fun hno => absurd sv_A_0 (hno 0 (Nat.zero_le _) (Nat.zero_le _)))
theorem sv_neg {z : Int32} (h1 : -100 ≤ z.toInt) (h2 : z.toInt ≤ 100) : (-z).toInt = -z.toInt := by
  rw [Int32.toInt_neg]
  apply Int.bmod_eq_of_le <;> omega
theorem sv_flip {f b : Int32} {w : Nat} (h1 : -5 ≤ f.toInt) (h2 : f.toInt ≤ 5) (b1 : -60 ≤ b.toInt) (b2 : b.toInt ≤ 60) (hw : w ≤ 3) : -f * nI w ≤ -b - 1 ↔ ¬ f * nI w ≤ b := by
  have e1 : (-f).toInt = -f.toInt := sv_neg (by omega) (by omega)
  have e2 : (-b).toInt = -b.toInt := sv_neg (by omega) (by omega)
  rw [sv_mle (by omega) (by omega) hw, sv_mle h1 h2 hw, sv_sub1 (by omega) (by omega), e1, e2, Int.neg_mul]
  omega
theorem sv_linFol (hi : i < 4) {md fo ye no tl lv de ct le cl cy cn mv : Int32} {a1 a2 a3 a4 a5 a6 a7 a8 a9 a10 a11 a12 a13 a14 a15 a16 : Nat → Int32} (hP : sv_Pic i f b M md fo a1 a2 a3 a4) (hM : M)
    (H1 : (∀ w, w ≤ 3 → f * nI w ≤ b) → ∀ (ye' no' tl' lv' de' ct' le' cl' cy' cn' mv' : Int32) (a2' a3' a4' a9' a10' a11' a12' a13' a14' : Nat → Int32), sv_Pic i f b M md fo a1 a2' a3' a4' → post 1 (md, fo, ye', no', tl', lv', de', ct', le', cl', cy', cn', mv', a1, a2', a3', a4', a5, a6, a7, a8, a9', a10', a11', a12', a13', a14', a15, a16))
    (H0 : (∃ w, w ≤ 3 ∧ ¬ f * nI w ≤ b) → ∀ (ye' no' tl' lv' de' ct' le' cl' cy' cn' mv' : Int32) (a2' a3' a4' a9' a10' a11' a12' a13' a14' : Nat → Int32), sv_Pic i f b M md fo a1 a2' a3' a4' → post 0 (md, fo, ye', no', tl', lv', de', ct', le', cl', cy', cn', mv', a1, a2', a3', a4', a5, a6, a7, a8, a9', a10', a11', a12', a13', a14', a15, a16)) : wpX_linearFollows post (md, fo, ye, no, tl, lv, de, ct, le, cl, cy, cn, mv, a1, a2, a3, a4, a5, a6, a7, a8, a9, a10, a11, a12, a13, a14, a15, a16) 0 0 := by
  obtain ⟨k1, k2, k3, k4, k5, k6⟩ := hP.2.2.2.1 hM
  obtain ⟨f1, f2⟩ := hP.2.2.1
  have e0 : (0 : Int32).toNatClampNeg = 0 := by decide
  unfold wpX_linearFollows
  dsimp only
  refine nm_e ⟨pk_in 0 11 (by omega), nm_r (by rw [e0, k4]) ?_⟩
  refine pk_loop (fun n j t => wX_linearFollows_26 post 0 0 md fo ye no tl lv de ct le cl cy cn mv n (nI j) a1 (upd a2 10 0) t (upd a4 10 (-b - 1)) a5 a6 a7 a8 a9 a10 a11 a12 a13 a14 a15 a16) (fun j t => (∀ k, k < j → t (40 + k) = -(a3 k)) ∧ (∀ n, n < 40 → t n = a3 n)) 4 0 a3 (by omega) ⟨lt_0, fun _ _ => rfl⟩ (fun n t h => pk_le 4 4 (fun _ => ?_) (fun z => absurd z (by omega))) (fun n j t hj h hw => ?_)
  · refine sv_ask (fun a13' a14' h1 h2 => ?_)
    have hP' : sv_Pic i f b M md fo a1 (upd a2 10 0) t (upd a4 10 (-b - 1)) := sv_Pic_u hP (fun c hc => by
      by_cases e : c = 10
      · rw [e, pk_us]
      · rw [pk_un e]
        exact hP.2.1 c hc) (fun j hj => h.2 j (by omega)) (pk_un (by omega))
    have hrow : ∀ j, j < 4 → t (40 + j) = -(if j = i then f else 0) := fun j hj => by rw [h.1 j hj, k3 j hj]
    have hrow' : t (40 + i) = -f := by rw [hrow i hi, if_pos rfl]
    have e1 : (-f).toInt = -f.toInt := sv_neg (by omega) (by omega)
    have hA : ∀ w, w ≤ 3 → (sv_A i (0 ||| 1024) t (upd a4 10 (-b - 1)) w ↔ ¬ f * nI w ≤ b) := fun w hw => by
      rw [sv_A_or, hrow', pk_us, sv_flip f1 f2 k5 k6 hw]
      exact ⟨fun h => h.2, fun h => ⟨sv_A_0, h⟩⟩
    refine sv_search (l := fun _ => 0) (m := fun _ => 3) hi (fun _ _ => ⟨Nat.zero_le _, Nat.le_refl _⟩) (fun j hj => ⟨h1 j hj, h2 j hj⟩)
      (sv_C_or sv_C_0 pk_us (fun j hj hne => by rw [hrow j hj, if_neg hne]; decide) (by rw [hrow', e1]; omega))
      (fun X x1 x2 x3 x4 ye' no' tl' lv' de' le' cl' cy' cn' mv' a9' a10' a11' a12' hlo => br_f (by decide) (H0 ⟨X, x2, (hA X x2).mp x3⟩ _ _ _ _ _ _ _ _ _ _ _ _ _ _ _ _ _ _ _ _  hP')) (fun hno ye' no' tl' lv' de' le' cl' cy' cn' mv' a9' a10' a11' a12' => br_t rfl (H1 (fun w hw => ?_) _ _ _ _ _ _ _ _ _ _ _ _ _ _ _ _ _ _ _ _  hP'))
    rcases Classical.em (f * nI w ≤ b) with y | y
    · exact y
    · exact absurd ((hA w hw).mpr y) (hno w (Nat.zero_le _) hw)
  · have e1 : (0 : Int32) * 4 + nI j = nI j := by rw [Int32.zero_mul, Int32.zero_add]
    have e2 : (40 : Int32) + nI j = nI (40 + j) := nI_add 40 j
    have e3 : (nI j).toNatClampNeg = j := nI_clamp (by omega)
    have e4 : (nI (40 + j)).toNatClampNeg = 40 + j := nI_clamp (by omega)
    refine pk_le 4 j (fun z => absurd z (by omega)) (fun _ => ⟨pk_in j 44 (by omega) e1, pk_in (40 + j) 44 (by omega) e2, nm_r (by rw [e1, e2, e3, e4, h.2 j (by omega)]) (nm_r (nI_1 j) (hw (upd t (40 + j) (-(a3 j))) ⟨fun k hk => ?_, fun n hn => ?_⟩))⟩)
    · by_cases e : k = j
      · rw [e, pk_us]
      · rw [pk_un (by omega)]
        exact h.1 k (by omega)
    · rw [pk_un (by omega)]
      exact h.2 n hn
theorem sv_follows (hi : i < 4) {md fo ye no tl lv de ct le cl cy cn mv : Int32} {a1 a2 a3 a4 a5 a6 a7 a8 a9 a10 a11 a12 a13 a14 a15 a16 : Nat → Int32} (hP : sv_Pic i f b M md fo a1 a2 a3 a4)
    (H1 : M → (∀ w, w ≤ 3 → f * nI w ≤ b) → ∀ (ye' no' tl' lv' de' ct' le' cl' cy' cn' mv' : Int32) (a2' a3' a4' a9' a10' a11' a12' a13' a14' : Nat → Int32), sv_Pic i f b M md fo a1 a2' a3' a4' → post 1 (md, fo, ye', no', tl', lv', de', ct', le', cl', cy', cn', mv', a1, a2', a3', a4', a5, a6, a7, a8, a9', a10', a11', a12', a13', a14', a15, a16))
    (H0 : (M → ∃ w, w ≤ 3 ∧ ¬ f * nI w ≤ b) → ∀ (ye' no' tl' lv' de' ct' le' cl' cy' cn' mv' : Int32) (a2' a3' a4' a9' a10' a11' a12' a13' a14' : Nat → Int32), sv_Pic i f b M md fo a1 a2' a3' a4' → post 0 (md, fo, ye', no', tl', lv', de', ct', le', cl', cy', cn', mv', a1, a2', a3', a4', a5, a6, a7, a8, a9', a10', a11', a12', a13', a14', a15, a16)) : wpX_follows post (md, fo, ye, no, tl, lv, de, ct, le, cl, cy, cn, mv, a1, a2, a3, a4, a5, a6, a7, a8, a9, a10, a11, a12, a13, a14, a15, a16) 0 := by
  unfold wpX_follows
  dsimp only
  rcases Classical.em M with hM | hM
  · obtain ⟨k1, k2, _⟩ := hP.2.2.2.1 hM
    refine br_f (by decide) (br_t (by rw [k1]; decide) (nm_r (e' := 0) ?_ ⟨pk_in 0 11 (by omega), br_t (hP.2.1 0 (by omega)) (sv_linFol hi hP hM (fun h ye' no' tl' lv' de' ct' le' cl' cy' cn' mv' a2' a3' a4' a9' a10' a11' a12' a13' a14' g => ⟨rfl, H1 hM h _ _ _ _ _ _ _ _ _ _ _ _ _ _ _ _ _ _ _ _  g⟩) (fun h ye' no' tl' lv' de' ct' le' cl' cy' cn' mv' a2' a3' a4' a9' a10' a11' a12' a13' a14' g => ⟨rfl, H0 (fun _ => h) _ _ _ _ _ _ _ _ _ _ _ _ _ _ _ _ _ _ _ _  g⟩))⟩))
    rcases k2 with e | e <;> rw [e] <;> decide
  · refine br_f (by decide) (br_f (by rw [(hP.2.2.2.2 hM).1]; decide) (H0 (fun m => absurd m hM) _ _ _ _ _ _ _ _ _ _ _ _ _ _ _ _ _ _ _ _  hP))
theorem sv_force {md fo ye no tl lv de ct le cl cy cn mv : Int32} {a1 a2 a3 a4 a5 a6 a7 a8 a9 a10 a11 a12 a13 a14 a15 a16 : Nat → Int32} (hP : sv_Pic i f b M md fo a1 a2 a3 a4) (hfo : M → fo = 1)
    (H1 : M → sv_Pic i f b M md 0 a1 a2 a3 a4 → post 1 (md, 0, ye, no, tl, lv, de, ct, le, cl, cy, cn, mv, a1, a2, a3, a4, a5, a6, a7, a8, a9, a10, a11, a12, a13, a14, a15, a16)) (H0 : ¬ M → sv_Pic i f b M md 0 a1 a2 a3 a4 → post (-1) (md, 0, ye, no, tl, lv, de, ct, le, cl, cy, cn, mv, a1, a2, a3, a4, a5, a6, a7, a8, a9, a10, a11, a12, a13, a14, a15, a16)) : wpX_force post (md, fo, ye, no, tl, lv, de, ct, le, cl, cy, cn, mv, a1, a2, a3, a4, a5, a6, a7, a8, a9, a10, a11, a12, a13, a14, a15, a16) 0 0 := by
  obtain ⟨g1, g2, g3, g4, g5⟩ := hP
  unfold wpX_force
  dsimp only
  rcases Classical.em M with hM | hM
  · obtain ⟨k1, k2, k3⟩ := g4 hM
    have e := hfo hM
    subst e
    exact br_f (by decide) (br_t (by rw [k1]; decide) (nm_r (e' := 1) (by decide) (nm_r (e' := 0) (by decide) (br_t rfl (H1 hM ⟨g1, g2, g3, fun _ => ⟨k1, Or.inr rfl, k3⟩, fun z => absurd hM z⟩)))))
  · obtain ⟨k1, k2⟩ := g5 hM
    subst k2
    exact br_f (by decide) (br_f (by rw [k1]; decide) (H0 hM ⟨g1, g2, g3, g4, g5⟩))
end
end
section
/-! ===== the answers as functions of the set of values ===== -/
section
variable {f b fo : Int32}
theorem sv_vs_b : ∀ (k : Nat), k ≤ 4 → ∀ w, w < 32 → (bt (sv_vs f b fo k) w = true ↔ w < k ∧ sv_W f b fo w) := by
  intro k
  induction k with
  | zero =>
    intro _ w _
    show bt 0 w = true ↔ _
    rw [b_0]
    exact ⟨fun e => Bool.noConfusion e, fun h => absurd h.1 (by omega)⟩
  | succ k ih =>
    intro hk w hw
    have g := ih (by omega) w hw
    show bt (if (fo = 1 → f * nI k ≤ b) then sv_vs f b fo k ||| ((1 : Int32) <<< (nI k &&& 31)) else sv_vs f b fo k) w = true ↔ _
    by_cases c : fo = 1 → f * nI k ≤ b
    · rw [if_pos c, sv_orb _ (show k < 32 by omega) hw]
      constructor
      · intro e
        rcases Bool.or_eq_true_iff.mp e with e | e
        · exact ⟨by have := (g.mp e).1; omega, (g.mp e).2⟩
        · have e' := of_decide_eq_true e
          subst e'
          exact ⟨by omega, c⟩
      · intro h
        by_cases e : w = k
        · rw [decide_eq_true e, Bool.or_true]
        · rw [g.mpr ⟨by omega, h.2⟩, Bool.true_or]
    · rw [if_neg c]
      constructor
      · intro e
        exact ⟨by have := (g.mp e).1; omega, (g.mp e).2⟩
      · intro h
        by_cases e : w = k
        · rw [e] at h
          exact absurd h.2 c
        · exact g.mpr ⟨by omega, h.2⟩
theorem sv_15 : ∀ k, k < 32 → bt 15 k = decide (k < 4) := by decide +kernel
theorem sv_vs_s : ∃ s, s < 16 ∧ sv_vs f b fo 4 = nI s ∧ ∀ w, w < 4 → (bt (nI s) w = true ↔ sv_W f b fo w) := by
  obtain ⟨s, hs, e⟩ := pk_andE (sv_vs f b fo 4) (m := 15) 4 (by decide)
  have e2 : sv_vs f b fo 4 &&& 15 = sv_vs f b fo 4 := by
    apply b_ext
    intro k hk
    rw [b_and, sv_15 k hk]
    by_cases h : bt (sv_vs f b fo 4) k = true
    · have := ((sv_vs_b 4 (by omega) k hk).mp h).1
      rw [h, decide_eq_true this]
      rfl
    · rw [show bt (sv_vs f b fo 4) k = false by simpa using h]
      rfl
  rw [e2] at e
  refine ⟨s, hs, e, fun w hw => ?_⟩
  rw [← e, sv_vs_b 4 (by omega) w (by omega)]
  exact ⟨fun h => h.2, fun h => ⟨hw, h⟩⟩
theorem sv_s0 : ∀ s, s < 16 → (nI s = 0 ↔ ∀ w, w < 4 → bt (nI s) w = false) := by decide +kernel
theorem sv_s15 : ∀ s, s < 16 → (nI s = 15 ↔ ∀ w, w < 4 → bt (nI s) w = true) := by decide +kernel
theorem sv_v0 : sv_vs f b fo 4 = 0 ↔ ∀ w, w ≤ 3 → ¬ sv_W f b fo w := by
  obtain ⟨s, hs, e, h⟩ := sv_vs_s (f := f) (b := b) (fo := fo)
  rw [e, sv_s0 s hs]
  constructor
  · intro g w hw hW
    have t := (h w (by omega)).mpr hW
    rw [g w (by omega)] at t
    exact Bool.noConfusion t
  · intro g w hw
    rcases Bool.eq_false_or_eq_true (bt (nI s) w) with t | t
    · exact absurd ((h w hw).mp t) (g w (by omega))
    · exact t
theorem sv_v15 : sv_vs f b fo 4 = 15 ↔ ∀ w, w ≤ 3 → sv_W f b fo w := by
  obtain ⟨s, hs, e, h⟩ := sv_vs_s (f := f) (b := b) (fo := fo)
  rw [e, sv_s15 s hs]
  exact ⟨fun g w hw => (h w (by omega)).mp (g w (by omega)), fun g w hw => (h w hw).mpr (g w (by omega))⟩
end
def sv_l (s k l v : Int32) : Int32 := if s &&& k = 0 then l else if l ≤ v then l else v
def sv_lw (f s : Int32) : Int32 := sv_l s 8 (sv_l s 4 (sv_l s 2 (if s &&& 1 = 0 then 1000 else 0) f) (2 * f)) (3 * f)
def sv_lw_c (f : Int32) (s w : Nat) : Bool := !(bt (nI s) w) || !((List.range 4).all (fun v => !(bt (nI s) v) || decide (f * nI w ≤ f * nI v))) || decide (f * nI w = sv_lw f (nI s))
theorem sv_lw_d : ∀ k : Nat, k < 11 → ∀ s, s < 16 → ∀ w, w < 4 → sv_lw_c (Int32.ofInt ((k : Int) - 5)) s w = true := by decide +kernel
theorem sv_lw_t {f : Int32} {s w : Nat} (hc : sv_lw_c f s w = true) (hb : bt (nI s) w = true) (hm : ∀ v, v < 4 → bt (nI s) v = true → f * nI w ≤ f * nI v) : f * nI w = sv_lw f (nI s) := by
  unfold sv_lw_c at hc
  have h2 : ((List.range 4).all (fun v => !(bt (nI s) v) || decide (f * nI w ≤ f * nI v))) = true := by
    rw [List.all_eq_true]
    intro v hv
    have hv' := List.mem_range.mp hv
    by_cases e : bt (nI s) v = true
    · rw [e, decide_eq_true (hm v hv' e)]
      rfl
    · rw [show bt (nI s) v = false by simpa using e]
      rfl
  rw [hb, h2] at hc
  simpa using hc
theorem sv_lw_0 (f : Int32) : sv_lw f 0 = 1000 := by
  unfold sv_lw sv_l
  rw [if_pos (by decide), if_pos (by decide), if_pos (by decide), if_pos (by decide)]
theorem sv_lw_s {f b fo : Int32} (h1 : -5 ≤ f.toInt) (h2 : f.toInt ≤ 5) {w : Nat} (hw : w ≤ 3) (hW : sv_W f b fo w) (hm : ∀ w', w' ≤ 3 → sv_W f b fo w' → f.toInt * (w : Int) ≤ f.toInt * (w' : Int)) : f * nI w = sv_lw f (sv_vs f b fo 4) := by
  obtain ⟨s, hs, e, h⟩ := sv_vs_s (f := f) (b := b) (fo := fo)
  rw [e]
  have ek : f = Int32.ofInt (((f.toInt + 5).toNat : Int) - 5) := by
    rw [show (((f.toInt + 5).toNat : Int) - 5) = f.toInt by omega, Int32.ofInt_toInt]
  have t := sv_lw_d (f.toInt + 5).toNat (by omega) s hs w (by omega)
  rw [← ek] at t
  refine sv_lw_t t ((h w (by omega)).mpr hW) (fun v hv hb => ?_)
  rw [sv_mle h1 h2 hw, sv_mul h1 h2 (by omega)]
  exact hm v (by omega) ((h v hv).mp hb)
section
variable {post : Int32 → St2 → Prop} {i : Nat} {f b : Int32} {M : Prop}
theorem sv_solvable2 (hi : i < 4) {md fo ye no tl lv de ct le cl cy cn mv : Int32} {a1 a2 a3 a4 a5 a6 a7 a8 a9 a10 a11 a12 a13 a14 a15 a16 : Nat → Int32} (hP : sv_Pic i f b M md fo a1 a2 a3 a4)
    (H : ∀ r, (sv_vs f b fo 4 = 0 → r = 0) ∧ (¬ sv_vs f b fo 4 = 0 → r = 1) → ∀ (ye' no' tl' lv' de' ct' le' cl' cy' cn' mv' : Int32) (a2' a3' a4' a9' a10' a11' a12' a13' a14' : Nat → Int32), sv_Pic i f b M md fo a1 a2' a3' a4' → post r (md, fo, ye', no', tl', lv', de', ct', le', cl', cy', cn', mv', a1, a2', a3', a4', a5, a6, a7, a8, a9', a10', a11', a12', a13', a14', a15, a16)) : wpX_solvable post (md, fo, ye, no, tl, lv, de, ct, le, cl, cy, cn, mv, a1, a2, a3, a4, a5, a6, a7, a8, a9, a10, a11, a12, a13, a14, a15, a16) :=
  sv_solvable hi hP (fun h ye' no' tl' lv' de' ct' le' cl' cy' cn' mv' a2' a3' a4' a9' a10' a11' a12' a13' a14' g => H 1 ⟨fun e => by obtain ⟨w, hw, hW⟩ := h; exact absurd hW (sv_v0.mp e w hw), fun _ => rfl⟩ _ _ _ _ _ _ _ _ _ _ _ _ _ _ _ _ _ _ _ _  g) (fun h ye' no' tl' lv' de' ct' le' cl' cy' cn' mv' a2' a3' a4' a9' a10' a11' a12' a13' a14' g => H 0 ⟨fun _ => rfl, fun e => absurd (sv_v0.mpr h) e⟩ _ _ _ _ _ _ _ _ _ _ _ _ _ _ _ _ _ _ _ _  g)
theorem sv_blame2 (hi : i < 4) {md fo ye no tl lv de ct le cl cy cn mv : Int32} {a1 a2 a3 a4 a5 a6 a7 a8 a9 a10 a11 a12 a13 a14 a15 a16 : Nat → Int32} (hP : sv_Pic i f b M md fo a1 a2 a3 a4)
    (H : ∀ r, (sv_vs f b fo 4 = 0 → r = 1) ∧ (¬ sv_vs f b fo 4 = 0 → r = 0) → ∀ (ye' no' tl' lv' de' ct' le' cl' cy' cn' mv' : Int32) (a2' a3' a4' a9' a10' a11' a12' a13' a14' : Nat → Int32), sv_Pic i f b M md fo a1 a2' a3' a4' → post r (md, fo, ye', no', tl', lv', de', ct', le', cl', cy', cn', mv', a1, a2', a3', a4', a5, a6, a7, a8, a9', a10', a11', a12', a13', a14', a15, a16)) : wpX_blame post (md, fo, ye, no, tl, lv, de, ct, le, cl, cy, cn, mv, a1, a2, a3, a4, a5, a6, a7, a8, a9, a10, a11, a12, a13, a14, a15, a16) :=
  sv_blame hi hP (fun h ye' no' tl' lv' de' ct' le' cl' cy' cn' mv' a2' a3' a4' a9' a10' a11' a12' a13' a14' g => H 0 ⟨fun e => by obtain ⟨w, hw, hW⟩ := h; exact absurd hW (sv_v0.mp e w hw), fun _ => rfl⟩ _ _ _ _ _ _ _ _ _ _ _ _ _ _ _ _ _ _ _ _  g) (fun h ye' no' tl' lv' de' ct' le' cl' cy' cn' mv' a2' a3' a4' a9' a10' a11' a12' a13' a14' g => H 1 ⟨fun _ => rfl, fun e => absurd (sv_v0.mpr h) e⟩ _ _ _ _ _ _ _ _ _ _ _ _ _ _ _ _ _ _ _ _  g)
theorem sv_smallest2 (hi : i < 4) {md fo ye no tl lv de ct le cl cy cn mv : Int32} {a1 a2 a3 a4 a5 a6 a7 a8 a9 a10 a11 a12 a13 a14 a15 a16 : Nat → Int32} (hP : sv_Pic i f b M md fo a1 a2 a3 a4)
    (H : ∀ (ye' no' tl' lv' de' ct' le' cl' cy' cn' mv' : Int32) (a2' a3' a4' a9' a10' a11' a12' a13' a14' : Nat → Int32), sv_Pic i f b M md fo a1 a2' a3' a4' → post (sv_lw f (sv_vs f b fo 4)) (md, fo, ye', no', tl', lv', de', ct', le', cl', cy', cn', mv', a1, a2', a3', a4', a5, a6, a7, a8, a9', a10', a11', a12', a13', a14', a15, a16)) : wpX_smallest post (md, fo, ye, no, tl, lv, de, ct, le, cl, cy, cn, mv, a1, a2, a3, a4, a5, a6, a7, a8, a9, a10, a11, a12, a13, a14, a15, a16) := by
  refine sv_smallest hi hP (fun w hw hW hm ye' no' tl' lv' de' ct' le' cl' cy' cn' mv' a2' a3' a4' a9' a10' a11' a12' a13' a14' g => ?_) (fun h ye' no' tl' lv' de' ct' le' cl' cy' cn' mv' a2' a3' a4' a9' a10' a11' a12' a13' a14' g => ?_)
  · rw [sv_lw_s hP.2.2.1.1 hP.2.2.1.2 hw hW hm]
    exact H _ _ _ _ _ _ _ _ _ _ _ _ _ _ _ _ _ _ _ _  g
  · have t := H ye' no' tl' lv' de' ct' le' cl' cy' cn' mv' a2' a3' a4' a9' a10' a11' a12' a13' a14' g
    rw [sv_v0.mpr h, sv_lw_0] at t
    exact t
theorem sv_follows2 (hi : i < 4) {md fo ye no tl lv de ct le cl cy cn mv : Int32} {a1 a2 a3 a4 a5 a6 a7 a8 a9 a10 a11 a12 a13 a14 a15 a16 : Nat → Int32} (hP : sv_Pic i f b M md fo a1 a2 a3 a4) (hfo : M → fo = 1)
    (H : ∀ r, (M → sv_vs f b fo 4 = 15 → r = 1) ∧ (¬ (M ∧ sv_vs f b fo 4 = 15) → r = 0) → ∀ (ye' no' tl' lv' de' ct' le' cl' cy' cn' mv' : Int32) (a2' a3' a4' a9' a10' a11' a12' a13' a14' : Nat → Int32), sv_Pic i f b M md fo a1 a2' a3' a4' → post r (md, fo, ye', no', tl', lv', de', ct', le', cl', cy', cn', mv', a1, a2', a3', a4', a5, a6, a7, a8, a9', a10', a11', a12', a13', a14', a15, a16)) : wpX_follows post (md, fo, ye, no, tl, lv, de, ct, le, cl, cy, cn, mv, a1, a2, a3, a4, a5, a6, a7, a8, a9, a10, a11, a12, a13, a14, a15, a16) 0 := by
  refine sv_follows hi hP (fun m h ye' no' tl' lv' de' ct' le' cl' cy' cn' mv' a2' a3' a4' a9' a10' a11' a12' a13' a14' g => H 1 ⟨fun _ _ => rfl, fun e => absurd ⟨m, sv_v15.mpr (fun w hw _ => h w hw)⟩ e⟩ _ _ _ _ _ _ _ _ _ _ _ _ _ _ _ _ _ _ _ _  g) (fun h ye' no' tl' lv' de' ct' le' cl' cy' cn' mv' a2' a3' a4' a9' a10' a11' a12' a13' a14' g => H 0 ⟨fun m e => ?_, fun _ => rfl⟩ _ _ _ _ _ _ _ _ _ _ _ _ _ _ _ _ _ _ _ _  g)
  obtain ⟨w, hw, hn⟩ := h m
  exact absurd (sv_v15.mp e w hw (hfo m)) hn
theorem sv_force2 {md fo ye no tl lv de ct le cl cy cn mv : Int32} {a1 a2 a3 a4 a5 a6 a7 a8 a9 a10 a11 a12 a13 a14 a15 a16 : Nat → Int32} (hP : sv_Pic i f b M md fo a1 a2 a3 a4) (hfo : M → fo = 1)
    (H : ∀ r, (M → r = 1) ∧ (¬ M → r = -1) → sv_Pic i f b M md 0 a1 a2 a3 a4 → post r (md, 0, ye, no, tl, lv, de, ct, le, cl, cy, cn, mv, a1, a2, a3, a4, a5, a6, a7, a8, a9, a10, a11, a12, a13, a14, a15, a16)) : wpX_force post (md, fo, ye, no, tl, lv, de, ct, le, cl, cy, cn, mv, a1, a2, a3, a4, a5, a6, a7, a8, a9, a10, a11, a12, a13, a14, a15, a16) 0 0 :=
  sv_force hP hfo (fun m g => H 1 ⟨fun _ => rfl, fun e => absurd m e⟩ g) (fun m g => H (-1) ⟨fun e => absurd e m, fun _ => rfl⟩ g)
theorem sv_values2 (hi : i < 4) {md fo ye no tl lv de ct le cl cy cn mv : Int32} {a1 a2 a3 a4 a5 a6 a7 a8 a9 a10 a11 a12 a13 a14 a15 a16 : Nat → Int32} {p0 : Int32} (hP : sv_Pic i f b M md fo a1 a2 a3 a4) (hin : ¬ p0 < 0 ∧ ¬ 3 < p0 → p0 = nI i)
    (H : ∀ r, ((¬ p0 < 0 ∧ ¬ 3 < p0) → r = sv_vs f b fo 4) ∧ (¬ (¬ p0 < 0 ∧ ¬ 3 < p0) → r = -1) → ∀ (ye' no' tl' lv' de' ct' le' cl' cy' cn' mv' : Int32) (a2' a3' a4' a9' a10' a11' a12' a13' a14' : Nat → Int32), sv_Pic i f b M md fo a1 a2' a3' a4' → post r (md, fo, ye', no', tl', lv', de', ct', le', cl', cy', cn', mv', a1, a2', a3', a4', a5, a6, a7, a8, a9', a10', a11', a12', a13', a14', a15, a16)) : wpX_values post (md, fo, ye, no, tl, lv, de, ct, le, cl, cy, cn, mv, a1, a2, a3, a4, a5, a6, a7, a8, a9, a10, a11, a12, a13, a14, a15, a16) p0 := by
  rcases Classical.em (¬ p0 < 0 ∧ ¬ 3 < p0) with h | h
  · rw [hin h]
    exact sv_values hi hP (fun ye' no' tl' lv' de' ct' le' cl' cy' cn' mv' a2' a3' a4' a9' a10' a11' a12' a13' a14' g => H _ ⟨fun _ => rfl, fun e => absurd h e⟩ _ _ _ _ _ _ _ _ _ _ _ _ _ _ _ _ _ _ _ _  g)
  · unfold wpX_values
    dsimp only
    refine br_c (fun z => H _ ⟨fun e => absurd e h, fun _ => rfl⟩ _ _ _ _ _ _ _ _ _ _ _ _ _ _ _ _ _ _ _ _  hP) (fun z => br_c (fun y => ?_) (fun y => H _ ⟨fun e => absurd e h, fun _ => rfl⟩ _ _ _ _ _ _ _ _ _ _ _ _ _ _ _ _ _ _ _ _  hP))
    exact absurd ⟨z, Int32.not_lt.mpr y⟩ h
end
/-! ===== making the object ===== -/
theorem sv_factor {post : Int32 → St2 → Prop} {md fo ye no tl lv de ct le cl cy cn mv : Int32} {a1 a2 a3 a4 a5 a6 a7 a8 a9 a10 a11 a12 a13 a14 a15 a16 : Nat → Int32} {p0 p1 : Int32} (ha : ∀ j, j < 4 → a1 j = 0)
    (H : ∀ r i f, i < 4 → ((¬ p0 < 0 ∧ ¬ 3 < p0) → p0 = nI i) → -5 ≤ f.toInt → f.toInt ≤ 5 → ((¬ p0 < 0 ∧ ¬ 3 < p0 ∧ ¬ p1 < (-5) ∧ ¬ 5 < p1) → f = p1) → (¬ (¬ p0 < 0 ∧ ¬ 3 < p0 ∧ ¬ p1 < (-5) ∧ ¬ 5 < p1) → f = 0) →
      ∀ a1' : Nat → Int32, (∀ j, j < 4 → a1' j = if j = i then f else 0) → post r (md, fo, ye, no, tl, lv, de, ct, le, cl, cy, cn, mv, a1', a2, a3, a4, a5, a6, a7, a8, a9, a10, a11, a12, a13, a14, a15, a16)) : wpX_factor post (md, fo, ye, no, tl, lv, de, ct, le, cl, cy, cn, mv, a1, a2, a3, a4, a5, a6, a7, a8, a9, a10, a11, a12, a13, a14, a15, a16) p0 p1 := by
  have h0 : ∀ i : Nat, ∀ j, j < 4 → a1 j = if j = i then 0 else 0 := fun i j hj => by
    rw [ha j hj]
    split <;> rfl
  unfold wpX_factor
  dsimp only
  refine br_c (fun z => H _ 0 0 (by omega) (fun e => absurd z e.1) (by decide) (by decide) (fun e => absurd z e.1) (fun _ => rfl) _ (h0 0)) (fun z => br_c (fun z2 => H _ 0 0 (by omega) (fun e => absurd z2 e.2) (by decide) (by decide) (fun e => absurd z2 e.2.1) (fun _ => rfl) _ (h0 0)) (fun z2 => ?_))
  obtain ⟨i, hi, e⟩ := nI_of2 (M := 3) (n := 3) (by decide) z (Int32.not_lt.mp z2)
  subst e
  refine br_c (fun z3 => H _ i 0 (by omega) (fun _ => rfl) (by decide) (by decide) (fun e => absurd z3 e.2.2.1) (fun _ => rfl) _ (h0 i)) (fun z3 => br_c (fun z4 => ?_) (fun z4 => H _ i 0 (by omega) (fun _ => rfl) (by decide) (by decide) (fun e => absurd (Int32.not_lt.mp e.2.2.2) z4) (fun _ => rfl) _ (h0 i)))
  have ei : (nI i).toNatClampNeg = i := nI_clamp (by omega)
  have g3 : -5 ≤ p1.toInt := Int32.le_iff_toInt_le.mp (Int32.not_lt.mp z3)
  have g4 : p1.toInt ≤ 5 := Int32.le_iff_toInt_le.mp z4
  refine ⟨pk_in i 4 (by omega), nm_e ⟨pk_in i 4 (by omega), nm_r (by rw [ei]) (H _ i p1 (by omega) (fun _ => rfl) g3 g4 (fun _ => rfl) (fun e => absurd ⟨z, z2, z3, Int32.not_lt.mpr z4⟩ e) (upd a1 i p1) (fun j hj => ?_))⟩⟩
  by_cases e : j = i
  · rw [e, pk_us, if_pos rfl]
  · rw [pk_un e, if_neg e]
    exact ha j hj
theorem sv_linear {post : Int32 → St2 → Prop} {md fo ye no tl lv de ct le cl cy cn mv : Int32} {a1 a2 a3 a4 a5 a6 a7 a8 a9 a10 a11 a12 a13 a14 a15 a16 : Nat → Int32} {p0 : Int32} (hm : md = 0) (hf : fo = 0) (hk : ∀ c, c < 11 → a2 c = 0) {i : Nat} {f : Int32} (f1 : -5 ≤ f.toInt) (f2 : f.toInt ≤ 5) (ha : ∀ j, j < 4 → a1 j = if j = i then f else 0)
    (H : ∀ r md' fo' a2' a3' a4', (¬ p0 < (-60) ∧ ¬ 60 < p0 → fo' = 1) → (¬ (¬ p0 < (-60) ∧ ¬ 60 < p0) → fo' = 0) → sv_Pic i f p0 (¬ p0 < (-60) ∧ ¬ 60 < p0) md' fo' a1 a2' a3' a4' → post r (md', fo', ye, no, tl, lv, de, ct, le, cl, cy, cn, mv, a1, a2', a3', a4', a5, a6, a7, a8, a9, a10, a11, a12, a13, a14, a15, a16)) : wpX_linear post (md, fo, ye, no, tl, lv, de, ct, le, cl, cy, cn, mv, a1, a2, a3, a4, a5, a6, a7, a8, a9, a10, a11, a12, a13, a14, a15, a16) p0 := by
  subst hm hf
  unfold wpX_linear
  dsimp only
  have hno : ¬ (¬ p0 < (-60) ∧ ¬ 60 < p0) → sv_Pic i f p0 (¬ p0 < (-60) ∧ ¬ 60 < p0) 0 0 a1 a2 a3 a4 := fun h => ⟨ha, hk, ⟨f1, f2⟩, fun m => absurd m h, fun _ => ⟨rfl, rfl⟩⟩
  refine br_c (fun z => ?_) (fun z => br_c (fun z2 => br_f (by decide) ?_) (fun z2 => ?_))
  · have h : ¬ (¬ p0 < (-60) ∧ ¬ 60 < p0) := fun e => absurd z e.1
    exact H _ _ _ _ _ _ (fun e => absurd e h) (fun _ => rfl) (hno h)
  · refine sv_setLin (c := 0) (by omega) (fun a3' g1 g2 => ?_)
    have hM : ¬ p0 < (-60) ∧ ¬ 60 < p0 := ⟨z, Int32.not_lt.mpr z2⟩
    have hP : sv_Pic i f p0 (¬ p0 < (-60) ∧ ¬ 60 < p0) 1 1 a1 (upd a2 0 0) a3' (upd a4 0 p0) := by
      refine ⟨ha, fun c hc => ?_, ⟨f1, f2⟩, fun _ => ⟨rfl, Or.inl rfl, fun j hj => ?_, pk_us, ?_, ?_⟩, fun e => absurd hM e⟩
      · by_cases e : c = 0
        · rw [e, pk_us]
        · rw [pk_un e]
          exact hk c hc
      · have t := g1 j hj
        rw [Nat.mul_zero, Nat.zero_add] at t
        rw [t, ha j hj]
      · exact Int32.le_iff_toInt_le.mp (Int32.not_lt.mp z)
      · exact Int32.le_iff_toInt_le.mp z2
    exact nm_r (e' := 1) (show (0 : Int32) ||| ((1 : Int32) <<< ((0 : Int32) &&& 31)) = 1 by decide) (nm_r (e' := 1) (show (0 : Int32) + 1 = 1 by decide) (H _ 1 1 (upd a2 0 0) a3' (upd a4 0 p0) (fun _ => rfl) (fun e => absurd hM e) hP))
  · have h : ¬ (¬ p0 < (-60) ∧ ¬ 60 < p0) := fun e => absurd (Int32.not_lt.mp e.2) z2
    exact H _ _ _ _ _ _ (fun e => absurd e h) (fun _ => rfl) (hno h)
end
section
/-! ===== the law's own rows ===== -/
section
variable {post : Int32 → St0 → Prop} {mc ms kc ks : Nat} {x0 x1 x2 x4 x5 x6 x7 x8 x9 x10 x11 x12 x13 x14 x15 x16 x17 z0 z1 : Int32}
theorem sv_w388 (hp : post 1 ()) (h : z1 = z0) (h9 : (¬ x13 = 0 → x9 = 1) ∧ (x13 = 0 → x9 = -1)) (h10 : (x17 = 0 → x10 = -1) ∧ (¬ x17 = 0 → x10 = 15)) (h11 : x11 = 0) : wL_lawOf_388 post mc ms x9 x10 x11 x13 x17 z0 z1 kc ks :=
  br_t h (br_c (fun z => br_t (h9.2 z) (br_c (fun y => br_t (h10.1 y) (br_t h11 hp)) (fun y => br_t (h10.2 y) (br_t h11 hp)))) (fun z => br_t (h9.1 z) (br_c (fun y => br_t (h10.1 y) (br_t h11 hp)) (fun y => br_t (h10.2 y) (br_t h11 hp)))))
theorem sv_w366 (hp : post 1 ()) (h : z1 = z0) (h8 : (¬ x13 = 0 → x15 = 15 → x8 = 1) ∧ (¬ (¬ x13 = 0 ∧ x15 = 15) → x8 = 0)) (h9 : (¬ x13 = 0 → x9 = 1) ∧ (x13 = 0 → x9 = -1)) (h10 : (x17 = 0 → x10 = -1) ∧ (¬ x17 = 0 → x10 = 15)) (h11 : x11 = 0) : wL_lawOf_366 post mc ms x8 x9 x10 x11 x13 x15 x17 z0 z1 kc ks :=
  br_t h (br_c (fun z => sv_w388 hp (h8.2 (fun e => e.1 z)) h9 h10 h11) (fun z => br_c (fun y => sv_w388 hp (h8.1 z y) h9 h10 h11) (fun y => sv_w388 hp (h8.2 (fun e => y e.2)) h9 h10 h11)))
theorem sv_w344 (hp : post 1 ()) (h : z1 = z0) (h6 : x6 = x16) (h7 : (x15 = 0 → x7 = 1) ∧ (¬ x15 = 0 → x7 = 0)) (h8 : (¬ x13 = 0 → x15 = 15 → x8 = 1) ∧ (¬ (¬ x13 = 0 ∧ x15 = 15) → x8 = 0)) (h9 : (¬ x13 = 0 → x9 = 1) ∧ (x13 = 0 → x9 = -1)) (h10 : (x17 = 0 → x10 = -1) ∧ (¬ x17 = 0 → x10 = 15)) (h11 : x11 = 0) : wL_lawOf_344 post mc ms x6 x7 x8 x9 x10 x11 x13 x15 x16 x17 z0 z1 kc ks :=
  br_t h (br_t h6 (br_c (fun z => sv_w366 hp (h7.1 z) h8 h9 h10 h11) (fun z => sv_w366 hp (h7.2 z) h8 h9 h10 h11)))
theorem sv_w328 (hp : post 1 ()) (h : z1 = z0) (h5 : (x17 = 0 → x5 = -1) ∧ (¬ x17 = 0 → x5 = x15)) (h6 : x6 = x16) (h7 : (x15 = 0 → x7 = 1) ∧ (¬ x15 = 0 → x7 = 0)) (h8 : (¬ x13 = 0 → x15 = 15 → x8 = 1) ∧ (¬ (¬ x13 = 0 ∧ x15 = 15) → x8 = 0)) (h9 : (¬ x13 = 0 → x9 = 1) ∧ (x13 = 0 → x9 = -1)) (h10 : (x17 = 0 → x10 = -1) ∧ (¬ x17 = 0 → x10 = 15)) (h11 : x11 = 0) : wL_lawOf_328 post mc ms x5 x6 x7 x8 x9 x10 x11 x13 x15 x16 x17 z0 z1 kc ks :=
  br_t h (br_c (fun z => sv_w344 hp (h5.1 z) h6 h7 h8 h9 h10 h11) (fun z => sv_w344 hp (h5.2 z) h6 h7 h8 h9 h10 h11))
theorem sv_w314 (hp : post 1 ()) (h4 : (x15 = 0 → x4 = 0) ∧ (¬ x15 = 0 → x4 = 1)) (h5 : (z0 = 0 → x5 = -1) ∧ (¬ z0 = 0 → x5 = x15)) (h6 : x6 = x16) (h7 : (x15 = 0 → x7 = 1) ∧ (¬ x15 = 0 → x7 = 0)) (h8 : (¬ x13 = 0 → x15 = 15 → x8 = 1) ∧ (¬ (¬ x13 = 0 ∧ x15 = 15) → x8 = 0)) (h9 : (¬ x13 = 0 → x9 = 1) ∧ (x13 = 0 → x9 = -1)) (h10 : (z0 = 0 → x10 = -1) ∧ (¬ z0 = 0 → x10 = 15)) (h11 : x11 = 0) : wL_lawOf_314 post mc ms x4 x5 x6 x7 x8 x9 x10 x11 x13 x15 x16 z0 kc ks :=
  br_c (fun z => sv_w328 hp (h4.1 z) h5 h6 h7 h8 h9 h10 h11) (fun z => sv_w328 hp (h4.2 z) h5 h6 h7 h8 h9 h10 h11)
/-- what the law asks of the answers, the least sum apart -/
def sv_An (x0 x4 x5 x7 x8 x9 x10 x11 x13 x15 : Int32) : Prop :=
  ((x15 = 0 → x4 = 0) ∧ (¬ x15 = 0 → x4 = 1)) ∧
  (((¬ x0 < 0 ∧ ¬ 3 < x0) → x5 = x15) ∧ (¬ (¬ x0 < 0 ∧ ¬ 3 < x0) → x5 = -1)) ∧
  ((x15 = 0 → x7 = 1) ∧ (¬ x15 = 0 → x7 = 0)) ∧
  ((¬ x13 = 0 → x15 = 15 → x8 = 1) ∧ (¬ (¬ x13 = 0 ∧ x15 = 15) → x8 = 0)) ∧
  ((¬ x13 = 0 → x9 = 1) ∧ (x13 = 0 → x9 = -1)) ∧
  (((¬ x0 < 0 ∧ ¬ 3 < x0) → x10 = 15) ∧ (¬ (¬ x0 < 0 ∧ ¬ 3 < x0) → x10 = -1)) ∧ x11 = 0
theorem sv_w298 (hp : post 1 ()) (hA : sv_An x0 x4 x5 x7 x8 x9 x10 x11 x13 x15) (h6 : x6 = z0) : wL_lawOf_298 post mc ms x0 x4 x5 x6 x7 x8 x9 x10 x11 x13 x15 z0 kc ks := by
  obtain ⟨h4, h5, h7, h8, h9, h10, h11⟩ := hA
  have n1 : ¬ (1 : Int32) = 0 := by decide
  exact br_c (fun z => sv_w314 hp h4 ⟨fun _ => h5.2 (fun e => e.1 z), fun e => absurd rfl e⟩ h6 h7 h8 h9 ⟨fun _ => h10.2 (fun e => e.1 z), fun e => absurd rfl e⟩ h11)
    (fun z => br_c (fun y => sv_w314 hp h4 ⟨fun _ => h5.2 (fun e => e.2 y), fun e => absurd rfl e⟩ h6 h7 h8 h9 ⟨fun _ => h10.2 (fun e => e.2 y), fun e => absurd rfl e⟩ h11)
      (fun y => sv_w314 hp h4 ⟨fun e => absurd e n1, fun _ => h5.1 ⟨z, y⟩⟩ h6 h7 h8 h9 ⟨fun e => absurd e n1, fun _ => h10.1 ⟨z, y⟩⟩ h11))
theorem sv_w270 (hp : post 1 ()) (hA : sv_An x0 x4 x5 x7 x8 x9 x10 x11 x13 x15) (h6 : x6 = sv_l x15 8 z0 (3 * x14)) : wL_lawOf_270 post mc ms x0 x4 x5 x6 x7 x8 x9 x10 x11 x13 x14 x15 z0 kc ks := by
  unfold sv_l at h6
  exact br_c (fun c => sv_w298 hp hA (by rw [h6, if_pos c])) (fun c => br_c (fun d => sv_w298 hp hA (by rw [h6, if_neg c, if_pos d])) (fun d => sv_w298 hp hA (by rw [h6, if_neg c, if_neg d])))
theorem sv_w243 (hp : post 1 ()) (hA : sv_An x0 x4 x5 x7 x8 x9 x10 x11 x13 x15) (h6 : x6 = sv_l x15 8 (sv_l x15 4 z0 (2 * x14)) (3 * x14)) : wL_lawOf_243 post mc ms x0 x4 x5 x6 x7 x8 x9 x10 x11 x13 x14 x15 z0 kc ks :=
  br_c (fun c => sv_w270 hp hA (by rw [h6]; congr 1; unfold sv_l; rw [if_pos c])) (fun c => br_c (fun d => sv_w270 hp hA (by rw [h6]; congr 1; unfold sv_l; rw [if_neg c, if_pos d])) (fun d => sv_w270 hp hA (by rw [h6]; congr 1; unfold sv_l; rw [if_neg c, if_neg d])))
theorem sv_w220 (hp : post 1 ()) (hA : sv_An x0 x4 x5 x7 x8 x9 x10 x11 x13 x15) (h6 : x6 = sv_l x15 8 (sv_l x15 4 (sv_l x15 2 z0 x14) (2 * x14)) (3 * x14)) : wL_lawOf_220 post mc ms x0 x4 x5 x6 x7 x8 x9 x10 x11 x13 x14 x15 z0 kc ks := by
  have e1 : (x15 &&& 2) = 0 → sv_l x15 2 z0 x14 = z0 := fun c => by unfold sv_l; rw [if_pos c]
  have e2 : ¬ (x15 &&& 2) = 0 → z0 ≤ x14 → sv_l x15 2 z0 x14 = z0 := fun c d => by unfold sv_l; rw [if_neg c, if_pos d]
  have e3 : ¬ (x15 &&& 2) = 0 → ¬ z0 ≤ x14 → sv_l x15 2 z0 x14 = x14 := fun c d => by unfold sv_l; rw [if_neg c, if_neg d]
  exact br_c (fun c => sv_w243 hp hA (by rw [h6, e1 c])) (fun c => br_c (fun d => sv_w243 hp hA (by rw [h6, e2 c d])) (fun d => sv_w243 hp hA (by rw [h6, e3 c d])))
theorem sv_w194 (hp : post 1 ()) (hA : sv_An x0 x4 x5 x7 x8 x9 x10 x11 x13 z0) (h6 : x6 = sv_lw x14 z0) : wL_lawOf_194 post mc ms x0 x4 x5 x6 x7 x8 x9 x10 x11 x13 x14 z0 kc ks := by
  unfold sv_lw at h6
  exact br_c (fun c => sv_w220 hp hA (by rw [h6, if_pos c])) (fun c => sv_w220 hp hA (by rw [h6, if_neg c]))
def sv_set (f b : Int32) : Int32 := (((if b < 0 then 0 else 1) ||| (if b < f then 0 else 2)) ||| (if b < 2 * f then 0 else 4)) ||| (if b < 3 * f then 0 else 8)
theorem sv_w131 (hp : post 1 ()) (hS : (x13 = 0 → x15 = 15) ∧ (¬ x13 = 0 → x15 = sv_set z0 x2)) (hA : sv_An x0 x4 x5 x7 x8 x9 x10 x11 x13 x15) (h6 : x6 = sv_lw z0 x15) : wL_lawOf_131 post mc ms x0 x2 x4 x5 x6 x7 x8 x9 x10 x11 x13 z0 kc ks := by
  refine br_c (fun c => ?_) (fun c => ?_)
  · rw [hS.1 c] at hA h6
    exact sv_w194 hp hA h6
  · have K : ∀ s, sv_set z0 x2 = s → wL_lawOf_194 post mc ms x0 x4 x5 x6 x7 x8 x9 x10 x11 x13 z0 s kc ks := fun s e => by
      rw [hS.2 c, e] at hA h6
      exact sv_w194 hp hA h6
    unfold sv_set at K
    have K3 : ∀ s, (((if x2 < 0 then (0 : Int32) else 1) ||| (if x2 < z0 then 0 else 2)) ||| (if x2 < 2 * z0 then 0 else 4)) = s → ∀ u, u = 0 → wL_lawOf_178 post mc ms x0 x2 x4 x5 x6 x7 x8 x9 x10 x11 x13 z0 (if x2 < 2 * z0 then 0 else 4) ((if x2 < 0 then (0 : Int32) else 1) ||| (if x2 < z0 then 0 else 2)) kc ks := fun s e u _ =>
      br_c (fun y => K _ (by rw [if_pos y])) (fun y => K _ (by rw [if_neg y]))
    have K2 : wL_lawOf_164 post mc ms x0 x2 x4 x5 x6 x7 x8 x9 x10 x11 x13 z0 (if x2 < z0 then 0 else 2) (if x2 < 0 then (0 : Int32) else 1) kc ks := by
      have t := K3 _ rfl 0 rfl
      exact br_c (fun y => by rw [if_pos y] at t; exact t) (fun y => by rw [if_neg y] at t; exact t)
    have K1 : wL_lawOf_153 post mc ms x0 x2 x4 x5 x6 x7 x8 x9 x10 x11 x13 z0 (if x2 < 0 then (0 : Int32) else 1) kc ks :=
      br_c (fun y => by rw [if_pos y] at K2; exact K2) (fun y => by rw [if_neg y] at K2; exact K2)
    exact br_c (fun y => by rw [if_pos y] at K1; exact K1) (fun y => by rw [if_neg y] at K1; exact K1)
theorem sv_w119 {f : Int32} (hp : post 1 ()) (hf : (x12 = 0 → f = 0) ∧ (¬ x12 = 0 → f = x1)) (hS : (z0 = 0 → x15 = 15) ∧ (¬ z0 = 0 → x15 = sv_set f x2)) (hA : sv_An x0 x4 x5 x7 x8 x9 x10 x11 z0 x15) (h6 : x6 = sv_lw f x15) : wL_lawOf_119 post mc ms x0 x1 x2 x4 x5 x6 x7 x8 x9 x10 x11 x12 z0 kc ks := by
  refine br_c (fun c => ?_) (fun c => ?_)
  · rw [hf.1 c] at hS h6
    exact sv_w131 hp hS hA h6
  · rw [hf.2 c] at hS h6
    exact sv_w131 hp hS hA h6
/-- from the answers on; M: the constraint was made -/
theorem sv_w100 {f : Int32} (hp : post 1 ()) (hf : (z0 = 0 → f = 0) ∧ (¬ z0 = 0 → f = x1)) (hS : (¬ (¬ x2 < (-60) ∧ ¬ 60 < x2) → x15 = 15) ∧ ((¬ x2 < (-60) ∧ ¬ 60 < x2) → x15 = sv_set f x2))
    (hA0 : ¬ (¬ x2 < (-60) ∧ ¬ 60 < x2) → sv_An x0 x4 x5 x7 x8 x9 x10 x11 0 x15) (hA1 : (¬ x2 < (-60) ∧ ¬ 60 < x2) → sv_An x0 x4 x5 x7 x8 x9 x10 x11 1 x15) (h6 : x6 = sv_lw f x15) : wL_lawOf_100 post mc ms x0 x1 x2 x4 x5 x6 x7 x8 x9 x10 x11 z0 kc ks := by
  have n1 : ¬ (1 : Int32) = 0 := by decide
  refine br_c (fun z => ?_) (fun z => br_c (fun y => ?_) (fun y => ?_))
  · have m : ¬ (¬ x2 < (-60) ∧ ¬ 60 < x2) := fun e => e.1 z
    exact sv_w119 hp hf ⟨fun _ => hS.1 m, fun e => absurd rfl e⟩ (hA0 m) h6
  · have m : ¬ (¬ x2 < (-60) ∧ ¬ 60 < x2) := fun e => e.2 y
    exact sv_w119 hp hf ⟨fun _ => hS.1 m, fun e => absurd rfl e⟩ (hA0 m) h6
  · have m : (¬ x2 < (-60) ∧ ¬ 60 < x2) := ⟨z, y⟩
    exact sv_w119 hp hf ⟨fun e => absurd e n1, fun _ => hS.2 m⟩ (hA1 m) h6
end
theorem sv_ifn (b v y : Int32) : (if b < v then 0 else y) = if v ≤ b then y else 0 := by
  by_cases h : v ≤ b
  · rw [if_pos h, if_neg (Int32.not_lt.mpr h)]
  · rw [if_neg h, if_pos (Int32.not_le.mp h)]
theorem sv_setW (f b : Int32) : sv_vs f b 1 4 = sv_set f b := by
  have s1 : ∀ k, sv_vs f b 1 (k + 1) = if f * nI k ≤ b then sv_vs f b 1 k ||| ((1 : Int32) <<< (nI k &&& 31)) else sv_vs f b 1 k := fun k => by
    show (if ((1 : Int32) = 1 → f * nI k ≤ b) then sv_vs f b 1 k ||| ((1 : Int32) <<< (nI k &&& 31)) else sv_vs f b 1 k) = _
    by_cases h : f * nI k ≤ b
    · rw [if_pos (fun _ => h), if_pos h]
    · rw [if_neg (fun z => h (z rfl)), if_neg h]
  have s0 : sv_vs f b 1 0 = 0 := rfl
  have e0 : f * nI 0 = 0 := by rw [nI_0, Int32.mul_zero]
  have e1 : f * nI 1 = f := Int32.mul_one f
  have e2 : f * nI 2 = 2 * f := Int32.mul_comm f 2
  have e3 : f * nI 3 = 3 * f := Int32.mul_comm f 3
  rw [s1 3, s1 2, s1 1, s1 0, s0, e0, e1, e2, e3]
  unfold sv_set
  rw [sv_ifn, sv_ifn, sv_ifn, sv_ifn]
  by_cases h0 : 0 ≤ b <;> by_cases h1 : f ≤ b <;> by_cases h2 : 2 * f ≤ b <;> by_cases h3 : 3 * f ≤ b <;> simp only [h0, h1, h2, h3, if_true, if_false] <;> decide
theorem sv_vs00 (f b : Int32) : sv_vs f b 0 4 = 15 := sv_v15.mpr (fun w hw e => absurd e (by decide))
theorem sv_init {post : St2 → Prop} (h : post (0, 0, 0, 0, 0, 0, 0, 0, 0, 0, 0, 0, 0, (fun _ => 0), (fun _ => 0), (fun _ => 0), (fun _ => 0), (fun _ => 0), (fun _ => 0), (fun _ => 0), (fun _ => 0), (fun _ => 0), (fun _ => 0), (fun _ => 0), (fun _ => 0), (fun _ => 0), (fun _ => 0), (fun _ => 0), (fun _ => 0))) : wpX_init post 16 426 (0, 0, 0, 0, 0, 0, 0, 0, 0, 0, 0, 0, 0) := by
  unfold wpX_init
  dsimp only
  exact ⟨by decide, by decide, by decide, by decide, by decide, by decide, by decide, by decide, by decide, by decide, by decide, by decide, by decide, by decide, by decide, by decide, by decide, by decide, by decide, by decide, by decide, by decide, by decide, by decide, by decide, by decide, by decide, by decide, by decide, by decide, by decide, by decide, h⟩
theorem sv_lawOf (p0 p1 p2 : Int32) : wpL_lawOf (fun r _ => r = 1) 17 455 () p0 p1 p2 := by
  unfold wpL_lawOf
  refine ⟨by decide, by decide, 16, 426, by decide, by decide, sv_init ?_⟩
  refine sv_factor (fun _ _ => rfl) (fun r i f hi hin f1 f2 hf1 hf0 a1 ha => ?_)
  refine sv_linear rfl rfl (fun _ _ => rfl) f1 f2 ha (fun r md fo a2 a3 a4 m1 m0 hP => ?_)
  refine sv_solvable2 hi hP (fun r4 h4 ye' no' tl' lv' de' ct' le' cl' cy' cn' mv' a2' a3' a4' a9' a10' a11' a12' a13' a14' hP => ?_)
  refine sv_values2 hi hP hin (fun r5 h5 ye' no' tl' lv' de' ct' le' cl' cy' cn' mv' a2' a3' a4' a9' a10' a11' a12' a13' a14' hP => ?_)
  refine sv_smallest2 hi hP (fun ye' no' tl' lv' de' ct' le' cl' cy' cn' mv' a2' a3' a4' a9' a10' a11' a12' a13' a14' hP => ?_)
  refine sv_blame2 hi hP (fun r7 h7 ye' no' tl' lv' de' ct' le' cl' cy' cn' mv' a2' a3' a4' a9' a10' a11' a12' a13' a14' hP => ?_)
  refine sv_follows2 hi hP m1 (fun r8 h8 ye' no' tl' lv' de' ct' le' cl' cy' cn' mv' a2' a3' a4' a9' a10' a11' a12' a13' a14' hP => ?_)
  refine sv_force2 hP m1 (fun r9 h9 hP => ?_)
  refine sv_values2 hi hP hin (fun r10 h10 ye' no' tl' lv' de' ct' le' cl' cy' cn' mv' a2' a3' a4' a9' a10' a11' a12' a13' a14' hP => ?_)
  refine sv_after hi rfl (fun ye' no' tl' lv' de' le' cl' cy' cn' mv' a9' a10' a11' a12' ct' a13' a14' => ?_)
  have n1 : ¬ (1 : Int32) = 0 := by decide
  rw [sv_vs00] at h10
  have hS : (¬ (¬ p2 < (-60) ∧ ¬ 60 < p2) → sv_vs f p2 fo 4 = 15) ∧ ((¬ p2 < (-60) ∧ ¬ 60 < p2) → sv_vs f p2 fo 4 = sv_set f p2) := by
    refine ⟨fun m => ?_, fun m => ?_⟩
    · rw [m0 m]
      exact sv_vs00 f p2
    · rw [m1 m]
      exact sv_setW f p2
  have hA0 : ¬ (¬ p2 < (-60) ∧ ¬ 60 < p2) → sv_An p0 r4 r5 r7 r8 r9 r10 0 0 (sv_vs f p2 fo 4) := fun m =>
    ⟨h4, h5, h7, ⟨fun e => absurd rfl e, fun _ => h8.2 (fun e => m e.1)⟩, ⟨fun e => absurd rfl e, fun _ => h9.2 m⟩, h10, rfl⟩
  have hA1 : (¬ p2 < (-60) ∧ ¬ 60 < p2) → sv_An p0 r4 r5 r7 r8 r9 r10 0 1 (sv_vs f p2 fo 4) := fun m =>
    ⟨h4, h5, h7, ⟨fun _ e => h8.1 m e, fun e => h8.2 (fun e' => e ⟨n1, e'.2⟩)⟩, ⟨fun _ => h9.1 m, fun e => absurd e n1⟩, h10, rfl⟩
  have K : ∀ g, (g = 0 → f = 0) ∧ (¬ g = 0 → f = p1) → wL_lawOf_100 (fun r _ => r = 1) 17 455 p0 p1 p2 r4 r5 (sv_lw f (sv_vs f p2 fo 4)) r7 r8 r9 r10 0 g (1 + 16) (29 + 426) := fun g hg =>
    sv_w100 rfl hg hS hA0 hA1 rfl
  have K0 : ¬ (¬ p0 < 0 ∧ ¬ 3 < p0 ∧ ¬ p1 < (-5) ∧ ¬ 5 < p1) → wL_lawOf_100 (fun r _ => r = 1) 17 455 p0 p1 p2 r4 r5 (sv_lw f (sv_vs f p2 fo 4)) r7 r8 r9 r10 0 0 (1 + 16) (29 + 426) := fun h =>
    K 0 ⟨fun _ => hf0 h, fun e => absurd rfl e⟩
  exact br_c (fun z => K0 (fun e => e.1 z)) (fun z => br_c (fun z2 => K0 (fun e => e.2.1 z2)) (fun z2 => br_c (fun z3 => K0 (fun e => e.2.2.1 z3)) (fun z3 => br_c (fun z4 => K0 (fun e => e.2.2.2 z4)) (fun z4 => K 1 ⟨fun e => absurd e n1, fun _ => hf1 ⟨z, z2, z3, z4⟩⟩))))
end
section
/-! ===== what is owed ===== -/
theorem sv_cell {post : Int32 → Prop} {xs : Nat → Int32} {L k : Nat} (hL : L ≤ 3) (hk : k ≤ 2) (h : ∀ r, post r) : wpL_cellAt post L xs () (nI k) :=
  pk_le L k (fun _ => h 0) (fun z => ⟨pk_in k L z, h _⟩)
theorem i_vc (xs : Nat → Int32) (L : Nat) (hL : L ≤ 3) : wpL_law (fun r => r = 1) L xs := by
  unfold wpL_law
  exact sv_cell (k := 0) hL (by omega) (fun r1 => sv_cell (k := 1) hL (by omega) (fun r2 => sv_cell (k := 2) hL (by omega) (fun r3 => ⟨17, 455, by omega, by omega, sv_lawOf r1 r2 r3⟩)))
end
