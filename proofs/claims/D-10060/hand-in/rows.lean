section
/-! bits of an Int32 (the first rows began as kit/laws/BITS.to-paste, with other names) -/
def zq_b (x : Int32) (i : Nat) : Bool := x.toBitVec.getLsbD i
theorem zq_ext {x y : Int32} (h : ∀ i, i < 32 → zq_b x i = zq_b y i) : x = y := Int32.toBitVec_inj.mp (BitVec.eq_of_getLsbD_eq (fun i hi => h i hi))
theorem zq_bo (x y : Int32) (i : Nat) : zq_b (x ||| y) i = (zq_b x i || zq_b y i) := by unfold zq_b; rw [Int32.toBitVec_or, BitVec.getLsbD_or]
theorem zq_ba (x y : Int32) (i : Nat) : zq_b (x &&& y) i = (zq_b x i && zq_b y i) := by unfold zq_b; rw [Int32.toBitVec_and, BitVec.getLsbD_and]
theorem zq_bx (x y : Int32) (i : Nat) : zq_b (x ^^^ y) i = (zq_b x i ^^ zq_b y i) := by unfold zq_b; rw [Int32.toBitVec_xor, BitVec.getLsbD_xor]
theorem zq_m1 : ∀ i, i < 32 → zq_b (-1) i = true := by decide +kernel
theorem zq_b0 (i : Nat) : zq_b 0 i = false := BitVec.getLsbD_zero
theorem zq_sl : ∀ n, n < 32 → ((nI n &&& 31).toBitVec.smod 32).toNat = n := by decide +kernel
theorem zq_shl (n : Nat) (hn : n < 32) (x : Int32) {i : Nat} (hi : i < 32) : zq_b (x <<< (nI n &&& 31)) i = (decide (n ≤ i) && zq_b x (i - n)) := by
  unfold zq_b
  rw [Int32.toBitVec_shiftLeft]
  show (x.toBitVec <<< ((nI n &&& 31).toBitVec.smod 32).toNat).getLsbD i = _
  rw [zq_sl n hn, BitVec.getLsbD_shiftLeft]
  rcases Nat.lt_or_ge i n with h | h
  · simp [h, Nat.not_le.mpr h]
  · simp [hi, h, Nat.not_lt.mpr h]
theorem zq_sshr (n : Nat) (hn : n < 32) (x : Int32) {i : Nat} (hi : i < 32) : zq_b (x >>> (nI n &&& 31)) i = if n + i < 32 then zq_b x (n + i) else zq_b x 31 := by
  unfold zq_b
  rw [Int32.toBitVec_shiftRight]
  show (x.toBitVec.sshiftRight ((nI n &&& 31).toBitVec.smod 32).toNat).getLsbD i = _
  rw [zq_sl n hn, BitVec.getLsbD_sshiftRight, BitVec.msb_eq_getLsbD_last]
  simp [hi]
theorem zq_bn (x : Int32) {i : Nat} (hi : i < 32) : zq_b (x ^^^ (-1)) i = !zq_b x i := by
  rw [zq_bx, zq_m1 i hi, Bool.xor_true]
theorem zq_1 : ∀ i, i < 32 → zq_b 1 i = decide (i = 0) := by decide +kernel
theorem zq_one {n : Nat} (hn : n < 32) {i : Nat} (hi : i < 32) : zq_b ((1 : Int32) <<< (nI n &&& 31)) i = decide (i = n) := by
  rw [zq_shl n hn 1 hi, zq_1 (i - n) (by omega)]
  by_cases h : i = n
  · rw [decide_eq_true h, decide_eq_true (show n ≤ i by omega), decide_eq_true (show i - n = 0 by omega)]
    rfl
  · rw [decide_eq_false h]
    by_cases k : n ≤ i
    · rw [decide_eq_false (show ¬ i - n = 0 by omega), Bool.and_false]
    · rw [decide_eq_false k, Bool.false_and]
theorem zq_mk : ∀ i, i < 32 → zq_b 262143 i = decide (i < 18) := by decide +kernel
theorem zq_hi : ∀ i, i < 32 → zq_b 262144 i = decide (i = 18) := by decide +kernel
/-- one bit taken out: 0 or 1 -/
theorem zq_bit (x : Int32) {n : Nat} (hn : n < 32) : (x >>> (nI n &&& 31)) &&& 1 = if zq_b x n = true then 1 else 0 := by
  apply zq_ext
  intro i hi
  rw [zq_ba, zq_sshr n hn x hi, zq_1 i hi]
  by_cases h : i = 0
  · subst h
    rw [if_pos (show n + 0 < 32 by omega), Nat.add_zero, decide_eq_true rfl, Bool.and_true]
    cases e : zq_b x n
    · rw [if_neg (by decide), zq_b0]
    · rw [if_pos rfl]
      decide
  · rw [decide_eq_false h, Bool.and_false]
    cases e : zq_b x n
    · rw [if_neg (by decide), zq_b0]
    · rw [if_pos rfl, zq_1 i hi, decide_eq_false h]
theorem zq_bit0 (x : Int32) {n : Nat} (hn : n < 32) : (x >>> (nI n &&& 31)) &&& 1 = 0 ↔ ¬ zq_b x n = true := by
  rw [zq_bit x hn]
  cases zq_b x n
  · exact ⟨fun _ => by decide, fun _ => rfl⟩
  · exact ⟨fun z => absurd z (by decide), fun z => absurd rfl z⟩
/-- two ints with one bit alike -/
theorem zq_bit2 {x y : Int32} {n m : Nat} (hn : n < 32) (hm : m < 32) (h : zq_b x n = true ↔ zq_b y m = true) : (x >>> (nI n &&& 31)) &&& 1 = (y >>> (nI m &&& 31)) &&& 1 := by
  rw [zq_bit x hn, zq_bit y hm]
  cases e : zq_b x n
  · cases k : zq_b y m
    · rfl
    · rw [e, k] at h
      exact absurd (h.mpr rfl) (by decide)
  · cases k : zq_b y m
    · rw [e, k] at h
      exact absurd (h.mp rfl) (by decide)
    · rfl
theorem zq_extI {x y : Int32} (h : ∀ i, i < 32 → (zq_b x i = true ↔ zq_b y i = true)) : x = y := by
  apply zq_ext
  intro i hi
  have := h i hi
  cases e : zq_b x i
  · cases k : zq_b y i
    · rfl
    · rw [e, k] at this
      exact absurd (this.mpr rfl) (by decide)
  · cases k : zq_b y i
    · rw [e, k] at this
      exact absurd (this.mp rfl) (by decide)
    · rfl
theorem zq_boT {x y : Int32} {i : Nat} : zq_b (x ||| y) i = true ↔ zq_b x i = true ∨ zq_b y i = true := by
  rw [zq_bo, Bool.or_eq_true]
theorem zq_baT {x y : Int32} {i : Nat} : zq_b (x &&& y) i = true ↔ zq_b x i = true ∧ zq_b y i = true := by
  rw [zq_ba, Bool.and_eq_true]
theorem zq_bnT {x : Int32} {i : Nat} (hi : i < 32) : zq_b (x ^^^ (-1)) i = true ↔ ¬ zq_b x i = true := by
  rw [zq_bn x hi, Bool.not_eq_true']
  exact Bool.eq_false_iff
theorem zq_oneT {n : Nat} (hn : n < 32) {i : Nat} (hi : i < 32) : zq_b ((1 : Int32) <<< (nI n &&& 31)) i = true ↔ i = n := by
  rw [zq_one hn hi]
  exact decide_eq_true_iff
/-- a number whose bit 31 is off isn't negative -/
theorem zq_nn {x : Int32} (h : ¬ zq_b x 31 = true) : 0 ≤ x := by
  have e : x.toBitVec.msb = false := by
    rw [BitVec.msb_eq_getLsbD_last]
    exact Bool.eq_false_iff.mpr h
  have k : 0 ≤ x.toInt := by
    show 0 ≤ x.toBitVec.toInt
    rw [BitVec.toInt_eq_toNat_of_msb e]
    exact Int.natCast_nonneg _
  exact Int32.le_iff_toInt_le.mpr k
end
section
/-! the pure law of the search: what feeds a group, and counting -/
def zq_P (a2 a3 : Nat → Int32) (g h : Nat) : Prop := h < 18 ∧ zq_b (a2 g ||| (a3 (g % 3) <<< (nI (g / 3 * 3) &&& 31))) h = true
def zq_R (a2 a3 : Nat → Int32) (g h : Nat) : Prop := ∀ w : Nat → Prop, w g → (∀ a b, w a → zq_P a2 a3 a b → w b) → w h
theorem zq_R0 {a2 a3 : Nat → Int32} {g : Nat} : zq_R a2 a3 g g := fun w h _ => h
theorem zq_R1 {a2 a3 : Nat → Int32} {g a b : Nat} (h : zq_R a2 a3 g a) (p : zq_P a2 a3 a b) : zq_R a2 a3 g b := fun w h0 hc => hc _ _ (h w h0 hc) p
theorem zq_RT {a2 a3 : Nat → Int32} {g a b : Nat} (h : zq_R a2 a3 g a) (k : zq_R a2 a3 a b) : zq_R a2 a3 g b := fun w h0 hc => k w (h w h0 hc) hc
/-- the cache: a known row says what feeds its group, on the bits below 18 -/
def zq_C (a2 a3 a9 : Nat → Int32) : Prop := ∀ g, g < 18 → zq_b (a9 g) 18 = true → ∀ h, h < 18 → (zq_b (a9 g) h = true ↔ zq_R a2 a3 g h)
/-- how many places below n -/
def zq_c (Q : Nat → Bool) : Nat → Nat
  | 0 => 0
  | n + 1 => zq_c Q n + (Q n).toNat
theorem zq_c_mono {Q Q' : Nat → Bool} : ∀ n, (∀ i, i < n → Q i = true → Q' i = true) → zq_c Q n ≤ zq_c Q' n := by
  intro n
  induction n with
  | zero => intro _; exact Nat.le_refl 0
  | succ n ih =>
    intro h
    have h1 := ih (fun i hi => h i (by omega))
    have h2 := h n (by omega)
    have h3 : (Q n).toNat ≤ (Q' n).toNat := by
      cases e : Q n
      · exact Nat.zero_le _
      · rw [h2 e]
        exact Nat.le_refl _
    show zq_c Q n + (Q n).toNat ≤ zq_c Q' n + (Q' n).toNat
    omega
theorem zq_c_add {Q A B : Nat → Bool} : ∀ n, (∀ i, i < n → (Q i).toNat = (A i).toNat + (B i).toNat) → zq_c Q n = zq_c A n + zq_c B n := by
  intro n
  induction n with
  | zero => intro _; rfl
  | succ n ih =>
    intro h
    have h1 := ih (fun i hi => h i (by omega))
    have h2 := h n (by omega)
    show zq_c Q n + (Q n).toNat = (zq_c A n + (A n).toNat) + (zq_c B n + (B n).toNat)
    omega
theorem zq_c_up {Q : Nat → Bool} {i : Nat} : ∀ n, i ≤ n → zq_c Q i ≤ zq_c Q n := by
  intro n
  induction n with
  | zero =>
    intro h
    have : i = 0 := by omega
    subst this
    exact Nat.le_refl _
  | succ n ih =>
    intro h
    by_cases e : i = n + 1
    · subst e
      exact Nat.le_refl _
    · have := ih (by omega)
      show zq_c Q i ≤ zq_c Q n + (Q n).toNat
      omega
theorem zq_c_lt {Q : Nat → Bool} {i n : Nat} (h : i < n) (hq : Q i = true) : zq_c Q i + 1 ≤ zq_c Q n := by
  have h1 : zq_c Q (i + 1) = zq_c Q i + 1 := by
    show zq_c Q i + (Q i).toNat = _
    rw [hq]
    rfl
  have h2 := zq_c_up (Q := Q) (i := i + 1) n h
  omega
theorem zq_c_t : ∀ n, zq_c (fun _ => true) n = n := by
  intro n
  induction n with
  | zero => rfl
  | succ n ih =>
    show zq_c (fun _ => true) n + 1 = n + 1
    rw [ih]
/-- how many groups aren't seen -/
def zq_u (x : Int32) : Nat := zq_c (fun i => !zq_b x i) 18
theorem zq_u_le {x y : Int32} (h : ∀ i, i < 18 → zq_b x i = true → zq_b y i = true) : zq_u y ≤ zq_u x := by
  refine zq_c_mono 18 (fun i hi k => ?_)
  cases e : zq_b x i
  · rfl
  · rw [h i hi e] at k
    exact absurd k (by decide)
theorem zq_u_one {x : Int32} {g : Nat} (hg : g < 18) (h : zq_b x g = true) : zq_u x ≤ 17 := by
  have h1 : zq_c (fun _ => true) 18 = zq_c (fun i => !zq_b x i) 18 + zq_c (zq_b x) 18 := by
    refine zq_c_add 18 (fun i _ => ?_)
    cases zq_b x i <;> rfl
  have h2 := zq_c_lt (Q := zq_b x) hg h
  rw [zq_c_t] at h1
  unfold zq_u
  omega
theorem zq_u_split {x f : Int32} (hd : ∀ i, i < 18 → zq_b f i = true → ¬ zq_b x i = true) : zq_u x = zq_u (x ||| f) + zq_c (zq_b f) 18 := by
  unfold zq_u
  refine zq_c_add 18 (fun i hi => ?_)
  have h := hd i hi
  rw [zq_bo]
  cases e : zq_b x i
  · cases zq_b f i <;> rfl
  · cases k : zq_b f i
    · rfl
    · exact absurd e (h k)
/-- the search: x seen, the first w places of q waiting -/
def zq_J (a2 a3 : Nat → Int32) (g : Nat) (x : Int32) (w : Nat) (q : Nat → Int32) : Prop :=
  zq_b x g = true ∧ (∀ h, h < 18 → zq_b x h = true → zq_R a2 a3 g h) ∧ (∀ h, h < 18 → zq_b x h = true → (∃ i, i < w ∧ q i = nI h) ∨ (∀ b, zq_P a2 a3 h b → zq_b x b = true)) ∧ (∀ i, i < w → ∃ h, h < 18 ∧ q i = nI h ∧ zq_b x h = true) ∧ w + zq_u x ≤ 18
theorem zq_by8 : ∀ g, g < 18 → (nI g).toInt8.toInt32 = nI g := by decide +kernel
theorem zq_J_0 {a2 a3 q : Nat → Int32} {g : Nat} (hg : g < 18) : zq_J a2 a3 g ((1 : Int32) <<< (nI g &&& 31)) 1 (upd q 0 (nI g)) := by
  have hb : zq_b ((1 : Int32) <<< (nI g &&& 31)) g = true := (zq_oneT (by omega) (by omega)).mpr rfl
  have hu := zq_u_one hg hb
  refine ⟨hb, fun h hh k => ?_, fun h hh k => ?_, fun i hi => ⟨g, hg, ?_, hb⟩, by omega⟩
  · rw [(zq_oneT (by omega) (by omega)).mp k]
    exact zq_R0
  · rw [(zq_oneT (by omega) (by omega)).mp k]
    exact Or.inl ⟨0, by omega, pk_us⟩
  · rw [show i = 0 by omega, pk_us]
theorem zq_J_x {a2 a3 q : Nat → Int32} {g : Nat} {x : Int32} (hg : g < 18) (J : zq_J a2 a3 g x 0 q) : ∀ h, h < 18 → (zq_b x h = true ↔ zq_R a2 a3 g h) := by
  obtain ⟨j1, j2, j3, j4, j5⟩ := J
  intro h hh
  refine ⟨j2 h hh, fun r => (r (fun a => a < 18 ∧ zq_b x a = true) ⟨hg, j1⟩ (fun a b ha hp => ⟨hp.1, ?_⟩)).2⟩
  rcases j3 a ha.1 ha.2 with ⟨i, hi, _⟩ | k
  · exact absurd hi (by omega)
  · exact k b hp
theorem zq_J_k {a2 a3 a9 q : Nat → Int32} {g t w : Nat} {x : Int32} (J : zq_J a2 a3 g x (w + 1) q) (ht : t < 18) (hq : q w = nI t) (hb : zq_b x t = true) (C : zq_C a2 a3 a9) (hk : zq_b (a9 t) 18 = true) :
    zq_J a2 a3 g (x ||| (a9 t &&& 262143)) w q ∧ zq_u (x ||| (a9 t &&& 262143)) ≤ zq_u x := by
  obtain ⟨j1, j2, j3, j4, j5⟩ := J
  have E : ∀ h, h < 18 → (zq_b (x ||| (a9 t &&& 262143)) h = true ↔ zq_b x h = true ∨ zq_R a2 a3 t h) := by
    intro h hh
    rw [zq_boT, zq_baT, zq_mk h (by omega), C t ht hk h hh]
    exact ⟨fun z => z.elim Or.inl (fun y => Or.inr y.1), fun z => z.elim Or.inl (fun y => Or.inr ⟨y, decide_eq_true hh⟩)⟩
  have U : zq_u (x ||| (a9 t &&& 262143)) ≤ zq_u x := zq_u_le (fun i hi k => (E i hi).mpr (Or.inl k))
  refine ⟨⟨?_, fun h hh k => ?_, fun h hh k => ?_, fun i hi => ?_, by omega⟩, U⟩
  · exact zq_boT.mpr (Or.inl j1)
  · rcases (E h hh).mp k with z | z
    · exact j2 h hh z
    · exact zq_RT (j2 t ht hb) z
  · rcases (E h hh).mp k with z | z
    · rcases j3 h hh z with ⟨i, hi, hqi⟩ | y
      · by_cases e : i = w
        · right
          intro b hp
          rw [e, hq] at hqi
          have et : t = h := (nI_eq (by omega) (by omega)).mp hqi
          exact (E b hp.1).mpr (Or.inr (zq_R1 (by rw [et]; exact zq_R0) hp))
        · exact Or.inl ⟨i, by omega, hqi⟩
      · exact Or.inr (fun b hp => (E b hp.1).mpr (Or.inl (y b hp)))
    · exact Or.inr (fun b hp => (E b hp.1).mpr (Or.inr (zq_R1 z hp)))
  · obtain ⟨h, hh, h1, h2⟩ := j4 i (by omega)
    exact ⟨h, hh, h1, zq_boT.mpr (Or.inl h2)⟩
/-- the pushing of what is fresh: places below i are done -/
def zq_K (f : Int32) (w : Nat) (q : Nat → Int32) (i v : Nat) (q' : Nat → Int32) : Prop :=
  v = w + zq_c (zq_b f) i ∧ (∀ k, k < w → q' k = q k) ∧ (∀ k, w ≤ k → k < v → ∃ h, h < i ∧ zq_b f h = true ∧ q' k = nI h) ∧ (∀ h, h < i → zq_b f h = true → ∃ k, k < v ∧ q' k = nI h)
theorem zq_K_0 {f : Int32} {w : Nat} {q : Nat → Int32} : zq_K f w q 0 w q :=
  ⟨rfl, fun _ _ => rfl, fun k h1 h2 => absurd h2 (by omega), fun h hh => absurd hh (by omega)⟩
theorem zq_K_n {f : Int32} {w i v : Nat} {q q' : Nat → Int32} (K : zq_K f w q i v q') (h : ¬ zq_b f i = true) : zq_K f w q (i + 1) v q' := by
  obtain ⟨k1, k2, k3, k4⟩ := K
  refine ⟨?_, k2, fun k h1 h2 => ?_, fun j hj hb => ?_⟩
  · show v = w + (zq_c (zq_b f) i + (zq_b f i).toNat)
    rw [Bool.eq_false_iff.mpr h]
    exact k1
  · obtain ⟨j, hj, r⟩ := k3 k h1 h2
    exact ⟨j, by omega, r⟩
  · by_cases e : j = i
    · rw [e] at hb
      exact absurd hb h
    · exact k4 j (by omega) hb
theorem zq_K_p {f : Int32} {w i v : Nat} {q q' : Nat → Int32} (K : zq_K f w q i v q') (h : zq_b f i = true) : zq_K f w q (i + 1) (v + 1) (upd q' v (nI i)) := by
  obtain ⟨k1, k2, k3, k4⟩ := K
  refine ⟨?_, fun k hk => ?_, fun k h1 h2 => ?_, fun j hj hb => ?_⟩
  · show v + 1 = w + (zq_c (zq_b f) i + (zq_b f i).toNat)
    rw [h, k1]
    exact Nat.add_assoc _ _ _
  · rw [pk_un (by omega)]
    exact k2 k hk
  · by_cases e : k = v
    · exact ⟨i, by omega, h, by rw [e, pk_us]⟩
    · obtain ⟨j, hj, hb, r⟩ := k3 k h1 (by omega)
      exact ⟨j, by omega, hb, by rw [pk_un e]; exact r⟩
  · by_cases e : j = i
    · exact ⟨v, by omega, by rw [pk_us, e]⟩
    · obtain ⟨k, hk, r⟩ := k4 j (by omega) hb
      exact ⟨k, by omega, by rw [pk_un (by omega)]; exact r⟩
theorem zq_J_p {a2 a3 q q' : Nat → Int32} {g t w v : Nat} {x f : Int32} (J : zq_J a2 a3 g x (w + 1) q) (ht : t < 18) (hq : q w = nI t) (hb : zq_b x t = true)
    (hf : f = (a2 t ||| (a3 (t % 3) <<< (nI (t / 3 * 3) &&& 31))) &&& (x ^^^ (-1))) (K : zq_K f w q 18 v q') :
    zq_J a2 a3 g (x ||| f) v q' ∧ 2 * zq_u (x ||| f) + v < 2 * zq_u x + (w + 1) := by
  obtain ⟨j1, j2, j3, j4, j5⟩ := J
  obtain ⟨k1, k2, k3, k4⟩ := K
  have F : ∀ h, h < 18 → (zq_b f h = true ↔ zq_P a2 a3 t h ∧ ¬ zq_b x h = true) := by
    intro h hh
    rw [hf, zq_baT, zq_bnT (by omega)]
    exact ⟨fun z => ⟨⟨hh, z.1⟩, z.2⟩, fun z => ⟨z.1.2, z.2⟩⟩
  have S := zq_u_split (x := x) (f := f) (fun i hi k => ((F i hi).mp k).2)
  refine ⟨⟨zq_boT.mpr (Or.inl j1), fun h hh k => ?_, fun h hh k => ?_, fun i hi => ?_, by omega⟩, by omega⟩
  · rcases zq_boT.mp k with z | z
    · exact j2 h hh z
    · exact zq_R1 (j2 t ht hb) ((F h hh).mp z).1
  · rcases zq_boT.mp k with z | z
    · rcases j3 h hh z with ⟨i, hi, hqi⟩ | y
      · by_cases e : i = w
        · right
          intro b hp
          rw [e, hq] at hqi
          have et : t = h := (nI_eq (by omega) (by omega)).mp hqi
          rw [← et] at hp
          by_cases s : zq_b x b = true
          · exact zq_boT.mpr (Or.inl s)
          · exact zq_boT.mpr (Or.inr ((F b hp.1).mpr ⟨hp, s⟩))
        · exact Or.inl ⟨i, by omega, by rw [k2 i (by omega)]; exact hqi⟩
      · exact Or.inr (fun b hp => zq_boT.mpr (Or.inl (y b hp)))
    · exact Or.inl (k4 h hh z)
  · by_cases e : i < w
    · obtain ⟨h, hh, h1, h2⟩ := j4 i (by omega)
      exact ⟨h, hh, by rw [k2 i e]; exact h1, zq_boT.mpr (Or.inl h2)⟩
    · obtain ⟨h, hh, h1, h2⟩ := k3 i (by omega) hi
      exact ⟨h, hh, h2, zq_boT.mpr (Or.inr h1)⟩
/-- room for what is pushed -/
theorem zq_room {a2 a3 q q' : Nat → Int32} {g t w v i : Nat} {x f : Int32} (J : zq_J a2 a3 g x (w + 1) q)
    (hf : f = (a2 t ||| (a3 (t % 3) <<< (nI (t / 3 * 3) &&& 31))) &&& (x ^^^ (-1))) (K : zq_K f w q i v q') (hi : i < 18) (hb : zq_b f i = true) : v < 17 := by
  obtain ⟨j1, j2, j3, j4, j5⟩ := J
  obtain ⟨k1, k2, k3, k4⟩ := K
  have S := zq_u_split (x := x) (f := f) (fun i hi k => (zq_bnT (by omega)).mp (zq_baT.mp (hf ▸ k)).2)
  have h2 := zq_c_lt (Q := zq_b f) hi hb
  omega
/-- the row that is kept -/
theorem zq_C_new {a2 a3 a9 : Nat → Int32} {g : Nat} {x : Int32} (C : zq_C a2 a3 a9) (h : ∀ h, h < 18 → (zq_b x h = true ↔ zq_R a2 a3 g h)) : zq_C a2 a3 (upd a9 g (x ||| 262144)) := by
  intro k hk hb j hj
  by_cases e : k = g
  · rw [e, pk_us, zq_boT, zq_hi j (by omega), h j hj]
    exact ⟨fun z => z.elim id (fun y => absurd (of_decide_eq_true y) (by omega)), Or.inl⟩
  · rw [pk_un e] at hb ⊢
    exact C k hk hb j hj
theorem zq_C_0 {a2 a3 a9 : Nat → Int32} (h : ∀ g, g < 18 → a9 g = 0) : zq_C a2 a3 a9 := by
  intro g hg hb
  rw [h g hg, zq_b0] at hb
  exact absurd hb (by decide)
end
section
/-! the picture of a state; make, load -/
abbrev zq_G : Type := (Nat → Int32) × (Nat → Int32) × (Nat → Int32)
def zq_st (x b so : Int32) : Int32 := if so = 0 then x &&& (b ^^^ (-1)) else x ||| b
/-- a change made: sort k, place pl, its bit, whether so -/
def zq_ap (c : zq_G) (k pl : Nat) (b so : Int32) : zq_G :=
  if k = 0 then (upd c.1 pl (zq_st (c.1 pl) b so), c.2.1, c.2.2)
  else if k = 1 then (c.1, upd c.2.1 pl (zq_st (c.2.1 pl) b so), c.2.2)
  else (c.1, c.2.1, upd c.2.2 pl (zq_st (c.2.2 pl) b so))
/-- the list of changes: there and back -/
def zq_L (H : Nat → zq_G) (T : Nat) (a4 a5 a6 a7 a8 : Nat → Int32) : Prop :=
  ∀ s, 0 < s → s ≤ T → T < s + 8 → ∃ k pl : Nat, k ≤ 2 ∧ (pl < if k = 2 then 3 else 18) ∧ a4 (s % 8) = nI k ∧ a6 (s % 8) = nI pl ∧ H s = zq_ap (H (s - 1)) k pl ((1 : Int32) <<< (a5 (s % 8) &&& 31)) (a8 (s % 8)) ∧ H (s - 1) = zq_ap (H s) k pl ((1 : Int32) <<< (a5 (s % 8) &&& 31)) (a7 (s % 8))
/-- latest state T, state l loaded, the states H, compared z -/
def zq_I (T l : Nat) (H : Nat → zq_G) (z : Nat → Int32) (u : St1) : Prop := match u with
  | (ld, lt, wt, a1, a2, a3, a4, a5, a6, a7, a8, a9, a10, a11) => ld = nI l ∧ lt = nI T ∧ l ≤ T ∧ T < l + 8 ∧ T < 1000 ∧ (a1, a2, a3) = H l ∧ zq_L H T a4 a5 a6 a7 a8 ∧ zq_C a2 a3 a9 ∧ a11 = z
theorem zq_149 {post : St1 → Prop} {ld lt wt : Int32} {a1 a2 a3 a4 a5 a6 a7 a8 a9 a10 a11 : Nat → Int32} (H : ∀ b9 : Nat → Int32, (∀ g, g < 18 → b9 g = 0) → post (ld, lt, wt, a1, a2, a3, a4, a5, a6, a7, a8, b9, a10, a11)) : ∃ n, wX_make_149 post ld lt wt n 0 a1 a2 a3 a4 a5 a6 a7 a8 a9 a10 a11 := by
  refine pk_loop (fun n i s => wX_make_149 post ld lt wt n (nI i) a1 a2 a3 a4 a5 a6 a7 a8 s a10 a11) (fun i s => ∀ g, g < i → s g = 0) 18 0 a9 (by omega) (fun g hg => absurd hg (by omega))
    (fun n s h => pk_le 18 18 (fun _ => H s h) (fun z => absurd z (by omega)))
    (fun n i s hi h hw => pk_le 18 i (fun z => absurd z (by omega)) (fun _ => ⟨pk_in i 18 (by omega), nm_e (nm_r (nI_1 i) (hw _ (fun g hg => ?_)))⟩))
  rw [nI_clamp (by omega)]
  by_cases e : g = i
  · rw [e, pk_us]
  · rw [pk_un e]
    exact h g (by omega)
theorem zq_make {post : St1 → Prop} {ld lt wt : Int32} {a1 a2 a3 a4 a5 a6 a7 a8 a9 a10 a11 : Nat → Int32} {p k pl : Nat} {so : Int32} (hp : p < 8) (hk : k ≤ 2) (hpl : pl < if k = 2 then 3 else 18) (h4 : a4 p = nI k) (h6 : a6 p = nI pl) (hC : zq_C a2 a3 a9)
    (H : ∀ b1 b2 b3 b9 : Nat → Int32, (b1, b2, b3) = zq_ap (a1, a2, a3) k pl ((1 : Int32) <<< (a5 p &&& 31)) so → zq_C b2 b3 b9 → post (ld, lt, wt, b1, b2, b3, a4, a5, a6, a7, a8, b9, a10, a11)) :
    wpX_make post (ld, lt, wt, a1, a2, a3, a4, a5, a6, a7, a8, a9, a10, a11) (nI p) so := by
  have hpl2 : pl < 18 := by split at hpl <;> omega
  unfold wpX_make
  dsimp only
  rw [nI_clamp (show p < 2 ^ 31 by omega)]
  refine ⟨pk_in p 8 hp, nm_r h4 ⟨pk_in p 8 hp, nm_e ⟨pk_in p 8 hp, nm_r h6 ?_⟩⟩⟩
  rw [nI_clamp (show pl < 2 ^ 31 by omega)]
  refine pk_eq k 0 (fun z => ?_) (fun z => pk_eq k 1 (fun z1 => ?_) (fun z1 => ?_))
  · subst z
    refine br_c (fun e => ⟨pk_in pl 18 hpl2, pk_in pl 18 hpl2, nm_e (H _ a2 a3 a9 ?_ hC)⟩) (fun e => ⟨pk_in pl 18 hpl2, pk_in pl 18 hpl2, nm_e (H _ a2 a3 a9 ?_ hC)⟩)
    · unfold zq_ap zq_st
      rw [if_pos rfl, if_pos e]
    · unfold zq_ap zq_st
      rw [if_pos rfl, if_neg e]
  · subst z1
    refine br_c (fun e => ⟨pk_in pl 18 hpl2, pk_in pl 18 hpl2, nm_e (zq_149 (fun b9 h9 => H a1 _ a3 b9 ?_ (zq_C_0 h9)))⟩) (fun e => ⟨pk_in pl 18 hpl2, pk_in pl 18 hpl2, nm_e (zq_149 (fun b9 h9 => H a1 _ a3 b9 ?_ (zq_C_0 h9)))⟩)
    · unfold zq_ap zq_st
      rw [if_neg (by decide), if_pos rfl, if_pos e]
    · unfold zq_ap zq_st
      rw [if_neg (by decide), if_pos rfl, if_neg e]
  · have z2 : k = 2 := by omega
    subst z2
    have hpl3 : pl < 3 := by
      rw [if_pos rfl] at hpl
      exact hpl
    refine br_c (fun e => ⟨pk_in pl 3 hpl3, pk_in pl 3 hpl3, nm_e (zq_149 (fun b9 h9 => H a1 a2 _ b9 ?_ (zq_C_0 h9)))⟩) (fun e => ⟨pk_in pl 3 hpl3, pk_in pl 3 hpl3, nm_e (zq_149 (fun b9 h9 => H a1 a2 _ b9 ?_ (zq_C_0 h9)))⟩)
    · unfold zq_ap zq_st
      rw [if_neg (by decide), if_neg (by decide), if_pos e]
    · unfold zq_ap zq_st
      rw [if_neg (by decide), if_neg (by decide), if_neg e]
theorem zq_up {post : St1 → Prop} {T t l : Nat} {H : Nat → zq_G} {wt : Int32} {a1 a2 a3 a4 a5 a6 a7 a8 a9 a10 a11 : Nat → Int32} (hT : T < 1000) (ht : t ≤ T) (hlt : l ≤ t) (hl8 : T < l + 8) (hL : zq_L H T a4 a5 a6 a7 a8) (hH : (a1, a2, a3) = H l) (hC : zq_C a2 a3 a9)
    (K : ∀ b1 b2 b3 b9 : Nat → Int32, (b1, b2, b3) = H t → zq_C b2 b3 b9 → post (nI t, nI T, wt, b1, b2, b3, a4, a5, a6, a7, a8, b9, a10, a11)) :
    ∃ n, wX_load_44 post (nI t) n (nI l) (nI T) wt a1 a2 a3 a4 a5 a6 a7 a8 a9 a10 a11 := by
  refine pk_loop (σ := zq_G × (Nat → Int32)) (fun n i s => wX_load_44 post (nI t) n (nI i) (nI T) wt s.1.1 s.1.2.1 s.1.2.2 a4 a5 a6 a7 a8 s.2 a10 a11) (fun i s => l ≤ i ∧ s.1 = H i ∧ zq_C s.1.2.1 s.1.2.2 s.2) t l ((a1, a2, a3), a9) hlt ⟨Nat.le_refl l, hH, hC⟩
    (fun n s h => pk_le t t (fun _ => K s.1.1 s.1.2.1 s.1.2.2 s.2 h.2.1 h.2.2) (fun z => absurd z (by omega))) ?_
  rintro n i ⟨⟨b1, b2, b3⟩, b9⟩ hi ⟨h0, h1, h2⟩ hw
  obtain ⟨k, pl, hk, hpl, e4, e6, ha, hb⟩ := hL (i + 1) (by omega) (by omega) (by omega)
  have e8 : nI (i + 1) - nI (i + 1) / 8 * 8 = nI ((i + 1) % 8) := pk_rem (d := 8) (by omega) (by omega) (by omega)
  refine pk_le t i (fun z => absurd z (by omega)) (fun _ => nm_r (nI_1 i) ?_)
  rw [e8, nI_clamp (show (i + 1) % 8 < 2 ^ 31 by omega)]
  refine ⟨by decide, by decide, pk_in _ 8 (Nat.mod_lt _ (by omega)), ?_⟩
  refine zq_make (Nat.mod_lt _ (by omega)) hk hpl e4 e6 h2 (fun c1 c2 c3 c9 hc hd => hw ((c1, c2, c3), c9) ⟨by omega, ?_, hd⟩)
  rw [ha]
  show (c1, c2, c3) = zq_ap (H i) _ _ _ _
  rw [← h1]
  exact hc
theorem zq_down {post : St1 → Prop} {T t l : Nat} {H : Nat → zq_G} {wt : Int32} {a1 a2 a3 a4 a5 a6 a7 a8 a9 a10 a11 : Nat → Int32} (hT : T < 1000) (ht : t ≤ l) (hl : l ≤ T) (h8 : T < t + 8) (hL : zq_L H T a4 a5 a6 a7 a8) (hH : (a1, a2, a3) = H l) (hC : zq_C a2 a3 a9)
    (K : ∀ b1 b2 b3 b9 : Nat → Int32, (b1, b2, b3) = H t → zq_C b2 b3 b9 → post (nI t, nI T, wt, b1, b2, b3, a4, a5, a6, a7, a8, b9, a10, a11)) :
    ∃ n, wX_load_0 post (nI t) n (nI l) (nI T) wt a1 a2 a3 a4 a5 a6 a7 a8 a9 a10 a11 := by
  have M := pk_loopD (σ := zq_G × (Nat → Int32)) (fun n i s => wX_load_0 post (nI t) n (nI (t + i)) (nI T) wt s.1.1 s.1.2.1 s.1.2.2 a4 a5 a6 a7 a8 s.2 a10 a11) (fun i s => t + i ≤ T ∧ s.1 = H (t + i) ∧ zq_C s.1.2.1 s.1.2.2 s.2)
    (fun n s h => pk_le (t + 0) t (fun _ => zq_up hT (by omega) (Nat.le_refl t) h8 hL h.2.1 h.2.2 K) (fun z => absurd z (by omega))) ?_ (l - t) ((a1, a2, a3), a9) ⟨by omega, by rw [show t + (l - t) = l by omega]; exact hH, hC⟩
  · refine ⟨l - t + 1, ?_⟩
    dsimp only at M
    rw [show t + (l - t) = l by omega] at M
    exact M
  · rintro n i ⟨⟨b1, b2, b3⟩, b9⟩ ⟨h0, h1, h2⟩ hw
    obtain ⟨k, pl, hk, hpl, e4, e6, ha, hb⟩ := hL (t + (i + 1)) (by omega) (by omega) (by omega)
    have e8 : nI (t + (i + 1)) - nI (t + (i + 1)) / 8 * 8 = nI ((t + (i + 1)) % 8) := pk_rem (d := 8) (by omega) (by omega) (by omega)
    refine pk_le (t + (i + 1)) t (fun z => absurd z (by omega)) (fun _ => ?_)
    rw [e8, nI_clamp (show (t + (i + 1)) % 8 < 2 ^ 31 by omega)]
    refine ⟨by decide, by decide, pk_in _ 8 (Nat.mod_lt _ (by omega)), ?_⟩
    refine zq_make (Nat.mod_lt _ (by omega)) hk hpl e4 e6 h2 (fun c1 c2 c3 c9 hc hd => nm_r (nI_pred (t + i)) (hw ((c1, c2, c3), c9) ⟨by omega, ?_, hd⟩))
    have e1 : H (t + i) = zq_ap (H (t + (i + 1))) k pl ((1 : Int32) <<< (a5 ((t + (i + 1)) % 8) &&& 31)) (a7 ((t + (i + 1)) % 8)) := hb
    rw [e1, ← h1]
    exact hc
theorem zq_load {post : St1 → Prop} {T l t : Nat} {H : Nat → zq_G} {z : Nat → Int32} {u : St1} (I : zq_I T l H z u) (ht : t ≤ T) (h8 : T < t + 8) (K : ∀ u', zq_I T t H z u' → post u') : wpX_load post u (nI t) := by
  obtain ⟨ld, lt, wt, a1, a2, a3, a4, a5, a6, a7, a8, a9, a10, a11⟩ := u
  obtain ⟨rfl, rfl, h1, h2, h3, h4, h5, h6, rfl⟩ := I
  have K' : ∀ b1 b2 b3 b9 : Nat → Int32, (b1, b2, b3) = H t → zq_C b2 b3 b9 → post (nI t, nI T, wt, b1, b2, b3, a4, a5, a6, a7, a8, b9, a10, a11) :=
    fun b1 b2 b3 b9 hb hc => K _ ⟨rfl, rfl, ht, h8, h3, hb, h5, hc, rfl⟩
  rcases Nat.le_total l t with e | e
  · exact ⟨1, pk_le l t (fun _ => zq_up h3 ht e h2 h5 h4 h6 K') (fun z => absurd z (by omega))⟩
  · exact zq_down h3 e h1 h8 h5 h4 h6 K'
end
section
/-! sourcesTo and membersOf, both copies -/
/-- person p is in group g -/
def zq_in (c : zq_G) (g p : Nat) : Prop := ∃ h, h < 18 ∧ zq_R c.2.1 c.2.2 g h ∧ zq_b (c.1 h) p = true
/-- r is the set of the members of g -/
def zq_is (c : zq_G) (g : Nat) (r : Int32) : Prop := ∀ p, p < 32 → (zq_b r p = true ↔ zq_in c g p)
theorem zq_is_u {c : zq_G} {g : Nat} {r s : Int32} (h : zq_is c g r) (k : zq_is c g s) : r = s := zq_extI (fun i hi => (h i hi).trans (k i hi).symm)
theorem zq_bitT {x : Int32} {n : Nat} (hn : n < 32) (h : ¬ (x >>> (nI n &&& 31)) &&& 1 = 0) : zq_b x n = true := by
  cases e : zq_b x n
  · refine absurd ((zq_bit0 x hn).mpr ?_) h
    rw [e]
    decide
  · rfl
theorem zq_byr {post : Int32 → Prop} {ld lt wt : Int32} {a1 a2 a3 a4 a5 a6 a7 a8 a9 a10 a11 : Nat → Int32} {t : Nat} (ht : t < 18) (h : post (a3 (t % 3) <<< (nI (t / 3 * 3) &&& 31))) : wpX_byRules post (ld, lt, wt, a1, a2, a3, a4, a5, a6, a7, a8, a9, a10, a11) (nI t) := by
  have e1 : nI t - nI t / 3 * 3 = nI (t % 3) := pk_rem (d := 3) (by omega) (by omega) (by omega)
  have e2 : nI t / 3 = nI (t / 3) := pk_div (d := 3) (by omega) (by omega) (by omega)
  have e3 : nI (t / 3) * 3 = nI (t / 3 * 3) := pk_mul (t / 3) 3
  unfold wpX_byRules
  dsimp only
  rw [e1, e2, e3, nI_clamp (show t % 3 < 2 ^ 31 by omega)]
  exact ⟨by decide, pk_in _ 3 (Nat.mod_lt _ (by omega)), by decide, h⟩
theorem zq_s123 {post : Int32 → St1 → Prop} {J41 : Int32 → Int32 → (Nat → Int32) → (Nat → Int32) → (Nat → Int32) → (Nat → Int32) → (Nat → Int32) → (Nat → Int32) → (Nat → Int32) → (Nat → Int32) → (Nat → Int32) → (Nat → Int32) → (Nat → Int32) → Prop}
    {x1 x2 f ld lt : Int32} {w : Nat} {a1 a2 a3 a4 a5 a6 a7 a8 a9 a10 a11 : Nat → Int32} (hr : ∀ (i v : Nat) (q : Nat → Int32), i < 18 → zq_K f w a10 i v q → zq_b f i = true → v < 17)
    (K : ∀ (v : Nat) (q : Nat → Int32), zq_K f w a10 18 v q → J41 x2 (nI v) a1 a2 a3 a4 a5 a6 a7 a8 a9 q a11) : ∃ n, wX_sourcesTo_123 post J41 x1 x2 f ld lt n 0 (nI w) a1 a2 a3 a4 a5 a6 a7 a8 a9 a10 a11 := by
  refine pk_loop (σ := Nat × (Nat → Int32)) (fun n i s => wX_sourcesTo_123 post J41 x1 x2 f ld lt n (nI i) (nI s.1) a1 a2 a3 a4 a5 a6 a7 a8 a9 s.2 a11) (fun i s => zq_K f w a10 i s.1 s.2) 18 0 (w, a10) (by omega) zq_K_0
    (fun n s h => pk_le 18 18 (fun _ => K s.1 s.2 h) (fun z => absurd z (by omega))) ?_
  rintro n i ⟨v, q⟩ hi h hw
  refine pk_le 18 i (fun z => absurd z (by omega)) (fun _ => br_c (fun e => nm_r (nI_1 i) (hw (v, q) (zq_K_n h ((zq_bit0 f (by omega)).mp e)))) (fun e => ?_))
  have hb := zq_bitT (x := f) (n := i) (by omega) e
  have hv := hr i v q hi h hb
  refine ⟨pk_in v 18 (by omega), nm_r (show _ = upd q v (nI i) from ?_) (nm_r (nI_1 v) (nm_r (nI_1 i) (hw (v + 1, upd q v (nI i)) (zq_K_p h hb))))⟩
  rw [nI_clamp (by omega), zq_by8 i hi]
theorem zq_s41 {post : Int32 → St1 → Prop} {ld lt x : Int32} {a1 a2 a3 a4 a5 a6 a7 a8 a9 a10 a11 : Nat → Int32} {g w : Nat} (hg : g < 18) (hC : zq_C a2 a3 a9) (hJ : zq_J a2 a3 g x w a10)
    (K : ∀ (x wt : Int32) (b9 b10 : Nat → Int32), (∀ h, h < 18 → (zq_b x h = true ↔ zq_R a2 a3 g h)) → zq_C a2 a3 b9 → post x (ld, lt, wt, a1, a2, a3, a4, a5, a6, a7, a8, b9, b10, a11)) :
    ∃ n, wX_sourcesTo_41 post (nI g) ld lt n x (nI w) a1 a2 a3 a4 a5 a6 a7 a8 a9 a10 a11 := by
  refine loop_m (σ := Int32 × Nat × (Nat → Int32)) (fun n s => wX_sourcesTo_41 post (nI g) ld lt n s.1 (nI s.2.1) a1 a2 a3 a4 a5 a6 a7 a8 a9 s.2.2 a11) (fun s => zq_J a2 a3 g s.1 s.2.1 s.2.2) (fun s => 2 * zq_u s.1 + s.2.1) ?_ (x, w, a10) hJ
  rintro n ⟨y, v, q⟩ h hw
  dsimp only at h hw
  have h18 : v ≤ 18 := by
    have := h.2.2.2.2
    omega
  cases v with
  | zero =>
    have hx := zq_J_x hg h
    refine pk_le 0 0 (fun _ => ⟨pk_in g 18 hg, nm_r (show _ = upd a9 g (y ||| 262144) from ?_) (K y _ _ q hx (zq_C_new hC hx))⟩) (fun z => absurd z (by omega))
    rw [nI_clamp (by omega)]
  | succ v =>
    obtain ⟨t, ht, hq, hb⟩ := h.2.2.2.1 v (by omega)
    refine pk_le (v + 1) 0 (fun z => absurd z (by omega)) (fun _ => nm_r (nI_pred v) ⟨pk_in v 18 (by omega), nm_r (show _ = nI t from ?_) ⟨pk_in t 18 ht, nm_r (show _ = a9 t from ?_) (br_c (fun e => ⟨pk_in t 18 ht, ?_⟩) (fun e => nm_e ?_))⟩⟩)
    · rw [nI_clamp (by omega)]
      exact hq
    · rw [nI_clamp (by omega)]
    · rw [nI_clamp (show t < 2 ^ 31 by omega)]
      refine zq_byr ht (nm_e (nm_e (zq_s123 (fun i v' q' hi hK hf => zq_room h rfl hK hi hf) (fun v' q' hK => ?_))))
      have hj := zq_J_p h ht hq hb rfl hK
      exact hw (_, v', q') hj.1 hj.2
    · have hj := zq_J_k h ht hq hb hC (zq_bitT (n := 18) (by omega) e)
      exact hw (_, v, q) hj.1 (by have := hj.2; dsimp only; omega)
theorem zq_src {post : Int32 → St1 → Prop} {ld lt wt : Int32} {a1 a2 a3 a4 a5 a6 a7 a8 a9 a10 a11 : Nat → Int32} {g : Nat} (hg : g < 18) (hC : zq_C a2 a3 a9)
    (K : ∀ (x wt : Int32) (b9 b10 : Nat → Int32), (∀ h, h < 18 → (zq_b x h = true ↔ zq_R a2 a3 g h)) → zq_C a2 a3 b9 → post x (ld, lt, wt, a1, a2, a3, a4, a5, a6, a7, a8, b9, b10, a11)) :
    wpX_sourcesTo post (ld, lt, wt, a1, a2, a3, a4, a5, a6, a7, a8, a9, a10, a11) (nI g) := by
  unfold wpX_sourcesTo
  dsimp only
  rw [nI_clamp (show g < 2 ^ 31 by omega), zq_by8 g hg]
  refine ⟨pk_in g 18 hg, br_c (fun e => nm_e (nm_e (zq_s41 (w := 1) hg hC (zq_J_0 hg) K))) (fun e => ⟨pk_in g 18 hg, K _ wt a9 a10 (fun h hh => ?_) hC⟩)⟩
  rw [zq_baT, zq_mk h (by omega), hC g hg (zq_bitT (n := 18) (by omega) e) h hh]
  exact ⟨fun z => z.1, fun z => ⟨z, decide_eq_true hh⟩⟩
theorem zq_m11 {post : Int32 → St1 → Prop} {x2 : Int32} {ld lt wt : Int32} {a1 a2 a3 a4 a5 a6 a7 a8 a9 a10 a11 : Nat → Int32} (K : ∀ r, (∀ p, p < 32 → (zq_b r p = true ↔ ∃ h, h < 18 ∧ zq_b x2 h = true ∧ zq_b (a1 h) p = true)) → post r (ld, lt, wt, a1, a2, a3, a4, a5, a6, a7, a8, a9, a10, a11)) : ∃ n, wX_membersOf_11 post x2 ld lt wt a1 a2 a3 a4 a5 a6 a7 a8 a9 a10 a11 n 0 0 := by
  refine pk_loop (fun n i s => wX_membersOf_11 post x2 ld lt wt a1 a2 a3 a4 a5 a6 a7 a8 a9 a10 a11 n s (nI i)) (fun i s => ∀ p, p < 32 → (zq_b s p = true ↔ ∃ h, h < i ∧ zq_b x2 h = true ∧ zq_b (a1 h) p = true)) 18 0 (0 : Int32) (by omega) ?_
    (fun n s h => pk_le 18 18 (fun _ => K s h) (fun z => absurd z (by omega)))
    (fun n i s hi h hw => pk_le 18 i (fun z => absurd z (by omega)) (fun _ => br_c (fun e => nm_r (nI_1 i) (hw s (fun p hp => (h p hp).trans ?_))) (fun e => ⟨pk_in i 18 hi, nm_r (show _ = s ||| a1 i from ?_) (nm_r (nI_1 i) (hw _ (fun p hp => ?_)))⟩)))
  · intro p hp
    rw [zq_b0]
    exact ⟨fun z => absurd z (by decide), fun ⟨h, hh, _⟩ => absurd hh (by omega)⟩
  · have e' := (zq_bit0 x2 (n := i) (by omega)).mp e
    constructor
    · rintro ⟨j, hj, r⟩
      exact ⟨j, by omega, r⟩
    · rintro ⟨j, hj, r⟩
      by_cases ej : j = i
      · rw [ej] at r
        exact absurd r.1 e'
      · exact ⟨j, by omega, r⟩
  · rw [nI_clamp (by omega)]
  · have e' := zq_bitT (x := x2) (n := i) (by omega) e
    rw [zq_boT, h p hp]
    constructor
    · rintro (⟨j, hj, r⟩ | r)
      · exact ⟨j, by omega, r⟩
      · exact ⟨i, by omega, e', r⟩
    · rintro ⟨j, hj, r⟩
      by_cases ej : j = i
      · rw [ej] at r
        exact Or.inr r.2
      · exact Or.inl ⟨j, by omega, r⟩
theorem zq_mem {post : Int32 → St1 → Prop} {T l g : Nat} {H : Nat → zq_G} {z : Nat → Int32} {u : St1} (I : zq_I T l H z u) (hg : g < 18) (K : ∀ r u', zq_is (H l) g r → zq_I T l H z u' → post r u') : wpX_membersOf post u (nI g) := by
  obtain ⟨ld, lt, wt, a1, a2, a3, a4, a5, a6, a7, a8, a9, a10, a11⟩ := u
  obtain ⟨rfl, rfl, h1, h2, h3, h4, h5, h6, rfl⟩ := I
  refine zq_src hg h6 (fun x wt' b9 b10 hx hc => zq_m11 (fun r hr => K r _ ?_ ⟨rfl, rfl, h1, h2, h3, h4, h5, hc, rfl⟩))
  intro p hp
  rw [hr p hp, ← h4]
  constructor
  · rintro ⟨h, hh, k1, k2⟩
    exact ⟨h, hh, (hx h hh).mp k1, k2⟩
  · rintro ⟨h, hh, k1, k2⟩
    exact ⟨h, hh, (hx h hh).mpr k1, k2⟩
theorem zq_t123 {post : Int32 → St1 → Prop} {J41 : Int32 → Int32 → (Nat → Int32) → (Nat → Int32) → (Nat → Int32) → (Nat → Int32) → (Nat → Int32) → (Nat → Int32) → (Nat → Int32) → (Nat → Int32) → (Nat → Int32) → (Nat → Int32) → (Nat → Int32) → Prop}
    {x1 x2 f ld lt : Int32} {w : Nat} {a1 a2 a3 a4 a5 a6 a7 a8 a9 a10 a11 : Nat → Int32} (hr : ∀ (i v : Nat) (q : Nat → Int32), i < 18 → zq_K f w a10 i v q → zq_b f i = true → v < 17)
    (K : ∀ (v : Nat) (q : Nat → Int32), zq_K f w a10 18 v q → J41 x2 (nI v) a1 a2 a3 a4 a5 a6 a7 a8 a9 q a11) : ∃ n, wX_sourcesTo_2_123 post J41 x1 x2 f ld lt n 0 (nI w) a1 a2 a3 a4 a5 a6 a7 a8 a9 a10 a11 := by
  refine pk_loop (σ := Nat × (Nat → Int32)) (fun n i s => wX_sourcesTo_2_123 post J41 x1 x2 f ld lt n (nI i) (nI s.1) a1 a2 a3 a4 a5 a6 a7 a8 a9 s.2 a11) (fun i s => zq_K f w a10 i s.1 s.2) 18 0 (w, a10) (by omega) zq_K_0
    (fun n s h => pk_le 18 18 (fun _ => K s.1 s.2 h) (fun z => absurd z (by omega))) ?_
  rintro n i ⟨v, q⟩ hi h hw
  refine pk_le 18 i (fun z => absurd z (by omega)) (fun _ => br_c (fun e => nm_r (nI_1 i) (hw (v, q) (zq_K_n h ((zq_bit0 f (by omega)).mp e)))) (fun e => ?_))
  have hb := zq_bitT (x := f) (n := i) (by omega) e
  have hv := hr i v q hi h hb
  refine ⟨pk_in v 18 (by omega), nm_r (show _ = upd q v (nI i) from ?_) (nm_r (nI_1 v) (nm_r (nI_1 i) (hw (v + 1, upd q v (nI i)) (zq_K_p h hb))))⟩
  rw [nI_clamp (by omega), zq_by8 i hi]
theorem zq_t41 {post : Int32 → St1 → Prop} {ld lt x : Int32} {a1 a2 a3 a4 a5 a6 a7 a8 a9 a10 a11 : Nat → Int32} {g w : Nat} (hg : g < 18) (hC : zq_C a2 a3 a9) (hJ : zq_J a2 a3 g x w a10)
    (K : ∀ (x wt : Int32) (b9 b10 : Nat → Int32), (∀ h, h < 18 → (zq_b x h = true ↔ zq_R a2 a3 g h)) → zq_C a2 a3 b9 → post x (ld, lt, wt, a1, a2, a3, a4, a5, a6, a7, a8, b9, b10, a11)) :
    ∃ n, wX_sourcesTo_2_41 post (nI g) ld lt n x (nI w) a1 a2 a3 a4 a5 a6 a7 a8 a9 a10 a11 := by
  refine loop_m (σ := Int32 × Nat × (Nat → Int32)) (fun n s => wX_sourcesTo_2_41 post (nI g) ld lt n s.1 (nI s.2.1) a1 a2 a3 a4 a5 a6 a7 a8 a9 s.2.2 a11) (fun s => zq_J a2 a3 g s.1 s.2.1 s.2.2) (fun s => 2 * zq_u s.1 + s.2.1) ?_ (x, w, a10) hJ
  rintro n ⟨y, v, q⟩ h hw
  dsimp only at h hw
  have h18 : v ≤ 18 := by
    have := h.2.2.2.2
    omega
  cases v with
  | zero =>
    have hx := zq_J_x hg h
    refine pk_le 0 0 (fun _ => ⟨pk_in g 18 hg, nm_r (show _ = upd a9 g (y ||| 262144) from ?_) (K y _ _ q hx (zq_C_new hC hx))⟩) (fun z => absurd z (by omega))
    rw [nI_clamp (by omega)]
  | succ v =>
    obtain ⟨t, ht, hq, hb⟩ := h.2.2.2.1 v (by omega)
    refine pk_le (v + 1) 0 (fun z => absurd z (by omega)) (fun _ => nm_r (nI_pred v) ⟨pk_in v 18 (by omega), nm_r (show _ = nI t from ?_) ⟨pk_in t 18 ht, nm_r (show _ = a9 t from ?_) (br_c (fun e => ⟨pk_in t 18 ht, ?_⟩) (fun e => nm_e ?_))⟩⟩)
    · rw [nI_clamp (by omega)]
      exact hq
    · rw [nI_clamp (by omega)]
    · rw [nI_clamp (show t < 2 ^ 31 by omega)]
      refine zq_byr ht (nm_e (nm_e (zq_t123 (fun i v' q' hi hK hf => zq_room h rfl hK hi hf) (fun v' q' hK => ?_))))
      have hj := zq_J_p h ht hq hb rfl hK
      exact hw (_, v', q') hj.1 hj.2
    · have hj := zq_J_k h ht hq hb hC (zq_bitT (n := 18) (by omega) e)
      exact hw (_, v, q) hj.1 (by have := hj.2; dsimp only; omega)
theorem zq_trc {post : Int32 → St1 → Prop} {ld lt wt : Int32} {a1 a2 a3 a4 a5 a6 a7 a8 a9 a10 a11 : Nat → Int32} {g : Nat} (hg : g < 18) (hC : zq_C a2 a3 a9)
    (K : ∀ (x wt : Int32) (b9 b10 : Nat → Int32), (∀ h, h < 18 → (zq_b x h = true ↔ zq_R a2 a3 g h)) → zq_C a2 a3 b9 → post x (ld, lt, wt, a1, a2, a3, a4, a5, a6, a7, a8, b9, b10, a11)) :
    wpX_sourcesTo_2 post (ld, lt, wt, a1, a2, a3, a4, a5, a6, a7, a8, a9, a10, a11) (nI g) := by
  unfold wpX_sourcesTo_2
  dsimp only
  rw [nI_clamp (show g < 2 ^ 31 by omega), zq_by8 g hg]
  refine ⟨pk_in g 18 hg, br_c (fun e => nm_e (nm_e (zq_t41 (w := 1) hg hC (zq_J_0 hg) K))) (fun e => ⟨pk_in g 18 hg, K _ wt a9 a10 (fun h hh => ?_) hC⟩)⟩
  rw [zq_baT, zq_mk h (by omega), hC g hg (zq_bitT (n := 18) (by omega) e) h hh]
  exact ⟨fun z => z.1, fun z => ⟨z, decide_eq_true hh⟩⟩
theorem zq_n11 {post : Int32 → St1 → Prop} {x2 : Int32} {ld lt wt : Int32} {a1 a2 a3 a4 a5 a6 a7 a8 a9 a10 a11 : Nat → Int32} (K : ∀ r, (∀ p, p < 32 → (zq_b r p = true ↔ ∃ h, h < 18 ∧ zq_b x2 h = true ∧ zq_b (a1 h) p = true)) → post r (ld, lt, wt, a1, a2, a3, a4, a5, a6, a7, a8, a9, a10, a11)) : ∃ n, wX_membersOf_2_11 post x2 ld lt wt a1 a2 a3 a4 a5 a6 a7 a8 a9 a10 a11 n 0 0 := by
  refine pk_loop (fun n i s => wX_membersOf_2_11 post x2 ld lt wt a1 a2 a3 a4 a5 a6 a7 a8 a9 a10 a11 n s (nI i)) (fun i s => ∀ p, p < 32 → (zq_b s p = true ↔ ∃ h, h < i ∧ zq_b x2 h = true ∧ zq_b (a1 h) p = true)) 18 0 (0 : Int32) (by omega) ?_
    (fun n s h => pk_le 18 18 (fun _ => K s h) (fun z => absurd z (by omega)))
    (fun n i s hi h hw => pk_le 18 i (fun z => absurd z (by omega)) (fun _ => br_c (fun e => nm_r (nI_1 i) (hw s (fun p hp => (h p hp).trans ?_))) (fun e => ⟨pk_in i 18 hi, nm_r (show _ = s ||| a1 i from ?_) (nm_r (nI_1 i) (hw _ (fun p hp => ?_)))⟩)))
  · intro p hp
    rw [zq_b0]
    exact ⟨fun z => absurd z (by decide), fun ⟨h, hh, _⟩ => absurd hh (by omega)⟩
  · have e' := (zq_bit0 x2 (n := i) (by omega)).mp e
    constructor
    · rintro ⟨j, hj, r⟩
      exact ⟨j, by omega, r⟩
    · rintro ⟨j, hj, r⟩
      by_cases ej : j = i
      · rw [ej] at r
        exact absurd r.1 e'
      · exact ⟨j, by omega, r⟩
  · rw [nI_clamp (by omega)]
  · have e' := zq_bitT (x := x2) (n := i) (by omega) e
    rw [zq_boT, h p hp]
    constructor
    · rintro (⟨j, hj, r⟩ | r)
      · exact ⟨j, by omega, r⟩
      · exact ⟨i, by omega, e', r⟩
    · rintro ⟨j, hj, r⟩
      by_cases ej : j = i
      · rw [ej] at r
        exact Or.inr r.2
      · exact Or.inl ⟨j, by omega, r⟩
theorem zq_nem {post : Int32 → St1 → Prop} {T l g : Nat} {H : Nat → zq_G} {z : Nat → Int32} {u : St1} (I : zq_I T l H z u) (hg : g < 18) (K : ∀ r u', zq_is (H l) g r → zq_I T l H z u' → post r u') : wpX_membersOf_2 post u (nI g) := by
  obtain ⟨ld, lt, wt, a1, a2, a3, a4, a5, a6, a7, a8, a9, a10, a11⟩ := u
  obtain ⟨rfl, rfl, h1, h2, h3, h4, h5, h6, rfl⟩ := I
  refine zq_trc hg h6 (fun x wt' b9 b10 hx hc => zq_n11 (fun r hr => K r _ ?_ ⟨rfl, rfl, h1, h2, h3, h4, h5, hc, rfl⟩))
  intro p hp
  rw [hr p hp, ← h4]
  constructor
  · rintro ⟨h, hh, k1, k2⟩
    exact ⟨h, hh, (hx h hh).mp k1, k2⟩
  · rintro ⟨h, hh, k1, k2⟩
    exact ⟨h, hh, (hx h hh).mpr k1, k2⟩
end
section
/-! the questions: members, check, groups, changed; the law's holds -/
theorem zq_isP {post : Int32 → Prop} {u : St1} {p : Nat} (hp : p < 6) (h : post 1) : wpX_isPerson post u (nI p) := by
  obtain ⟨ld, lt, wt, a1, a2, a3, a4, a5, a6, a7, a8, a9, a10, a11⟩ := u
  exact br_f (nI_pos (by omega)) (pk_lt 5 p (fun z => absurd z (by omega)) (fun _ => h))
theorem zq_isG {post : Int32 → Prop} {u : St1} {g : Nat} (hg : g < 18) (h : post 1) : wpX_isGroup post u (nI g) := by
  obtain ⟨ld, lt, wt, a1, a2, a3, a4, a5, a6, a7, a8, a9, a10, a11⟩ := u
  exact br_f (nI_pos (by omega)) (pk_le 18 g (fun z => absurd z (by omega)) (fun _ => h))
theorem zq_isSn {post : Int32 → Prop} {u : St1} {x : Int32} (hx : x < 0) (h : post 0) : wpX_isState post u x := by
  obtain ⟨ld, lt, wt, a1, a2, a3, a4, a5, a6, a7, a8, a9, a10, a11⟩ := u
  exact br_t hx h
theorem zq_isS {post : Int32 → Prop} {T l s : Nat} {H : Nat → zq_G} {z : Nat → Int32} {u : St1} (I : zq_I T l H z u) (hs : s ≤ T) (h : post 1) : wpX_isState post u (nI s) := by
  obtain ⟨ld, lt, wt, a1, a2, a3, a4, a5, a6, a7, a8, a9, a10, a11⟩ := u
  obtain ⟨rfl, rfl, h1, h2, h3, h4, h5, h6, rfl⟩ := I
  exact br_f (nI_pos (by omega)) (pk_lt T s (fun z => absurd z (by omega)) (fun _ => h))
theorem zq_isK {post : Int32 → Prop} {T l s : Nat} {H : Nat → zq_G} {z : Nat → Int32} {u : St1} (I : zq_I T l H z u) (hs : s ≤ T) (h8 : T < s + 8) (h : post 1) : wpX_isKept post u (nI s) := by
  obtain ⟨ld, lt, wt, a1, a2, a3, a4, a5, a6, a7, a8, a9, a10, a11⟩ := u
  have I' := I
  obtain ⟨rfl, rfl, h1, h2, h3, h4, h5, h6, rfl⟩ := I'
  unfold wpX_isKept
  dsimp only
  refine zq_isS I hs (br_f (by decide) (br_f (fun e => ?_) h))
  have k : (nI s).toInt ≤ (nI T - nI 8).toInt := Int32.le_iff_toInt_le.mp e
  rw [pk_sub_toInt (by omega) (by omega), nI_toInt (by omega)] at k
  omega
theorem zq_members {post : Int32 → St1 → Prop} {T l s g : Nat} {H : Nat → zq_G} {z : Nat → Int32} {u : St1} (I : zq_I T l H z u) (hs : s ≤ T) (h8 : T < s + 8) (hg : g < 18) (K : ∀ r u', zq_is (H s) g r → zq_I T s H z u' → post r u') : wpX_members post u (nI s) (nI g) := by
  obtain ⟨ld, lt, wt, a1, a2, a3, a4, a5, a6, a7, a8, a9, a10, a11⟩ := u
  unfold wpX_members
  dsimp only
  refine zq_isG hg (br_f (by decide) (zq_isS I hs (br_f (by decide) (zq_isK I hs h8 (br_f (by decide) (zq_load I hs h8 (fun u' I' => ?_)))))))
  obtain ⟨ld', lt', wt', b1, b2, b3, b4, b5, b6, b7, b8, b9, b10, b11⟩ := u'
  refine zq_mem I' hg (fun r u2 hr I2 => ?_)
  obtain ⟨ld2, lt2, wt2, c1, c2, c3, c4, c5, c6, c7, c8, c9, c10, c11⟩ := u2
  exact K r _ hr I2
theorem zq_check {post : Int32 → St1 → Prop} {T l s p g : Nat} {H : Nat → zq_G} {z : Nat → Int32} {u : St1} (I : zq_I T l H z u) (hs : s ≤ T) (h8 : T < s + 8) (hp : p < 6) (hg : g < 18) (K : ∀ r u', zq_is (H s) g r → zq_I T s H z u' → post ((r >>> (nI p &&& 31)) &&& 1) u') : wpX_check post u (nI s) (nI p) (nI g) := by
  obtain ⟨ld, lt, wt, a1, a2, a3, a4, a5, a6, a7, a8, a9, a10, a11⟩ := u
  unfold wpX_check
  dsimp only
  refine zq_isP hp (br_f (by decide) (zq_isG hg (br_f (by decide) (zq_isS I hs (br_f (by decide) (zq_isK I hs h8 (br_f (by decide) (zq_load I hs h8 (fun u' I' => ?_)))))))))
  obtain ⟨ld', lt', wt', b1, b2, b3, b4, b5, b6, b7, b8, b9, b10, b11⟩ := u'
  refine zq_mem I' hg (fun r u2 hr I2 => ?_)
  obtain ⟨ld2, lt2, wt2, c1, c2, c3, c4, c5, c6, c7, c8, c9, c10, c11⟩ := u2
  exact K r _ hr I2
theorem zq_checkn {post : Int32 → St1 → Prop} {p g : Nat} {u : St1} {x : Int32} (hx : x < 0) (hp : p < 6) (hg : g < 18) (K : post (-1) u) : wpX_check post u x (nI p) (nI g) := by
  obtain ⟨ld, lt, wt, a1, a2, a3, a4, a5, a6, a7, a8, a9, a10, a11⟩ := u
  unfold wpX_check
  dsimp only
  exact zq_isP hp (br_f (by decide) (zq_isG hg (br_f (by decide) (zq_isSn hx (br_t rfl K)))))
theorem zq_groupsn {post : Int32 → St1 → Prop} {p : Nat} {u : St1} {x : Int32} (hx : x < 0) (hp : p < 6) (K : post (-1) u) : wpX_groups post u x (nI p) := by
  obtain ⟨ld, lt, wt, a1, a2, a3, a4, a5, a6, a7, a8, a9, a10, a11⟩ := u
  unfold wpX_groups
  dsimp only
  exact zq_isP hp (br_f (by decide) (zq_isSn hx (br_t rfl K)))
theorem zq_g39 {post : Int32 → St1 → Prop} {T l p : Nat} {H : Nat → zq_G} {z : Nat → Int32} {u : St1} (I : zq_I T l H z u) (hp : p < 6) (K : ∀ v u', (∀ g, g < 32 → (zq_b v g = true ↔ g < 18 ∧ zq_in (H l) g p)) → zq_I T l H z u' → post v u') : ∃ n, wX_groups_39 post (nI p) n 0 0 u.1 u.2.1 u.2.2.1 u.2.2.2.1 u.2.2.2.2.1 u.2.2.2.2.2.1 u.2.2.2.2.2.2.1 u.2.2.2.2.2.2.2.1 u.2.2.2.2.2.2.2.2.1 u.2.2.2.2.2.2.2.2.2.1 u.2.2.2.2.2.2.2.2.2.2.1 u.2.2.2.2.2.2.2.2.2.2.2.1 u.2.2.2.2.2.2.2.2.2.2.2.2.1 u.2.2.2.2.2.2.2.2.2.2.2.2.2 := by
  refine pk_loop (σ := Int32 × St1) (fun n i s => wX_groups_39 post (nI p) n s.1 (nI i) s.2.1 s.2.2.1 s.2.2.2.1 s.2.2.2.2.1 s.2.2.2.2.2.1 s.2.2.2.2.2.2.1 s.2.2.2.2.2.2.2.1 s.2.2.2.2.2.2.2.2.1 s.2.2.2.2.2.2.2.2.2.1 s.2.2.2.2.2.2.2.2.2.2.1 s.2.2.2.2.2.2.2.2.2.2.2.1 s.2.2.2.2.2.2.2.2.2.2.2.2.1 s.2.2.2.2.2.2.2.2.2.2.2.2.2.1 s.2.2.2.2.2.2.2.2.2.2.2.2.2.2) (fun i s => (∀ g, g < 32 → (zq_b s.1 g = true ↔ g < i ∧ zq_in (H l) g p)) ∧ zq_I T l H z s.2) 18 0 (0, u) (by omega) ⟨fun g hg => ?_, I⟩ ?_ ?_
  · rw [zq_b0]
    exact ⟨fun z => absurd z (by decide), fun z => absurd z.1 (by omega)⟩
  · rintro n ⟨v, ⟨ld, lt, wt, a1, a2, a3, a4, a5, a6, a7, a8, a9, a10, a11⟩⟩ h
    exact pk_le 18 18 (fun _ => K v _ h.1 h.2) (fun z => absurd z (by omega))
  · rintro n i ⟨v, ⟨ld, lt, wt, a1, a2, a3, a4, a5, a6, a7, a8, a9, a10, a11⟩⟩ hi h hw
    refine pk_le 18 i (fun z => absurd z (by omega)) (fun _ => zq_mem h.2 hi (fun r u' hr I' => ?_))
    have hr' := hr p (by omega)
    obtain ⟨ld', lt', wt', b1, b2, b3, b4, b5, b6, b7, b8, b9, b10, b11⟩ := u'
    refine br_c (fun e => nm_r (nI_1 i) (hw (v, (ld', lt', wt', b1, b2, b3, b4, b5, b6, b7, b8, b9, b10, b11)) ⟨fun g hg => (h.1 g hg).trans ?_, I'⟩)) (fun e => nm_e (nm_r (nI_1 i) (hw (v ||| ((1 : Int32) <<< (nI i &&& 31)), (ld', lt', wt', b1, b2, b3, b4, b5, b6, b7, b8, b9, b10, b11)) ⟨fun g hg => ?_, I'⟩)))
    · have e' := (zq_bit0 r (n := p) (by omega)).mp e
      rw [hr'] at e'
      constructor
      · rintro ⟨k1, k2⟩
        exact ⟨by omega, k2⟩
      · rintro ⟨k1, k2⟩
        by_cases eg : g = i
        · rw [eg] at k2
          exact absurd k2 e'
        · exact ⟨by omega, k2⟩
    · have e' := hr'.mp (zq_bitT (x := r) (n := p) (by omega) e)
      dsimp only
      rw [zq_boT, zq_oneT (by omega) hg, h.1 g hg]
      constructor
      · rintro (⟨k1, k2⟩ | k)
        · exact ⟨by omega, k2⟩
        · rw [k]
          exact ⟨by omega, e'⟩
      · rintro ⟨k1, k2⟩
        by_cases eg : g = i
        · exact Or.inr eg
        · exact Or.inl ⟨by omega, k2⟩
theorem zq_groups {post : Int32 → St1 → Prop} {T l s p : Nat} {H : Nat → zq_G} {z : Nat → Int32} {u : St1} (I : zq_I T l H z u) (hs : s ≤ T) (h8 : T < s + 8) (hp : p < 6) (K : ∀ v u', (∀ g, g < 32 → (zq_b v g = true ↔ g < 18 ∧ zq_in (H s) g p)) → zq_I T s H z u' → post v u') : wpX_groups post u (nI s) (nI p) := by
  obtain ⟨ld, lt, wt, a1, a2, a3, a4, a5, a6, a7, a8, a9, a10, a11⟩ := u
  unfold wpX_groups
  dsimp only
  refine zq_isP hp (br_f (by decide) (zq_isS I hs (br_f (by decide) (zq_isK I hs h8 (br_f (by decide) (zq_load I hs h8 (fun u' I' => ?_)))))))
  obtain ⟨ld', lt', wt', b1, b2, b3, b4, b5, b6, b7, b8, b9, b10, b11⟩ := u'
  exact zq_g39 I' hp K
end
section
/-! the law's holds; changed of a state with itself -/
theorem zq_h18n {post : Int32 → St1 → Prop} {J2 : Int32 → Int32 → Int32 → Int32 → (Nat → Int32) → (Nat → Int32) → (Nat → Int32) → (Nat → Int32) → (Nat → Int32) → (Nat → Int32) → (Nat → Int32) → (Nat → Int32) → (Nat → Int32) → (Nat → Int32) → (Nat → Int32) → Prop}
    {x : Int32} {p : Nat} {ld lt wt : Int32} {a1 a2 a3 a4 a5 a6 a7 a8 a9 a10 a11 : Nat → Int32} (hx : x < 0) (hp : p < 6) (K : J2 (nI (p + 1)) ld lt wt a1 a2 a3 a4 a5 a6 a7 a8 a9 a10 a11) : ∃ n, wL_holds_18 post J2 x (nI p) (-1) n 0 ld lt wt a1 a2 a3 a4 a5 a6 a7 a8 a9 a10 a11 :=
  pk_loop (σ := Unit) (fun n i _ => wL_holds_18 post J2 x (nI p) (-1) n (nI i) ld lt wt a1 a2 a3 a4 a5 a6 a7 a8 a9 a10 a11) (fun _ _ => True) 18 0 () (by omega) trivial
    (fun n _ _ => pk_le 18 18 (fun _ => nm_r (nI_1 p) K) (fun z => absurd z (by omega)))
    (fun n i _ hi _ hw => pk_le 18 i (fun z => absurd z (by omega)) (fun _ => zq_checkn hx hp hi (br_f (by decide) (br_t rfl (nm_r (nI_1 i) (hw () trivial))))))
theorem zq_h18 {post : Int32 → St1 → Prop} {J2 : Int32 → Int32 → Int32 → Int32 → (Nat → Int32) → (Nat → Int32) → (Nat → Int32) → (Nat → Int32) → (Nat → Int32) → (Nat → Int32) → (Nat → Int32) → (Nat → Int32) → (Nat → Int32) → (Nat → Int32) → (Nat → Int32) → Prop}
    {T s p : Nat} {H : Nat → zq_G} {z : Nat → Int32} {u : St1} {v : Int32} (I : zq_I T s H z u) (hs : s ≤ T) (h8 : T < s + 8) (hp : p < 6) (hv : ∀ g, g < 32 → (zq_b v g = true ↔ g < 18 ∧ zq_in (H s) g p))
    (K : ∀ u', zq_I T s H z u' → J2 (nI (p + 1)) u'.1 u'.2.1 u'.2.2.1 u'.2.2.2.1 u'.2.2.2.2.1 u'.2.2.2.2.2.1 u'.2.2.2.2.2.2.1 u'.2.2.2.2.2.2.2.1 u'.2.2.2.2.2.2.2.2.1 u'.2.2.2.2.2.2.2.2.2.1 u'.2.2.2.2.2.2.2.2.2.2.1 u'.2.2.2.2.2.2.2.2.2.2.2.1 u'.2.2.2.2.2.2.2.2.2.2.2.2.1 u'.2.2.2.2.2.2.2.2.2.2.2.2.2) : ∃ n, wL_holds_18 post J2 (nI s) (nI p) v n 0 u.1 u.2.1 u.2.2.1 u.2.2.2.1 u.2.2.2.2.1 u.2.2.2.2.2.1 u.2.2.2.2.2.2.1 u.2.2.2.2.2.2.2.1 u.2.2.2.2.2.2.2.2.1 u.2.2.2.2.2.2.2.2.2.1 u.2.2.2.2.2.2.2.2.2.2.1 u.2.2.2.2.2.2.2.2.2.2.2.1 u.2.2.2.2.2.2.2.2.2.2.2.2.1 u.2.2.2.2.2.2.2.2.2.2.2.2.2 := by
  have h0 : 0 ≤ v := zq_nn (fun e => absurd ((hv 31 (by omega)).mp e).1 (by omega))
  refine pk_loop (σ := St1) (fun n i w => wL_holds_18 post J2 (nI s) (nI p) v n (nI i) w.1 w.2.1 w.2.2.1 w.2.2.2.1 w.2.2.2.2.1 w.2.2.2.2.2.1 w.2.2.2.2.2.2.1 w.2.2.2.2.2.2.2.1 w.2.2.2.2.2.2.2.2.1 w.2.2.2.2.2.2.2.2.2.1 w.2.2.2.2.2.2.2.2.2.2.1 w.2.2.2.2.2.2.2.2.2.2.2.1 w.2.2.2.2.2.2.2.2.2.2.2.2.1 w.2.2.2.2.2.2.2.2.2.2.2.2.2) (fun _ w => zq_I T s H z w) 18 0 u (by omega) I
    (fun n w h => pk_le 18 18 (fun _ => nm_r (nI_1 p) (K w h)) (fun z => absurd z (by omega))) ?_
  rintro n i ⟨ld, lt, wt, a1, a2, a3, a4, a5, a6, a7, a8, a9, a10, a11⟩ hi h hw
  refine pk_le 18 i (fun z => absurd z (by omega)) (fun _ => zq_check h hs h8 hp hi (fun r u' hr I' => ?_))
  obtain ⟨ld', lt', wt', b1, b2, b3, b4, b5, b6, b7, b8, b9, b10, b11⟩ := u'
  have hvi : zq_b r p = true ↔ zq_b v i = true := by
    rw [hr p (by omega), hv i (by omega)]
    exact ⟨fun k => ⟨hi, k⟩, fun k => k.2⟩
  refine br_t h0 (br_t (zq_bit2 (by omega) (by omega) hvi) (zq_members I' hs h8 hi (fun r2 u2 hr2 I2 => ?_)))
  obtain ⟨ld2, lt2, wt2, c1, c2, c3, c4, c5, c6, c7, c8, c9, c10, c11⟩ := u2
  rw [zq_is_u hr hr2]
  exact br_t rfl (nm_r (nI_1 i) (hw _ I2))
/-- a state that the law asks for -/
def zq_ok (T : Nat) (x : Int32) : Prop := x < 0 ∨ ∃ s, s ≤ T ∧ T < s + 8 ∧ x = nI s
theorem zq_holds {post : Int32 → St1 → Prop} {T l : Nat} {H : Nat → zq_G} {z : Nat → Int32} {u : St1} {x : Int32} (I : zq_I T l H z u) (hx : zq_ok T x) (K : ∀ l' u', zq_I T l' H z u' → post 1 u') : wpL_holds post u x := by
  have M : ∃ n, wL_holds_2 post x n 0 u.1 u.2.1 u.2.2.1 u.2.2.2.1 u.2.2.2.2.1 u.2.2.2.2.2.1 u.2.2.2.2.2.2.1 u.2.2.2.2.2.2.2.1 u.2.2.2.2.2.2.2.2.1 u.2.2.2.2.2.2.2.2.2.1 u.2.2.2.2.2.2.2.2.2.2.1 u.2.2.2.2.2.2.2.2.2.2.2.1 u.2.2.2.2.2.2.2.2.2.2.2.2.1 u.2.2.2.2.2.2.2.2.2.2.2.2.2 := by
    refine pk_loop (σ := St1) (fun n i w => wL_holds_2 post x n (nI i) w.1 w.2.1 w.2.2.1 w.2.2.2.1 w.2.2.2.2.1 w.2.2.2.2.2.1 w.2.2.2.2.2.2.1 w.2.2.2.2.2.2.2.1 w.2.2.2.2.2.2.2.2.1 w.2.2.2.2.2.2.2.2.2.1 w.2.2.2.2.2.2.2.2.2.2.1 w.2.2.2.2.2.2.2.2.2.2.2.1 w.2.2.2.2.2.2.2.2.2.2.2.2.1 w.2.2.2.2.2.2.2.2.2.2.2.2.2) (fun _ w => ∃ l', zq_I T l' H z w) 6 0 u (by omega) ⟨l, I⟩ ?_ ?_
    · rintro n ⟨ld, lt, wt, a1, a2, a3, a4, a5, a6, a7, a8, a9, a10, a11⟩ ⟨l', h⟩
      exact pk_le 6 6 (fun _ => K l' _ h) (fun z => absurd z (by omega))
    · rintro n i ⟨ld, lt, wt, a1, a2, a3, a4, a5, a6, a7, a8, a9, a10, a11⟩ hi ⟨l', h⟩ hw
      refine pk_le 6 i (fun z => absurd z (by omega)) (fun _ => ?_)
      rcases hx with hx | ⟨s, hs, h8, rfl⟩
      · exact zq_groupsn hx hi (zq_h18n hx hi (hw (ld, lt, wt, a1, a2, a3, a4, a5, a6, a7, a8, a9, a10, a11) ⟨l', h⟩))
      · refine zq_groups h hs h8 hi (fun v u' hv I' => ?_)
        obtain ⟨ld', lt', wt', b1, b2, b3, b4, b5, b6, b7, b8, b9, b10, b11⟩ := u'
        exact zq_h18 I' hs h8 hi hv (fun u2 I2 => hw u2 ⟨s, I2⟩)
  obtain ⟨ld, lt, wt, a1, a2, a3, a4, a5, a6, a7, a8, a9, a10, a11⟩ := u
  exact M
theorem zq_x0 : ∀ p, p < 6 → (0 : Int32) + ((0 : Int32) >>> (nI p &&& 31) &&& 1) = 0 := by decide +kernel
theorem zq_xx (x : Int32) : x ^^^ x = 0 := by
  apply zq_ext
  intro i _
  rw [zq_bx, Bool.xor_self, zq_b0]
theorem zq_c95 {post : Int32 → St1 → Prop} {J77 : Int32 → Int32 → Int32 → Int32 → Int32 → (Nat → Int32) → (Nat → Int32) → (Nat → Int32) → (Nat → Int32) → (Nat → Int32) → (Nat → Int32) → (Nat → Int32) → (Nat → Int32) → (Nat → Int32) → (Nat → Int32) → (Nat → Int32) → Prop}
    {g : Nat} {ld lt wt : Int32} {a1 a2 a3 a4 a5 a6 a7 a8 a9 a10 a11 : Nat → Int32} (hg : g < 18) (K : J77 0 (nI (g + 1)) ld lt wt a1 a2 a3 a4 a5 a6 a7 a8 a9 a10 a11) : ∃ n, wX_changed_95 post J77 (nI g) (a11 g) ld lt wt a1 a2 a3 a4 a5 a6 a7 a8 a9 a10 a11 n 0 0 := by
  refine pk_loop (σ := Unit) (fun n i _ => wX_changed_95 post J77 (nI g) (a11 g) ld lt wt a1 a2 a3 a4 a5 a6 a7 a8 a9 a10 a11 n 0 (nI i)) (fun _ _ => True) 6 0 () (by omega) trivial
    (fun n _ _ => pk_le 6 6 (fun _ => nm_r (nI_1 g) K) (fun z => absurd z (by omega)))
    (fun n i _ hi _ hw => pk_le 6 i (fun z => absurd z (by omega)) (fun _ => ⟨pk_in g 18 hg, nm_r (show _ = (0 : Int32) from ?_) (nm_r (nI_1 i) (hw () trivial))⟩))
  rw [nI_clamp (show g < 2 ^ 31 by omega), zq_xx]
  exact zq_x0 i hi
theorem zq_c77 {post : Int32 → St1 → Prop} {T s : Nat} {H : Nat → zq_G} {z : Nat → Int32} {u : St1} (I : zq_I T s H z u) (hz : ∀ j, j < 18 → zq_is (H s) j (z j)) (K : ∀ u', zq_I T s H z u' → post 0 u') : ∃ n, wX_changed_77 post n 0 0 u.1 u.2.1 u.2.2.1 u.2.2.2.1 u.2.2.2.2.1 u.2.2.2.2.2.1 u.2.2.2.2.2.2.1 u.2.2.2.2.2.2.2.1 u.2.2.2.2.2.2.2.2.1 u.2.2.2.2.2.2.2.2.2.1 u.2.2.2.2.2.2.2.2.2.2.1 u.2.2.2.2.2.2.2.2.2.2.2.1 u.2.2.2.2.2.2.2.2.2.2.2.2.1 u.2.2.2.2.2.2.2.2.2.2.2.2.2 := by
  refine pk_loop (σ := St1) (fun n i w => wX_changed_77 post n 0 (nI i) w.1 w.2.1 w.2.2.1 w.2.2.2.1 w.2.2.2.2.1 w.2.2.2.2.2.1 w.2.2.2.2.2.2.1 w.2.2.2.2.2.2.2.1 w.2.2.2.2.2.2.2.2.1 w.2.2.2.2.2.2.2.2.2.1 w.2.2.2.2.2.2.2.2.2.2.1 w.2.2.2.2.2.2.2.2.2.2.2.1 w.2.2.2.2.2.2.2.2.2.2.2.2.1 w.2.2.2.2.2.2.2.2.2.2.2.2.2) (fun _ w => zq_I T s H z w) 18 0 u (by omega) I ?_ ?_
  · rintro n ⟨ld, lt, wt, a1, a2, a3, a4, a5, a6, a7, a8, a9, a10, a11⟩ h
    exact pk_le 18 18 (fun _ => K _ h) (fun z => absurd z (by omega))
  · rintro n i ⟨ld, lt, wt, a1, a2, a3, a4, a5, a6, a7, a8, a9, a10, a11⟩ hi h hw
    refine pk_le 18 i (fun z => absurd z (by omega)) (fun _ => zq_mem h hi (fun r u' hr I' => ?_))
    obtain ⟨ld', lt', wt', b1, b2, b3, b4, b5, b6, b7, b8, b9, b10, b11⟩ := u'
    have e : b11 = z := I'.2.2.2.2.2.2.2.2
    rw [zq_is_u hr (hz i hi), ← e]
    exact zq_c95 hi (hw _ I')
theorem zq_z1 {c : zq_G} {z : Nat → Int32} {i : Nat} {r : Int32} (hz : ∀ j, j < i → zq_is c j (z j)) (hr : zq_is c i r) : ∀ j, j < i + 1 → zq_is c j (upd z i r j) := by
  intro j hj
  by_cases e : j = i
  · rw [e, pk_us]
    exact hr
  · rw [pk_un e]
    exact hz j (by omega)
theorem zq_changed {post : Int32 → St1 → Prop} {T l s : Nat} {H : Nat → zq_G} {z : Nat → Int32} {u : St1} (I : zq_I T l H z u) (hs : s ≤ T) (h8 : T < s + 8) (K : ∀ z' u', zq_I T s H z' u' → post 0 u') : wpX_changed post u (nI s) (nI s) := by
  obtain ⟨ld, lt, wt, a1, a2, a3, a4, a5, a6, a7, a8, a9, a10, a11⟩ := u
  unfold wpX_changed
  dsimp only
  refine zq_isS I hs (br_f (by decide) (zq_isS I hs (br_f (by decide) (zq_isK I hs h8 (br_f (by decide) (zq_isK I hs h8 (br_f (by decide) (zq_load I hs h8 (fun u' I' => ?_)))))))))
  have M : ∃ n, wX_changed_44 post (nI s) n 0 u'.1 u'.2.1 u'.2.2.1 u'.2.2.2.1 u'.2.2.2.2.1 u'.2.2.2.2.2.1 u'.2.2.2.2.2.2.1 u'.2.2.2.2.2.2.2.1 u'.2.2.2.2.2.2.2.2.1 u'.2.2.2.2.2.2.2.2.2.1 u'.2.2.2.2.2.2.2.2.2.2.1 u'.2.2.2.2.2.2.2.2.2.2.2.1 u'.2.2.2.2.2.2.2.2.2.2.2.2.1 u'.2.2.2.2.2.2.2.2.2.2.2.2.2 := by
    refine pk_loop (σ := St1) (fun n i w => wX_changed_44 post (nI s) n (nI i) w.1 w.2.1 w.2.2.1 w.2.2.2.1 w.2.2.2.2.1 w.2.2.2.2.2.1 w.2.2.2.2.2.2.1 w.2.2.2.2.2.2.2.1 w.2.2.2.2.2.2.2.2.1 w.2.2.2.2.2.2.2.2.2.1 w.2.2.2.2.2.2.2.2.2.2.1 w.2.2.2.2.2.2.2.2.2.2.2.1 w.2.2.2.2.2.2.2.2.2.2.2.2.1 w.2.2.2.2.2.2.2.2.2.2.2.2.2) (fun i w => ∃ z', zq_I T s H z' w ∧ ∀ j, j < i → zq_is (H s) j (z' j)) 18 0 u' (by omega) ⟨z, I', fun j hj => absurd hj (by omega)⟩ ?_ ?_
    · rintro n ⟨ld, lt, wt, a1, a2, a3, a4, a5, a6, a7, a8, a9, a10, a11⟩ ⟨z', h, hz⟩
      refine pk_le 18 18 (fun _ => zq_load h hs h8 (fun u2 I2 => ?_)) (fun z => absurd z (by omega))
      obtain ⟨ld', lt', wt', b1, b2, b3, b4, b5, b6, b7, b8, b9, b10, b11⟩ := u2
      exact zq_c77 I2 hz (K z')
    · rintro n i ⟨ld, lt, wt, a1, a2, a3, a4, a5, a6, a7, a8, a9, a10, a11⟩ hi ⟨z', h, hz⟩ hw
      refine pk_le 18 i (fun z => absurd z (by omega)) (fun _ => zq_nem h hi (fun r u2 hr I2 => ?_))
      obtain ⟨ld', lt', wt', b1, b2, b3, b4, b5, b6, b7, b8, b9, b10, b11⟩ := u2
      obtain ⟨k1, k2, k3, k4, k5, k6, k7, k8, k9⟩ := I2
      refine ⟨pk_in i 18 hi, nm_r (show _ = upd b11 i r from ?_) (nm_r (nI_1 i) (hw (ld', lt', wt', b1, b2, b3, b4, b5, b6, b7, b8, b9, b10, upd b11 i r) ⟨upd b11 i r, ⟨k1, k2, k3, k4, k5, k6, k7, k8, rfl⟩, zq_z1 (by rw [k9]; exact hz) hr⟩))⟩
      rw [nI_clamp (by omega)]
  obtain ⟨ld', lt', wt', b1, b2, b3, b4, b5, b6, b7, b8, b9, b10, b11⟩ := u'
  exact M
end
section
/-! the changes: noteChange, enter, nest, rule -/
theorem zq_uu {f : Nat → Int32} {k : Nat} {x y : Int32} : upd (upd f k x) k y = upd f k y := by
  funext j
  by_cases e : j = k
  · rw [e, pk_us, pk_us]
  · rw [pk_un e, pk_un e, pk_un e]
theorem zq_ui {f : Nat → Int32} {k : Nat} : upd f k (f k) = f := by
  funext j
  by_cases e : j = k
  · rw [e, pk_us]
  · rw [pk_un e]
theorem zq_stB {x so : Int32} {n i : Nat} (hn : n < 32) (hi : i < 32) : zq_b (zq_st x ((1 : Int32) <<< (nI n &&& 31)) so) i = true ↔ (i = n ∧ ¬ so = 0) ∨ (¬ i = n ∧ zq_b x i = true) := by
  unfold zq_st
  by_cases hs : so = 0
  · rw [if_pos hs, zq_baT, zq_bnT hi, zq_oneT hn hi]
    exact ⟨fun z => Or.inr ⟨z.2, z.1⟩, fun z => z.elim (fun y => absurd hs y.2) (fun y => ⟨y.2, y.1⟩)⟩
  · rw [if_neg hs, zq_boT, zq_oneT hn hi]
    constructor
    · rintro (z | z)
      · by_cases e : i = n
        · exact Or.inl ⟨e, hs⟩
        · exact Or.inr ⟨e, z⟩
      · exact Or.inl ⟨z, hs⟩
    · rintro (⟨z, _⟩ | ⟨_, z⟩)
      · exact Or.inr z
      · exact Or.inl z
theorem zq_stst {x so bf : Int32} {n : Nat} (hn : n < 32) (h : ¬ bf = 0 ↔ zq_b x n = true) : zq_st (zq_st x ((1 : Int32) <<< (nI n &&& 31)) so) ((1 : Int32) <<< (nI n &&& 31)) bf = x := by
  apply zq_extI
  intro i hi
  rw [zq_stB hn hi, zq_stB hn hi]
  constructor
  · rintro (⟨e, z⟩ | ⟨e, z⟩)
    · rw [e]
      exact h.mp z
    · exact z.elim (fun y => absurd y.1 e) (fun y => y.2)
  · intro z
    by_cases e : i = n
    · rw [e] at z
      exact Or.inl ⟨e, h.mpr z⟩
    · exact Or.inr ⟨e, Or.inr ⟨e, z⟩⟩
/-- what a change is about -/
def zq_get (c : zq_G) (k pl : Nat) : Int32 := if k = 0 then c.1 pl else if k = 1 then c.2.1 pl else c.2.2 pl
theorem zq_apap {c : zq_G} {k pl : Nat} {b so bf : Int32} (h : zq_st (zq_st (zq_get c k pl) b so) b bf = zq_get c k pl) : zq_ap (zq_ap c k pl b so) k pl b bf = c := by
  obtain ⟨c1, c2, c3⟩ := c
  unfold zq_get at h
  unfold zq_ap
  by_cases e : k = 0
  · rw [if_pos e] at h
    rw [if_pos e, if_pos e]
    dsimp only at h ⊢
    rw [pk_us, zq_uu, h, zq_ui]
  · by_cases e1 : k = 1
    · rw [if_neg e, if_pos e1] at h
      rw [if_neg e, if_pos e1, if_neg e, if_pos e1]
      dsimp only at h ⊢
      rw [pk_us, zq_uu, h, zq_ui]
    · rw [if_neg e, if_neg e1] at h
      rw [if_neg e, if_neg e1, if_neg e, if_neg e1]
      dsimp only at h ⊢
      rw [pk_us, zq_uu, h, zq_ui]
/-- one state more -/
def zq_H (H : Nat → zq_G) (T : Nat) (c : zq_G) : Nat → zq_G := fun s => if s = T + 1 then c else H s
theorem zq_Hn {H : Nat → zq_G} {T : Nat} {c : zq_G} : zq_H H T c (T + 1) = c := if_pos rfl
theorem zq_Ho {H : Nat → zq_G} {T s : Nat} {c : zq_G} (h : s ≤ T) : zq_H H T c s = H s := if_neg (by omega)
theorem zq_nb {x : Int32} (h : x = 0 ∨ x = 1) : vp_nar .boolean x = x := by
  rcases h with rfl | rfl
  · rfl
  · rfl
theorem zq_note {post : St1 → Prop} {T k pt pl : Nat} {H : Nat → zq_G} {z : Nat → Int32} {u : St1} {bf af : Int32} (I : zq_I T T H z u) (hT : T < 900) (hk : k ≤ 2) (hpl : pl < if k = 2 then 3 else 18) (hpt : pt < 18) (hbf : bf = 0 ∨ bf = 1) (haf : af = 0 ∨ af = 1)
    (hb : ¬ bf = 0 ↔ zq_b (zq_get (H T) k pl) pt = true)
    (K : ∀ u', zq_I (T + 1) (T + 1) (zq_H H T (zq_ap (H T) k pl ((1 : Int32) <<< (nI pt &&& 31)) af)) z u' → post u') :
    wpX_noteChange post u (nI k) (nI pt) (nI pl) bf af := by
  obtain ⟨ld, lt, wt, a1, a2, a3, a4, a5, a6, a7, a8, a9, a10, a11⟩ := u
  obtain ⟨rfl, rfl, h1, h2, h3, h4, h5, h6, rfl⟩ := I
  have hpl2 : pl < 18 := by split at hpl <;> omega
  have e8 : nI (T + 1) - nI (T + 1) / 8 * 8 = nI ((T + 1) % 8) := pk_rem (d := 8) (by omega) (by omega) (by omega)
  have hm : (T + 1) % 8 < 8 := Nat.mod_lt _ (by omega)
  have ec := nI_clamp (show (T + 1) % 8 < 2 ^ 31 by omega)
  have e4 : upd a4 (nI ((T + 1) % 8)).toNatClampNeg (nI k).toInt8.toInt32 = upd a4 ((T + 1) % 8) (nI k) := by rw [ec, zq_by8 k (by omega)]
  have e5 : upd a5 (nI ((T + 1) % 8)).toNatClampNeg (nI pt).toInt8.toInt32 = upd a5 ((T + 1) % 8) (nI pt) := by rw [ec, zq_by8 pt (by omega)]
  have e6 : upd a6 (nI ((T + 1) % 8)).toNatClampNeg (nI pl).toInt8.toInt32 = upd a6 ((T + 1) % 8) (nI pl) := by rw [ec, zq_by8 pl (by omega)]
  have e7 : upd a7 (nI ((T + 1) % 8)).toNatClampNeg (vp_nar .boolean bf) = upd a7 ((T + 1) % 8) bf := by rw [ec, zq_nb hbf]
  have e9 : upd a8 (nI ((T + 1) % 8)).toNatClampNeg (vp_nar .boolean af) = upd a8 ((T + 1) % 8) af := by rw [ec, zq_nb haf]
  have hi : vp_in (nI ((T + 1) % 8)) 8 := pk_in ((T + 1) % 8) 8 hm
  have hLn : zq_L (zq_H H T (zq_ap (H T) k pl ((1 : Int32) <<< (nI pt &&& 31)) af)) (T + 1) (upd a4 ((T + 1) % 8) (nI k)) (upd a5 ((T + 1) % 8) (nI pt)) (upd a6 ((T + 1) % 8) (nI pl)) (upd a7 ((T + 1) % 8) bf) (upd a8 ((T + 1) % 8) af) := by
    intro s s0 s1 s8
    by_cases e : s = T + 1
    · subst e
      refine ⟨k, pl, hk, hpl, pk_us, pk_us, ?_, ?_⟩
      · rw [show T + 1 - 1 = T by omega, zq_Hn, zq_Ho (Nat.le_refl T), pk_us, pk_us]
      · rw [show T + 1 - 1 = T by omega, zq_Hn, zq_Ho (Nat.le_refl T), pk_us, pk_us]
        exact (zq_apap (zq_stst (by omega) hb)).symm
    · have en : s % 8 ≠ (T + 1) % 8 := by omega
      rw [pk_un en, pk_un en, pk_un en, pk_un en, pk_un en, zq_Ho (show s ≤ T by omega), zq_Ho (show s - 1 ≤ T by omega)]
      exact h5 s s0 (by omega) (by omega)
  unfold wpX_noteChange
  dsimp only
  refine nm_r (nI_1 T) ⟨by decide, nm_r e8 ⟨hi, nm_r e4 ⟨hi, nm_r e5 ⟨hi, nm_r e6 ⟨hi, nm_r e7 ⟨hi, nm_r e9 ?_⟩⟩⟩⟩⟩⟩
  refine zq_make hm hk hpl pk_us pk_us h6 (fun b1 b2 b3 b9 hc hd => ?_)
  have hH : (b1, b2, b3) = zq_H H T (zq_ap (H T) k pl ((1 : Int32) <<< (nI pt &&& 31)) af) (T + 1) := by
    rw [zq_Hn, hc, h4, pk_us]
  exact K _ ⟨rfl, rfl, Nat.le_refl _, by omega, by omega, hH, hLn, hd, rfl⟩
/-- a change's end: the state before it is asked, then it is written down -/
theorem zq_ask {A B : Prop} {x : Int32} {n : Nat} (hn : n < 32) (f : ¬ zq_b x n = true → A) (g : zq_b x n = true → B) : ((x >>> (nI n &&& 31)) &&& 1 = 0 → A) ∧ (¬ (x >>> (nI n &&& 31)) &&& 1 = 0 → B) :=
  ⟨fun e => f ((zq_bit0 x hn).mp e), fun e => g (zq_bitT hn e)⟩
theorem zq_n0 {x : Int32} {n : Nat} (h : ¬ zq_b x n = true) : ¬ (0 : Int32) = 0 ↔ zq_b x n = true := ⟨fun z => absurd rfl z, fun z => absurd z h⟩
theorem zq_n1 {x : Int32} {n : Nat} (h : zq_b x n = true) : ¬ (1 : Int32) = 0 ↔ zq_b x n = true := ⟨fun _ => h, fun _ => by decide⟩
theorem zq_enter {post : Int32 → St1 → Prop} {T l p g : Nat} {H : Nat → zq_G} {z : Nat → Int32} {u : St1} {on : Int32} (I : zq_I T l H z u) (hT : T < 900) (hp : p < 6) (hg : g < 18) (hon : on = 0 ∨ on = 1)
    (K : ∀ u', zq_I (T + 1) (T + 1) (zq_H H T (zq_ap (H T) 0 g ((1 : Int32) <<< (nI p &&& 31)) on)) z u' → post (nI (T + 1)) u') : wpX_enter post u (nI p) (nI g) on := by
  have e0 : ∀ v : St1, zq_I T T H z v → v.2.2.2.1 = (H T).1 := fun v hv => congrArg (fun c : zq_G => c.1) hv.2.2.2.2.2.1
  have el : u.2.1 = nI T := I.2.1
  obtain ⟨ld, lt, wt, a1, a2, a3, a4, a5, a6, a7, a8, a9, a10, a11⟩ := u
  dsimp only at el
  subst el
  unfold wpX_enter
  dsimp only
  refine zq_isP hp (br_f (by decide) (zq_isG hg (br_f (by decide) (zq_load I (Nat.le_refl T) (by omega) (fun u' I' => ?_)))))
  have e1 := e0 u' I'
  obtain ⟨ld', lt', wt', b1, b2, b3, b4, b5, b6, b7, b8, b9, b10, b11⟩ := u'
  dsimp only at e1
  have ex : b1 (nI g).toNatClampNeg = zq_get (H T) 0 g := by
    rw [nI_clamp (by omega), e1]
    rfl
  have K' : ∀ u', zq_I (T + 1) (T + 1) (zq_H H T (zq_ap (H T) 0 g ((1 : Int32) <<< (nI p &&& 31)) on)) z u' → post u'.2.1 u' := by
    intro v hv
    have := K v hv
    rw [show v.2.1 = nI (T + 1) from hv.2.1]
    exact this
  refine ⟨pk_in g 18 hg, ?_⟩
  dsimp only
  rw [ex]
  refine zq_ask (by omega) (fun e => ?_) (fun e => ?_)
  · refine zq_note (k := 0) I' hT (by omega) hg (by omega) (Or.inl rfl) hon (zq_n0 e) (fun v hv => ?_)
    have := K' v hv
    obtain ⟨ld2, lt2, wt2, c1, c2, c3, c4, c5, c6, c7, c8, c9, c10, c11⟩ := v
    exact this
  · refine zq_note (k := 0) I' hT (by omega) hg (by omega) (Or.inr rfl) hon (zq_n1 e) (fun v hv => ?_)
    have := K' v hv
    obtain ⟨ld2, lt2, wt2, c1, c2, c3, c4, c5, c6, c7, c8, c9, c10, c11⟩ := v
    exact this
theorem zq_nest {post : Int32 → St1 → Prop} {T l p g : Nat} {H : Nat → zq_G} {z : Nat → Int32} {u : St1} {on : Int32} (I : zq_I T l H z u) (hT : T < 900) (hp : p < 18) (hg : g < 18) (hon : on = 0 ∨ on = 1)
    (K : ∀ (r : Int32) (H' : Nat → zq_G) (u' : St1), zq_I (T + 1) (T + 1) H' z u' → post r u') : wpX_nest post u (nI p) (nI g) on := by
  have e0 : ∀ v : St1, zq_I T T H z v → v.2.2.2.2.1 = (H T).2.1 := fun v hv => congrArg (fun c : zq_G => c.2.1) hv.2.2.2.2.2.1
  have el : u.2.1 = nI T := I.2.1
  obtain ⟨ld, lt, wt, a1, a2, a3, a4, a5, a6, a7, a8, a9, a10, a11⟩ := u
  dsimp only at el
  subst el
  unfold wpX_nest
  dsimp only
  refine zq_isG hp (br_f (by decide) (zq_isG hg (br_f (by decide) (zq_load I (Nat.le_refl T) (by omega) (fun u' I' => ?_)))))
  have e1 := e0 u' I'
  obtain ⟨ld', lt', wt', b1, b2, b3, b4, b5, b6, b7, b8, b9, b10, b11⟩ := u'
  dsimp only at e1
  have ex : b2 (nI g).toNatClampNeg = zq_get (H T) 1 g := by
    rw [nI_clamp (by omega), e1]
    rfl
  refine ⟨pk_in g 18 hg, ?_⟩
  dsimp only
  rw [ex]
  refine zq_ask (by omega) (fun e => ?_) (fun e => ?_)
  · refine zq_note (k := 1) I' hT (by omega) hg (by omega) (Or.inl rfl) hon (zq_n0 e) (fun v hv => ?_)
    obtain ⟨ld2, lt2, wt2, c1, c2, c3, c4, c5, c6, c7, c8, c9, c10, c11⟩ := v
    exact K _ _ _ hv
  · refine zq_note (k := 1) I' hT (by omega) hg (by omega) (Or.inr rfl) hon (zq_n1 e) (fun v hv => ?_)
    obtain ⟨ld2, lt2, wt2, c1, c2, c3, c4, c5, c6, c7, c8, c9, c10, c11⟩ := v
    exact K _ _ _ hv
theorem zq_rule {post : Int32 → St1 → Prop} {T l p g : Nat} {H : Nat → zq_G} {z : Nat → Int32} {u : St1} {on : Int32} (I : zq_I T l H z u) (hT : T < 900) (hp : p < 3) (hg : g < 3) (hon : on = 0 ∨ on = 1)
    (K : ∀ (r : Int32) (T' l' : Nat) (H' : Nat → zq_G) (u' : St1), T' ≤ T + 1 → zq_I T' l' H' z u' → post r u') : wpX_rule post u (nI p) (nI g) on := by
  have e0 : ∀ v : St1, zq_I T T H z v → v.2.2.2.2.2.1 = (H T).2.2 := fun v hv => congrArg (fun c : zq_G => c.2.2) hv.2.2.2.2.2.1
  have el : u.2.1 = nI T := I.2.1
  obtain ⟨ld, lt, wt, a1, a2, a3, a4, a5, a6, a7, a8, a9, a10, a11⟩ := u
  dsimp only at el
  subst el
  unfold wpX_rule
  dsimp only
  refine br_f (nI_pos (by omega)) (pk_lt 2 p (fun z => absurd z (by omega)) (fun _ => br_f (nI_pos (by omega)) (pk_lt 2 g (fun z => absurd z (by omega)) (fun _ => br_c (fun _ => K _ T l H _ (by omega) I) (fun _ => zq_load I (Nat.le_refl T) (by omega) (fun u' I' => ?_))))))
  have e1 := e0 u' I'
  obtain ⟨ld', lt', wt', b1, b2, b3, b4, b5, b6, b7, b8, b9, b10, b11⟩ := u'
  dsimp only at e1
  have ex : b3 (nI g).toNatClampNeg = zq_get (H T) 2 g := by
    rw [nI_clamp (by omega), e1]
    rfl
  refine ⟨pk_in g 3 hg, ?_⟩
  dsimp only
  rw [ex]
  refine zq_ask (by omega) (fun e => ?_) (fun e => ?_)
  · refine zq_note (k := 2) I' hT (by omega) hg (by omega) (Or.inl rfl) hon (zq_n0 e) (fun v hv => ?_)
    obtain ⟨ld2, lt2, wt2, c1, c2, c3, c4, c5, c6, c7, c8, c9, c10, c11⟩ := v
    exact K _ _ _ _ _ (Nat.le_refl _) hv
  · refine zq_note (k := 2) I' hT (by omega) hg (by omega) (Or.inr rfl) hon (zq_n1 e) (fun v hv => ?_)
    obtain ⟨ld2, lt2, wt2, c1, c2, c3, c4, c5, c6, c7, c8, c9, c10, c11⟩ := v
    exact K _ _ _ _ _ (Nat.le_refl _) hv
end
section
/-! the law -/
theorem zq_lat {post : Int32 → Prop} {T l : Nat} {H : Nat → zq_G} {z : Nat → Int32} {u : St1} (I : zq_I T l H z u) (h : post (nI T)) : wpX_latest post u := by
  obtain ⟨ld, lt, wt, a1, a2, a3, a4, a5, a6, a7, a8, a9, a10, a11⟩ := u
  obtain ⟨rfl, rfl, h1, h2, h3, h4, h5, h6, rfl⟩ := I
  exact h
theorem zq_mono {c : zq_G} {g q : Nat} {b r s : Int32} (h : zq_is c q r) (k : zq_is (zq_ap c 0 g b 1) q s) : r &&& (s ^^^ (-1)) = 0 := by
  apply zq_extI
  intro i hi
  rw [zq_baT, zq_bnT hi, zq_b0, h i hi, k i hi]
  refine ⟨fun ⟨⟨j, hj, e1, e2⟩, n⟩ => absurd ⟨j, hj, e1, ?_⟩ n, fun n => absurd n (by decide)⟩
  show zq_b (upd c.1 g (zq_st (c.1 g) b 1) j) i = true
  by_cases e : j = g
  · rw [e, pk_us]
    unfold zq_st
    rw [if_neg (by decide), zq_boT]
    rw [e] at e2
    exact Or.inl e2
  · rw [pk_un e]
    exact e2
theorem zq_249 {L : Nat} {xs : Nat → Int32} {J10 : Int32 → Int32 → Int32 → Int32 → (Nat → Int32) → (Nat → Int32) → (Nat → Int32) → (Nat → Int32) → (Nat → Int32) → (Nat → Int32) → (Nat → Int32) → (Nat → Int32) → (Nat → Int32) → (Nat → Int32) → (Nat → Int32) → Prop}
    {x3 x4 : Int32} {i kc ks T l : Nat} {H : Nat → zq_G} {z : Nat → Int32} {u : St1} (I : zq_I T l H z u) (hT : T < 1000) (K : ∀ l' z' u', zq_I T l' H z' u' → J10 (nI (i + 3)) u'.1 u'.2.1 u'.2.2.1 u'.2.2.2.1 u'.2.2.2.2.1 u'.2.2.2.2.2.1 u'.2.2.2.2.2.2.1 u'.2.2.2.2.2.2.2.1 u'.2.2.2.2.2.2.2.2.1 u'.2.2.2.2.2.2.2.2.2.1 u'.2.2.2.2.2.2.2.2.2.2.1 u'.2.2.2.2.2.2.2.2.2.2.2.1 u'.2.2.2.2.2.2.2.2.2.2.2.2.1 u'.2.2.2.2.2.2.2.2.2.2.2.2.2) : wL_law_249 (fun r => r = 1) L xs J10 (nI i) x3 x4 kc ks u.1 u.2.1 u.2.2.1 u.2.2.2.1 u.2.2.2.2.1 u.2.2.2.2.2.1 u.2.2.2.2.2.2.1 u.2.2.2.2.2.2.2.1 u.2.2.2.2.2.2.2.2.1 u.2.2.2.2.2.2.2.2.2.1 u.2.2.2.2.2.2.2.2.2.2.1 u.2.2.2.2.2.2.2.2.2.2.2.1 u.2.2.2.2.2.2.2.2.2.2.2.2.1 u.2.2.2.2.2.2.2.2.2.2.2.2.2 := by
  obtain ⟨ja, hja, ea⟩ := pk_andE (x3 >>> ((9 : Int32) &&& 31)) 3 (m := 7) (by decide)
  obtain ⟨jb, hjb, eb⟩ := pk_andE (x4 >>> ((8 : Int32) &&& 31)) 3 (m := 7) (by decide)
  have hok : ∀ j, j < 8 → zq_ok T (nI T - nI j) := by
    intro j hj
    rcases Nat.lt_or_ge T j with e | e
    · exact Or.inl (pk_sneg (by omega) e)
    · exact Or.inr ⟨T - j, by omega, by omega, pk_sub e⟩
  have hokT : zq_ok T (nI T) := Or.inr ⟨T, by omega, by omega, rfl⟩
  obtain ⟨ld, lt, wt, a1, a2, a3, a4, a5, a6, a7, a8, a9, a10, a11⟩ := u
  unfold wL_law_249
  rw [ea, eb]
  refine zq_lat I (zq_holds I hokT (fun l1 u1 I1 => ?_))
  obtain ⟨ld', lt', wt', b1, b2, b3, b4, b5, b6, b7, b8, b9, b10, b11⟩ := u1
  refine br_f (by decide) (zq_holds I1 (hok jb hjb) (fun l2 u2 I2 => ?_))
  obtain ⟨ld2, lt2, wt2, c1, c2, c3, c4, c5, c6, c7, c8, c9, c10, c11⟩ := u2
  refine br_f (by decide) (zq_changed I2 (Nat.le_refl T) (by omega) (fun z3 u3 I3 => ?_))
  obtain ⟨ld3, lt3, wt3, d1, d2, d3, d4, d5, d6, d7, d8, d9, d10, d11⟩ := u3
  refine br_t rfl (nm_e ?_)
  rcases Nat.lt_or_ge T ja with e | e
  · exact br_t (pk_sneg (by omega) e) (nm_r (nI_add i 3) (K _ _ _ I3))
  · rw [pk_sub e]
    refine br_f (nI_pos (by omega)) (zq_changed I3 (by omega) (by omega) (fun z4 u4 I4 => ?_))
    obtain ⟨ld4, lt4, wt4, e1, e2, e3, e4, e5, e6, e7, e8, e9, e10, e11⟩ := u4
    exact br_t rfl (nm_r (nI_add i 3) (K _ _ _ I4))
theorem zq_197 {L : Nat} {xs : Nat → Int32} {J10 : Int32 → Int32 → Int32 → Int32 → (Nat → Int32) → (Nat → Int32) → (Nat → Int32) → (Nat → Int32) → (Nat → Int32) → (Nat → Int32) → (Nat → Int32) → (Nat → Int32) → (Nat → Int32) → (Nat → Int32) → (Nat → Int32) → Prop}
    {x3 x4 : Int32} {i kc ks T l : Nat} {H : Nat → zq_G} {z : Nat → Int32} {u : St1} (I : zq_I (T + 1) l H z u) (hT : T < 900) (hm : ∀ q r s, zq_is (H T) q r → zq_is (H (T + 1)) q s → r &&& (s ^^^ (-1)) = 0)
    (K : ∀ l' z' u', zq_I (T + 1) l' H z' u' → J10 (nI (i + 3)) u'.1 u'.2.1 u'.2.2.1 u'.2.2.2.1 u'.2.2.2.2.1 u'.2.2.2.2.2.1 u'.2.2.2.2.2.2.1 u'.2.2.2.2.2.2.2.1 u'.2.2.2.2.2.2.2.2.1 u'.2.2.2.2.2.2.2.2.2.1 u'.2.2.2.2.2.2.2.2.2.2.1 u'.2.2.2.2.2.2.2.2.2.2.2.1 u'.2.2.2.2.2.2.2.2.2.2.2.2.1 u'.2.2.2.2.2.2.2.2.2.2.2.2.2) : ∃ n, wL_law_197 (fun r => r = 1) L xs J10 (nI i) x3 x4 (nI T) kc ks n 0 u.1 u.2.1 u.2.2.1 u.2.2.2.1 u.2.2.2.2.1 u.2.2.2.2.2.1 u.2.2.2.2.2.2.1 u.2.2.2.2.2.2.2.1 u.2.2.2.2.2.2.2.2.1 u.2.2.2.2.2.2.2.2.2.1 u.2.2.2.2.2.2.2.2.2.2.1 u.2.2.2.2.2.2.2.2.2.2.2.1 u.2.2.2.2.2.2.2.2.2.2.2.2.1 u.2.2.2.2.2.2.2.2.2.2.2.2.2 := by
  refine pk_loop (σ := St1) (fun n q w => wL_law_197 (fun r => r = 1) L xs J10 (nI i) x3 x4 (nI T) kc ks n (nI q) w.1 w.2.1 w.2.2.1 w.2.2.2.1 w.2.2.2.2.1 w.2.2.2.2.2.1 w.2.2.2.2.2.2.1 w.2.2.2.2.2.2.2.1 w.2.2.2.2.2.2.2.2.1 w.2.2.2.2.2.2.2.2.2.1 w.2.2.2.2.2.2.2.2.2.2.1 w.2.2.2.2.2.2.2.2.2.2.2.1 w.2.2.2.2.2.2.2.2.2.2.2.2.1 w.2.2.2.2.2.2.2.2.2.2.2.2.2) (fun _ w => ∃ l', zq_I (T + 1) l' H z w) 18 0 u (by omega) ⟨l, I⟩
    (fun n w ⟨l', h⟩ => pk_le 18 18 (fun _ => zq_249 h (by omega) K) (fun z => absurd z (by omega))) ?_
  rintro n q ⟨ld, lt, wt, a1, a2, a3, a4, a5, a6, a7, a8, a9, a10, a11⟩ hq ⟨l', h⟩ hw
  refine pk_le 18 q (fun z => absurd z (by omega)) (fun _ => zq_members h (by omega) (by omega) hq (fun r u1 hr I1 => ?_))
  obtain ⟨ld', lt', wt', b1, b2, b3, b4, b5, b6, b7, b8, b9, b10, b11⟩ := u1
  dsimp only
  rw [nI_1 T]
  refine zq_members I1 (Nat.le_refl _) (by omega) hq (fun s u2 hs I2 => ?_)
  obtain ⟨ld2, lt2, wt2, c1, c2, c3, c4, c5, c6, c7, c8, c9, c10, c11⟩ := u2
  exact br_c (fun _ => nm_r (nI_1 q) (hw _ ⟨_, I2⟩)) (fun _ => br_t (hm q r s hr hs) (nm_r (nI_1 q) (hw _ ⟨_, I2⟩)))
theorem zq_44 {L : Nat} {xs : Nat → Int32} {J10 : Int32 → Int32 → Int32 → Int32 → (Nat → Int32) → (Nat → Int32) → (Nat → Int32) → (Nat → Int32) → (Nat → Int32) → (Nat → Int32) → (Nat → Int32) → (Nat → Int32) → (Nat → Int32) → (Nat → Int32) → (Nat → Int32) → Prop}
    {x3 x4 on : Int32} {i kc ks T l : Nat} {H : Nat → zq_G} {z : Nat → Int32} {u : St1} (I : zq_I T l H z u) (hL : L ≤ 260) (hi : i < L) (hT : T < 900) (hon : on = 0 ∨ on = 1)
    (K : ∀ T' l' H' z' u', T' ≤ T + 1 → zq_I T' l' H' z' u' → J10 (nI (i + 3)) u'.1 u'.2.1 u'.2.2.1 u'.2.2.2.1 u'.2.2.2.2.1 u'.2.2.2.2.2.1 u'.2.2.2.2.2.2.1 u'.2.2.2.2.2.2.2.1 u'.2.2.2.2.2.2.2.2.1 u'.2.2.2.2.2.2.2.2.2.1 u'.2.2.2.2.2.2.2.2.2.2.1 u'.2.2.2.2.2.2.2.2.2.2.2.1 u'.2.2.2.2.2.2.2.2.2.2.2.2.1 u'.2.2.2.2.2.2.2.2.2.2.2.2.2) : wL_law_44 (fun r => r = 1) L xs J10 (nI i) x3 x4 on kc ks u.1 u.2.1 u.2.2.1 u.2.2.2.1 u.2.2.2.2.1 u.2.2.2.2.2.1 u.2.2.2.2.2.2.1 u.2.2.2.2.2.2.2.1 u.2.2.2.2.2.2.2.2.1 u.2.2.2.2.2.2.2.2.2.1 u.2.2.2.2.2.2.2.2.2.2.1 u.2.2.2.2.2.2.2.2.2.2.2.1 u.2.2.2.2.2.2.2.2.2.2.2.2.1 u.2.2.2.2.2.2.2.2.2.2.2.2.2 := by
  obtain ⟨ja, hja, ea⟩ := pk_andE x3 8 (m := 255) (by decide)
  obtain ⟨jb, hjb, eb⟩ := pk_andE x4 8 (m := 255) (by decide)
  obtain ⟨k, hk, ek⟩ := pk_andE (xs i) 3 (m := 7) (by decide)
  have a18 : nI ja - nI ja / 18 * 18 = nI (ja % 18) := pk_rem (d := 18) (by omega) (by omega) (by omega)
  have b18 : nI jb - nI jb / 18 * 18 = nI (jb % 18) := pk_rem (d := 18) (by omega) (by omega) (by omega)
  have a6' : nI ja - nI ja / 6 * 6 = nI (ja % 6) := pk_rem (d := 6) (by omega) (by omega) (by omega)
  have a3' : nI ja - nI ja / 3 * 3 = nI (ja % 3) := pk_rem (d := 3) (by omega) (by omega) (by omega)
  have b3' : nI jb - nI jb / 3 * 3 = nI (jb % 3) := pk_rem (d := 3) (by omega) (by omega) (by omega)
  have m18 : ∀ j, j % 18 < 18 := fun j => Nat.mod_lt j (by omega)
  have m6 : ∀ j, j % 6 < 6 := fun j => Nat.mod_lt j (by omega)
  have m3 : ∀ j, j % 3 < 3 := fun j => Nat.mod_lt j (by omega)
  obtain ⟨ld, lt, wt, a1, a2, a3, a4, a5, a6, a7, a8, a9, a10, a11⟩ := u
  have N : wL_law_137 (fun r => r = 1) L xs J10 (nI i) x3 x4 on (nI (ja % 18)) (nI (jb % 18)) kc ks ld lt wt a1 a2 a3 a4 a5 a6 a7 a8 a9 a10 a11 := by
    refine zq_nest I hT (m18 ja) (m18 jb) hon (fun r H' u' I' => ?_)
    obtain ⟨ld', lt', wt', b1, b2, b3, b4, b5, b6, b7, b8, b9, b10, b11⟩ := u'
    show wL_law_249 (fun r => r = 1) L xs J10 (nI i) x3 x4 kc ks ld' lt' wt' b1 b2 b3 b4 b5 b6 b7 b8 b9 b10 b11
    exact zq_249 (u := (ld', lt', wt', b1, b2, b3, b4, b5, b6, b7, b8, b9, b10, b11)) I' (by omega) (fun l' z' u' hu => K _ _ _ _ _ (Nat.le_refl _) hu)
  unfold wL_law_44
  rw [ea, eb, a18, b18, a6', a3', b3']
  refine ⟨by decide, nm_e ⟨by decide, nm_e (zq_lat I ⟨pk_in i L hi, nm_r (show _ = nI k from by rw [nI_clamp (by omega)]; exact ek) ?_⟩)⟩⟩
  refine br_f (nI_pos (by omega)) (pk_lt 4 k (fun _ => ⟨by decide, ?_⟩) (fun _ => pk_eq k 0 (fun _ => ⟨by decide, by decide, ?_⟩) (fun _ => pk_eq k 1 (fun _ => N) (fun _ => pk_eq k 2 (fun _ => N) (fun _ => pk_eq k 3 (fun _ => N) (fun _ => pk_eq k 4 (fun _ => ⟨by decide, ?_⟩) (fun _ => trivial)))))))
  · refine zq_enter I hT (m6 ja) (m18 jb) (Or.inr rfl) (fun u' I' => ?_)
    obtain ⟨ld', lt', wt', b1, b2, b3, b4, b5, b6, b7, b8, b9, b10, b11⟩ := u'
    refine br_t (nI_1 T).symm (zq_197 (u := (ld', lt', wt', b1, b2, b3, b4, b5, b6, b7, b8, b9, b10, b11)) I' hT (fun q r s hr hs => ?_) (fun l' z' u' hu => K _ _ _ _ _ (Nat.le_refl _) hu))
    rw [zq_Ho (Nat.le_refl T)] at hr
    rw [zq_Hn] at hs
    exact zq_mono hr hs
  · refine zq_rule I hT (m3 ja) (m3 jb) hon (fun r T' l' H' u' hT' I' => ?_)
    obtain ⟨ld', lt', wt', b1, b2, b3, b4, b5, b6, b7, b8, b9, b10, b11⟩ := u'
    show wL_law_249 (fun r => r = 1) L xs J10 (nI i) x3 x4 kc ks ld' lt' wt' b1 b2 b3 b4 b5 b6 b7 b8 b9 b10 b11
    exact zq_249 (u := (ld', lt', wt', b1, b2, b3, b4, b5, b6, b7, b8, b9, b10, b11)) I' (by omega) (fun l' z' u' hu => K _ _ _ _ _ hT' hu)
  · refine zq_enter I hT (m6 ja) (m18 jb) (Or.inl rfl) (fun u' I' => ?_)
    obtain ⟨ld', lt', wt', b1, b2, b3, b4, b5, b6, b7, b8, b9, b10, b11⟩ := u'
    show wL_law_249 (fun r => r = 1) L xs J10 (nI i) x3 x4 kc ks ld' lt' wt' b1 b2 b3 b4 b5 b6 b7 b8 b9 b10 b11
    exact zq_249 (u := (ld', lt', wt', b1, b2, b3, b4, b5, b6, b7, b8, b9, b10, b11)) I' (by omega) (fun l' z' u' hu => K _ _ _ _ _ (Nat.le_refl _) hu)
theorem zq_10 {L kc ks : Nat} {xs : Nat → Int32} {H : Nat → zq_G} {z : Nat → Int32} {u : St1} (hL : L ≤ 260) (I : zq_I 0 0 H z u) : ∃ n, wL_law_10 (fun r => r = 1) L xs kc ks n 0 u.1 u.2.1 u.2.2.1 u.2.2.2.1 u.2.2.2.2.1 u.2.2.2.2.2.1 u.2.2.2.2.2.2.1 u.2.2.2.2.2.2.2.1 u.2.2.2.2.2.2.2.2.1 u.2.2.2.2.2.2.2.2.2.1 u.2.2.2.2.2.2.2.2.2.2.1 u.2.2.2.2.2.2.2.2.2.2.2.1 u.2.2.2.2.2.2.2.2.2.2.2.2.1 u.2.2.2.2.2.2.2.2.2.2.2.2.2 := by
  refine loop_m (σ := Nat × St1) (fun n s => wL_law_10 (fun r => r = 1) L xs kc ks n (nI s.1) s.2.1 s.2.2.1 s.2.2.2.1 s.2.2.2.2.1 s.2.2.2.2.2.1 s.2.2.2.2.2.2.1 s.2.2.2.2.2.2.2.1 s.2.2.2.2.2.2.2.2.1 s.2.2.2.2.2.2.2.2.2.1 s.2.2.2.2.2.2.2.2.2.2.1 s.2.2.2.2.2.2.2.2.2.2.2.1 s.2.2.2.2.2.2.2.2.2.2.2.2.1 s.2.2.2.2.2.2.2.2.2.2.2.2.2.1 s.2.2.2.2.2.2.2.2.2.2.2.2.2.2) (fun s => s.1 ≤ 300 ∧ ∃ T l H z, T ≤ s.1 ∧ zq_I T l H z s.2) (fun s => 300 - s.1) ?_ (0, u) ⟨by omega, 0, 0, H, z, Nat.le_refl 0, I⟩
  rintro n ⟨i, ⟨ld, lt, wt, a1, a2, a3, a4, a5, a6, a7, a8, a9, a10, a11⟩⟩ ⟨hi, T, l, H, z, hT, h⟩ hw
  dsimp only at hi hT h hw
  refine br_c (fun _ => rfl) (fun e => ?_)
  have e' : i + 3 ≤ L := by
    have k : ¬ (nI L - nI 3).toInt < (nI i).toInt := fun q => e (Int32.lt_iff_toInt_lt.mpr q)
    rw [pk_sub_toInt (by omega) (by omega), nI_toInt (by omega)] at k
    omega
  have S : ∀ on x3 x4 : Int32, on = 0 ∨ on = 1 → wL_law_44 (fun r => r = 1) L xs (wL_law_10 (fun r => r = 1) L xs kc ks n) (nI i) x3 x4 on kc ks ld lt wt a1 a2 a3 a4 a5 a6 a7 a8 a9 a10 a11 := by
    intro on x3 x4 hon
    refine zq_44 (u := (ld, lt, wt, a1, a2, a3, a4, a5, a6, a7, a8, a9, a10, a11)) h hL (by omega) (by omega) hon (fun T' l' H' z' u' hT' I' => hw (i + 3, u') ⟨by dsimp only; omega, T', l', H', z', by dsimp only; omega, I'⟩ (by dsimp only; omega))
  exact ⟨pk_in (i + 1) L (by omega) (nI_1 i), nm_e ⟨pk_in (i + 2) L (by omega) (nI_add i 2), nm_e (br_c (fun _ => S 1 _ _ (Or.inr rfl)) (fun _ => S 0 _ _ (Or.inl rfl)))⟩⟩
theorem i_vc (xs : Nat → Int32) (L : Nat) (hL : L ≤ 260) : wpL_law (fun r => r = 1) L xs := by
  refine ⟨11, 133, by omega, by omega, ?_⟩
  unfold wpX_init
  dsimp only
  refine ⟨by omega, by omega, by omega, by omega, by omega, by omega, by omega, by omega, by omega, by omega, by omega, by omega, by omega, by omega, by omega, by omega, by omega, by omega, by omega, by omega, by omega, by omega, ?_⟩
  refine zq_10 (H := fun _ => (fun _ => 0, fun _ => 0, fun _ => 0)) (z := fun _ => 0) (u := (0, 0, 0, (fun _ => 0), (fun _ => 0), (fun _ => 0), (fun _ => 0), (fun _ => 0), (fun _ => 0), (fun _ => 0), (fun _ => 0), (fun _ => 0), (fun _ => 0), (fun _ => 0))) hL ?_
  exact ⟨rfl, rfl, by omega, by omega, by omega, rfl, fun s h0 h1 => absurd h1 (by omega), zq_C_0 (fun _ _ => rfl), rfl⟩
end
