section
/-! bits of an Int32 as propositions (rows turned from kit/laws/BITS) -/
def dm_bt (x : Int32) (i : Nat) : Bool := x.toBitVec.getLsbD i
theorem dm_bt_or (x y : Int32) (i : Nat) : dm_bt (x ||| y) i = (dm_bt x i || dm_bt y i) := by unfold dm_bt; rw [Int32.toBitVec_or, BitVec.getLsbD_or]
theorem dm_bt_and (x y : Int32) (i : Nat) : dm_bt (x &&& y) i = (dm_bt x i && dm_bt y i) := by unfold dm_bt; rw [Int32.toBitVec_and, BitVec.getLsbD_and]
theorem dm_bt_xor (x y : Int32) (i : Nat) : dm_bt (x ^^^ y) i = (dm_bt x i ^^ dm_bt y i) := by unfold dm_bt; rw [Int32.toBitVec_xor, BitVec.getLsbD_xor]
theorem dm_bt_big {x : Int32} {i : Nat} (h : 32 ≤ i) : dm_bt x i = false := BitVec.getLsbD_of_ge _ _ h
theorem dm_bt_m1 : ∀ i, i < 32 → dm_bt (-1) i = true := by decide +kernel
theorem dm_bt_1 : ∀ i, i < 32 → dm_bt 1 i = decide (i = 0) := by decide +kernel
theorem dm_bt_0 (i : Nat) : dm_bt 0 i = false := BitVec.getLsbD_zero
theorem dm_s_l : ∀ n, n < 32 → ((nI n &&& 31).toBitVec.smod 32).toNat = n := by decide +kernel
theorem dm_bt_shl (n : Nat) (hn : n < 32) (x : Int32) {i : Nat} (hi : i < 32) : dm_bt (x <<< (nI n &&& 31)) i = (decide (n ≤ i) && dm_bt x (i - n)) := by
  unfold dm_bt
  rw [Int32.toBitVec_shiftLeft]
  show (x.toBitVec <<< ((nI n &&& 31).toBitVec.smod 32).toNat).getLsbD i = _
  rw [dm_s_l n hn, BitVec.getLsbD_shiftLeft]
  rcases Nat.lt_or_ge i n with h | h
  · simp [h, Nat.not_le.mpr h]
  · simp [hi, h, Nat.not_lt.mpr h]
theorem dm_bt_sshr (n : Nat) (hn : n < 32) (x : Int32) {i : Nat} (hi : i < 32) : dm_bt (x >>> (nI n &&& 31)) i = if n + i < 32 then dm_bt x (n + i) else dm_bt x 31 := by
  unfold dm_bt
  rw [Int32.toBitVec_shiftRight]
  show (x.toBitVec.sshiftRight ((nI n &&& 31).toBitVec.smod 32).toNat).getLsbD i = _
  rw [dm_s_l n hn, BitVec.getLsbD_sshiftRight, BitVec.msb_eq_getLsbD_last]
  simp [hi]
def dm_b (x : Int32) (i : Nat) : Prop := dm_bt x i = true
theorem dm_b_lt {x : Int32} {i : Nat} (h : dm_b x i) : i < 32 := by
  rcases Nat.lt_or_ge i 32 with z | z
  · exact z
  · unfold dm_b at h
    rw [dm_bt_big z] at h
    exact absurd h (by decide)
theorem dm_ext {x y : Int32} (h : ∀ i, dm_b x i ↔ dm_b y i) : x = y := by
  apply Int32.toBitVec_inj.mp
  apply BitVec.eq_of_getLsbD_eq
  intro i _
  exact Bool.eq_iff_iff.mpr (h i)
theorem dm_or {x y : Int32} {i : Nat} : dm_b (x ||| y) i ↔ dm_b x i ∨ dm_b y i := by
  unfold dm_b
  rw [dm_bt_or, Bool.or_eq_true]
theorem dm_and {x y : Int32} {i : Nat} : dm_b (x &&& y) i ↔ dm_b x i ∧ dm_b y i := by
  unfold dm_b
  rw [dm_bt_and, Bool.and_eq_true]
theorem dm_not {x : Int32} {i : Nat} (hi : i < 32) : dm_b (x ^^^ (-1)) i ↔ ¬ dm_b x i := by
  unfold dm_b
  rw [dm_bt_xor, dm_bt_m1 i hi]
  cases dm_bt x i <;> decide
theorem dm_zero {i : Nat} : ¬ dm_b 0 i := by
  unfold dm_b
  rw [dm_bt_0]
  decide
theorem dm_b1 {i : Nat} : dm_b 1 i ↔ i = 0 := by
  constructor
  · intro h
    have hi := dm_b_lt h
    unfold dm_b at h
    rw [dm_bt_1 i hi] at h
    exact of_decide_eq_true h
  · intro h
    subst h
    exact dm_bt_1 0 (by omega)
theorem dm_shl {k i : Nat} {x : Int32} (hk : k < 32) (hi : i < 32) : dm_b (x <<< (nI k &&& 31)) i ↔ k ≤ i ∧ dm_b x (i - k) := by
  unfold dm_b
  rw [dm_bt_shl k hk x hi, Bool.and_eq_true, decide_eq_true_iff]
theorem dm_one {k i : Nat} (hk : k < 32) : dm_b ((1 : Int32) <<< (nI k &&& 31)) i ↔ i = k := by
  constructor
  · intro h
    have hi := dm_b_lt h
    have h2 := (dm_shl hk hi).mp h
    have h3 := dm_b1.mp h2.2
    omega
  · intro h
    subst h
    exact (dm_shl hk hk).mpr ⟨Nat.le_refl _, dm_b1.mpr (by omega)⟩
theorem dm_sb {k : Nat} {x : Int32} (hk : k < 32) : dm_b (x >>> (nI k &&& 31)) 0 ↔ dm_b x k := by
  unfold dm_b
  rw [dm_bt_sshr k hk x (by omega), if_pos (by omega), Nat.add_zero]
theorem dm_sb1 {k i : Nat} {x : Int32} (hk : k < 32) : dm_b ((x >>> (nI k &&& 31)) &&& 1) i ↔ i = 0 ∧ dm_b x k := by
  rw [dm_and, dm_b1]
  constructor
  · rintro ⟨h, rfl⟩
    exact ⟨rfl, (dm_sb hk).mp h⟩
  · rintro ⟨rfl, h⟩
    exact ⟨(dm_sb hk).mpr h, rfl⟩
theorem dm_t0 {k : Nat} {x : Int32} (hk : k < 32) : ((x >>> (nI k &&& 31)) &&& 1) = 0 ↔ ¬ dm_b x k := by
  constructor
  · intro h hb
    have h2 := (dm_sb1 (i := 0) hk).mpr ⟨rfl, hb⟩
    rw [h] at h2
    exact dm_zero h2
  · intro h
    apply dm_ext
    intro i
    rw [dm_sb1 hk]
    exact ⟨fun t => absurd t.2 h, fun t => absurd t dm_zero⟩
theorem dm_t1 {k : Nat} {x : Int32} (hk : k < 32) : ((x >>> (nI k &&& 31)) &&& 1) = 1 ↔ dm_b x k := by
  constructor
  · intro h
    have h2 : dm_b ((x >>> (nI k &&& 31)) &&& 1) 0 := by
      rw [h]
      exact dm_b1.mpr rfl
    exact ((dm_sb1 hk).mp h2).2
  · intro h
    apply dm_ext
    intro i
    rw [dm_sb1 hk, dm_b1]
    exact ⟨fun t => t.1, fun t => ⟨t, h⟩⟩
theorem dm_sh1 {k j i : Nat} {x : Int32} (hk : k < 32) (hj : j < 32) : dm_b (((x >>> (nI k &&& 31)) &&& 1) <<< (nI j &&& 31)) i ↔ i = j ∧ dm_b x k := by
  constructor
  · intro h
    have hi := dm_b_lt h
    have h2 := (dm_shl hj hi).mp h
    have h3 := (dm_sb1 hk).mp h2.2
    exact ⟨by omega, h3.2⟩
  · rintro ⟨rfl, h⟩
    exact (dm_shl hj hj).mpr ⟨Nat.le_refl _, (dm_sb1 hk).mpr ⟨by omega, h⟩⟩
theorem dm_at {k : Nat} {x y : Int32} (hk : k < 32) : ((x &&& (y ^^^ (-1))) &&& ((1 : Int32) <<< (nI k &&& 31))) = 0 ↔ ¬ (dm_b x k ∧ ¬ dm_b y k) := by
  constructor
  · rintro h ⟨h1, h2⟩
    have h3 : dm_b ((x &&& (y ^^^ (-1))) &&& ((1 : Int32) <<< (nI k &&& 31))) k := dm_and.mpr ⟨dm_and.mpr ⟨h1, (dm_not hk).mpr h2⟩, (dm_one hk).mpr rfl⟩
    rw [h] at h3
    exact dm_zero h3
  · intro h
    apply dm_ext
    intro i
    constructor
    · intro t
      have t2 := dm_and.mp t
      have t3 := dm_and.mp t2.1
      have t4 := (dm_one hk).mp t2.2
      subst t4
      exact absurd ⟨t3.1, (dm_not hk).mp t3.2⟩ h
    · intro t
      exact absurd t dm_zero
/-! small ints -/
theorem dm_nlt {x : Int32} : ¬ 0 ≤ x ↔ x < 0 := Int32.not_le
theorem dm_nge {x : Int32} : ¬ x < 0 ↔ 0 ≤ x := Int32.not_lt
theorem dm_byte : ∀ k, k < 7 → (nI k).toInt8.toInt32 = nI k := by decide +kernel
theorem dm_nar {k : Nat} (h : k < 7) : vp_nar .byte (nI k) = nI k := by rw [vp_nar_byte, dm_byte k h]
theorem dm_inj {a b : Nat} (ha : a < 7) (hb : b < 7) (h : nI a = nI b) : a = b := (nI_eq (by omega) (by omega)).mp h
theorem dm_nn {a : Nat} (ha : a < 7) {x : Int32} (h : x = nI a) : ¬ x < 0 := by
  rw [h]
  exact nI_pos (by omega)
theorem dm_exs {k : Nat} {P : Nat → Prop} : (∃ c, c < k + 1 ∧ P c) ↔ (∃ c, c < k ∧ P c) ∨ P k := by
  constructor
  · rintro ⟨c, h1, h2⟩
    by_cases e : c = k
    · subst e
      exact Or.inr h2
    · exact Or.inl ⟨c, by omega, h2⟩
  · rintro (⟨c, h1, h2⟩ | h)
    · exact ⟨c, by omega, h2⟩
    · exact ⟨k, by omega, h⟩
/-! counting -/
noncomputable def dm_cn (P : Nat → Prop) : Nat → Nat
  | 0 => 0
  | n + 1 => dm_cn P n + @ite Nat (P n) (Classical.propDecidable _) 1 0
theorem dm_cn_t {P : Nat → Prop} {n : Nat} (h : P n) : dm_cn P (n + 1) = dm_cn P n + 1 := by
  show dm_cn P n + @ite Nat (P n) (Classical.propDecidable _) 1 0 = _
  rw [if_pos h]
theorem dm_cn_f {P : Nat → Prop} {n : Nat} (h : ¬ P n) : dm_cn P (n + 1) = dm_cn P n := by
  show dm_cn P n + @ite Nat (P n) (Classical.propDecidable _) 1 0 = _
  rw [if_neg h]
  rfl
theorem dm_cn_le (P : Nat → Prop) (n : Nat) : dm_cn P n ≤ n := by
  induction n with
  | zero => exact Nat.le_refl 0
  | succ n ih =>
    by_cases h : P n
    · rw [dm_cn_t h]; omega
    · rw [dm_cn_f h]; omega
theorem dm_cn_mono {P Q : Nat → Prop} {n : Nat} (h : ∀ i, i < n → P i → Q i) : dm_cn P n ≤ dm_cn Q n := by
  induction n with
  | zero => exact Nat.le_refl 0
  | succ n ih =>
    have ih' := ih (fun i hi => h i (by omega))
    by_cases hp : P n
    · rw [dm_cn_t hp, dm_cn_t (h n (by omega) hp)]; omega
    · rw [dm_cn_f hp]
      by_cases hq : Q n
      · rw [dm_cn_t hq]; omega
      · rw [dm_cn_f hq]; omega
theorem dm_cn_eq {P Q : Nat → Prop} {n : Nat} (h : ∀ i, i < n → (P i ↔ Q i)) : dm_cn P n = dm_cn Q n :=
  Nat.le_antisymm (dm_cn_mono (fun i hi => (h i hi).mp)) (dm_cn_mono (fun i hi => (h i hi).mpr))
theorem dm_cn_lt {P Q : Nat → Prop} {n j : Nat} (h : ∀ i, i < n → P i → Q i) (hj : j < n) (h1 : ¬ P j) (h2 : Q j) : dm_cn P n < dm_cn Q n := by
  induction n with
  | zero => omega
  | succ n ih =>
    by_cases e : j = n
    · subst e
      rw [dm_cn_f h1, dm_cn_t h2]
      have := dm_cn_mono (n := j) (fun i hi => h i (by omega))
      omega
    · have ih' := ih (fun i hi => h i (by omega)) (by omega)
      by_cases hp : P n
      · rw [dm_cn_t hp, dm_cn_t (h n (by omega) hp)]; omega
      · rw [dm_cn_f hp]
        by_cases hq : Q n
        · rw [dm_cn_t hq]; omega
        · rw [dm_cn_f hq]; omega
theorem dm_cn_add {P Q : Nat → Prop} {n : Nat} (h : ∀ i, i < n → P i → ¬ Q i) : dm_cn (fun i => P i ∨ Q i) n = dm_cn P n + dm_cn Q n := by
  induction n with
  | zero => rfl
  | succ n ih =>
    have ih' := ih (fun i hi => h i (by omega))
    by_cases hp : P n
    · have hq := h n (by omega) hp
      rw [dm_cn_t (P := fun i => P i ∨ Q i) (Or.inl hp), dm_cn_t hp, dm_cn_f hq]; omega
    · by_cases hq : Q n
      · rw [dm_cn_t (P := fun i => P i ∨ Q i) (Or.inr hq), dm_cn_f hp, dm_cn_t hq]; omega
      · rw [dm_cn_f (P := fun i => P i ∨ Q i) (fun t => t.elim hp hq), dm_cn_f hp, dm_cn_f hq]; omega
theorem dm_cn_inj {P : Nat → Prop} (R : Nat → Nat → Prop) {n m : Nat} : ∀ Q : Nat → Prop, (∀ i, i < n → P i → ∃ j, j < m ∧ Q j ∧ R i j) → (∀ i i' j, i < n → i' < n → j < m → R i j → R i' j → i = i') → dm_cn P n ≤ dm_cn Q m := by
  induction n with
  | zero => intro Q _ _; exact Nat.zero_le _
  | succ n ih =>
    intro Q h1 h2
    by_cases hp : P n
    · obtain ⟨j0, hj, hq, hr⟩ := h1 n (by omega) hp
      have s1 := ih (fun j => Q j ∧ j ≠ j0) (fun i hi hpi => by
        obtain ⟨j, a, b, c⟩ := h1 i (by omega) hpi
        refine ⟨j, a, ⟨b, fun e => ?_⟩, c⟩
        subst e
        have := h2 i n j (by omega) (by omega) a c hr
        omega) (fun i i' j a b c => h2 i i' j (by omega) (by omega) c)
      have s2 : dm_cn (fun j => Q j ∧ j ≠ j0) m < dm_cn Q m := dm_cn_lt (j := j0) (fun i _ t => t.1) hj (fun t => t.2 rfl) hq
      rw [dm_cn_t hp]; omega
    · rw [dm_cn_f hp]
      exact ih Q (fun i hi => h1 i (by omega)) (fun i i' j a b => h2 i i' j (by omega) (by omega))
end
section
/-! the pure picture: E r c an edge, p and q the partners of rows and of columns (below 0: none) -/
def dm_rng (p : Nat → Int32) : Prop := ∀ r, r < 7 → p r < 0 ∨ ∃ c, c < 7 ∧ p r = nI c
def dm_ok (p q : Nat → Int32) : Prop := dm_rng p ∧ dm_rng q ∧ ∀ r c, r < 7 → c < 7 → (p r = nI c ↔ q c = nI r)
theorem dm_ok_sym {p q : Nat → Int32} (h : dm_ok p q) : dm_ok q p := ⟨h.2.1, h.1, fun r c hr hc => (h.2.2 c r hc hr).symm⟩
def dm_cl (E : Nat → Nat → Prop) (q : Nat → Int32) (S : Nat → Prop) : Prop := ∀ r, r < 7 → S r → ∀ c, c < 7 → E r c → ∀ s, s < 7 → q c = nI s → S s
def dm_rs (E : Nat → Nat → Prop) (q : Nat → Int32) (t r : Nat) : Prop := ∀ S : Nat → Prop, S t → dm_cl E q S → S r
def dm_nf (E : Nat → Nat → Prop) (q : Nat → Int32) (t : Nat) : Prop := ∀ r, r < 7 → dm_rs E q t r → ∀ c, c < 7 → E r c → ¬ q c < 0
def dm_RR (E : Nat → Nat → Prop) (p q : Nat → Int32) (r : Nat) : Prop := ∀ S : Nat → Prop, (∀ t, t < 7 → p t < 0 → S t) → dm_cl E q S → S r
def dm_fl (E : Nat → Nat → Prop) : Nat → Nat → Prop := fun c r => E r c
def dm_arc (E : Nat → Nat → Prop) (q : Nat → Int32) (r s : Nat) : Prop := ∃ c, c < 7 ∧ E r c ∧ q c = nI s
def dm_TC (E : Nat → Nat → Prop) (q : Nat → Int32) (r s : Nat) : Prop := ∀ T : Nat → Nat → Prop, (∀ a b, a < 7 → b < 7 → dm_arc E q a b → T a b) → (∀ a b c, a < 7 → b < 7 → c < 7 → T a b → T b c → T a c) → T r s
def dm_U (E : Nat → Nat → Prop) (p q : Nat → Int32) (r c : Nat) : Prop := E r c ∧ (p r = nI c ∨ dm_RR E p q r ∨ dm_RR (dm_fl E) q p c ∨ ∃ o, o < 7 ∧ q c = nI o ∧ dm_TC E q o r)
def dm_sub (E : Nat → Nat → Prop) (p : Nat → Int32) : Prop := ∀ r c, r < 7 → c < 7 → p r = nI c → E r c
def dm_mx (E : Nat → Nat → Prop) (p q : Nat → Int32) : Prop := ∀ t, t < 7 → p t < 0 → dm_nf E q t
def dm_good (E : Nat → Nat → Prop) (p q : Nat → Int32) : Prop := dm_ok p q ∧ dm_sub E p ∧ dm_mx E p q
/-! the least sets are closed -/
theorem dm_rs_0 {E : Nat → Nat → Prop} {q : Nat → Int32} {t : Nat} : dm_rs E q t t := fun S h _ => h
theorem dm_rs_s {E : Nat → Nat → Prop} {q : Nat → Int32} {t r c s : Nat} (h : dm_rs E q t r) (hr : r < 7) (hc : c < 7) (he : E r c) (hs : s < 7) (hq : q c = nI s) : dm_rs E q t s :=
  fun S h0 h1 => h1 r hr (h S h0 h1) c hc he s hs hq
theorem dm_RR_0 {E : Nat → Nat → Prop} {p q : Nat → Int32} {t : Nat} (ht : t < 7) (h : p t < 0) : dm_RR E p q t := fun S h0 _ => h0 t ht h
theorem dm_RR_s {E : Nat → Nat → Prop} {p q : Nat → Int32} {r c s : Nat} (h : dm_RR E p q r) (hr : r < 7) (hc : c < 7) (he : E r c) (hs : s < 7) (hq : q c = nI s) : dm_RR E p q s :=
  fun S h0 h1 => h1 r hr (h S h0 h1) c hc he s hs hq
theorem dm_TC_0 {E : Nat → Nat → Prop} {q : Nat → Int32} {r s : Nat} (hr : r < 7) (hs : s < 7) (h : dm_arc E q r s) : dm_TC E q r s := fun T h0 _ => h0 r s hr hs h
theorem dm_TC_t {E : Nat → Nat → Prop} {q : Nat → Int32} {r s t : Nat} (hr : r < 7) (hs : s < 7) (ht : t < 7) (h : dm_TC E q r s) (h' : dm_TC E q s t) : dm_TC E q r t :=
  fun T h0 h1 => h1 r s t hr hs ht (h T h0 h1) (h' T h0 h1)
/-- no longer matching: what free rows lead to is matched -/
theorem dm_mxR {E : Nat → Nat → Prop} {p q : Nat → Int32} (h : dm_mx E p q) {r c : Nat} (hr : r < 7) (hR : dm_RR E p q r) (hc : c < 7) (he : E r c) : ¬ q c < 0 := by
  have h1 : ∃ t, t < 7 ∧ p t < 0 ∧ dm_rs E q t r := hR (fun r => ∃ t, t < 7 ∧ p t < 0 ∧ dm_rs E q t r) (fun t ht hp => ⟨t, ht, hp, dm_rs_0⟩)
    (fun r hr ⟨t, ht, hp, hs⟩ c hc he s hs' hq => ⟨t, ht, hp, dm_rs_s hs hr hc he hs' hq⟩)
  obtain ⟨t, ht, hp, hs⟩ := h1
  exact h t ht hp r hr hs c hc he
/-! an edge that isn't usable is taken away -/
section
variable {E E' : Nat → Nat → Prop} {p q : Nat → Int32} {r0 c0 : Nat}
theorem dm_clm (hm : ∀ r c, E' r c → E r c) {S : Nat → Prop} (h : dm_cl E q S) : dm_cl E' q S := fun r hr hs c hc he => h r hr hs c hc (hm r c he)
theorem dm_RRm (hm : ∀ r c, E' r c → E r c) {r : Nat} (h : dm_RR E' p q r) : dm_RR E p q r := fun S h0 h1 => h S h0 (dm_clm hm h1)
theorem dm_RRe (hm : ∀ r c, E' r c → E r c) (hm' : ∀ r c, E r c → E' r c ∨ (r = r0 ∧ c = c0)) (h0 : ¬ dm_RR E p q r0) (r : Nat) : dm_RR E' p q r ↔ dm_RR E p q r := by
  refine ⟨dm_RRm hm, fun h => h (dm_RR E' p q) (fun t ht hp => dm_RR_0 ht hp) (fun r hr hs c hc he s hs' hq => ?_)⟩
  rcases hm' r c he with e | e
  · exact dm_RR_s hs hr hc e hs' hq
  · rw [e.1] at hs
    exact absurd (dm_RRm hm hs) h0
theorem dm_TCm (hm : ∀ r c, E' r c → E r c) {r s : Nat} (h : dm_TC E' q r s) : dm_TC E q r s :=
  fun T h0 h1 => h T (fun a b ha hb ⟨c, hc, he, hq⟩ => h0 a b ha hb ⟨c, hc, hm a c he, hq⟩) h1
theorem dm_TCe (hm' : ∀ r c, E r c → E' r c ∨ (r = r0 ∧ c = c0)) (hm : ∀ r c, E' r c → E r c) {o0 : Nat} (hr0 : r0 < 7) (ho0 : o0 < 7) (hc0 : q c0 = nI o0) {o r : Nat} (h : dm_TC E q o r) :
    dm_TC E' q o r ∨ ((o = r0 ∨ dm_TC E q o r0) ∧ (r = o0 ∨ dm_TC E q o0 r)) := by
  refine h (fun a b => dm_TC E' q a b ∨ ((a = r0 ∨ dm_TC E q a r0) ∧ (b = o0 ∨ dm_TC E q o0 b))) ?_ ?_
  · rintro a b ha hb ⟨c, hc, he, hq⟩
    rcases hm' a c he with e | ⟨e1, e2⟩
    · exact Or.inl (dm_TC_0 ha hb ⟨c, hc, e, hq⟩)
    · refine Or.inr ⟨Or.inl e1, Or.inl ?_⟩
      rw [e2, hc0] at hq
      exact (dm_inj ho0 hb hq).symm
  · intro a b c ha hb hc h1 h2
    rcases h1 with h1 | ⟨h1, h1'⟩
    · rcases h2 with h2 | ⟨h2, h2'⟩
      · exact Or.inl (dm_TC_t ha hb hc h1 h2)
      · refine Or.inr ⟨Or.inr ?_, h2'⟩
        rcases h2 with e | h2
        · rw [← e]
          exact dm_TCm hm h1
        · exact dm_TC_t ha hb hr0 (dm_TCm hm h1) h2
    · rcases h2 with h2 | ⟨h2, h2'⟩
      · refine Or.inr ⟨h1, Or.inr ?_⟩
        rcases h1' with e | h1'
        · rw [← e]
          exact dm_TCm hm h2
        · exact dm_TC_t ho0 hb hc h1' (dm_TCm hm h2)
      · exact Or.inr ⟨h1, h2'⟩
theorem dm_rem (hE : ∀ r c, E' r c ↔ E r c ∧ ¬ (r = r0 ∧ c = c0)) (hg : dm_good E p q) (hr0 : r0 < 7) (hc0 : c0 < 7) (he : E r0 c0) (hu : ¬ dm_U E p q r0 c0) :
    dm_good E' p q ∧ ∀ r c, r < 7 → c < 7 → (dm_U E' p q r c ↔ dm_U E p q r c) := by
  have hm : ∀ r c, E' r c → E r c := fun r c h => ((hE r c).mp h).1
  have hm' : ∀ r c, E r c → E' r c ∨ (r = r0 ∧ c = c0) := by
    intro r c h
    by_cases e : r = r0 ∧ c = c0
    · exact Or.inr e
    · exact Or.inl ((hE r c).mpr ⟨h, e⟩)
  have hmf : ∀ c r, dm_fl E' c r → dm_fl E c r := fun c r => hm r c
  have hmf' : ∀ c r, dm_fl E c r → dm_fl E' c r ∨ (c = c0 ∧ r = r0) := fun c r h => (hm' r c h).imp id (fun t => ⟨t.2, t.1⟩)
  have n1 : ¬ p r0 = nI c0 := fun h => hu ⟨he, Or.inl h⟩
  have n2 : ¬ dm_RR E p q r0 := fun h => hu ⟨he, Or.inr (Or.inl h)⟩
  have n3 : ¬ dm_RR (dm_fl E) q p c0 := fun h => hu ⟨he, Or.inr (Or.inr (Or.inl h))⟩
  have n4 : ∃ o, o < 7 ∧ q c0 = nI o := by
    rcases hg.1.2.1 c0 hc0 with h | h
    · exact absurd (dm_RR_0 hc0 h) n3
    · exact h
  obtain ⟨o0, ho0, hq0⟩ := n4
  have n5 : ¬ dm_TC E q o0 r0 := fun h => hu ⟨he, Or.inr (Or.inr (Or.inr ⟨o0, ho0, hq0, h⟩))⟩
  refine ⟨⟨hg.1, ?_, ?_⟩, ?_⟩
  · intro r c hr hc h
    refine (hE r c).mpr ⟨hg.2.1 r c hr hc h, fun e => n1 ?_⟩
    rw [← e.1, ← e.2]
    exact h
  · intro t ht hp r hr hs c hc hec
    exact hg.2.2 t ht hp r hr (fun S h0 h1 => hs S h0 (dm_clm hm h1)) c hc (hm r c hec)
  · intro r c hr hc
    have tc : ∀ o, o < 7 → E r c → q c = nI o → (dm_TC E' q o r ↔ dm_TC E q o r) := by
      intro o ho hec hqc
      refine ⟨dm_TCm hm, fun h => ?_⟩
      rcases dm_TCe hm' hm hr0 ho0 hq0 h with t | ⟨t1, t2⟩
      · exact t
      · exfalso
        apply n5
        have a1 : dm_TC E q r o := dm_TC_0 hr ho ⟨c, hc, hec, hqc⟩
        have a2 : dm_TC E q o0 o := by
          rcases t2 with e | t2
          · rw [← e]
            exact a1
          · exact dm_TC_t ho0 hr ho t2 a1
        rcases t1 with e | t1
        · rw [← e]
          exact a2
        · exact dm_TC_t ho0 ho hr0 a2 t1
    unfold dm_U
    constructor
    · rintro ⟨h1, h2⟩
      refine ⟨hm r c h1, ?_⟩
      rcases h2 with h2 | h2 | h2 | ⟨o, ho, hqo, h2⟩
      · exact Or.inl h2
      · exact Or.inr (Or.inl (dm_RRm hm h2))
      · exact Or.inr (Or.inr (Or.inl (dm_RRm hmf h2)))
      · exact Or.inr (Or.inr (Or.inr ⟨o, ho, hqo, dm_TCm hm h2⟩))
    · rintro ⟨h1, h2⟩
      have h3 : E' r c := by
        rcases hm' r c h1 with h | ⟨e1, e2⟩
        · exact h
        · subst e1 e2
          exact absurd ⟨h1, h2⟩ hu
      refine ⟨h3, ?_⟩
      rcases h2 with h2 | h2 | h2 | ⟨o, ho, hqo, h2⟩
      · exact Or.inl h2
      · exact Or.inr (Or.inl ((dm_RRe hm hm' n2 r).mpr h2))
      · exact Or.inr (Or.inr (Or.inl ((dm_RRe hmf hmf' n3 c).mpr h2)))
      · exact Or.inr (Or.inr (Or.inr ⟨o, ho, hqo, (tc o ho h1 hqo).mpr h2⟩))
end
/-! the cover is as large as the matching -/
theorem dm_koenig {E : Nat → Nat → Prop} {p q : Nat → Int32} (hg : dm_good E p q) {A B : Nat → Prop} (hA : ∀ r, r < 7 → (A r ↔ (∃ c, E r c) ∧ ¬ dm_RR E p q r)) (hB : ∀ c, c < 7 → (B c ↔ ∃ r, r < 7 ∧ dm_RR E p q r ∧ E r c)) :
    dm_cn A 7 + dm_cn B 7 = dm_cn (fun r => ¬ p r < 0) 7 := by
  obtain ⟨hk, hs, hx⟩ := hg
  have e1 : dm_cn A 7 = dm_cn (fun r => ¬ p r < 0 ∧ ¬ dm_RR E p q r) 7 := by
    apply dm_cn_eq
    intro r hr
    rw [hA r hr]
    constructor
    · rintro ⟨_, h⟩
      exact ⟨fun t => h (dm_RR_0 hr t), h⟩
    · rintro ⟨h1, h2⟩
      rcases hk.1 r hr with h | ⟨c, hc, h⟩
      · exact absurd h h1
      · exact ⟨⟨c, hs r c hr hc h⟩, h2⟩
  have e2 : dm_cn B 7 = dm_cn (fun r => ¬ p r < 0 ∧ dm_RR E p q r) 7 := by
    apply Nat.le_antisymm
    · refine dm_cn_inj (fun c r => q c = nI r) _ ?_ ?_
      · intro c hc hb
        obtain ⟨r, hr, h1, h2⟩ := (hB c hc).mp hb
        have h3 := dm_mxR hx hr h1 hc h2
        rcases hk.2.1 c hc with h | ⟨s, hs', h⟩
        · exact absurd h h3
        · exact ⟨s, hs', ⟨dm_nn hc ((hk.2.2 s c hs' hc).mpr h), dm_RR_s h1 hr hc h2 hs' h⟩, h⟩
      · intro c c' r hc hc' hr h1 h2
        have h3 := (hk.2.2 r c hr hc).mpr h1
        have h4 := (hk.2.2 r c' hr hc').mpr h2
        exact dm_inj hc hc' (h3.symm.trans h4)
    · refine dm_cn_inj (fun r c => p r = nI c) _ ?_ ?_
      · rintro r hr ⟨h1, h2⟩
        rcases hk.1 r hr with h | ⟨c, hc, h⟩
        · exact absurd h h1
        · exact ⟨c, hc, (hB c hc).mpr ⟨r, hr, h2, hs r c hr hc h⟩, h⟩
      · intro r r' c hr hr' hc h1 h2
        have h3 := (hk.2.2 r c hr hc).mp h1
        have h4 := (hk.2.2 r' c hr' hc).mp h2
        exact dm_inj hr hr' (h3.symm.trans h4)
  rw [e1, e2, ← dm_cn_add (fun i _ h1 h2 => h1.2 h2.2)]
  apply dm_cn_eq
  intro r hr
  constructor
  · rintro (h | h)
    · exact h.1
    · exact h.1
  · intro h
    by_cases e : dm_RR E p q r
    · exact Or.inr ⟨h, e⟩
    · exact Or.inl ⟨h, e⟩
/-! what the rounds of findReach come to -/
def dm_stage (E : Nat → Nat → Prop) (p q : Nat → Int32) (k : Nat) (x y : Int32) : Prop :=
  (∀ t, t < 7 → p t < 0 → dm_b x t) ∧ (∀ r, r < 7 → dm_b x r → dm_RR E p q r) ∧
    ((dm_cl E q (dm_b x) ∧ ∀ c, c < 7 → (dm_b y c ↔ ∃ r, r < 7 ∧ dm_b x r ∧ E r c)) ∨ k ≤ dm_cn (dm_b x) 7)
theorem dm_stage_s {E : Nat → Nat → Prop} {p q : Nat → Int32} {k : Nat} {x y x' y' : Int32} (h : dm_stage E p q k x y)
    (hy : ∀ c, c < 7 → (dm_b y' c ↔ ∃ r, r < 7 ∧ dm_b x r ∧ E r c)) (hx : ∀ r, r < 7 → (dm_b x' r ↔ dm_b x r ∨ ∃ c, c < 7 ∧ dm_b y' c ∧ q c = nI r)) : dm_stage E p q (k + 1) x' y' := by
  obtain ⟨h1, h2, h3⟩ := h
  refine ⟨fun t ht hp => (hx t ht).mpr (Or.inl (h1 t ht hp)), ?_, ?_⟩
  · intro r hr hb
    rcases (hx r hr).mp hb with t | ⟨c, hc, hcy, hq⟩
    · exact h2 r hr t
    · obtain ⟨s, hs, hsx, he⟩ := (hy c hc).mp hcy
      exact dm_RR_s (h2 s hs hsx) hs hc he hr hq
  · by_cases hcl : dm_cl E q (dm_b x)
    · have e : ∀ r, r < 7 → (dm_b x' r ↔ dm_b x r) := by
        intro r hr
        rw [hx r hr]
        constructor
        · rintro (t | ⟨c, hc, hcy, hq⟩)
          · exact t
          · obtain ⟨s, hs, hsx, he⟩ := (hy c hc).mp hcy
            exact hcl s hs hsx c hc he r hr hq
        · exact Or.inl
      refine Or.inl ⟨fun r hr hb c hc he s hs hq => (e s hs).mpr (hcl r hr ((e r hr).mp hb) c hc he s hs hq), fun c hc => ?_⟩
      rw [hy c hc]
      constructor
      · rintro ⟨r, hr, a, b⟩
        exact ⟨r, hr, (e r hr).mpr a, b⟩
      · rintro ⟨r, hr, a, b⟩
        exact ⟨r, hr, (e r hr).mp a, b⟩
    · right
      have h4 : k ≤ dm_cn (dm_b x) 7 := by
        rcases h3 with h3 | h3
        · exact absurd h3.1 hcl
        · exact h3
      have h5 : ∃ s, s < 7 ∧ ¬ dm_b x s ∧ dm_b x' s := by
        apply Classical.byContradiction
        intro hn
        apply hcl
        intro r hr hb c hc he s hs hq
        apply Classical.byContradiction
        intro hb'
        exact hn ⟨s, hs, hb', (hx s hs).mpr (Or.inr ⟨c, hc, (hy c hc).mpr ⟨r, hr, hb, he⟩, hq⟩)⟩
      obtain ⟨s, hs, a, b⟩ := h5
      have h6 : dm_cn (dm_b x) 7 < dm_cn (dm_b x') 7 := dm_cn_lt (j := s) (fun i hi t => (hx i hi).mpr (Or.inl t)) hs a b
      omega
theorem dm_stage_e {E : Nat → Nat → Prop} {p q : Nat → Int32} {x y : Int32} (h : dm_stage E p q 8 x y) :
    (∀ r, r < 7 → (dm_b x r ↔ dm_RR E p q r)) ∧ (∀ c, c < 7 → (dm_b y c ↔ ∃ r, r < 7 ∧ dm_RR E p q r ∧ E r c)) := by
  obtain ⟨h1, h2, h3⟩ := h
  have h4 := dm_cn_le (dm_b x) 7
  have h5 : dm_cl E q (dm_b x) ∧ ∀ c, c < 7 → (dm_b y c ↔ ∃ r, r < 7 ∧ dm_b x r ∧ E r c) := by
    rcases h3 with h3 | h3
    · exact h3
    · omega
  have e : ∀ r, r < 7 → (dm_b x r ↔ dm_RR E p q r) := fun r hr => ⟨h2 r hr, fun t => t (dm_b x) h1 h5.1⟩
  refine ⟨e, fun c hc => ?_⟩
  rw [h5.2 c hc]
  constructor
  · rintro ⟨r, hr, a, b⟩
    exact ⟨r, hr, (e r hr).mp a, b⟩
  · rintro ⟨r, hr, a, b⟩
    exact ⟨r, hr, (e r hr).mpr a, b⟩
/-! Warshall -/
def dm_war (E : Nat → Nat → Prop) (q : Nat → Int32) (m : Nat) (R : Nat → Int32) : Prop :=
  (∀ a b, a < 7 → b < 7 → dm_arc E q a b → dm_b (R a) b) ∧ (∀ a b, a < 7 → b < 7 → dm_b (R a) b → dm_TC E q a b) ∧
    (∀ k, k < m → ∀ a b, a < 7 → b < 7 → dm_b (R a) k → dm_b (R k) b → dm_b (R a) b)
theorem dm_war_0 {E : Nat → Nat → Prop} {q : Nat → Int32} {R : Nat → Int32} (h : ∀ a b, a < 7 → b < 7 → (dm_b (R a) b ↔ dm_arc E q a b)) : dm_war E q 0 R :=
  ⟨fun a b ha hb => (h a b ha hb).mpr, fun a b ha hb t => dm_TC_0 ha hb ((h a b ha hb).mp t), fun k hk => absurd hk (by omega)⟩
theorem dm_war_s {E : Nat → Nat → Prop} {q : Nat → Int32} {m : Nat} {R R' : Nat → Int32} (hm : m < 7) (h : dm_war E q m R)
    (hR : ∀ a b, a < 7 → b < 7 → (dm_b (R' a) b ↔ dm_b (R a) b ∨ (dm_b (R a) m ∧ dm_b (R m) b))) : dm_war E q (m + 1) R' := by
  obtain ⟨h1, h2, h3⟩ := h
  refine ⟨fun a b ha hb t => (hR a b ha hb).mpr (Or.inl (h1 a b ha hb t)), ?_, ?_⟩
  · intro a b ha hb t
    rcases (hR a b ha hb).mp t with t | ⟨t1, t2⟩
    · exact h2 a b ha hb t
    · exact dm_TC_t ha hm hb (h2 a m ha hm t1) (h2 m b hm hb t2)
  · intro k hk a b ha hb t1 t2
    rw [hR a b ha hb]
    by_cases e : k = m
    · subst e
      have u1 : dm_b (R a) k := by
        rcases (hR a k ha hm).mp t1 with t | t
        · exact t
        · exact t.1
      have u2 : dm_b (R k) b := by
        rcases (hR k b hm hb).mp t2 with t | t
        · exact t
        · exact t.2
      exact Or.inr ⟨u1, u2⟩
    · have hk' : k < m := by omega
      have hk7 : k < 7 := by omega
      rcases (hR a k ha hk7).mp t1 with s1 | ⟨s1, s1'⟩
      · rcases (hR k b hk7 hb).mp t2 with s2 | ⟨s2, s2'⟩
        · exact Or.inl (h3 k hk' a b ha hb s1 s2)
        · exact Or.inr ⟨h3 k hk' a m ha hm s1 s2, s2'⟩
      · rcases (hR k b hk7 hb).mp t2 with s2 | ⟨s2, s2'⟩
        · exact Or.inr ⟨s1, h3 k hk' m b hm hb s1' s2⟩
        · exact Or.inr ⟨s1, s2'⟩
theorem dm_war_e {E : Nat → Nat → Prop} {q : Nat → Int32} {R : Nat → Int32} (h : dm_war E q 7 R) : ∀ a b, a < 7 → b < 7 → (dm_b (R a) b ↔ dm_TC E q a b) := by
  obtain ⟨h1, h2, h3⟩ := h
  intro a b ha hb
  exact ⟨h2 a b ha hb, fun t => t (fun a b => dm_b (R a) b) (fun a b ha hb t => h1 a b ha hb t) (fun a b c ha hb hc s t => h3 b hb a c ha hc s t)⟩
end
section
/-! branches by a bit, by a sign -/
theorem dm_if0 {k : Nat} {x : Int32} {A B : Prop} (hk : k < 32) (f : ¬ dm_b x k → A) (g : dm_b x k → B) : (((x >>> (nI k &&& 31)) &&& 1) = 0 → A) ∧ (¬ ((x >>> (nI k &&& 31)) &&& 1) = 0 → B) :=
  ek_if (dm_t0 hk) f (fun h => g (Classical.not_not.mp h))
theorem dm_if1 {k : Nat} {x : Int32} {A B : Prop} (hk : k < 32) (f : dm_b x k → A) (g : ¬ dm_b x k → B) : (((x >>> (nI k &&& 31)) &&& 1) = 1 → A) ∧ (¬ ((x >>> (nI k &&& 31)) &&& 1) = 1 → B) :=
  ek_if (dm_t1 hk) f g
theorem dm_ifa {k : Nat} {x y : Int32} {A B : Prop} (hk : k < 32) (f : ¬ (dm_b x k ∧ ¬ dm_b y k) → A) (g : dm_b x k → ¬ dm_b y k → B) : (((x &&& (y ^^^ (-1))) &&& ((1 : Int32) <<< (nI k &&& 31))) = 0 → A) ∧ (¬ ((x &&& (y ^^^ (-1))) &&& ((1 : Int32) <<< (nI k &&& 31))) = 0 → B) :=
  ek_if (dm_at hk) f (fun h => g (Classical.not_not.mp h).1 (Classical.not_not.mp h).2)
theorem dm_ifg {x : Int32} {A B : Prop} (f : ¬ x < 0 → A) (g : x < 0 → B) : (0 ≤ x → A) ∧ (¬ 0 ≤ x → B) :=
  ⟨fun h => f (dm_nge.mpr h), fun h => g (dm_nlt.mp h)⟩
theorem dm_xs {k : Nat} {P : Nat → Prop} {A : Prop} (h : A ↔ ∃ c, c < k ∧ P c) (hn : ¬ P k) : A ↔ ∃ c, c < k + 1 ∧ P c := by
  rw [h, dm_exs]
  exact ⟨Or.inl, fun u => u.elim id (fun v => absurd v hn)⟩
theorem dm_xa {k : Nat} {P : Nat → Prop} {A A' : Prop} (h : A ↔ ∃ c, c < k ∧ P c) (hA : A' ↔ A ∨ P k) : A' ↔ ∃ c, c < k + 1 ∧ P c := by
  rw [hA, h, dm_exs]
theorem dm_x0 {P : Nat → Prop} {A : Prop} (h : ¬ A) : A ↔ ∃ c, c < 0 ∧ P c := ⟨fun t => absurd t h, fun ⟨c, hc, _⟩ => absurd hc (by omega)⟩
/-! the five methods that answer a set -/
section
variable {f0 f1 f2 f3 f4 : Int32} {a1 a2 a3 a4 a5 a6 a7 : Nat → Int32} {post : Int32 → Prop} {x : Int32}
theorem dm_pcols (hq : dm_rng a3) (H : ∀ y, (∀ t, t < 7 → (dm_b y t ↔ ∃ c, c < 7 ∧ dm_b x c ∧ a3 c = nI t)) → post y) :
    wpX_partnersOfColumns post (f0, f1, f2, f3, f4, a1, a2, a3, a4, a5, a6, a7) x := by
  refine pk_loop (fun n i s => wX_partnersOfColumns_4 post x f0 f1 f2 f3 f4 a1 a2 a3 a4 a5 a6 a7 n s (nI i)) (fun k y => ∀ t, t < 7 → (dm_b y t ↔ ∃ c, c < k ∧ dm_b x c ∧ a3 c = nI t)) 7 0 0 (by omega) ?_ ?_ ?_
  · intro t ht
    exact dm_x0 dm_zero
  · intro n s h
    exact pk_le 7 7 (fun _ => H s h) (fun z => absurd z (by omega))
  · intro n i s hi h hw
    refine pk_le 7 i (fun z => absurd z (by omega)) (fun _ => ?_)
    rw [nI_clamp (show i < 2 ^ 31 by omega)]
    refine dm_if0 (by omega) (fun hb => nm_r (nI_1 i) (hw _ ?_)) (fun hb => ⟨pk_in i 7 hi, br_c (fun hn => nm_r (nI_1 i) (hw _ ?_)) (fun hn => ⟨pk_in i 7 hi, nm_e (nm_r (nI_1 i) (hw _ ?_))⟩)⟩)
    · intro t ht
      exact dm_xs (h t ht) (fun v => hb v.1)
    · intro t ht
      exact dm_xs (h t ht) (fun v => dm_nn ht v.2 hn)
    · intro t ht
      rcases hq i hi with e | ⟨r, hr, e⟩
      · exact absurd e hn
      · refine dm_xa (h t ht) ?_
        rw [e, dm_or, dm_one (by omega)]
        exact or_congr Iff.rfl ⟨fun u => ⟨hb, by rw [u]⟩, fun u => (dm_inj hr ht u.2).symm⟩
theorem dm_prows (hp : dm_rng a2) (H : ∀ y, (∀ t, t < 7 → (dm_b y t ↔ ∃ c, c < 7 ∧ dm_b x c ∧ a2 c = nI t)) → post y) :
    wpX_partnersOfRows post (f0, f1, f2, f3, f4, a1, a2, a3, a4, a5, a6, a7) x := by
  refine pk_loop (fun n i s => wX_partnersOfRows_4 post x f0 f1 f2 f3 f4 a1 a2 a3 a4 a5 a6 a7 n s (nI i)) (fun k y => ∀ t, t < 7 → (dm_b y t ↔ ∃ c, c < k ∧ dm_b x c ∧ a2 c = nI t)) 7 0 0 (by omega) ?_ ?_ ?_
  · intro t ht
    exact dm_x0 dm_zero
  · intro n s h
    exact pk_le 7 7 (fun _ => H s h) (fun z => absurd z (by omega))
  · intro n i s hi h hw
    refine pk_le 7 i (fun z => absurd z (by omega)) (fun _ => ?_)
    rw [nI_clamp (show i < 2 ^ 31 by omega)]
    refine dm_if0 (by omega) (fun hb => nm_r (nI_1 i) (hw _ ?_)) (fun hb => ⟨pk_in i 7 hi, br_c (fun hn => nm_r (nI_1 i) (hw _ ?_)) (fun hn => ⟨pk_in i 7 hi, nm_e (nm_r (nI_1 i) (hw _ ?_))⟩)⟩)
    · intro t ht
      exact dm_xs (h t ht) (fun v => hb v.1)
    · intro t ht
      exact dm_xs (h t ht) (fun v => dm_nn ht v.2 hn)
    · intro t ht
      rcases hp i hi with e | ⟨r, hr, e⟩
      · exact absurd e hn
      · refine dm_xa (h t ht) ?_
        rw [e, dm_or, dm_one (by omega)]
        exact or_congr Iff.rfl ⟨fun u => ⟨hb, by rw [u]⟩, fun u => (dm_inj hr ht u.2).symm⟩
theorem dm_ncols (H : ∀ y, (∀ t, dm_b y t ↔ ∃ r, r < 7 ∧ dm_b x r ∧ dm_b (a1 r) t) → post y) :
    wpX_columnsNextTo post (f0, f1, f2, f3, f4, a1, a2, a3, a4, a5, a6, a7) x := by
  refine pk_loop (fun n i s => wX_columnsNextTo_4 post x f0 f1 f2 f3 f4 a1 a2 a3 a4 a5 a6 a7 n s (nI i)) (fun k y => ∀ t, dm_b y t ↔ ∃ r, r < k ∧ dm_b x r ∧ dm_b (a1 r) t) 7 0 0 (by omega) ?_ ?_ ?_
  · intro t
    exact dm_x0 dm_zero
  · intro n s h
    exact pk_le 7 7 (fun _ => H s h) (fun z => absurd z (by omega))
  · intro n i s hi h hw
    refine pk_le 7 i (fun z => absurd z (by omega)) (fun _ => ?_)
    rw [nI_clamp (show i < 2 ^ 31 by omega)]
    refine dm_if0 (by omega) (fun hb => nm_r (nI_1 i) (hw _ ?_)) (fun hb => ⟨pk_in i 7 hi, nm_e (nm_r (nI_1 i) (hw _ ?_))⟩)
    · intro t
      exact dm_xs (h t) (fun v => hb v.1)
    · intro t
      refine dm_xa (h t) ?_
      rw [dm_or]
      exact or_congr Iff.rfl ⟨fun u => ⟨hb, u⟩, fun u => u.2⟩
theorem dm_rwe {c : Nat} (hc : c < 7) (H : ∀ y, (∀ t, dm_b y t ↔ t < 7 ∧ dm_b (a1 t) c) → post y) :
    wpX_rowsWithEdgeTo post (f0, f1, f2, f3, f4, a1, a2, a3, a4, a5, a6, a7) (nI c) := by
  refine pk_loop (fun n i s => wX_rowsWithEdgeTo_4 post (nI c) f0 f1 f2 f3 f4 a1 a2 a3 a4 a5 a6 a7 n s (nI i)) (fun k y => ∀ t, dm_b y t ↔ t < k ∧ dm_b (a1 t) c) 7 0 0 (by omega) ?_ ?_ ?_
  · intro t
    exact ⟨fun u => absurd u dm_zero, fun u => absurd u.1 (by omega)⟩
  · intro n s h
    exact pk_le 7 7 (fun _ => H s h) (fun z => absurd z (by omega))
  · intro n i s hi h hw
    refine pk_le 7 i (fun z => absurd z (by omega)) (fun _ => ?_)
    rw [nI_clamp (show i < 2 ^ 31 by omega)]
    refine ⟨pk_in i 7 hi, nm_e (nm_r (nI_1 i) (hw _ ?_))⟩
    intro t
    rw [dm_or, h t, dm_sh1 (by omega) (by omega)]
    constructor
    · rintro (u | ⟨u, v⟩)
      · exact ⟨by omega, u.2⟩
      · subst u
        exact ⟨by omega, v⟩
    · rintro ⟨u, v⟩
      by_cases e : t = i
      · subst e
        exact Or.inr ⟨rfl, v⟩
      · exact Or.inl ⟨by omega, v⟩
theorem dm_nrows (H : ∀ y, (∀ t, t < 7 → (dm_b y t ↔ ∃ c, c < 7 ∧ dm_b x c ∧ dm_b (a1 t) c)) → post y) :
    wpX_rowsNextTo post (f0, f1, f2, f3, f4, a1, a2, a3, a4, a5, a6, a7) x := by
  refine pk_loop (fun n i s => wX_rowsNextTo_4 post x f0 f1 f2 f3 f4 a1 a2 a3 a4 a5 a6 a7 n s (nI i)) (fun k y => ∀ t, t < 7 → (dm_b y t ↔ ∃ c, c < k ∧ dm_b x c ∧ dm_b (a1 t) c)) 7 0 0 (by omega) ?_ ?_ ?_
  · intro t _
    exact dm_x0 dm_zero
  · intro n s h
    exact pk_le 7 7 (fun _ => H s h) (fun z => absurd z (by omega))
  · intro n i s hi h hw
    refine pk_le 7 i (fun z => absurd z (by omega)) (fun _ => ?_)
    refine dm_if0 (by omega) (fun hb => nm_r (nI_1 i) (hw _ ?_)) (fun hb => dm_rwe hi (fun y hy => nm_e (nm_r (nI_1 i) (hw _ ?_))))
    · intro t ht
      exact dm_xs (h t ht) (fun v => hb v.1)
    · intro t ht
      refine dm_xa (h t ht) ?_
      rw [dm_or, hy t]
      exact or_congr Iff.rfl ⟨fun u => ⟨hb, u.2⟩, fun u => ⟨ht, u.2⟩⟩
end
end
section
def dm_E (a : Nat → Int32) (r c : Nat) : Prop := dm_b (a r) c
/-- what isUsable answers -/
def dm_V (f1 f4 : Int32) (p q R : Nat → Int32) (r c : Nat) : Prop := p r = nI c ∨ dm_b f1 r ∨ dm_b f4 c ∨ ∃ o, o < 7 ∧ q c = nI o ∧ dm_b (R o) r
section
variable {f0 f1 f2 f3 f4 : Int32} {a1 a2 a3 a4 a5 a6 a7 : Nat → Int32} {post : St1 → Prop}
theorem dm_r178 {J : Int32 → (Nat → Int32) → (Nat → Int32) → (Nat → Int32) → (Nat → Int32) → (Nat → Int32) → (Nat → Int32) → (Nat → Int32) → Prop} {m : Nat} (hm : m < 7)
    (H : ∀ B, (∀ a b, a < 7 → b < 7 → (dm_b (B a) b ↔ dm_b (a6 a) b ∨ (dm_b (a6 a) m ∧ dm_b (a6 m) b))) → J (nI (m + 1)) a1 a2 a3 a4 a5 B a7) :
    ∃ n, wX_findReach_178 post J (nI m) f0 f1 f2 f3 f4 n 0 a1 a2 a3 a4 a5 a6 a7 := by
  refine pk_loop (fun n i s => wX_findReach_178 post J (nI m) f0 f1 f2 f3 f4 n (nI i) a1 a2 a3 a4 a5 s a7)
    (fun k s => ∀ a b, a < 7 → b < 7 → (dm_b (s a) b ↔ dm_b (a6 a) b ∨ (a < k ∧ dm_b (a6 a) m ∧ dm_b (a6 m) b))) 7 0 a6 (by omega) ?_ ?_ ?_
  · intro a b ha hb
    exact ⟨Or.inl, fun t => t.elim id (fun u => absurd u.1 (by omega))⟩
  · intro n s h
    refine pk_le 7 7 (fun _ => nm_r (nI_1 m) (H s ?_)) (fun z => absurd z (by omega))
    intro a b ha hb
    rw [h a b ha hb]
    exact or_congr Iff.rfl ⟨fun t => t.2, fun t => ⟨ha, t⟩⟩
  · intro n i s hi h hw
    refine pk_le 7 i (fun z => absurd z (by omega)) (fun _ => ?_)
    rw [nI_clamp (show i < 2 ^ 31 by omega), nI_clamp (show m < 2 ^ 31 by omega)]
    refine ⟨pk_in i 7 hi, dm_if0 (by omega) (fun hb => nm_r (nI_1 i) (hw _ ?_)) (fun hb => ⟨pk_in i 7 hi, pk_in m 7 hm, pk_in i 7 hi, nm_e (nm_r (nI_1 i) (hw _ ?_))⟩)⟩
    · intro a b ha hb'
      rw [h a b ha hb']
      constructor
      · exact Or.imp id (fun t => ⟨by omega, t.2⟩)
      · rintro (t | ⟨t, u, v⟩)
        · exact Or.inl t
        · by_cases e : a = i
          · subst e
            exact absurd ((h a m hi hm).mpr (Or.inl u)) hb
          · exact Or.inr ⟨by omega, u, v⟩
    · have hA : dm_b (a6 i) m := by
        rcases (h i m hi hm).mp hb with t | t
        · exact t
        · exact t.2.1
      have hM : ∀ b, b < 7 → (dm_b (s m) b ↔ dm_b (a6 m) b) := by
        intro b hb'
        rw [h m b hm hb']
        exact ⟨fun t => t.elim id (fun u => u.2.2), Or.inl⟩
      intro a b ha hb'
      by_cases e : a = i
      · subst e
        rw [pk_us, dm_or, h a b hi hb', hM b hb']
        constructor
        · rintro ((t | t) | t)
          · exact Or.inl t
          · exact absurd t.1 (by omega)
          · exact Or.inr ⟨by omega, hA, t⟩
        · rintro (t | t)
          · exact Or.inl (Or.inl t)
          · exact Or.inr t.2.2
      · rw [pk_un e, h a b ha hb']
        exact or_congr Iff.rfl ⟨fun t => ⟨by omega, t.2⟩, fun t => ⟨by omega, t.2⟩⟩
theorem dm_r170 (h0 : dm_war (dm_E a1) a3 0 a6) (H : ∀ R, dm_war (dm_E a1) a3 7 R → post (f0, f1, f2, f3, f4, a1, a2, a3, a4, a5, R, a7)) :
    ∃ n, wX_findReach_170 post f0 f1 f2 f3 f4 n 0 a1 a2 a3 a4 a5 a6 a7 := by
  refine pk_loop (fun n i s => wX_findReach_170 post f0 f1 f2 f3 f4 n (nI i) a1 a2 a3 a4 a5 s a7) (fun k s => dm_war (dm_E a1) a3 k s) 7 0 a6 (by omega) h0 ?_ ?_
  · intro n s h
    exact pk_le 7 7 (fun _ => H s h) (fun z => absurd z (by omega))
  · intro n i s hi h hw
    exact pk_le 7 i (fun z => absurd z (by omega)) (fun _ => dm_r178 hi (fun B hB => hw B (dm_war_s hi h hB)))
theorem dm_r140 (hq : dm_rng a3) (H : ∀ R, dm_war (dm_E a1) a3 7 R → post (f0, f1, f2, f3, f4, a1, a2, a3, a4, a5, R, a7)) :
    ∃ n, wX_findReach_140 post f0 f1 f2 f3 f4 n 0 a1 a2 a3 a4 a5 a6 a7 := by
  refine pk_loop (fun n i s => wX_findReach_140 post f0 f1 f2 f3 f4 n (nI i) a1 a2 a3 a4 a5 s a7) (fun k s => ∀ a b, a < k → b < 7 → (dm_b (s a) b ↔ dm_arc (dm_E a1) a3 a b)) 7 0 a6 (by omega) ?_ ?_ ?_
  · intro a b ha
    exact absurd ha (by omega)
  · intro n s h
    exact pk_le 7 7 (fun _ => dm_r170 (dm_war_0 h) H) (fun z => absurd z (by omega))
  · intro n i s hi h hw
    refine pk_le 7 i (fun z => absurd z (by omega)) (fun _ => ?_)
    rw [nI_clamp (show i < 2 ^ 31 by omega)]
    refine ⟨pk_in i 7 hi, dm_pcols hq (fun y hy => ⟨pk_in i 7 hi, nm_e (nm_r (nI_1 i) (hw _ ?_))⟩)⟩
    intro a b ha hb
    by_cases e : a = i
    · subst e
      rw [pk_us]
      exact hy b hb
    · rw [pk_un e]
      exact h a b (by omega) hb
theorem dm_r68 (hk : dm_ok a2 a3) (h1 : dm_stage (dm_E a1) a2 a3 0 f1 f2) (h2 : dm_stage (dm_fl (dm_E a1)) a3 a2 0 f4 f3)
    (H : ∀ g1 g2 g3 g4 R, dm_stage (dm_E a1) a2 a3 8 g1 g2 → dm_stage (dm_fl (dm_E a1)) a3 a2 8 g4 g3 → dm_war (dm_E a1) a3 7 R → post (f0, g1, g2, g3, g4, a1, a2, a3, a4, a5, R, a7)) :
    ∃ n, wX_findReach_68 post f0 a1 a2 a3 a4 a5 a6 a7 n 0 f1 f2 f3 f4 := by
  refine pk_loop (fun n i (s : Int32 × Int32 × Int32 × Int32) => wX_findReach_68 post f0 a1 a2 a3 a4 a5 a6 a7 n (nI i) s.1 s.2.1 s.2.2.1 s.2.2.2)
    (fun k s => dm_stage (dm_E a1) a2 a3 k s.1 s.2.1 ∧ dm_stage (dm_fl (dm_E a1)) a3 a2 k s.2.2.2 s.2.2.1) 8 0 (f1, f2, f3, f4) (by omega) ⟨h1, h2⟩ ?_ ?_
  · intro n s h
    exact pk_le 8 8 (fun _ => dm_r140 hk.2.1 (fun R hR => H _ _ _ _ R h.1 h.2 hR)) (fun z => absurd z (by omega))
  · rintro n i ⟨g1, g2, g3, g4⟩ hi h hw
    refine pk_le 8 i (fun z => absurd z (by omega)) (fun _ => dm_ncols (fun y1 e1 => dm_pcols hk.2.1 (fun y2 e2 => nm_e (dm_nrows (fun y3 e3 => dm_prows hk.1 (fun y4 e4 => nm_e (nm_r (nI_1 i) (hw (g1 ||| y2, y1, y3, g4 ||| y4) ⟨dm_stage_s h.1 ?_ ?_, dm_stage_s h.2 ?_ ?_⟩))))))))
    · intro c _
      exact e1 c
    · intro r hr
      rw [dm_or, e2 r hr]
    · intro c hc
      exact e3 c hc
    · intro r hr
      rw [dm_or, e4 r hr]
theorem dm_r39 {J : Int32 → Int32 → Int32 → Prop} {i : Nat} (hi : i < 7) (H : ∀ y, (∀ t, dm_b y t ↔ dm_b f4 t ∨ (t = i ∧ a3 i < 0)) → J (nI (i + 1)) f1 y) :
    wX_findReach_39 post J (nI i) f0 f1 f2 f3 f4 a1 a2 a3 a4 a5 a6 a7 := by
  unfold wX_findReach_39
  rw [nI_clamp (show i < 2 ^ 31 by omega)]
  refine ⟨pk_in i 7 hi, dm_ifg (fun hn => nm_r (nI_1 i) (H _ ?_)) (fun hn => nm_e (nm_r (nI_1 i) (H _ ?_)))⟩
  · intro t
    exact ⟨Or.inl, fun u => u.elim id (fun v => absurd v.2 hn)⟩
  · intro t
    rw [dm_or, dm_one (by omega)]
    exact or_congr Iff.rfl ⟨fun u => ⟨u, hn⟩, fun u => u.1⟩
theorem dm_r12 (hk : dm_ok a2 a3)
    (H : ∀ g1 g2 g3 g4 R, dm_stage (dm_E a1) a2 a3 8 g1 g2 → dm_stage (dm_fl (dm_E a1)) a3 a2 8 g4 g3 → dm_war (dm_E a1) a3 7 R → post (f0, g1, g2, g3, g4, a1, a2, a3, a4, a5, R, a7)) :
    ∃ n, wX_findReach_12 post f0 f2 f3 a1 a2 a3 a4 a5 a6 a7 n 0 0 0 := by
  refine pk_loop (fun n i (s : Int32 × Int32) => wX_findReach_12 post f0 f2 f3 a1 a2 a3 a4 a5 a6 a7 n (nI i) s.1 s.2)
    (fun k s => (∀ t, dm_b s.1 t ↔ t < k ∧ a2 t < 0) ∧ (∀ t, dm_b s.2 t ↔ t < k ∧ a3 t < 0)) 7 0 (0, 0) (by omega) ?_ ?_ ?_
  · exact ⟨fun t => ⟨fun u => absurd u dm_zero, fun u => absurd u.1 (by omega)⟩, fun t => ⟨fun u => absurd u dm_zero, fun u => absurd u.1 (by omega)⟩⟩
  · rintro n ⟨g1, g4⟩ ⟨h1, h2⟩
    exact pk_le 7 7 (fun _ => dm_r68 hk
      ⟨fun t ht hp => (h1 t).mpr ⟨ht, hp⟩, fun r hr hb => dm_RR_0 hr ((h1 r).mp hb).2, Or.inr (Nat.zero_le _)⟩
      ⟨fun t ht hp => (h2 t).mpr ⟨ht, hp⟩, fun r hr hb => dm_RR_0 hr ((h2 r).mp hb).2, Or.inr (Nat.zero_le _)⟩ H) (fun z => absurd z (by omega))
  · rintro n i ⟨g1, g4⟩ hi ⟨h1, h2⟩ hw
    have st : ∀ {g : Int32} {p : Nat → Int32} {y : Int32}, (∀ t, dm_b g t ↔ t < i ∧ p t < 0) → (∀ t, dm_b y t ↔ dm_b g t ∨ (t = i ∧ p i < 0)) → ∀ t, dm_b y t ↔ t < i + 1 ∧ p t < 0 := by
      intro g p y u v t
      rw [v t, u t]
      constructor
      · rintro (w | ⟨w, w'⟩)
        · exact ⟨by omega, w.2⟩
        · subst w
          exact ⟨by omega, w'⟩
      · rintro ⟨w, w'⟩
        by_cases e : t = i
        · subst e
          exact Or.inr ⟨rfl, w'⟩
        · exact Or.inl ⟨by omega, w'⟩
    refine pk_le 7 i (fun z => absurd z (by omega)) (fun _ => ?_)
    rw [nI_clamp (show i < 2 ^ 31 by omega)]
    refine ⟨pk_in i 7 hi, dm_ifg (fun hn => dm_r39 hi (fun y hy => hw (g1, y) ⟨?_, ?_⟩)) (fun hn => nm_e (dm_r39 hi (fun y hy => hw (_, y) ⟨?_, ?_⟩)))⟩
    · exact st h1 (fun t => ⟨Or.inl, fun u => u.elim id (fun v => absurd v.2 hn)⟩)
    · exact st h2 hy
    · refine st h1 (fun t => ?_)
      rw [dm_or, dm_one (by omega)]
      exact or_congr Iff.rfl ⟨fun u => ⟨u, hn⟩, fun u => u.1⟩
    · exact st h2 hy
theorem dm_findReach (hk : dm_ok a2 a3)
    (H : ∀ g1 g2 g3 g4 R, (∀ r, r < 7 → (dm_b g1 r ↔ dm_RR (dm_E a1) a2 a3 r)) → (∀ c, c < 7 → (dm_b g2 c ↔ ∃ r, r < 7 ∧ dm_RR (dm_E a1) a2 a3 r ∧ dm_E a1 r c)) →
      (∀ c, c < 7 → (dm_b g4 c ↔ dm_RR (dm_fl (dm_E a1)) a3 a2 c)) → (∀ a b, a < 7 → b < 7 → (dm_b (R a) b ↔ dm_TC (dm_E a1) a3 a b)) → post (f0, g1, g2, g3, g4, a1, a2, a3, a4, a5, R, a7)) :
    wpX_findReach post (f0, f1, f2, f3, f4, a1, a2, a3, a4, a5, a6, a7) :=
  dm_r12 hk (fun g1 g2 g3 g4 R h1 h2 h3 => H g1 g2 g3 g4 R (dm_stage_e h1).1 (dm_stage_e h1).2 (dm_stage_e h2).1 (dm_war_e h3))
theorem dm_isUs {post : Int32 → Prop} (hq : dm_rng a3) {r c : Nat} (hr : r < 7) (hc : c < 7) (H1 : dm_V f1 f4 a2 a3 a6 r c → post 1) (H0 : ¬ dm_V f1 f4 a2 a3 a6 r c → post 0) :
    wpX_isUsable post (f0, f1, f2, f3, f4, a1, a2, a3, a4, a5, a6, a7) (nI r) (nI c) := by
  unfold wpX_isUsable
  dsimp only
  rw [nI_clamp (show r < 2 ^ 31 by omega), nI_clamp (show c < 2 ^ 31 by omega)]
  refine ⟨pk_in r 7 hr, br_c (fun h => H1 (Or.inl h)) (fun h => dm_if0 (by omega) (fun b1 => dm_if0 (by omega) (fun b2 => ⟨pk_in c 7 hc, fun o ho => ?_⟩) (fun b2 => H1 (Or.inr (Or.inr (Or.inl b2))))) (fun b1 => H1 (Or.inr (Or.inl b1))))⟩
  rcases hq c hc with e | ⟨t, ht, e⟩
  · refine br_t (by rw [ho]; exact e) (H0 ?_)
    rintro (u | u | u | ⟨o', ho', u, v⟩)
    · exact h u
    · exact b1 u
    · exact b2 u
    · exact dm_nn ho' u e
  · have ho' : o = nI t := ho.trans e
    subst ho'
    rw [nI_clamp (show t < 2 ^ 31 by omega)]
    refine br_f (nI_pos (by omega)) ⟨pk_in t 7 ht, dm_if0 (by omega) (fun b3 => H0 ?_) (fun b3 => H1 (Or.inr (Or.inr (Or.inr ⟨t, ht, e, b3⟩))))⟩
    rintro (u | u | u | ⟨o', ho', u, v⟩)
    · exact h u
    · exact b1 u
    · exact b2 u
    · have e2 := dm_inj ht ho' (e.symm.trans u)
      subst e2
      exact b3 v
theorem dm_u17 {J : Int32 → (Nat → Int32) → (Nat → Int32) → (Nat → Int32) → (Nat → Int32) → (Nat → Int32) → (Nat → Int32) → (Nat → Int32) → Prop} (hq : dm_rng a3) {r : Nat} (hr : r < 7) (h0 : ∀ j, ¬ dm_b (a7 r) j)
    (H : ∀ B, (∀ a, a ≠ r → B a = a7 a) → (∀ j, dm_b (B r) j ↔ j < 7 ∧ dm_b (a1 r) j ∧ dm_V f1 f4 a2 a3 a6 r j) → J (nI (r + 1)) a1 a2 a3 a4 a5 a6 B) :
    ∃ n, wX_findUsable_17 post J (nI r) f0 f1 f2 f3 f4 n 0 a1 a2 a3 a4 a5 a6 a7 := by
  refine pk_loop (fun n i s => wX_findUsable_17 post J (nI r) f0 f1 f2 f3 f4 n (nI i) a1 a2 a3 a4 a5 a6 s)
    (fun k s => (∀ a, a ≠ r → s a = a7 a) ∧ ∀ j, dm_b (s r) j ↔ j < k ∧ dm_b (a1 r) j ∧ dm_V f1 f4 a2 a3 a6 r j) 7 0 a7 (by omega) ?_ ?_ ?_
  · exact ⟨fun a _ => rfl, fun j => ⟨fun t => absurd t (h0 j), fun t => absurd t.1 (by omega)⟩⟩
  · intro n s h
    exact pk_le 7 7 (fun _ => nm_r (nI_1 r) (H s h.1 h.2)) (fun z => absurd z (by omega))
  · intro n i s hi h hw
    have sk : ¬ (dm_b (a1 r) i ∧ dm_V f1 f4 a2 a3 a6 r i) → ∀ j, dm_b (s r) j ↔ j < i + 1 ∧ dm_b (a1 r) j ∧ dm_V f1 f4 a2 a3 a6 r j := by
      intro hn j
      rw [h.2 j]
      constructor
      · exact fun t => ⟨by omega, t.2⟩
      · rintro ⟨t, u⟩
        by_cases e : j = i
        · subst e
          exact absurd u hn
        · exact ⟨by omega, u⟩
    refine pk_le 7 i (fun z => absurd z (by omega)) (fun _ => ?_)
    rw [nI_clamp (show r < 2 ^ 31 by omega)]
    refine ⟨pk_in r 7 hr, dm_if0 (by omega) (fun hb => nm_r (nI_1 i) (hw s ⟨h.1, sk (fun t => hb t.1)⟩)) (fun hb => dm_isUs hq hr hi (fun hv => ?_) (fun hv => ?_))⟩
    · refine br_f (by decide) ⟨pk_in r 7 hr, pk_in r 7 hr, nm_e (nm_r (nI_1 i) (hw _ ⟨?_, ?_⟩))⟩
      · intro a ha
        rw [pk_un ha]
        exact h.1 a ha
      · intro j
        rw [pk_us, dm_or, dm_one (by omega), h.2 j]
        constructor
        · rintro (t | t)
          · exact ⟨by omega, t.2⟩
          · subst t
            exact ⟨by omega, hb, hv⟩
        · rintro ⟨t, u⟩
          by_cases e : j = i
          · exact Or.inr e
          · exact Or.inl ⟨by omega, u⟩
    · exact br_t rfl (nm_r (nI_1 i) (hw s ⟨h.1, sk (fun t => hv t.2)⟩))
theorem dm_findUsable (hq : dm_rng a3) (H : ∀ B, (∀ a, a < 7 → ∀ j, dm_b (B a) j ↔ j < 7 ∧ dm_b (a1 a) j ∧ dm_V f1 f4 a2 a3 a6 a j) → post (f0, f1, f2, f3, f4, a1, a2, a3, a4, a5, a6, B)) :
    wpX_findUsable post (f0, f1, f2, f3, f4, a1, a2, a3, a4, a5, a6, a7) := by
  refine pk_loop (fun n i s => wX_findUsable_2 post f0 f1 f2 f3 f4 n (nI i) a1 a2 a3 a4 a5 a6 s)
    (fun k s => ∀ a, a < k → ∀ j, dm_b (s a) j ↔ j < 7 ∧ dm_b (a1 a) j ∧ dm_V f1 f4 a2 a3 a6 a j) 7 0 a7 (by omega) ?_ ?_ ?_
  · intro a ha
    exact absurd ha (by omega)
  · intro n s h
    exact pk_le 7 7 (fun _ => H s h) (fun z => absurd z (by omega))
  · intro n i s hi h hw
    refine pk_le 7 i (fun z => absurd z (by omega)) (fun _ => ?_)
    rw [nI_clamp (show i < 2 ^ 31 by omega)]
    refine ⟨pk_in i 7 hi, nm_e (dm_u17 hq hi ?_ (fun B h1 h2 => hw B ?_))⟩
    · intro j
      rw [pk_us]
      exact dm_zero
    · intro a ha
      by_cases e : a = i
      · subst e
        exact h2
      · rw [h1 a e, pk_un e]
        exact h a (by omega)
end
end
section
/-! a matching that is whole but for one column -/
theorem dm_rng_u {p : Nat → Int32} {r c : Nat} (h : dm_rng p) (hc : c < 7) : dm_rng (upd p r (nI c)) := by
  intro a ha
  by_cases e : a = r
  · subst e
    rw [pk_us]
    exact Or.inr ⟨c, hc, rfl⟩
  · rw [pk_un e]
    exact h a ha
def dm_J (p q : Nat → Int32) (c : Nat) : Prop := dm_rng p ∧ dm_rng q ∧ (∀ r, r < 7 → ¬ p r = nI c) ∧ ∀ r d, r < 7 → d < 7 → d ≠ c → (p r = nI d ↔ q d = nI r)
theorem dm_J_0 {p q : Nat → Int32} {c : Nat} (h : dm_ok p q) (hc : c < 7) (hq : q c < 0) : dm_J p q c :=
  ⟨h.1, h.2.1, fun r hr e => dm_nn hr ((h.2.2 r c hr hc).mp e) hq, fun r d hr hd _ => h.2.2 r d hr hd⟩
theorem dm_J_end {p q : Nat → Int32} {r c : Nat} (h : dm_J p q c) (hr : r < 7) (hc : c < 7) (hp : p r < 0) : dm_ok (upd p r (nI c)) (upd q c (nI r)) := by
  obtain ⟨h1, h2, h3, h4⟩ := h
  refine ⟨dm_rng_u h1 hc, dm_rng_u h2 hr, ?_⟩
  intro a d ha hd
  by_cases e : a = r
  · subst e
    rw [pk_us]
    by_cases e2 : d = c
    · subst e2
      rw [pk_us]
      exact ⟨fun _ => rfl, fun _ => rfl⟩
    · rw [pk_un e2]
      exact ⟨fun t => absurd (dm_inj hc hd t).symm e2, fun t => absurd hp (dm_nn hd ((h4 a d ha hd e2).mpr t))⟩
  · rw [pk_un e]
    by_cases e2 : d = c
    · subst e2
      rw [pk_us]
      exact ⟨fun t => absurd t (h3 a ha), fun t => absurd (dm_inj hr ha t).symm e⟩
    · rw [pk_un e2]
      exact h4 a d ha hd e2
theorem dm_J_step {p q : Nat → Int32} {r c b : Nat} (h : dm_J p q c) (hr : r < 7) (hc : c < 7) (hb : b < 7) (hp : p r = nI b) : dm_J (upd p r (nI c)) (upd q c (nI r)) b := by
  obtain ⟨h1, h2, h3, h4⟩ := h
  have hbc : b ≠ c := by
    intro e
    subst e
    exact h3 r hr hp
  have hqb : q b = nI r := (h4 r b hr hb hbc).mp hp
  refine ⟨dm_rng_u h1 hc, dm_rng_u h2 hr, ?_, ?_⟩
  · intro a ha
    by_cases e : a = r
    · subst e
      rw [pk_us]
      exact fun t => hbc (dm_inj hc hb t).symm
    · rw [pk_un e]
      intro t
      exact e (dm_inj ha hr (((h4 a b ha hb hbc).mp t).symm.trans hqb))
  · intro a d ha hd hdb
    by_cases e : a = r
    · subst e
      rw [pk_us]
      by_cases e2 : d = c
      · subst e2
        rw [pk_us]
        exact ⟨fun _ => rfl, fun _ => rfl⟩
      · rw [pk_un e2]
        exact ⟨fun t => absurd (dm_inj hc hd t).symm e2, fun t => absurd (dm_inj hd hb (((h4 a d ha hd e2).mpr t).symm.trans hp)) hdb⟩
    · rw [pk_un e]
      by_cases e2 : d = c
      · subst e2
        rw [pk_us]
        exact ⟨fun t => absurd t (h3 a ha), fun t => absurd (dm_inj hr ha t).symm e⟩
      · rw [pk_un e2]
        exact h4 a d ha hd e2
theorem dm_sub_u {E : Nat → Nat → Prop} {p : Nat → Int32} {r c : Nat} (h : dm_sub E p) (hc : c < 7) (he : E r c) : dm_sub E (upd p r (nI c)) := by
  intro a d ha hd
  by_cases e : a = r
  · subst e
    rw [pk_us]
    intro t
    rw [← dm_inj hc hd t]
    exact he
  · rw [pk_un e]
    exact h a d ha hd
/-- the way back from a row of the queue at place i to the start -/
def dm_chain (E : Nat → Nat → Prop) (s : Nat) (Q F p : Nat → Int32) (i : Nat) : Prop :=
  Q 0 = nI s ∧ p s < 0 ∧ (∀ j k, j < k → k ≤ i → ¬ Q j = Q k) ∧
    ∀ j, 1 ≤ j → j ≤ i → ∃ r d j' r2, r < 7 ∧ d < 7 ∧ j' < j ∧ r2 < 7 ∧ Q j = nI r ∧ p r = nI d ∧ Q j' = nI r2 ∧ F d = nI r2 ∧ E r2 d
section
variable {f0 f1 f2 f3 f4 : Int32} {a1 a2 a3 a4 a5 a6 a7 : Nat → Int32}
theorem dm_turn {post : St1 → Prop} {E : Nat → Nat → Prop} {st c i r : Nat} (hst : st < 7) (hc : c < 7) (hr : r < 7) (hi : i ≤ 6) (hF : a5 c = nI r) (hQ : a4 i = nI r) (he : E r c)
    (hJ : dm_J a2 a3 c) (hs : dm_sub E a2) (hch : dm_chain E st a4 a5 a2 i)
    (H : ∀ p' q', dm_ok p' q' → dm_sub E p' → (∀ t, t < 7 → (p' t < 0 ↔ a2 t < 0 ∧ t ≠ st)) → post (f0, f1, f2, f3, f4, a1, p', q', a4, a5, a6, a7)) :
    wpX_turnPath post (f0, f1, f2, f3, f4, a1, a2, a3, a4, a5, a6, a7) (nI c) (nI st) := by
  refine pk_loop (fun n k (s : Nat × (Nat → Int32) × (Nat → Int32)) => wX_turnPath_5 post (nI st) f0 f1 f2 f3 f4 n (nI s.1) (nI k) a1 s.2.1 s.2.2 a4 a5 a6 a7)
    (fun k s => s.1 < 7 ∧ (∃ i r, i + k ≤ 6 ∧ r < 7 ∧ a5 s.1 = nI r ∧ a4 i = nI r ∧ E r s.1 ∧ dm_chain E st a4 a5 s.2.1 i) ∧ dm_J s.2.1 s.2.2 s.1 ∧ dm_sub E s.2.1 ∧ ∀ t, t < 7 → (s.2.1 t < 0 ↔ a2 t < 0))
    7 0 (c, a2, a3) (by omega) ?_ ?_ ?_
  · exact ⟨hc, ⟨i, r, hi, hr, hF, hQ, he, hch⟩, hJ, hs, fun t _ => Iff.rfl⟩
  · rintro n s ⟨_, ⟨i, r, h, _⟩, _⟩
    exact absurd h (by omega)
  · rintro n k ⟨c, p, q⟩ hk ⟨hc, ⟨i, r, hik, hr, hF, hQ, he, hch⟩, hJ, hs, hfr⟩ hw
    dsimp only at hc hF hQ he hch hJ hs hfr
    obtain ⟨c1, c2, c3, c4⟩ := hch
    refine pk_le 7 k (fun z => absurd z (by omega)) (fun _ => ?_)
    dsimp only
    rw [nI_clamp (show c < 2 ^ 31 by omega), dm_byte c hc]
    refine ⟨pk_in c 7 hc, nm_r hF ?_⟩
    rw [nI_clamp (show r < 2 ^ 31 by omega), dm_byte r hr]
    refine ⟨pk_in r 7 hr, ?_⟩
    by_cases hi0 : i = 0
    · subst hi0
      have hrs : r = st := dm_inj hr hst (hQ.symm.trans c1)
      subst hrs
      refine nm_e ⟨pk_in r 7 hr, nm_e ⟨pk_in c 7 hc, nm_e (br_t rfl (H _ _ (dm_J_end hJ hr hc c2) (dm_sub_u hs hc he) ?_))⟩⟩
      intro t ht
      by_cases e : t = r
      · subst e
        rw [pk_us]
        exact ⟨fun u => absurd u (dm_nn hc rfl), fun u => absurd rfl u.2⟩
      · rw [pk_un e, hfr t ht]
        exact ⟨fun u => ⟨u, e⟩, fun u => u.1⟩
    · obtain ⟨r', d, j', r2, hr', hd, hj', hr2, g1, g2, g3, g4, g5⟩ := c4 i (by omega) (Nat.le_refl _)
      have hrr : r' = r := dm_inj hr' hr (g1.symm.trans hQ)
      subst hrr
      have hne : ¬ r' = st := by
        intro e
        subst e
        exact c3 0 i (by omega) (Nat.le_refl _) (c1.trans hQ.symm)
      refine nm_r g2 ⟨pk_in r' 7 hr, nm_e ⟨pk_in c 7 hc, nm_e (br_f (fun e => hne (dm_inj hr hst e)) (nm_r (nI_1 k) (hw (d, upd p r' (nI c), upd q c (nI r')) ?_)))⟩⟩
      refine ⟨hd, ⟨j', r2, by omega, hr2, g4, g3, g5, c1, ?_, ?_, ?_⟩, dm_J_step hJ hr hc hd g2, dm_sub_u hs hc he, ?_⟩
      · show upd p r' (nI c) st < 0
        rw [pk_un (fun e => hne e.symm)]
        exact c2
      · intro j k' h1 h2
        exact c3 j k' h1 (by omega)
      · intro j h1 h2
        obtain ⟨t, d', k', t2, ht, hd', hk', ht2, u1, u2, u3, u4, u5⟩ := c4 j h1 (by omega)
        refine ⟨t, d', k', t2, ht, hd', hk', ht2, u1, ?_, u3, u4, u5⟩
        show upd p r' (nI c) t = nI d'
        rw [pk_un]
        · exact u2
        · intro e
          subst e
          exact c3 j i (by omega) (Nat.le_refl _) (u1.trans hQ.symm)
      · intro t ht
        show upd p r' (nI c) t < 0 ↔ a2 t < 0
        by_cases e : t = r'
        · subst e
          rw [pk_us, ← hfr t ht]
          exact ⟨fun u => absurd u (dm_nn hc rfl), fun u => absurd u (dm_nn hd g2)⟩
        · rw [pk_un e]
          exact hfr t ht
end
/-! the search: the queue holds e rows, x are the columns seen -/
def dm_bfs (E : Nat → Nat → Prop) (p q : Nat → Int32) (s e : Nat) (x : Int32) (Q F : Nat → Int32) : Prop :=
  1 ≤ e ∧ e = 1 + dm_cn (dm_b x) 7 ∧ Q 0 = nI s ∧ (∀ j, j < e → ∃ r, r < 7 ∧ Q j = nI r ∧ dm_rs E q s r) ∧ (∀ j k, j < k → k < e → ¬ Q j = Q k) ∧
    (∀ c, c < 7 → dm_b x c → ∃ j, j < e ∧ q c = Q j) ∧
    ∀ j, 1 ≤ j → j < e → ∃ r d j' r2, r < 7 ∧ d < 7 ∧ j' < j ∧ r2 < 7 ∧ Q j = nI r ∧ p r = nI d ∧ Q j' = nI r2 ∧ F d = nI r2 ∧ E r2 d ∧ dm_b x d
theorem dm_cn_0 {P : Nat → Prop} {n : Nat} (h : ∀ i, i < n → ¬ P i) : dm_cn P n = 0 := by
  induction n with
  | zero => rfl
  | succ n ih => rw [dm_cn_f (h n (by omega))]; exact ih (fun i hi => h i (by omega))
theorem dm_cn_put {P Q : Nat → Prop} {n c : Nat} (h : ∀ i, i < n → (Q i ↔ P i ∨ i = c)) (hc : c < n) (hn : ¬ P c) : dm_cn Q n = dm_cn P n + 1 := by
  induction n with
  | zero => omega
  | succ n ih =>
    by_cases e : c = n
    · subst e
      rw [dm_cn_t ((h c (by omega)).mpr (Or.inr rfl)), dm_cn_f hn]
      have : dm_cn Q c = dm_cn P c := dm_cn_eq (fun i hi => by
        rw [h i (by omega)]
        exact ⟨fun t => t.elim id (fun u => absurd u (by omega)), Or.inl⟩)
      omega
    · have ih' := ih (fun i hi => h i (by omega)) (by omega)
      by_cases hp : P n
      · rw [dm_cn_t hp, dm_cn_t ((h n (by omega)).mpr (Or.inl hp))]; omega
      · rw [dm_cn_f hp, dm_cn_f (fun t => ((h n (by omega)).mp t).elim hp (fun u => absurd u.symm e))]; omega
theorem dm_cn6 {p q : Nat → Int32} {s : Nat} (hk : dm_ok p q) (hs : s < 7) (hp : p s < 0) {P : Nat → Prop} (h : ∀ c, c < 7 → P c → ¬ q c < 0) : dm_cn P 7 ≤ 6 := by
  have h1 : dm_cn P 7 ≤ dm_cn (fun r => r ≠ s) 7 := by
    refine dm_cn_inj (fun c r => q c = nI r) _ ?_ ?_
    · intro c hc hP
      rcases hk.2.1 c hc with t | ⟨r, hr, t⟩
      · exact absurd t (h c hc hP)
      · refine ⟨r, hr, ?_, t⟩
        intro e
        subst e
        exact dm_nn hc ((hk.2.2 r c hr hc).mpr t) hp
    · intro c c' r hc hc' hr t1 t2
      exact dm_inj hc hc' (((hk.2.2 r c hr hc).mpr t1).symm.trans ((hk.2.2 r c' hr hc').mpr t2))
  have h2 : dm_cn (fun r => r ≠ s) 7 < dm_cn (fun _ => True) 7 := dm_cn_lt (j := s) (fun _ _ _ => trivial) hs (fun t => t rfl) trivial
  have h3 := dm_cn_le (fun _ => True) 7
  omega
section
variable {E : Nat → Nat → Prop} {p q Q F : Nat → Int32} {s e : Nat} {x : Int32}
theorem dm_bfs_m (h : dm_bfs E p q s e x Q F) {c : Nat} (hc : c < 7) (hx : dm_b x c) : ¬ q c < 0 := by
  obtain ⟨b1, b2, b3, b4, b5, b6, b7⟩ := h
  obtain ⟨j, hj, e1⟩ := b6 c hc hx
  obtain ⟨r, hr, e2, _⟩ := b4 j hj
  exact dm_nn hr (e1.trans e2)
theorem dm_bfs_le (h : dm_bfs E p q s e x Q F) (hk : dm_ok p q) (hs : s < 7) (hp : p s < 0) : e ≤ 7 := by
  have h1 := dm_cn6 hk hs hp (P := dm_b x) (fun c hc hx => dm_bfs_m h hc hx)
  have h2 := h.2.1
  omega
theorem dm_bfs_0 {Q F : Nat → Int32} (hs : s < 7) (hQ : Q 0 = nI s) : dm_bfs E p q s 1 0 Q F := by
  refine ⟨Nat.le_refl _, ?_, hQ, ?_, ?_, ?_, ?_⟩
  · rw [dm_cn_0 (fun i _ => dm_zero)]
  · intro j hj
    have : j = 0 := by omega
    subst this
    exact ⟨s, hs, hQ, dm_rs_0⟩
  · intro j k h1 h2
    exact absurd h1 (by omega)
  · intro c _ hx
    exact absurd hx dm_zero
  · intro j h1 h2
    exact absurd h1 (by omega)
theorem dm_bfs_push (h : dm_bfs E p q s e x Q F) (hk : dm_ok p q) (hs : s < 7) (hp : p s < 0) {a r c t : Nat} (ha : a < e) (hQ : Q a = nI r) (hr : r < 7) (hc : c < 7) (he : E r c) (hx : ¬ dm_b x c) (hq : q c = nI t) (ht : t < 7) :
    dm_bfs E p q s (e + 1) (x ||| ((1 : Int32) <<< (nI c &&& 31))) (upd Q e (nI t)) (upd F c (nI r)) ∧ e ≤ 6 := by
  have hm := fun d hd hx => dm_bfs_m (c := d) h hd hx
  obtain ⟨b1, b2, b3, b4, b5, b6, b7⟩ := h
  have hb : ∀ d, dm_b (x ||| ((1 : Int32) <<< (nI c &&& 31))) d ↔ dm_b x d ∨ d = c := by
    intro d
    rw [dm_or, dm_one (by omega)]
  have hcn : dm_cn (dm_b (x ||| ((1 : Int32) <<< (nI c &&& 31)))) 7 = dm_cn (dm_b x) 7 + 1 := dm_cn_put (fun d _ => hb d) hc hx
  have h6 := dm_cn6 hk hs hp (P := dm_b (x ||| ((1 : Int32) <<< (nI c &&& 31)))) (fun d hd hxd => by
    rcases (hb d).mp hxd with u | u
    · exact hm d hd u
    · subst u
      exact dm_nn ht hq)
  have hpt : p t = nI c := (hk.2.2 t c ht hc).mpr hq
  have hts : ¬ t = s := by
    intro u
    subst u
    exact dm_nn hc hpt hp
  have hrs : dm_rs E q s r := by
    obtain ⟨r', hr', u, v⟩ := b4 a ha
    rw [dm_inj hr hr' (hQ.symm.trans u)]
    exact v
  have hold : ∀ j, j < e → upd Q e (nI t) j = Q j := fun j hj => pk_un (by omega)
  refine ⟨⟨by omega, by omega, ?_, ?_, ?_, ?_, ?_⟩, by omega⟩
  · rw [hold 0 (by omega)]
    exact b3
  · intro j hj
    by_cases u : j = e
    · subst u
      rw [pk_us]
      exact ⟨t, ht, rfl, dm_rs_s hrs hr hc he ht hq⟩
    · rw [hold j (by omega)]
      exact b4 j (by omega)
  · intro j k h1 h2
    rw [hold j (by omega)]
    by_cases u : k = e
    · subst u
      rw [pk_us]
      intro v
      by_cases w : j = 0
      · subst w
        exact hts (dm_inj hs ht (b3.symm.trans v)).symm
      · obtain ⟨r', d, j', r2, hr', hd, hj', hr2, g1, g2, g3, g4, g5, g6⟩ := b7 j (by omega) h1
        have e1 : r' = t := dm_inj hr' ht (g1.symm.trans v)
        subst e1
        have e2 : d = c := dm_inj hd hc (g2.symm.trans hpt)
        subst e2
        exact hx g6
    · rw [hold k (by omega)]
      exact b5 j k h1 (by omega)
  · intro d hd hxd
    rcases (hb d).mp hxd with u | u
    · obtain ⟨j, hj, v⟩ := b6 d hd u
      exact ⟨j, by omega, by rw [hold j hj]; exact v⟩
    · subst u
      exact ⟨e, by omega, by rw [pk_us]; exact hq⟩
  · intro j h1 h2
    by_cases u : j = e
    · subst u
      refine ⟨t, c, a, r, ht, hc, ha, hr, pk_us, hpt, ?_, pk_us, he, (hb c).mpr (Or.inr rfl)⟩
      rw [hold a ha]
      exact hQ
    · obtain ⟨r', d, j', r2, hr', hd, hj', hr2, g1, g2, g3, g4, g5, g6⟩ := b7 j h1 (by omega)
      refine ⟨r', d, j', r2, hr', hd, hj', hr2, ?_, g2, ?_, ?_, g5, (hb d).mpr (Or.inl g6)⟩
      · rw [hold j (by omega)]
        exact g1
      · rw [hold j' (by omega)]
        exact g3
      · rw [pk_un]
        · exact g4
        · intro v
          subst v
          exact hx g6
theorem dm_bfs_ch (h : dm_bfs E p q s e x Q F) (hp : p s < 0) {a r c : Nat} (ha : a < e) (hx : ¬ dm_b x c) : dm_chain E s Q (upd F c (nI r)) p a := by
  obtain ⟨b1, b2, b3, b4, b5, b6, b7⟩ := h
  refine ⟨b3, hp, fun j k h1 h2 => b5 j k h1 (by omega), fun j h1 h2 => ?_⟩
  obtain ⟨r', d, j', r2, hr', hd, hj', hr2, g1, g2, g3, g4, g5, g6⟩ := b7 j h1 (by omega)
  refine ⟨r', d, j', r2, hr', hd, hj', hr2, g1, g2, g3, ?_, g5⟩
  rw [pk_un]
  · exact g4
  · intro v
    subst v
    exact hx g6
theorem dm_bfs_fail (h : dm_bfs E p q s e x Q F) (hd : ∀ j, j < e → ∀ r, r < 7 → Q j = nI r → ∀ c, c < 7 → E r c → dm_b x c) : dm_nf E q s := by
  have hm := fun d hd hx => dm_bfs_m (c := d) h hd hx
  obtain ⟨b1, b2, b3, b4, b5, b6, b7⟩ := h
  intro r hr hrs c hc he
  have h1 : ∃ j, j < e ∧ Q j = nI r := by
    refine hrs (fun r => ∃ j, j < e ∧ Q j = nI r) ⟨0, by omega, b3⟩ ?_
    rintro r hr ⟨j, hj, hQ⟩ c hc he t ht hq
    obtain ⟨j', hj', hq'⟩ := b6 c hc (hd j hj r hr hQ c hc he)
    exact ⟨j', hj', hq'.symm.trans hq⟩
  obtain ⟨j, hj, hQ⟩ := h1
  exact hm c hc (hd j hj r hr hQ c hc he)
end
section
variable {f0 f1 f2 f3 f4 : Int32} {a1 a2 a3 a4 a5 a6 a7 : Nat → Int32} {post : Int32 → St1 → Prop}
theorem dm_a33 {J : Int32 → Int32 → Int32 → (Nat → Int32) → (Nat → Int32) → (Nat → Int32) → (Nat → Int32) → (Nat → Int32) → (Nat → Int32) → (Nat → Int32) → Prop} {st e k r : Nat} {x : Int32}
    (hk : dm_ok a2 a3) (hs : dm_sub (dm_E a1) a2) (hst : st < 7) (hp : a2 st < 0) (h : dm_bfs (dm_E a1) a2 a3 st e x a4 a5) (hke : k < e) (hQ : a4 k = nI r) (hr : r < 7)
    (HJ : ∀ e' x' Q' F', dm_bfs (dm_E a1) a2 a3 st e' x' Q' F' → e ≤ e' → (∀ j, j < e → Q' j = a4 j) → (∀ c, dm_b x c → dm_b x' c) → (∀ c, c < 7 → dm_E a1 r c → dm_b x' c) → J (nI e') x' (nI (k + 1)) a1 a2 a3 Q' F' a6 a7)
    (H1 : ∀ p' q' Q' F', dm_ok p' q' → dm_sub (dm_E a1) p' → (∀ t, t < 7 → (p' t < 0 ↔ a2 t < 0 ∧ t ≠ st)) → ¬ dm_nf (dm_E a1) a3 st → post 1 (f0, f1, f2, f3, f4, a1, p', q', Q', F', a6, a7)) :
    ∃ n, wX_augment_33 post J (nI st) (nI k) (nI r) f0 f1 f2 f3 f4 n (nI e) x 0 a1 a2 a3 a4 a5 a6 a7 := by
  refine pk_loop (fun n i (s : Nat × Int32 × (Nat → Int32) × (Nat → Int32)) => wX_augment_33 post J (nI st) (nI k) (nI r) f0 f1 f2 f3 f4 n (nI s.1) s.2.1 (nI i) a1 a2 a3 s.2.2.1 s.2.2.2 a6 a7)
    (fun i s => dm_bfs (dm_E a1) a2 a3 st s.1 s.2.1 s.2.2.1 s.2.2.2 ∧ e ≤ s.1 ∧ (∀ j, j < e → s.2.2.1 j = a4 j) ∧ (∀ c, dm_b x c → dm_b s.2.1 c) ∧ (∀ c, c < i → dm_E a1 r c → dm_b s.2.1 c))
    7 0 (e, x, a4, a5) (by omega) ?_ ?_ ?_
  · exact ⟨h, Nat.le_refl _, fun _ _ => rfl, fun _ t => t, fun c hc => absurd hc (by omega)⟩
  · rintro n ⟨e', x', Q', F'⟩ ⟨i1, i2, i3, i4, i5⟩
    exact pk_le 7 7 (fun _ => nm_r (nI_1 k) (HJ e' x' Q' F' i1 i2 i3 i4 i5)) (fun z => absurd z (by omega))
  · rintro n i ⟨e', x', Q', F'⟩ hi ⟨i1, i2, i3, i4, i5⟩ hw
    dsimp only at i1 i2 i3 i4 i5
    have hQ' : Q' k = nI r := (i3 k hke).trans hQ
    refine pk_le 7 i (fun z => absurd z (by omega)) (fun _ => ?_)
    dsimp only
    rw [nI_clamp (show r < 2 ^ 31 by omega), nI_clamp (show i < 2 ^ 31 by omega), dm_byte r hr]
    refine ⟨pk_in r 7 hr, dm_ifa (by omega) (fun hb => nm_r (nI_1 i) (hw (e', x', Q', F') ⟨i1, i2, i3, i4, ?_⟩)) (fun hb hb' => nm_e ⟨pk_in i 7 hi, nm_e ⟨pk_in i 7 hi, dm_ifg (fun hn => ?_) (fun hn => ?_)⟩⟩)⟩
    · intro c hc hec
      by_cases u : c = i
      · subst u
        exact Classical.not_not.mp (fun v => hb ⟨hec, v⟩)
      · exact i5 c (by omega) hec
    · rcases hk.2.1 i hi with u | ⟨t, ht, u⟩
      · exact absurd u hn
      · obtain ⟨g1, g2⟩ := dm_bfs_push i1 hk hst hp (by omega : k < e') hQ' hr hi hb hb' u ht
        rw [u, dm_nar ht, nI_clamp (show e' < 2 ^ 31 by omega)]
        refine ⟨pk_in i 7 hi, pk_in e' 7 (by omega), nm_e (nm_r (nI_1 e') (nm_r (nI_1 i) (hw (e' + 1, _, _, _) ⟨g1, ?_, ?_, ?_, ?_⟩)))⟩
        · show e ≤ e' + 1
          omega
        · intro j hj
          show upd Q' e' (nI t) j = a4 j
          rw [pk_un (by omega)]
          exact i3 j hj
        · intro c hc
          exact dm_or.mpr (Or.inl (i4 c hc))
        · intro c hc hec
          by_cases v : c = i
          · exact dm_or.mpr (Or.inr ((dm_one (by omega)).mpr v))
          · exact dm_or.mpr (Or.inl (i5 c (by omega) hec))
    · refine dm_turn (E := dm_E a1) (i := k) hst hi hr ?_ pk_us hQ' hb (dm_J_0 hk hi hn) hs (dm_bfs_ch i1 hp (by omega) hb') (fun p' q' u1 u2 u3 => H1 p' q' Q' _ u1 u2 u3 ?_)
      · have := dm_bfs_le i1 hk hst hp
        omega
      · intro hnf
        obtain ⟨r', hr', v1, v2⟩ := i1.2.2.2.1 k (by omega)
        have v3 : r' = r := dm_inj hr' hr (v1.symm.trans hQ')
        subst v3
        exact hnf r' hr' v2 i hi hb hn
theorem dm_aug {st : Nat} (hk : dm_ok a2 a3) (hs : dm_sub (dm_E a1) a2) (hst : st < 7) (hp : a2 st < 0)
    (H0 : ∀ Q' F', dm_nf (dm_E a1) a3 st → post 0 (f0, f1, f2, f3, f4, a1, a2, a3, Q', F', a6, a7))
    (H1 : ∀ p' q' Q' F', dm_ok p' q' → dm_sub (dm_E a1) p' → (∀ t, t < 7 → (p' t < 0 ↔ a2 t < 0 ∧ t ≠ st)) → ¬ dm_nf (dm_E a1) a3 st → post 1 (f0, f1, f2, f3, f4, a1, p', q', Q', F', a6, a7)) :
    wpX_augment post (f0, f1, f2, f3, f4, a1, a2, a3, a4, a5, a6, a7) (nI st) := by
  unfold wpX_augment
  dsimp only
  rw [dm_byte st hst]
  refine nm_e (loop_m (fun n (s : Nat × Int32 × Nat × (Nat → Int32) × (Nat → Int32)) => wX_augment_15 post (nI st) f0 f1 f2 f3 f4 n (nI s.1) s.2.1 (nI s.2.2.1) a1 a2 a3 s.2.2.2.1 s.2.2.2.2 a6 a7)
    (fun s => dm_bfs (dm_E a1) a2 a3 st s.1 s.2.1 s.2.2.2.1 s.2.2.2.2 ∧ s.2.2.1 ≤ s.1 ∧ ∀ j, j < s.2.2.1 → ∀ r, r < 7 → s.2.2.2.1 j = nI r → ∀ c, c < 7 → dm_E a1 r c → dm_b s.2.1 c)
    (fun s => 7 - s.2.2.1) ?_ (1, 0, 0, upd a4 0 (nI st), a5) ?_)
  · rintro n ⟨e, x, k, Q, F⟩ ⟨i1, i2, i3⟩ hw
    dsimp only at i1 i2 i3
    have he := dm_bfs_le i1 hk hst hp
    refine pk_le e k (fun z => H0 Q F (dm_bfs_fail i1 (fun j hj => i3 j (by omega)))) (fun z => ?_)
    dsimp only
    rw [nI_clamp (show k < 2 ^ 31 by omega)]
    obtain ⟨r, hr, hQ, _⟩ := i1.2.2.2.1 k z
    refine ⟨pk_in k 7 (by omega), nm_r hQ (dm_a33 hk hs hst hp i1 z hQ hr (fun e' x' Q' F' g1 g2 g3 g4 g5 => hw (e', x', k + 1, Q', F') ⟨g1, ?_, ?_⟩ ?_) H1)⟩
    · show k + 1 ≤ e'
      omega
    · intro j hj r' hr' hQj c hc hec
      have hj' : j < k + 1 := hj
      have hQj' : Q' j = nI r' := hQj
      rw [g3 j (by omega)] at hQj'
      by_cases u : j = k
      · subst u
        have v : r' = r := dm_inj hr' hr (hQj'.symm.trans hQ)
        subst v
        exact g5 c hc hec
      · exact g4 c (i3 j (by omega) r' hr' hQj' c hc hec)
    · show 7 - (k + 1) < 7 - k
      omega
  · have h0 : dm_bfs (dm_E a1) a2 a3 st 1 0 (upd a4 0 (nI st)) a5 := dm_bfs_0 hst pk_us
    exact ⟨h0, Nat.zero_le _, fun j hj => absurd hj (Nat.not_lt_zero j)⟩
end
end
section
/-- what stands in a state that is ready -/
def dm_SP (f1 f2 : Int32) (a1 p q a7 : Nat → Int32) : Prop :=
  dm_good (dm_E a1) p q ∧ (∀ r, r < 7 → (dm_b f1 r ↔ dm_RR (dm_E a1) p q r)) ∧ (∀ c, c < 7 → (dm_b f2 c ↔ ∃ r, r < 7 ∧ dm_RR (dm_E a1) p q r ∧ dm_E a1 r c)) ∧
    ∀ r, r < 7 → ∀ j, dm_b (a7 r) j ↔ j < 7 ∧ dm_U (dm_E a1) p q r j
theorem dm_m1 : (-1 : Int32) < 0 := by decide
theorem dm_rng_c {p : Nat → Int32} {r : Nat} (h : dm_rng p) : dm_rng (upd p r (-1)) := by
  intro a ha
  by_cases e : a = r
  · subst e
    rw [pk_us]
    exact Or.inl dm_m1
  · rw [pk_un e]
    exact h a ha
theorem dm_ok_cut {p q : Nat → Int32} {r c : Nat} (h : dm_ok p q) (hr : r < 7) (hc : c < 7) (hp : p r = nI c) : dm_ok (upd p r (-1)) (upd q c (-1)) := by
  obtain ⟨h1, h2, h3⟩ := h
  have hq : q c = nI r := (h3 r c hr hc).mp hp
  refine ⟨dm_rng_c h1, dm_rng_c h2, ?_⟩
  intro a d ha hd
  by_cases e : a = r
  · subst e
    rw [pk_us]
    by_cases e2 : d = c
    · subst e2
      rw [pk_us]
      exact ⟨fun t => absurd dm_m1 (dm_nn hd t), fun t => absurd dm_m1 (dm_nn ha t)⟩
    · rw [pk_un e2]
      exact ⟨fun t => absurd dm_m1 (dm_nn hd t), fun t => absurd (dm_inj hd hc (((h3 a d ha hd).mpr t).symm.trans hp)) e2⟩
  · rw [pk_un e]
    by_cases e2 : d = c
    · subst e2
      rw [pk_us]
      exact ⟨fun t => absurd (dm_inj ha hr (((h3 a d ha hd).mp t).symm.trans hq)) e, fun t => absurd dm_m1 (dm_nn ha t)⟩
    · rw [pk_un e2]
      exact h3 a d ha hd
section
variable {f0 f1 f2 f3 f4 : Int32} {a1 a2 a3 a4 a5 a6 a7 : Nat → Int32} {post : St1 → Prop}
theorem dm_p123 (hg : dm_good (dm_E a1) a2 a3) (H : ∀ g1 g2 g3 g4 R B, dm_SP g1 g2 a1 a2 a3 B → post (f0, g1, g2, g3, g4, a1, a2, a3, a4, a5, R, B)) :
    wX_prepare_123 post f0 f1 f2 f3 f4 a1 a2 a3 a4 a5 a6 a7 := by
  unfold wX_prepare_123
  refine dm_findReach hg.1 (fun g1 g2 g3 g4 R h1 h2 h3 h4 => ?_)
  refine dm_findUsable hg.1.2.1 (fun B hB => ?_)
  refine H g1 g2 g3 g4 R B ⟨hg, h1, h2, ?_⟩
  intro r hr j
  rw [hB r hr j]
  refine and_congr_right (fun hj => and_congr_right (fun _ => ?_))
  unfold dm_V
  rw [h1 r hr, h3 j hj]
  refine or_congr Iff.rfl (or_congr Iff.rfl (or_congr Iff.rfl ⟨?_, ?_⟩))
  · rintro ⟨o, ho, u, v⟩
    exact ⟨o, ho, u, (h4 o r ho hr).mp v⟩
  · rintro ⟨o, ho, u, v⟩
    exact ⟨o, ho, u, (h4 o r ho hr).mpr v⟩
theorem dm_p86 {J : Int32 → Int32 → Int32 → Int32 → Int32 → Int32 → Int32 → (Nat → Int32) → (Nat → Int32) → (Nat → Int32) → (Nat → Int32) → (Nat → Int32) → (Nat → Int32) → (Nat → Int32) → Prop} {k : Nat}
    (hk : dm_ok a2 a3) (hs : dm_sub (dm_E a1) a2)
    (H : ∀ y p' q' Q' F', dm_ok p' q' → dm_sub (dm_E a1) p' → (y = 0 → p' = a2 ∧ q' = a3 ∧ dm_mx (dm_E a1) a2 a3) → (¬ y = 0 → dm_cn (fun r => ¬ a2 r < 0) 7 < dm_cn (fun r => ¬ p' r < 0) 7 ∧ ¬ dm_mx (dm_E a1) a2 a3) →
      J y (nI (k + 1)) f0 f1 f2 f3 f4 a1 p' q' Q' F' a6 a7) :
    ∃ n, wX_prepare_86 post J (nI k) n 0 0 f0 f1 f2 f3 f4 a1 a2 a3 a4 a5 a6 a7 := by
  refine pk_loop (fun n i (s : Int32 × (Nat → Int32) × (Nat → Int32) × (Nat → Int32) × (Nat → Int32)) => wX_prepare_86 post J (nI k) n s.1 (nI i) f0 f1 f2 f3 f4 a1 s.2.1 s.2.2.1 s.2.2.2.1 s.2.2.2.2 a6 a7)
    (fun i s => dm_ok s.2.1 s.2.2.1 ∧ dm_sub (dm_E a1) s.2.1 ∧ (s.1 = 0 → s.2.1 = a2 ∧ s.2.2.1 = a3 ∧ ∀ t, t < i → a2 t < 0 → dm_nf (dm_E a1) a3 t) ∧
      (¬ s.1 = 0 → dm_cn (fun r => ¬ a2 r < 0) 7 < dm_cn (fun r => ¬ s.2.1 r < 0) 7 ∧ ¬ dm_mx (dm_E a1) a2 a3)) 7 0 (0, a2, a3, a4, a5) (by omega) ?_ ?_ ?_
  · exact ⟨hk, hs, fun _ => ⟨rfl, rfl, fun t ht => absurd ht (by omega)⟩, fun t => absurd rfl t⟩
  · rintro n ⟨y, p, q, Q, F⟩ ⟨i1, i2, i3, i4⟩
    exact pk_le 7 7 (fun _ => nm_r (nI_1 k) (H y p q Q F i1 i2 i3 i4)) (fun z => absurd z (by omega))
  · rintro n i ⟨y, p, q, Q, F⟩ hi ⟨i1, i2, i3, i4⟩ hw
    dsimp only at i1 i2 i3 i4
    refine pk_le 7 i (fun z => absurd z (by omega)) (fun _ => ?_)
    dsimp only
    rw [nI_clamp (show i < 2 ^ 31 by omega)]
    refine ⟨pk_in i 7 hi, dm_ifg (fun hn => nm_r (nI_1 i) (hw (y, p, q, Q, F) ⟨i1, i2, fun hy => ⟨(i3 hy).1, (i3 hy).2.1, ?_⟩, i4⟩)) (fun hn => dm_aug i1 i2 hi hn (fun Q' F' hnf => ?_) (fun p' q' Q' F' u1 u2 u3 u4 => ?_))⟩
    · intro t ht hpt
      by_cases e : t = i
      · subst e
        rw [(i3 hy).1] at hn
        exact absurd hpt hn
      · exact (i3 hy).2.2 t (by omega) hpt
    · refine br_t rfl (nm_r (nI_1 i) (hw (y, p, q, Q', F') ⟨i1, i2, fun hy => ⟨(i3 hy).1, (i3 hy).2.1, ?_⟩, i4⟩))
      intro t ht hpt
      by_cases e : t = i
      · subst e
        rw [(i3 hy).2.1] at hnf
        exact hnf
      · exact (i3 hy).2.2 t (by omega) hpt
    · refine br_f (by decide) (nm_r (nI_1 i) (hw (1, p', q', Q', F') ⟨u1, u2, fun hy => absurd hy (show ¬ (1 : Int32) = 0 by decide), fun _ => ?_⟩))
      show dm_cn (fun r => ¬ a2 r < 0) 7 < dm_cn (fun r => ¬ p' r < 0) 7 ∧ ¬ dm_mx (dm_E a1) a2 a3
      have h1 : dm_cn (fun r => ¬ p r < 0) 7 < dm_cn (fun r => ¬ p' r < 0) 7 :=
        dm_cn_lt (j := i) (fun t ht v w => v ((u3 t ht).mp w).1) hi (fun v => v hn) (fun v => ((u3 i hi).mp v).2 rfl)
      by_cases hy : y = 0
      · obtain ⟨e1, e2, _⟩ := i3 hy
        subst e1 e2
        exact ⟨h1, fun v => u4 (v i hi hn)⟩
      · exact ⟨Nat.lt_trans (i4 hy).1 h1, (i4 hy).2⟩
theorem dm_p72 (hk : dm_ok a2 a3) (hs : dm_sub (dm_E a1) a2)
    (H : ∀ g1 g2 g3 g4 p' q' Q' F' R B, dm_SP g1 g2 a1 p' q' B → (dm_mx (dm_E a1) a2 a3 → p' = a2 ∧ q' = a3) → post (f0, g1, g2, g3, g4, a1, p', q', Q', F', R, B)) :
    ∃ n, wX_prepare_72 post n 1 0 f0 f1 f2 f3 f4 a1 a2 a3 a4 a5 a6 a7 := by
  refine pk_loop (fun n i (s : Int32 × (Nat → Int32) × (Nat → Int32) × (Nat → Int32) × (Nat → Int32)) => wX_prepare_72 post n s.1 (nI i) f0 f1 f2 f3 f4 a1 s.2.1 s.2.2.1 s.2.2.2.1 s.2.2.2.2 a6 a7)
    (fun i s => dm_ok s.2.1 s.2.2.1 ∧ dm_sub (dm_E a1) s.2.1 ∧ (s.1 = 0 → dm_mx (dm_E a1) s.2.1 s.2.2.1) ∧ (¬ s.1 = 0 → i ≤ dm_cn (fun r => ¬ s.2.1 r < 0) 7) ∧ (dm_mx (dm_E a1) a2 a3 → s.2.1 = a2 ∧ s.2.2.1 = a3))
    8 0 (1, a2, a3, a4, a5) (by omega) ?_ ?_ ?_
  · exact ⟨hk, hs, fun t => absurd t (show ¬ (1 : Int32) = 0 by decide), fun _ => Nat.zero_le _, fun _ => ⟨rfl, rfl⟩⟩
  · rintro n ⟨y, p, q, Q, F⟩ ⟨i1, i2, i3, i4, i5⟩
    dsimp only at i1 i2 i3 i4 i5
    have hy : y = 0 := by
      apply Classical.byContradiction
      intro t
      have := i4 t
      have := dm_cn_le (fun r => ¬ p r < 0) 7
      omega
    exact pk_le 8 8 (fun _ => dm_p123 ⟨i1, i2, i3 hy⟩ (fun g1 g2 g3 g4 R B hB => H g1 g2 g3 g4 p q Q F R B hB i5)) (fun z => absurd z (by omega))
  · rintro n i ⟨y, p, q, Q, F⟩ hi ⟨i1, i2, i3, i4, i5⟩ hw
    dsimp only at i1 i2 i3 i4 i5
    refine pk_le 8 i (fun z => absurd z (by omega)) (fun _ => br_c (fun hy => dm_p123 ⟨i1, i2, i3 hy⟩ (fun g1 g2 g3 g4 R B hB => H g1 g2 g3 g4 p q Q F R B hB i5)) (fun hy => dm_p86 i1 i2 (fun y' p' q' Q' F' u1 u2 u3 u4 => hw (y', p', q', Q', F') ⟨u1, u2, ?_, ?_, ?_⟩)))
    · intro hy'
      obtain ⟨e1, e2, e3⟩ := u3 hy'
      show dm_mx (dm_E a1) p' q'
      rw [e1, e2]
      exact e3
    · intro hy'
      show i + 1 ≤ dm_cn (fun r => ¬ p' r < 0) 7
      have h1 := i4 hy
      have h2 : dm_cn (fun r => ¬ p r < 0) 7 < dm_cn (fun r => ¬ p' r < 0) 7 := (u4 hy').1
      omega
    · intro hm
      show p' = a2 ∧ q' = a3
      obtain ⟨e1, e2⟩ := i5 hm
      subst e1 e2
      by_cases hy' : y' = 0
      · exact ⟨(u3 hy').1, (u3 hy').2.1⟩
      · exact absurd hm (u4 hy').2
theorem dm_p15 (hk : dm_ok a2 a3)
    (H : ∀ g1 g2 g3 g4 p' q' Q' F' R B, dm_SP g1 g2 a1 p' q' B → (dm_good (dm_E a1) a2 a3 → p' = a2 ∧ q' = a3) → post (f0, g1, g2, g3, g4, a1, p', q', Q', F', R, B)) :
    ∃ n, wX_prepare_15 post f0 f1 f2 f3 f4 n 0 a1 a2 a3 a4 a5 a6 a7 := by
  refine pk_loop (fun n i (s : (Nat → Int32) × (Nat → Int32)) => wX_prepare_15 post f0 f1 f2 f3 f4 n (nI i) a1 s.1 s.2 a4 a5 a6 a7)
    (fun i s => dm_ok s.1 s.2 ∧ (∀ r, r < i → ∀ c, c < 7 → s.1 r = nI c → dm_E a1 r c) ∧ (dm_sub (dm_E a1) a2 → s.1 = a2 ∧ s.2 = a3)) 7 0 (a2, a3) (by omega) ?_ ?_ ?_
  · exact ⟨hk, fun r hr => absurd hr (by omega), fun _ => ⟨rfl, rfl⟩⟩
  · rintro n ⟨p, q⟩ ⟨i1, i2, i3⟩
    dsimp only at i1 i2 i3
    refine pk_le 7 7 (fun _ => dm_p72 i1 (fun r c hr hc => i2 r hr c hc) (fun g1 g2 g3 g4 p' q' Q' F' R B hB hm => H g1 g2 g3 g4 p' q' Q' F' R B hB (fun hg => ?_))) (fun z => absurd z (by omega))
    obtain ⟨e1, e2⟩ := i3 hg.2.1
    subst e1 e2
    exact hm hg.2.2
  · rintro n i ⟨p, q⟩ hi ⟨i1, i2, i3⟩ hw
    dsimp only at i1 i2 i3
    refine pk_le 7 i (fun z => absurd z (by omega)) (fun _ => ?_)
    dsimp only
    rw [nI_clamp (show i < 2 ^ 31 by omega)]
    have sk : (∀ c, c < 7 → p i = nI c → dm_E a1 i c) → wX_prepare_15 post f0 f1 f2 f3 f4 n (nI (i + 1)) a1 p q a4 a5 a6 a7 := by
      intro hh
      refine hw (p, q) ⟨i1, ?_, i3⟩
      intro r hr
      by_cases e : r = i
      · subst e
        exact hh
      · exact i2 r (by omega)
    rcases i1.1 i hi with e | ⟨c, hc, e⟩
    · refine ⟨pk_in i 7 hi, nm_e (br_t e (nm_r (nI_1 i) (sk ?_)))⟩
      intro c hc t
      exact absurd e (dm_nn hc t)
    · refine ⟨pk_in i 7 hi, nm_r e ?_⟩
      rw [nI_clamp (show c < 2 ^ 31 by omega)]
      refine br_f (nI_pos (by omega)) ⟨pk_in i 7 hi, dm_if0 (by omega) (fun hb => ⟨pk_in i 7 hi, nm_e ⟨pk_in c 7 hc, nm_e (nm_r (nI_1 i) (hw (_, _) ⟨dm_ok_cut i1 hi hc e, ?_, ?_⟩))⟩⟩) (fun hb => nm_r (nI_1 i) (sk ?_))⟩
      · intro r hr d hd
        show upd p i (-1) r = nI d → dm_E a1 r d
        by_cases u : r = i
        · subst u
          rw [pk_us]
          exact fun t => absurd dm_m1 (dm_nn hd t)
        · rw [pk_un u]
          exact i2 r (by omega) d hd
      · intro hsub
        obtain ⟨e1, e2⟩ := i3 hsub
        subst e1 e2
        exact absurd (hsub i c hi hc e) hb
      · intro d hd t
        rw [dm_inj hd hc (t.symm.trans e)]
        exact hb
/-- prepare: a largest matching, the old one if that was one already -/
theorem dm_prep (hk : dm_ok a2 a3) (hs : ¬ f0 = 0 → dm_SP f1 f2 a1 a2 a3 a7)
    (H : ∀ g0 g1 g2 g3 g4 p' q' Q' F' R B, ¬ g0 = 0 → dm_SP g1 g2 a1 p' q' B → (dm_good (dm_E a1) a2 a3 → p' = a2 ∧ q' = a3) → post (g0, g1, g2, g3, g4, a1, p', q', Q', F', R, B)) :
    wpX_prepare post (f0, f1, f2, f3, f4, a1, a2, a3, a4, a5, a6, a7) :=
  br_c (fun h => dm_p15 hk (fun g1 g2 g3 g4 p' q' Q' F' R B h1 h2 => H 1 g1 g2 g3 g4 p' q' Q' F' R B (by decide) h1 h2)) (fun h => H _ _ _ _ _ _ _ _ _ _ _ h (hs h) (fun _ => ⟨rfl, rfl⟩))
end
end
section
/-! a state with the edges A and the matching p, q -/
def dm_set (A p q : Nat → Int32) (u : St1) : Prop := ∃ f0 f1 f2 f3 f4 a4 a5 a6 a7, u = (f0, f1, f2, f3, f4, A, p, q, a4, a5, a6, a7) ∧ (¬ f0 = 0 → dm_SP f1 f2 A p q a7)
def dm_inv (u : St1) : Prop := ∃ f0 f1 f2 f3 f4 a1 a2 a3 a4 a5 a6 a7, u = (f0, f1, f2, f3, f4, a1, a2, a3, a4, a5, a6, a7) ∧ dm_ok a2 a3 ∧ (¬ f0 = 0 → dm_SP f1 f2 a1 a2 a3 a7)
/-- v holds the usable columns of each row -/
def dm_uv (A p q v : Nat → Int32) : Prop := ∀ r, r < 7 → ∀ j, dm_b (v r) j ↔ j < 7 ∧ dm_U (dm_E A) p q r j
noncomputable def dm_sz (p : Nat → Int32) : Int32 := nI (dm_cn (fun r => ¬ p r < 0) 7)
theorem dm_set_inv {A p q : Nat → Int32} {u : St1} (hg : dm_good (dm_E A) p q) (h : dm_set A p q u) : dm_inv u := by
  obtain ⟨f0, f1, f2, f3, f4, a4, a5, a6, a7, e, h1⟩ := h
  exact ⟨f0, f1, f2, f3, f4, A, p, q, a4, a5, a6, a7, e, hg.1, h1⟩
theorem dm_prepS {A p q : Nat → Int32} {u : St1} {post : St1 → Prop} (hg : dm_good (dm_E A) p q) (h : dm_set A p q u)
    (H : ∀ f0 f1 f2 f3 f4 a4 a5 a6 a7, ¬ f0 = 0 → dm_SP f1 f2 A p q a7 → post (f0, f1, f2, f3, f4, A, p, q, a4, a5, a6, a7)) : wpX_prepare post u := by
  obtain ⟨f0, f1, f2, f3, f4, a4, a5, a6, a7, e, h1⟩ := h
  subst e
  refine dm_prep hg.1 h1 (fun g0 g1 g2 g3 g4 p' q' Q' F' R B h2 h3 h4 => ?_)
  obtain ⟨e1, e2⟩ := h4 hg
  subst e1 e2
  exact H g0 g1 g2 g3 g4 Q' F' R B h2 h3
theorem dm_isNum {post : Int32 → Prop} {u : St1} {r : Nat} (hr : r < 7) (H : post 1) : wpX_isNumber post u (nI r) := by
  obtain ⟨f0, f1, f2, f3, f4, a1, a2, a3, a4, a5, a6, a7⟩ := u
  exact pk_lt r 0 (fun z => absurd z (by omega)) (fun _ => pk_lt 6 r (fun z => absurd z (by omega)) (fun _ => H))
theorem dm_l8 {post : Int32 → St1 → Prop} {f0 f1 f2 f3 f4 : Int32} {a1 a2 a3 a4 a5 a6 a7 : Nat → Int32} (H : post (dm_sz a2) (f0, f1, f2, f3, f4, a1, a2, a3, a4, a5, a6, a7)) :
    ∃ n, wX_largest_8 post f0 f1 f2 f3 f4 a1 a2 a3 a4 a5 a6 a7 n 0 0 := by
  refine pk_loop (fun n i (s : Nat) => wX_largest_8 post f0 f1 f2 f3 f4 a1 a2 a3 a4 a5 a6 a7 n (nI s) (nI i)) (fun i s => s = dm_cn (fun r => ¬ a2 r < 0) i) 7 0 0 (by omega) rfl ?_ ?_
  · rintro n s h
    subst h
    exact pk_le 7 7 (fun _ => H) (fun z => absurd z (by omega))
  · intro n i s hi h hw
    refine pk_le 7 i (fun z => absurd z (by omega)) (fun _ => ?_)
    rw [nI_clamp (show i < 2 ^ 31 by omega)]
    refine ⟨pk_in i 7 hi, br_c (fun hn => nm_r (nI_1 i) (hw s ?_)) (fun hn => nm_r (nI_1 s) (nm_r (nI_1 i) (hw (s + 1) ?_)))⟩
    · rw [dm_cn_f (P := fun r => ¬ a2 r < 0) (fun t => t hn)]
      exact h
    · rw [dm_cn_t (P := fun r => ¬ a2 r < 0) hn, h]
theorem dm_largest {A p q : Nat → Int32} {u : St1} {post : Int32 → St1 → Prop} (hg : dm_good (dm_E A) p q) (h : dm_set A p q u) (H : ∀ u', dm_set A p q u' → post (dm_sz p) u') : wpX_largest post u := by
  obtain ⟨f0, f1, f2, f3, f4, a4, a5, a6, a7, e, h1⟩ := h
  subst e
  exact dm_prepS hg ⟨f0, f1, f2, f3, f4, a4, a5, a6, a7, rfl, h1⟩ (fun g0 g1 g2 g3 g4 b4 b5 b6 b7 h2 h3 => dm_l8 (H _ ⟨g0, g1, g2, g3, g4, b4, b5, b6, b7, rfl, fun _ => h3⟩))
theorem dm_largest0 {u : St1} {post : Int32 → St1 → Prop} (h : dm_inv u) (H : ∀ A p q v u', dm_good (dm_E A) p q → dm_uv A p q v → dm_set A p q u' → post (dm_sz p) u') : wpX_largest post u := by
  obtain ⟨f0, f1, f2, f3, f4, a1, a2, a3, a4, a5, a6, a7, e, hk, h1⟩ := h
  subst e
  exact dm_prep hk h1 (fun g0 g1 g2 g3 g4 p' q' Q' F' R B h2 h3 h4 => dm_l8 (H a1 p' q' B _ h3.1 h3.2.2.2 ⟨g0, g1, g2, g3, g4, Q', F', R, B, rfl, fun _ => h3⟩))
theorem dm_loose {A p q : Nat → Int32} {u : St1} {post : Int32 → St1 → Prop} (hg : dm_good (dm_E A) p q) (h : dm_set A p q u)
    (H : ∀ y u', (∀ r, r < 7 → (dm_b y r ↔ dm_RR (dm_E A) p q r)) → dm_set A p q u' → post y u') : wpX_looseRows post u := by
  obtain ⟨f0, f1, f2, f3, f4, a4, a5, a6, a7, e, h1⟩ := h
  subst e
  exact dm_prepS hg ⟨f0, f1, f2, f3, f4, a4, a5, a6, a7, rfl, h1⟩ (fun g0 g1 g2 g3 g4 b4 b5 b6 b7 h2 h3 => H _ _ h3.2.1 ⟨g0, g1, g2, g3, g4, b4, b5, b6, b7, rfl, fun _ => h3⟩)
theorem dm_c37 {post : Int32 → St1 → Prop} {f0 f1 f2 f3 f4 : Int32} {a1 a2 a3 a4 a5 a6 a7 : Nat → Int32} {J : Int32 → Int32 → Prop} {i s : Nat} (hi : i < 7) (H0 : ¬ dm_b f2 i → J (nI s) (nI (i + 1))) (H1 : dm_b f2 i → J (nI (s + 1)) (nI (i + 1))) :
    wX_cover_37 post J (nI s) (nI i) f0 f1 f2 f3 f4 a1 a2 a3 a4 a5 a6 a7 := by
  unfold wX_cover_37
  exact dm_if0 (by omega) (fun hb => nm_r (nI_1 i) (H0 hb)) (fun hb => nm_r (nI_1 s) (nm_r (nI_1 i) (H1 hb)))
theorem dm_c8 {post : Int32 → St1 → Prop} {f0 f1 f2 f3 f4 : Int32} {a1 a2 a3 a4 a5 a6 a7 : Nat → Int32}
    (H : post (nI (dm_cn (fun r => ¬ a1 r = 0 ∧ ¬ dm_b f1 r) 7 + dm_cn (dm_b f2) 7)) (f0, f1, f2, f3, f4, a1, a2, a3, a4, a5, a6, a7)) :
    ∃ n, wX_cover_8 post f0 f1 f2 f3 f4 a1 a2 a3 a4 a5 a6 a7 n 0 0 := by
  refine pk_loop (fun n i (s : Nat) => wX_cover_8 post f0 f1 f2 f3 f4 a1 a2 a3 a4 a5 a6 a7 n (nI s) (nI i)) (fun i s => s = dm_cn (fun r => ¬ a1 r = 0 ∧ ¬ dm_b f1 r) i + dm_cn (dm_b f2) i) 7 0 0 (by omega) rfl ?_ ?_
  · rintro n s h
    subst h
    exact pk_le 7 7 (fun _ => H) (fun z => absurd z (by omega))
  · intro n i s hi h hw
    have hn : ∀ t, t = dm_cn (fun r => ¬ a1 r = 0 ∧ ¬ dm_b f1 r) (i + 1) + dm_cn (dm_b f2) i →
        wX_cover_37 post (wX_cover_8 post f0 f1 f2 f3 f4 a1 a2 a3 a4 a5 a6 a7 n) (nI t) (nI i) f0 f1 f2 f3 f4 a1 a2 a3 a4 a5 a6 a7 := by
      intro t ht
      refine dm_c37 hi (fun hb => hw t ?_) (fun hb => hw (t + 1) ?_)
      · rw [dm_cn_f hb]
        exact ht
      · rw [dm_cn_t hb, ht]
        rfl
    refine pk_le 7 i (fun z => absurd z (by omega)) (fun _ => ?_)
    rw [nI_clamp (show i < 2 ^ 31 by omega)]
    refine ⟨pk_in i 7 hi, br_c (fun hz => hn s ?_) (fun hz => dm_if0 (by omega) (fun hb => nm_r (nI_1 s) (hn (s + 1) ?_)) (fun hb => hn s ?_))⟩
    · rw [dm_cn_f (P := fun r => ¬ a1 r = 0 ∧ ¬ dm_b f1 r) (fun t => t.1 hz)]
      exact h
    · rw [dm_cn_t (P := fun r => ¬ a1 r = 0 ∧ ¬ dm_b f1 r) ⟨hz, hb⟩, h]
      omega
    · rw [dm_cn_f (P := fun r => ¬ a1 r = 0 ∧ ¬ dm_b f1 r) (fun t => t.2 hb)]
      exact h
theorem dm_ne0 {x : Int32} : ¬ x = 0 ↔ ∃ c, dm_b x c := by
  constructor
  · intro h
    apply Classical.byContradiction
    intro hn
    exact h (dm_ext (fun i => ⟨fun t => absurd ⟨i, t⟩ hn, fun t => absurd t dm_zero⟩))
  · rintro ⟨c, hc⟩ e
    subst e
    exact dm_zero hc
theorem dm_cover {A p q : Nat → Int32} {u : St1} {post : Int32 → St1 → Prop} (hg : dm_good (dm_E A) p q) (h : dm_set A p q u) (H : ∀ u', dm_set A p q u' → post (dm_sz p) u') : wpX_cover post u := by
  obtain ⟨f0, f1, f2, f3, f4, a4, a5, a6, a7, e, h1⟩ := h
  subst e
  refine dm_prepS hg ⟨f0, f1, f2, f3, f4, a4, a5, a6, a7, rfl, h1⟩ (fun g0 g1 g2 g3 g4 b4 b5 b6 b7 h2 h3 => dm_c8 ?_)
  have e1 : dm_cn (fun r => ¬ A r = 0 ∧ ¬ dm_b g1 r) 7 + dm_cn (dm_b g2) 7 = dm_cn (fun r => ¬ p r < 0) 7 :=
    dm_koenig hg (fun r hr => by
      show ¬ A r = 0 ∧ ¬ dm_b g1 r ↔ _
      rw [h3.2.1 r hr, dm_ne0]
      exact Iff.rfl) (fun c hc => h3.2.2.1 c hc)
  rw [e1]
  exact H _ ⟨g0, g1, g2, g3, g4, b4, b5, b6, b7, rfl, fun _ => h3⟩
theorem dm_veq {A p q v w : Nat → Int32} (hv : dm_uv A p q v) (hw : dm_uv A p q w) {r : Nat} (hr : r < 7) : w r = v r := dm_ext (fun j => (hw r hr j).trans (hv r hr j).symm)
theorem dm_usable {A p q v : Nat → Int32} {u : St1} {post : Int32 → St1 → Prop} (hg : dm_good (dm_E A) p q) (hv : dm_uv A p q v) (h : dm_set A p q u) {r : Nat} (hr : r < 7) (H : ∀ u', dm_set A p q u' → post (v r) u') :
    wpX_usable post u (nI r) := by
  obtain ⟨f0, f1, f2, f3, f4, a4, a5, a6, a7, e, h1⟩ := h
  subst e
  unfold wpX_usable
  dsimp only
  refine dm_isNum hr (br_f (by decide) (dm_prepS hg ⟨f0, f1, f2, f3, f4, a4, a5, a6, a7, rfl, h1⟩ (fun g0 g1 g2 g3 g4 b4 b5 b6 b7 h2 h3 => ?_)))
  dsimp only
  rw [nI_clamp (show r < 2 ^ 31 by omega), dm_veq hv h3.2.2.2 hr]
  exact ⟨pk_in r 7 hr, H _ ⟨g0, g1, g2, g3, g4, b4, b5, b6, b7, rfl, fun _ => h3⟩⟩
theorem dm_isF {post : Int32 → Prop} {f0 f1 f2 f3 f4 : Int32} {a1 a2 a3 a4 a5 a6 a7 : Nat → Int32} {r : Nat} (hr : r < 7) (H1 : a7 r = (1 : Int32) <<< (a2 r &&& 31) → post 1) (H0 : post 0) :
    wpX_isForced post (f0, f1, f2, f3, f4, a1, a2, a3, a4, a5, a6, a7) (nI r) := by
  unfold wpX_isForced
  dsimp only
  rw [nI_clamp (show r < 2 ^ 31 by omega)]
  exact ⟨pk_in r 7 hr, nm_e (br_c (fun _ => H0) (fun _ => br_c (fun _ => br_c (fun _ => ⟨pk_in r 7 hr, br_c (fun h => H1 h) (fun _ => H0)⟩) (fun _ => H0)) (fun _ => H0)))⟩
theorem dm_forced {A p q v : Nat → Int32} {u : St1} {post : Int32 → St1 → Prop} (hg : dm_good (dm_E A) p q) (hv : dm_uv A p q v) (h : dm_set A p q u) {r : Nat} (hr : r < 7) (H : ∀ y u', (y = 0 ∨ y = v r) → dm_set A p q u' → post y u') :
    wpX_forced post u (nI r) := by
  obtain ⟨f0, f1, f2, f3, f4, a4, a5, a6, a7, e, h1⟩ := h
  subst e
  unfold wpX_forced
  dsimp only
  refine dm_isNum hr (br_f (by decide) (dm_prepS hg ⟨f0, f1, f2, f3, f4, a4, a5, a6, a7, rfl, h1⟩ (fun g0 g1 g2 g3 g4 b4 b5 b6 b7 h2 h3 => ?_)))
  dsimp only
  rw [nI_clamp (show r < 2 ^ 31 by omega)]
  have hs : dm_set A p q (g0, g1, g2, g3, g4, A, p, q, b4, b5, b6, b7) := ⟨g0, g1, g2, g3, g4, b4, b5, b6, b7, rfl, fun _ => h3⟩
  refine dm_isF hr (fun e => br_f (by decide) ⟨pk_in r 7 hr, H _ _ (Or.inr ?_) hs⟩) (br_t rfl (H _ _ (Or.inl rfl) hs))
  rw [← e]
  exact dm_veq hv h3.2.2.2 hr
theorem dm_edge0 {post : Int32 → St1 → Prop} {f0 f1 f2 f3 f4 : Int32} {a1 a2 a3 a4 a5 a6 a7 : Nat → Int32} {r c : Nat} (hr : r < 7) (hc : c < 7)
    (H : post 1 (0, f1, f2, f3, f4, upd a1 r ((a1 r) &&& (((1 : Int32) <<< (nI c &&& 31)) ^^^ (-1))), a2, a3, a4, a5, a6, a7)) : wpX_edge post (f0, f1, f2, f3, f4, a1, a2, a3, a4, a5, a6, a7) (nI r) (nI c) 0 := by
  unfold wpX_edge
  dsimp only
  rw [nI_clamp (show r < 2 ^ 31 by omega)]
  exact dm_isNum hr (br_f (by decide) (dm_isNum hc (br_f (by decide) (br_t rfl ⟨pk_in r 7 hr, pk_in r 7 hr, nm_e H⟩))))
theorem dm_edge1 {post : Int32 → St1 → Prop} {f0 f1 f2 f3 f4 : Int32} {a1 a2 a3 a4 a5 a6 a7 : Nat → Int32} {r c : Nat} (hr : r < 7) (hc : c < 7)
    (H : post 1 (0, f1, f2, f3, f4, upd a1 r ((a1 r) ||| ((1 : Int32) <<< (nI c &&& 31))), a2, a3, a4, a5, a6, a7)) : wpX_edge post (f0, f1, f2, f3, f4, a1, a2, a3, a4, a5, a6, a7) (nI r) (nI c) 1 := by
  unfold wpX_edge
  dsimp only
  rw [nI_clamp (show r < 2 ^ 31 by omega)]
  exact dm_isNum hr (br_f (by decide) (dm_isNum hc (br_f (by decide) (br_f (by decide) ⟨pk_in r 7 hr, pk_in r 7 hr, nm_e H⟩))))
theorem dm_colsOf {post : Int32 → Prop} {f0 f1 f2 f3 f4 : Int32} {a1 a2 a3 a4 a5 a6 a7 : Nat → Int32} {r : Nat} (hr : r < 7) (H : post (a1 r)) : wpX_columnsOf post (f0, f1, f2, f3, f4, a1, a2, a3, a4, a5, a6, a7) (nI r) := by
  unfold wpX_columnsOf
  dsimp only
  rw [nI_clamp (show r < 2 ^ 31 by omega)]
  exact dm_isNum hr (br_f (by decide) ⟨pk_in r 7 hr, H⟩)
/-! an edge is taken away and laid back -/
def dm_off (A : Nat → Int32) (r c : Nat) : Nat → Int32 := upd A r ((A r) &&& (((1 : Int32) <<< (nI c &&& 31)) ^^^ (-1)))
theorem dm_offE {A : Nat → Int32} {r0 c0 : Nat} (hc : c0 < 7) (r c : Nat) : dm_E (dm_off A r0 c0) r c ↔ dm_E A r c ∧ ¬ (r = r0 ∧ c = c0) := by
  unfold dm_E dm_off
  by_cases e : r = r0
  · subst e
    rw [pk_us, dm_and]
    constructor
    · rintro ⟨h1, h2⟩
      refine ⟨h1, fun t => ?_⟩
      exact ((dm_not (dm_b_lt h1)).mp h2) ((dm_one (by omega)).mpr t.2)
    · rintro ⟨h1, h2⟩
      exact ⟨h1, (dm_not (dm_b_lt h1)).mpr (fun t => h2 ⟨rfl, (dm_one (by omega)).mp t⟩)⟩
  · rw [pk_un e]
    exact ⟨fun t => ⟨t, fun u => e u.1⟩, fun t => t.1⟩
theorem dm_back {A : Nat → Int32} {r c : Nat} (hc : c < 7) (h : dm_E A r c) : upd (dm_off A r c) r ((dm_off A r c r) ||| ((1 : Int32) <<< (nI c &&& 31))) = A := by
  funext j
  by_cases e : j = r
  · subst e
    rw [pk_us]
    apply dm_ext
    intro i
    rw [dm_or, dm_one (by omega)]
    have h1 := dm_offE (A := A) (r0 := j) hc j i
    unfold dm_E at h1
    rw [h1]
    constructor
    · rintro (t | t)
      · exact t.1
      · rw [t]
        exact h
    · intro t
      by_cases u : i = c
      · exact Or.inr u
      · exact Or.inl ⟨t, fun v => u v.2⟩
  · rw [pk_un e]
    unfold dm_off
    rw [pk_un e]
def dm_h (v : Nat → Int32) : Nat → Int32
  | 0 => 0
  | n + 1 => (131 * dm_h v n) + v n
end
section
theorem dm_h186 {post : Int32 → St1 → Prop} {J : Int32 → Int32 → Int32 → Int32 → Int32 → Int32 → (Nat → Int32) → (Nat → Int32) → (Nat → Int32) → (Nat → Int32) → (Nat → Int32) → (Nat → Int32) → (Nat → Int32) → Prop}
    {A p q v : Nat → Int32} {x2 x5 : Int32} {r c : Nat} (hr : r < 7) (hc : c < 7) (hg : dm_good (dm_E A) p q) (hv : dm_uv A p q v) {f0 f1 f2 f3 f4 : Int32} {a4 a5 a6 a7 : Nat → Int32} (hs : ¬ f0 = 0 → dm_SP f1 f2 A p q a7)
    (H : ∀ g1 g2 g3 g4 b4 b5 b6 b7, J (nI (c + 1)) 0 g1 g2 g3 g4 (upd A r ((A r) ||| ((1 : Int32) <<< (nI c &&& 31)))) p q b4 b5 b6 b7) :
    ∃ n, wL_holds_186 post J x2 (nI r) x5 (nI c) (dm_h v 7) n 0 0 f0 f1 f2 f3 f4 A p q a4 a5 a6 a7 := by
  refine pk_loop (fun n i (s : St1) => wL_holds_186 post J x2 (nI r) x5 (nI c) (dm_h v 7) n (dm_h v i) (nI i) s.1 s.2.1 s.2.2.1 s.2.2.2.1 s.2.2.2.2.1 s.2.2.2.2.2.1 s.2.2.2.2.2.2.1 s.2.2.2.2.2.2.2.1 s.2.2.2.2.2.2.2.2.1 s.2.2.2.2.2.2.2.2.2.1 s.2.2.2.2.2.2.2.2.2.2.1 s.2.2.2.2.2.2.2.2.2.2.2) (fun i s => dm_set A p q s) 7 0 (f0, f1, f2, f3, f4, A, p, q, a4, a5, a6, a7) (by omega) ?_ ?_ ?_
  · exact ⟨f0, f1, f2, f3, f4, a4, a5, a6, a7, rfl, hs⟩
  · rintro n s ⟨g0, g1, g2, g3, g4, b4, b5, b6, b7, e, h1⟩
    subst e
    refine pk_le 7 7 (fun _ => br_t rfl (dm_edge1 hr hc ?_)) (fun z => absurd z (by omega))
    exact br_f (by decide) (nm_r (nI_1 c) (H _ _ _ _ _ _ _ _))
  · rintro n i s hi h hw
    obtain ⟨g0, g1, g2, g3, g4, b4, b5, b6, b7, e, h1⟩ := h
    subst e
    refine pk_le 7 i (fun z => absurd z (by omega)) (fun _ => dm_usable hg hv ⟨g0, g1, g2, g3, g4, b4, b5, b6, b7, rfl, h1⟩ hi (fun u hu => ?_))
    have hu' := hu
    obtain ⟨k0, k1, k2, k3, k4, d4, d5, d6, d7, e, h2⟩ := hu
    subst e
    exact nm_e (nm_r (nI_1 i) (hw _ hu'))
theorem dm_h133 {post : Int32 → St1 → Prop} {J : Int32 → Int32 → Int32 → Int32 → Int32 → Int32 → (Nat → Int32) → (Nat → Int32) → (Nat → Int32) → (Nat → Int32) → (Nat → Int32) → (Nat → Int32) → (Nat → Int32) → Prop}
    {A p q v : Nat → Int32} {x5 : Int32} {r c : Nat} (hr : r < 7) (hc : c < 7) (hg : dm_good (dm_E A) p q) (hv : dm_uv A p q v) (he : dm_E A r c) (hn : ¬ dm_b (v r) c)
    {f0 f1 f2 f3 f4 : Int32} {a4 a5 a6 a7 : Nat → Int32} (hs : ¬ f0 = 0 → dm_SP f1 f2 A p q a7)
    (H : ∀ g1 g2 g3 g4 b4 b5 b6 b7, J (nI (c + 1)) 0 g1 g2 g3 g4 A p q b4 b5 b6 b7) :
    ∃ n, wL_holds_133 post J (dm_sz p) (nI r) x5 (nI c) 0 n 0 0 f0 f1 f2 f3 f4 A p q a4 a5 a6 a7 := by
  have hu : ¬ dm_U (dm_E A) p q r c := fun t => hn ((hv r hr c).mpr ⟨hc, t⟩)
  obtain ⟨g', u'⟩ := dm_rem (E' := dm_E (dm_off A r c)) (fun a b => dm_offE hc a b) hg hr hc he hu
  have hv' : dm_uv (dm_off A r c) p q v := by
    intro a ha j
    rw [hv a ha j]
    exact and_congr_right (fun hj => (u' a j ha hj).symm)
  refine pk_loop (fun n i (s : St1) => wL_holds_133 post J (dm_sz p) (nI r) x5 (nI c) 0 n (dm_h v i) (nI i) s.1 s.2.1 s.2.2.1 s.2.2.2.1 s.2.2.2.2.1 s.2.2.2.2.2.1 s.2.2.2.2.2.2.1 s.2.2.2.2.2.2.2.1 s.2.2.2.2.2.2.2.2.1 s.2.2.2.2.2.2.2.2.2.1 s.2.2.2.2.2.2.2.2.2.2.1 s.2.2.2.2.2.2.2.2.2.2.2) (fun i s => dm_set A p q s) 7 0 (f0, f1, f2, f3, f4, A, p, q, a4, a5, a6, a7) (by omega) ?_ ?_ ?_
  · exact ⟨f0, f1, f2, f3, f4, a4, a5, a6, a7, rfl, hs⟩
  · rintro n s ⟨g0, g1, g2, g3, g4, b4, b5, b6, b7, e, h1⟩
    subst e
    refine pk_le 7 7 (fun _ => dm_edge0 hr hc ?_) (fun z => absurd z (by omega))
    refine br_f (by decide) (dm_largest g' ⟨0, g1, g2, g3, g4, b4, b5, b6, b7, rfl, fun t => absurd rfl t⟩ (fun u hu => ?_))
    obtain ⟨k0, k1, k2, k3, k4, d4, d5, d6, d7, e, h2⟩ := hu
    subst e
    refine br_t rfl (dm_h186 hr hc g' hv' h2 (fun m1 m2 m3 m4 d4 d5 d6 d7 => ?_))
    rw [dm_back hc he]
    exact H _ _ _ _ _ _ _ _
  · rintro n i s hi h hw
    obtain ⟨g0, g1, g2, g3, g4, b4, b5, b6, b7, e, h1⟩ := h
    subst e
    refine pk_le 7 i (fun z => absurd z (by omega)) (fun _ => dm_usable hg hv ⟨g0, g1, g2, g3, g4, b4, b5, b6, b7, rfl, h1⟩ hi (fun u hu => ?_))
    have hu' := hu
    obtain ⟨k0, k1, k2, k3, k4, d4, d5, d6, d7, e, h2⟩ := hu
    subst e
    exact nm_e (nm_r (nI_1 i) (hw _ hu'))
theorem dm_h106 {post : Int32 → St1 → Prop} {A p q v : Nat → Int32} {x5 : Int32} {r : Nat} (hr : r < 7) (hg : dm_good (dm_E A) p q) (hv : dm_uv A p q v) (hx : ∀ c, c < 7 → dm_b x5 c → dm_E A r c ∧ ¬ dm_b (v r) c)
    {f0 f1 f2 f3 f4 : Int32} {a4 a5 a6 a7 : Nat → Int32} (hs : ¬ f0 = 0 → dm_SP f1 f2 A p q a7) (H : ∀ u, dm_set A p q u → post 1 u) :
    ∃ n, wL_holds_106 post (dm_sz p) (nI r) x5 n 0 f0 f1 f2 f3 f4 A p q a4 a5 a6 a7 := by
  refine pk_loop (fun n i (s : St1) => wL_holds_106 post (dm_sz p) (nI r) x5 n (nI i) s.1 s.2.1 s.2.2.1 s.2.2.2.1 s.2.2.2.2.1 s.2.2.2.2.2.1 s.2.2.2.2.2.2.1 s.2.2.2.2.2.2.2.1 s.2.2.2.2.2.2.2.2.1 s.2.2.2.2.2.2.2.2.2.1 s.2.2.2.2.2.2.2.2.2.2.1 s.2.2.2.2.2.2.2.2.2.2.2) (fun i s => dm_set A p q s) 7 0 (f0, f1, f2, f3, f4, A, p, q, a4, a5, a6, a7) (by omega) ?_ ?_ ?_
  · exact ⟨f0, f1, f2, f3, f4, a4, a5, a6, a7, rfl, hs⟩
  · rintro n s h
    exact pk_le 7 7 (fun _ => H s h) (fun z => absurd z (by omega))
  · rintro n i s hi h hw
    have h' := h
    obtain ⟨g0, g1, g2, g3, g4, b4, b5, b6, b7, e, h1⟩ := h
    subst e
    refine pk_le 7 i (fun z => absurd z (by omega)) (fun _ => dm_if1 (by omega) (fun hb => dm_h133 hr hi hg hv (hx i hi hb).1 (hx i hi hb).2 h1 (fun m1 m2 m3 m4 d4 d5 d6 d7 => ?_)) (fun hb => nm_r (nI_1 i) (hw _ h')))
    exact hw (0, m1, m2, m3, m4, A, p, q, d4, d5, d6, d7) ⟨0, m1, m2, m3, m4, d4, d5, d6, d7, rfl, fun t => absurd rfl t⟩
theorem dm_mod7 (x : Int32) : ∃ r, r < 7 ∧ (x &&& 255) - (x &&& 255) / 7 * 7 = nI r := by
  obtain ⟨k, hk, e⟩ := pk_andE x (m := 255) 8 (by decide)
  rw [e]
  exact ⟨k % 7, Nat.mod_lt _ (by omega), pk_rem (a := k) (d := 7) (by omega) (by omega) (by omega)⟩
theorem dm_h23 {post : Int32 → St1 → Prop} {A p q v : Nat → Int32} {x1 x3 : Int32} (hg : dm_good (dm_E A) p q) (hv : dm_uv A p q v) (hx : ∀ r, r < 7 → (dm_b x3 r ↔ dm_RR (dm_E A) p q r))
    {f0 f1 f2 f3 f4 : Int32} {a4 a5 a6 a7 : Nat → Int32} (hs : ¬ f0 = 0 → dm_SP f1 f2 A p q a7) (H : ∀ u, dm_set A p q u → post 1 u) :
    ∃ n, wL_holds_23 post x1 (dm_sz p) x3 n 0 f0 f1 f2 f3 f4 A p q a4 a5 a6 a7 := by
  refine pk_loop (fun n i (s : St1) => wL_holds_23 post x1 (dm_sz p) x3 n (nI i) s.1 s.2.1 s.2.2.1 s.2.2.2.1 s.2.2.2.2.1 s.2.2.2.2.2.1 s.2.2.2.2.2.2.1 s.2.2.2.2.2.2.2.1 s.2.2.2.2.2.2.2.2.1 s.2.2.2.2.2.2.2.2.2.1 s.2.2.2.2.2.2.2.2.2.2.1 s.2.2.2.2.2.2.2.2.2.2.2) (fun i s => dm_set A p q s) 7 0 (f0, f1, f2, f3, f4, A, p, q, a4, a5, a6, a7) (by omega) ?_ ?_ ?_
  · exact ⟨f0, f1, f2, f3, f4, a4, a5, a6, a7, rfl, hs⟩
  · rintro n s h
    have h' := h
    obtain ⟨g0, g1, g2, g3, g4, b4, b5, b6, b7, e, h1⟩ := h
    subst e
    obtain ⟨r, hr, er⟩ := dm_mod7 x1
    refine pk_le 7 7 (fun _ => ⟨by decide, nm_r er (dm_colsOf hr (dm_usable hg hv h' hr (fun u hu => ?_)))⟩) (fun z => absurd z (by omega))
    obtain ⟨k0, k1, k2, k3, k4, d4, d5, d6, d7, e, h2⟩ := hu
    subst e
    refine nm_e (dm_h106 hr hg hv (fun c hc hb => ?_) h2 H)
    have t := dm_and.mp hb
    exact ⟨t.1, (dm_not (by omega)).mp t.2⟩
  · rintro n i s hi h hw
    obtain ⟨g0, g1, g2, g3, g4, b4, b5, b6, b7, e, h1⟩ := h
    subst e
    refine pk_le 7 i (fun z => absurd z (by omega)) (fun _ => dm_usable hg hv ⟨g0, g1, g2, g3, g4, b4, b5, b6, b7, rfl, h1⟩ hi (fun u hu => ?_))
    have hu' := hu
    obtain ⟨k0, k1, k2, k3, k4, d4, d5, d6, d7, e, h2⟩ := hu
    subst e
    refine dm_forced hg hv hu' hi (fun y u hy hu => ?_)
    have hu'' := hu
    obtain ⟨k0, k1, k2, k3, k4, d4, d5, d6, d7, e, h2⟩ := hu
    subst e
    refine br_t ?_ (dm_if0 (by omega) (fun hb => br_f ?_ (nm_r (nI_1 i) (hw _ hu''))) (fun hb => nm_r (nI_1 i) (hw _ hu'')))
    · apply dm_ext
      intro j
      refine ⟨fun t => ?_, fun t => absurd t dm_zero⟩
      have t' := dm_and.mp t
      have t2 := (dm_not (dm_b_lt t'.1)).mp t'.2
      rcases hy with e | e
      · subst e
        exact t'.1
      · subst e
        exact absurd t'.1 t2
    · rcases hg.1.1 i hi with t | ⟨c, hc, t⟩
      · exact absurd ((hx i hi).mpr (dm_RR_0 hi t)) hb
      · exact dm_ne0.mpr ⟨c, (hv i hi c).mpr ⟨hc, hg.2.1 i c hi hc t, Or.inl t⟩⟩
theorem dm_holds {post : Int32 → St1 → Prop} {u : St1} {x1 : Int32} (h : dm_inv u) (H : ∀ u', dm_inv u' → post 1 u') : wpL_holds post u x1 := by
  have h' := h
  obtain ⟨f0, f1, f2, f3, f4, a1, a2, a3, a4, a5, a6, a7, e, hk, h1⟩ := h
  subst e
  unfold wpL_holds
  dsimp only
  refine dm_largest0 h' (fun A p q v u hg hv hu => ?_)
  have hu' := hu
  obtain ⟨k0, k1, k2, k3, k4, d4, d5, d6, d7, e, h2⟩ := hu
  subst e
  refine dm_loose hg hu' (fun y u hy hu => ?_)
  have hu' := hu
  obtain ⟨k0, k1, k2, k3, k4, d4, d5, d6, d7, e, h2⟩ := hu
  subst e
  refine dm_cover hg hu' (fun u hu => ?_)
  have hu' := hu
  obtain ⟨k0, k1, k2, k3, k4, d4, d5, d6, d7, e, h2⟩ := hu
  subst e
  exact br_t rfl (dm_h23 hg hv hy h2 (fun u hu => H u (dm_set_inv hg hu)))
end
section
theorem dm_row {post : Int32 → St1 → Prop} {u : St1} {r : Nat} {x : Int32} (hr : r < 7) (h : dm_inv u) (H : ∀ y u', dm_inv u' → post y u') : wpX_row post u (nI r) x := by
  have h' := h
  obtain ⟨f0, f1, f2, f3, f4, a1, a2, a3, a4, a5, a6, a7, e, hk, h1⟩ := h
  subst e
  unfold wpX_row
  dsimp only
  exact dm_isNum hr (br_f (by decide) (br_c (fun _ => H _ _ h') (fun _ => br_c (fun _ => ⟨pk_in r 7 hr, nm_e (H _ _ ⟨0, f1, f2, f3, f4, _, a2, a3, a4, a5, a6, a7, rfl, hk, fun t => absurd rfl t⟩)⟩) (fun _ => H _ _ h'))))
theorem dm_edge {post : Int32 → St1 → Prop} {u : St1} {r c : Nat} {x : Int32} (hx : x = 0 ∨ x = 1) (hr : r < 7) (hc : c < 7) (h : dm_inv u) (H : ∀ y u', dm_inv u' → post y u') : wpX_edge post u (nI r) (nI c) x := by
  obtain ⟨f0, f1, f2, f3, f4, a1, a2, a3, a4, a5, a6, a7, e, hk, h1⟩ := h
  subst e
  rcases hx with e | e
  · subst e
    exact dm_edge0 hr hc (H _ _ ⟨0, f1, f2, f3, f4, _, a2, a3, a4, a5, a6, a7, rfl, hk, fun t => absurd rfl t⟩)
  · subst e
    exact dm_edge1 hr hc (H _ _ ⟨0, f1, f2, f3, f4, _, a2, a3, a4, a5, a6, a7, rfl, hk, fun t => absurd rfl t⟩)
theorem dm_lt3 {L k : Nat} (hL : L ≤ 260) (hk : 3 * k ≤ L) (h : L < 3 * k + 3) : (Int32.ofNat L) - 3 < nI (3 * k) := by
  show nI L - nI 3 < nI (3 * k)
  rw [Int32.lt_iff_toInt_lt, pk_sub_toInt (by omega) (by omega), nI_toInt (by omega)]
  omega
theorem dm_ge3 {L k : Nat} (hL : L ≤ 260) (h : 3 * k + 3 ≤ L) : ¬ (Int32.ofNat L) - 3 < nI (3 * k) := by
  show ¬ nI L - nI 3 < nI (3 * k)
  rw [Int32.lt_iff_toInt_lt, pk_sub_toInt (by omega) (by omega), nI_toInt (by omega)]
  omega
theorem dm_l127 {post : Int32 → Prop} {xs : Nat → Int32} {L k kc ks : Nat} {J : Int32 → Int32 → Int32 → Int32 → Int32 → Int32 → (Nat → Int32) → (Nat → Int32) → (Nat → Int32) → (Nat → Int32) → (Nat → Int32) → (Nat → Int32) → (Nat → Int32) → Prop} {x3 : Int32}
    {f0 f1 f2 f3 f4 : Int32} {a1 a2 a3 a4 a5 a6 a7 : Nat → Int32} (h : dm_inv (f0, f1, f2, f3, f4, a1, a2, a3, a4, a5, a6, a7))
    (H : ∀ g0 g1 g2 g3 g4 b1 b2 b3 b4 b5 b6 b7, dm_inv (g0, g1, g2, g3, g4, b1, b2, b3, b4, b5, b6, b7) → J (nI (3 * (k + 1))) g0 g1 g2 g3 g4 b1 b2 b3 b4 b5 b6 b7) :
    wL_law_127 post L xs J (nI (3 * k)) x3 kc ks f0 f1 f2 f3 f4 a1 a2 a3 a4 a5 a6 a7 := by
  unfold wL_law_127
  refine dm_holds h (fun u hu => ?_)
  obtain ⟨g0, g1, g2, g3, g4, b1, b2, b3, b4, b5, b6, b7⟩ := u
  exact br_f (by decide) (nm_r (nI_add (3 * k) 3) (H _ _ _ _ _ _ _ _ _ _ _ _ hu))
theorem dm_law {xs : Nat → Int32} {L kc ks : Nat} (hL : L ≤ 260) {f0 f1 f2 f3 f4 : Int32} {a1 a2 a3 a4 a5 a6 a7 : Nat → Int32} (h : dm_inv (f0, f1, f2, f3, f4, a1, a2, a3, a4, a5, a6, a7)) :
    ∃ n, wL_law_10 (fun r => r = 1) L xs kc ks n 0 f0 f1 f2 f3 f4 a1 a2 a3 a4 a5 a6 a7 := by
  refine pk_loop (fun n k (s : St1) => wL_law_10 (fun r => r = 1) L xs kc ks n (nI (3 * k)) s.1 s.2.1 s.2.2.1 s.2.2.2.1 s.2.2.2.2.1 s.2.2.2.2.2.1 s.2.2.2.2.2.2.1 s.2.2.2.2.2.2.2.1 s.2.2.2.2.2.2.2.2.1 s.2.2.2.2.2.2.2.2.2.1 s.2.2.2.2.2.2.2.2.2.2.1 s.2.2.2.2.2.2.2.2.2.2.2) (fun k s => dm_inv s) (L / 3) 0 (f0, f1, f2, f3, f4, a1, a2, a3, a4, a5, a6, a7) (by omega) h ?_ ?_
  · rintro n ⟨g0, g1, g2, g3, g4, b1, b2, b3, b4, b5, b6, b7⟩ h
    refine br_t (dm_lt3 hL (by omega) (by omega)) (dm_holds h (fun u hu => ?_))
    obtain ⟨g0, g1, g2, g3, g4, b1, b2, b3, b4, b5, b6, b7⟩ := u
    exact rfl
  · rintro n k ⟨g0, g1, g2, g3, g4, b1, b2, b3, b4, b5, b6, b7⟩ hk h hw
    have hk3 : 3 * k + 3 ≤ L := by omega
    refine br_f (dm_ge3 hL hk3) ⟨pk_in (3 * k + 1) L (by omega) (nI_1 (3 * k)) (by omega), fun a _ => ⟨pk_in (3 * k + 2) L (by omega) (nI_add (3 * k) 2) (by omega), fun b _ => ⟨by decide, fun r er => ⟨by decide, fun c ec => ⟨pk_in (3 * k) L (by omega) rfl (by omega), fun t _ => ?_⟩⟩⟩⟩⟩
    obtain ⟨r', hr', e1⟩ := dm_mod7 a
    obtain ⟨c', hc', e2⟩ := dm_mod7 b
    have er' : r = nI r' := er.trans e1
    have ec' : c = nI c' := ec.trans e2
    subst er' ec'
    have hn : ∀ g0 g1 g2 g3 g4 b1 b2 b3 b4 b5 b6 b7, dm_inv (g0, g1, g2, g3, g4, b1, b2, b3, b4, b5, b6, b7) → wL_law_10 (fun r => r = 1) L xs kc ks n (nI (3 * (k + 1))) g0 g1 g2 g3 g4 b1 b2 b3 b4 b5 b6 b7 :=
      fun g0 g1 g2 g3 g4 b1 b2 b3 b4 b5 b6 b7 hh => hw (g0, g1, g2, g3, g4, b1, b2, b3, b4, b5, b6, b7) hh
    refine br_c (fun _ => dm_row hr' h (fun y u hu => ?_)) (fun _ => br_c (fun _ => dm_edge (Or.inl rfl) hr' hc' h (fun y u hu => ?_)) (fun _ => dm_edge (Or.inr rfl) hr' hc' h (fun y u hu => ?_)))
    · obtain ⟨g0, g1, g2, g3, g4, b1, b2, b3, b4, b5, b6, b7⟩ := u
      exact dm_l127 hu hn
    · obtain ⟨g0, g1, g2, g3, g4, b1, b2, b3, b4, b5, b6, b7⟩ := u
      exact dm_l127 hu hn
    · obtain ⟨g0, g1, g2, g3, g4, b1, b2, b3, b4, b5, b6, b7⟩ := u
      exact dm_l127 hu hn
theorem dm_init {post : St1 → Prop} {f0 f1 f2 f3 f4 : Int32} (h0 : f0 = 0) (H : ∀ u, dm_inv u → post u) : wpX_init post 7 49 (f0, f1, f2, f3, f4) := by
  unfold wpX_init
  dsimp only
  refine ⟨by omega, by omega, by omega, by omega, by omega, by omega, by omega, by omega, by omega, by omega, by omega, by omega, by omega, by omega, ?_⟩
  refine pk_loop (fun n i (s : (Nat → Int32) × (Nat → Int32)) => wX_init_62 post 7 49 7 49 f0 f1 f2 f3 f4 n (nI i) (fun _ => 0) s.1 s.2 (fun _ => 0) (fun _ => 0) (fun _ => 0) (fun _ => 0))
    (fun i s => ∀ j, j < i → s.1 j = -1 ∧ s.2 j = -1) 7 0 ((fun _ => 0), (fun _ => 0)) (by omega) ?_ ?_ ?_
  · intro j hj
    exact absurd hj (Nat.not_lt_zero j)
  · rintro n ⟨p, q⟩ h
    refine pk_le 7 7 (fun _ => H _ ⟨f0, f1, f2, f3, f4, _, p, q, _, _, _, _, rfl, ⟨?_, ?_, ?_⟩, fun t => absurd h0 t⟩) (fun z => absurd z (by omega))
    · intro r hr
      have t : p r = -1 := (h r hr).1
      rw [t]
      exact Or.inl dm_m1
    · intro r hr
      have t : q r = -1 := (h r hr).2
      rw [t]
      exact Or.inl dm_m1
    · intro r c hr hc
      have t : p r = -1 := (h r hr).1
      have t2 : q c = -1 := (h c hc).2
      rw [t, t2]
      exact ⟨fun u => absurd dm_m1 (dm_nn hc u), fun u => absurd dm_m1 (dm_nn hr u)⟩
  · rintro n i ⟨p, q⟩ hi h hw
    refine pk_le 7 i (fun z => absurd z (by omega)) (fun _ => ?_)
    dsimp only
    rw [nI_clamp (show i < 2 ^ 31 by omega)]
    refine ⟨pk_in i 7 hi, nm_e ⟨pk_in i 7 hi, nm_e (nm_r (nI_1 i) (hw (upd p i (-1), upd q i (-1)) ?_))⟩⟩
    intro j hj
    show upd p i (-1) j = -1 ∧ upd q i (-1) j = -1
    by_cases e : j = i
    · subst e
      exact ⟨pk_us, pk_us⟩
    · rw [pk_un e, pk_un e]
      exact h j (by omega)
end
section
theorem i_vc (xs : Nat → Int32) (L : Nat) (hL : L ≤ 260) : wpL_law (fun r => r = 1) L xs := by
  refine ⟨7, 49, by omega, by omega, dm_init rfl (fun u hu => ?_)⟩
  obtain ⟨g0, g1, g2, g3, g4, b1, b2, b3, b4, b5, b6, b7⟩ := u
  exact dm_law hL hu
end
