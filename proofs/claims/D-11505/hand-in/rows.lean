section
/-! sums, counts, maps -/
def dt_sm (f : Nat → Nat) : Nat → Nat
  | 0 => 0
  | n + 1 => dt_sm f n + f n
theorem dt_sm_s (f : Nat → Nat) (n : Nat) : dt_sm f (n + 1) = dt_sm f n + f n := rfl
theorem dt_sm_cg {f g : Nat → Nat} : ∀ n, (∀ q, q < n → f q = g q) → dt_sm f n = dt_sm g n
  | 0, _ => rfl
  | n + 1, h => by
    rw [dt_sm_s, dt_sm_s, dt_sm_cg n (fun q hq => h q (by omega)), h n (by omega)]
theorem dt_sm_le {f g : Nat → Nat} : ∀ n, (∀ q, q < n → f q ≤ g q) → dt_sm f n ≤ dt_sm g n
  | 0, _ => Nat.le_refl 0
  | n + 1, h => by
    have h1 := dt_sm_le n (fun q hq => h q (by omega))
    have h2 := h n (by omega)
    rw [dt_sm_s, dt_sm_s]
    omega
theorem dt_sm_lt {f g : Nat → Nat} {p : Nat} : ∀ n, (∀ q, q < n → f q ≤ g q) → p < n → f p < g p → dt_sm f n < dt_sm g n
  | 0, _, h, _ => absurd h (by omega)
  | n + 1, h, hp, hl => by
    have h2 := h n (by omega)
    rw [dt_sm_s, dt_sm_s]
    by_cases e : p = n
    · have h1 := dt_sm_le n (fun q hq => h q (by omega))
      rw [e] at hl
      omega
    · have h1 := dt_sm_lt (p := p) n (fun q hq => h q (by omega)) (by omega) hl
      omega
theorem dt_sm_up {f f' : Nat → Nat} {p x : Nat} : ∀ n, p < n → f' p = x → (∀ q, q ≠ p → f' q = f q) → dt_sm f' n + f p = dt_sm f n + x
  | 0, h, _, _ => absurd h (by omega)
  | n + 1, h, hx, hq => by
    rw [dt_sm_s, dt_sm_s]
    by_cases e : p = n
    · have h1 : dt_sm f' n = dt_sm f n := dt_sm_cg n (fun q hq' => hq q (by omega))
      rw [← e, hx]
      rw [← e] at h1
      omega
    · have h1 := dt_sm_up n (by omega) hx hq
      have h2 := hq n (fun z => e z.symm)
      omega
theorem dt_sm_bd {f : Nat → Nat} {c : Nat} : ∀ n, (∀ q, q < n → f q ≤ c) → dt_sm f n ≤ n * c
  | 0, _ => by rw [Nat.zero_mul]; exact Nat.le_refl 0
  | n + 1, h => by
    have h1 := dt_sm_bd n (fun q hq => h q (by omega))
    have h2 := h n (by omega)
    rw [dt_sm_s, Nat.succ_mul]
    omega
theorem dt_sm_ad {f g h : Nat → Nat} : ∀ n, (∀ q, q < n → f q + g q = h q) → dt_sm f n + dt_sm g n = dt_sm h n
  | 0, _ => rfl
  | n + 1, k => by
    have h1 := dt_sm_ad n (fun q hq => k q (by omega))
    have h2 := k n (by omega)
    rw [dt_sm_s, dt_sm_s, dt_sm_s]
    omega
theorem dt_sm_mo {f : Nat → Nat} {m : Nat} : ∀ n, m ≤ n → dt_sm f m ≤ dt_sm f n
  | 0, h => by
    have : m = 0 := by omega
    rw [this]
    exact Nat.le_refl _
  | n + 1, h => by
    by_cases e : m = n + 1
    · rw [e]
      exact Nat.le_refl _
    · have h1 := dt_sm_mo (f := f) n (show m ≤ n by omega)
      rw [dt_sm_s]
      omega
theorem dt_sm_0 : ∀ n, dt_sm (fun _ => 0) n = 0
  | 0 => rfl
  | n + 1 => by rw [dt_sm_s, dt_sm_0 n]
theorem dt_tn_le (b : Bool) : b.toNat ≤ 1 := by cases b <;> decide
/-! maps -/
abbrev dt_M : Type := Nat → Option Int32
def dt_up (M : dt_M) (k : Nat) (o : Option Int32) : dt_M := fun j => if j = k then o else M j
def dt_lo (M : dt_M) (e : Nat) : dt_M := fun j => if j < e then M j else none
def dt_rs (M : dt_M) (f e : Nat) : dt_M := fun j => if f ≤ j ∧ j < e then M j else none
def dt_cnt (M : dt_M) (n : Nat) : Nat := dt_sm (fun k => (M k).isSome.toNat) n
theorem dt_up_s (M : dt_M) (k : Nat) (o : Option Int32) : dt_up M k o k = o := by
  unfold dt_up
  rw [if_pos rfl]
theorem dt_up_n (M : dt_M) {k j : Nat} (o : Option Int32) (h : j ≠ k) : dt_up M k o j = M j := by
  unfold dt_up
  rw [if_neg h]
theorem dt_cnt_s (M : dt_M) (n : Nat) : dt_cnt M (n + 1) = dt_cnt M n + (M n).isSome.toNat := rfl
theorem dt_cnt_0 (M : dt_M) : dt_cnt M 0 = 0 := rfl
theorem dt_cnt_sn {M : dt_M} {n : Nat} (h : M n = none) : dt_cnt M (n + 1) = dt_cnt M n := by
  rw [dt_cnt_s, h]
  rfl
theorem dt_cnt_ss {M : dt_M} {n : Nat} (h : M n ≠ none) : dt_cnt M (n + 1) = dt_cnt M n + 1 := by
  rw [dt_cnt_s]
  cases e : M n with
  | none => exact absurd e h
  | some v => rfl
theorem dt_cnt_cg {M N : dt_M} (n : Nat) (h : ∀ q, q < n → M q = N q) : dt_cnt M n = dt_cnt N n :=
  dt_sm_cg n (fun q hq => by rw [h q hq])
theorem dt_cnt_mo {M : dt_M} {m n : Nat} (h : m ≤ n) : dt_cnt M m ≤ dt_cnt M n := dt_sm_mo n h
theorem dt_cnt_le {M N : dt_M} (n : Nat) (h : ∀ q, q < n → M q ≠ none → N q ≠ none) : dt_cnt M n ≤ dt_cnt N n :=
  dt_sm_le n (fun q hq => by
    cases e : M q with
    | none => exact Nat.zero_le _
    | some v =>
      have := h q hq (by rw [e]; exact Option.some_ne_none v)
      cases e' : N q with
      | none => exact absurd e' this
      | some w => exact Nat.le_refl _)
theorem dt_cnt_up {M : dt_M} {k n : Nat} (o : Option Int32) (h : k < n) : dt_cnt (dt_up M k o) n + (M k).isSome.toNat = dt_cnt M n + o.isSome.toNat :=
  dt_sm_up (f := fun j => (M j).isSome.toNat) (f' := fun j => (dt_up M k o j).isSome.toNat) n h (by rw [dt_up_s]) (fun q hq => by rw [dt_up_n M o hq])
theorem dt_cnt_add {M : dt_M} {k n : Nat} (v : Int32) (h : k < n) (hM : M k = none) : dt_cnt (dt_up M k (some v)) n = dt_cnt M n + 1 := by
  have := dt_cnt_up (M := M) (some v) h
  rw [hM] at this
  exact this
theorem dt_cnt_set {M : dt_M} {k n : Nat} (v : Int32) (h : k < n) (hM : M k ≠ none) : dt_cnt (dt_up M k (some v)) n = dt_cnt M n := by
  have := dt_cnt_up (M := M) (some v) h
  cases e : M k with
  | none => exact absurd e hM
  | some w =>
    rw [e] at this
    exact Nat.add_right_cancel this
theorem dt_cnt_del {M : dt_M} {k n : Nat} (h : k < n) (hM : M k ≠ none) : dt_cnt (dt_up M k none) n + 1 = dt_cnt M n := by
  have := dt_cnt_up (M := M) none h
  cases e : M k with
  | none => exact absurd e hM
  | some w =>
    rw [e] at this
    exact this
theorem dt_cnt_le1 {M : dt_M} {k n : Nat} (o : Option Int32) : dt_cnt (dt_up M k o) n ≤ dt_cnt M n + 1 := by
  by_cases h : k < n
  · have := dt_cnt_up (M := M) o h
    have h2 := dt_tn_le o.isSome
    omega
  · have : dt_cnt (dt_up M k o) n = dt_cnt M n := dt_cnt_cg n (fun q hq => dt_up_n M o (by omega))
    omega
theorem dt_up_e {M : dt_M} {k : Nat} {o : Option Int32} (h : M k = o) : dt_up M k o = M := by
  funext j
  by_cases e : j = k
  · rw [e, dt_up_s, h]
  · rw [dt_up_n M o e]
/-! a sorted table that holds a map -/
def dt_rp (a v : Nat → Int32) (b : Nat) (m : dt_M) (K : Nat → Nat) : Prop :=
  (∀ i, i < b → a i = nI (K i) ∧ K i < 4096 ∧ m (K i) = some (v i)) ∧ (∀ i j, i < j → j < b → K i < K j) ∧ (∀ k, m k ≠ none → ∃ i, i < b ∧ K i = k)
/-- where a sorted table is cut by a key -/
def dt_sp (K : Nat → Nat) (b e j : Nat) : Prop := j ≤ b ∧ (∀ i, i < j → K i < e) ∧ (∀ i, j ≤ i → i < b → e ≤ K i)
theorem dt_rp_cnt {a v : Nat → Int32} {b : Nat} {m : dt_M} {K : Nat → Nat} (h : dt_rp a v b m K) : ∀ e j, dt_sp K b e j → dt_cnt m e = j
  | 0, j, hj => by
    rw [dt_cnt_0]
    cases j with
    | zero => rfl
    | succ j => exact absurd (hj.2.1 0 (by omega)) (by omega)
  | e + 1, j, hj => by
    obtain ⟨h1, h2, h3⟩ := h
    obtain ⟨hb, hl, hr⟩ := hj
    by_cases hm : m e = none
    · rw [dt_cnt_sn hm]
      refine dt_rp_cnt ⟨h1, h2, h3⟩ e j ⟨hb, fun i hi => ?_, fun i hi hi' => ?_⟩
      · have := hl i hi
        have hne : K i ≠ e := by
          intro z
          have := (h1 i (by omega)).2.2
          rw [z, hm] at this
          exact absurd this.symm (Option.some_ne_none _)
        omega
      · have := hr i hi hi'
        omega
    · rw [dt_cnt_ss hm]
      obtain ⟨i0, hi0, hk⟩ := h3 e hm
      have hij : i0 < j := by
        rcases Nat.lt_or_ge i0 j with z | z
        · exact z
        · have := hr i0 z hi0
          omega
      have hij' : i0 = j - 1 := by
        rcases Nat.lt_or_ge i0 (j - 1) with z | z
        · have q1 := h2 i0 (j - 1) z (by omega)
          have q2 := hl (j - 1) (by omega)
          omega
        · omega
      have := dt_rp_cnt ⟨h1, h2, h3⟩ e (j - 1) ⟨by omega, fun i hi => ?_, fun i hi hi' => ?_⟩
      · omega
      · have q := h2 i i0 (by omega) hi0
        omega
      · by_cases z : i = i0
        · rw [z, hk]
          exact Nat.le_refl e
        · have q := h2 i0 i (by omega) hi'
          omega
theorem dt_sp_ex {K : Nat → Nat} (e : Nat) : ∀ b, (∀ i j, i < j → j < b → K i < K j) → ∃ j, dt_sp K b e j ∧ dt_sm (fun i => (decide (K i < e)).toNat) b = j
  | 0, _ => ⟨0, ⟨Nat.le_refl 0, fun i h => absurd h (by omega), fun i h h' => absurd h' (by omega)⟩, rfl⟩
  | b + 1, h => by
    obtain ⟨j, ⟨h1, h2, h3⟩, h4⟩ := dt_sp_ex e b (fun i j hi hj => h i j hi (by omega))
    by_cases hj : j < b
    · have hb : e ≤ K b := by
        have q1 := h3 j (Nat.le_refl j) hj
        have q2 := h j b hj (by omega)
        omega
      refine ⟨j, ⟨by omega, h2, fun i hi hi' => ?_⟩, ?_⟩
      · by_cases z : i = b
        · rw [z]
          exact hb
        · exact h3 i hi (by omega)
      · rw [dt_sm_s, h4]
        have : decide (K b < e) = false := decide_eq_false (by omega)
        rw [this]
        rfl
    · by_cases hb : K b < e
      · refine ⟨b + 1, ⟨Nat.le_refl _, fun i hi => ?_, fun i hi hi' => absurd hi' (by omega)⟩, ?_⟩
        · by_cases z : i = b
          · rw [z]
            exact hb
          · exact h2 i (by omega)
        · rw [dt_sm_s, h4]
          have : decide (K b < e) = true := decide_eq_true hb
          rw [this]
          show j + 1 = b + 1
          omega
      · refine ⟨b, ⟨by omega, fun i hi => h2 i (by omega), fun i hi hi' => ?_⟩, ?_⟩
        · have : i = b := by omega
          rw [this]
          omega
        · rw [dt_sm_s, h4]
          have : decide (K b < e) = false := decide_eq_false hb
          rw [this]
          show j + 0 = b
          omega
theorem dt_rp_sm {a v : Nat → Int32} {b : Nat} {m : dt_M} {K : Nat → Nat} (h : dt_rp a v b m K) (e : Nat) : dt_sm (fun i => (decide (K i < e)).toNat) b = dt_cnt m e := by
  obtain ⟨j, h1, h2⟩ := dt_sp_ex e b h.2.1
  rw [h2, dt_rp_cnt h e j h1]
theorem dt_rp_all {a v : Nat → Int32} {b : Nat} {m : dt_M} {K : Nat → Nat} (h : dt_rp a v b m K) : dt_cnt m 4096 = b :=
  dt_rp_cnt h 4096 b ⟨Nat.le_refl b, fun i hi => (h.1 i hi).2.1, fun i hi hi' => absurd hi' (by omega)⟩
theorem dt_rp_at {a v : Nat → Int32} {b : Nat} {m : dt_M} {K : Nat → Nat} (h : dt_rp a v b m K) {i : Nat} (hi : i < b) : dt_cnt m (K i) = i := by
  refine dt_rp_cnt h (K i) i ⟨by omega, fun q hq => h.2.1 q i hq hi, fun q hq hq' => ?_⟩
  by_cases z : q = i
  · rw [z]
    exact Nat.le_refl _
  · have := h.2.1 i q (by omega) hq'
    omega
theorem dt_rp_cg {a v a' v' : Nat → Int32} {b : Nat} {m m' : dt_M} {K : Nat → Nat} (h : dt_rp a v b m K) (ha : ∀ i, i < b → a' i = a i) (hv : ∀ i, i < b → v' i = v i) (hm : ∀ k, m' k = m k) : dt_rp a' v' b m' K :=
  ⟨fun i hi => ⟨by rw [ha i hi]; exact (h.1 i hi).1, (h.1 i hi).2.1, by rw [hv i hi, hm]; exact (h.1 i hi).2.2⟩, h.2.1, fun k hk => h.2.2 k (by rw [← hm]; exact hk)⟩
theorem dt_rp_none {a v : Nat → Int32} {b : Nat} {m : dt_M} {K : Nat → Nat} (h : dt_rp a v b m K) {k : Nat} (hk : ∀ i, i < b → K i ≠ k) : m k = none := by
  cases e : m k with
  | none => rfl
  | some w =>
    obtain ⟨i, hi, hi'⟩ := h.2.2 k (by rw [e]; exact Option.some_ne_none w)
    exact absurd hi' (hk i hi)
/-- cut at a key -/
theorem dt_rp_lo {a v : Nat → Int32} {b : Nat} {m : dt_M} {K : Nat → Nat} (h : dt_rp a v b m K) {e j : Nat} (hj : dt_sp K b e j) : dt_rp a v j (dt_lo m e) K := by
  obtain ⟨h1, h2, h3⟩ := h
  obtain ⟨j1, j2, j3⟩ := hj
  refine ⟨fun i hi => ⟨(h1 i (by omega)).1, (h1 i (by omega)).2.1, ?_⟩, fun i q hi hq => h2 i q hi (by omega), fun k hk => ?_⟩
  · unfold dt_lo
    rw [if_pos (j2 i hi)]
    exact (h1 i (by omega)).2.2
  · unfold dt_lo at hk
    by_cases z : k < e
    · rw [if_pos z] at hk
      obtain ⟨i, hi, hi'⟩ := h3 k hk
      refine ⟨i, ?_, hi'⟩
      rcases Nat.lt_or_ge i j with y | y
      · exact y
      · have := j3 i y hi
        omega
    · rw [if_neg z] at hk
      exact absurd rfl hk
/-- whether a key is there, at the cut -/
theorem dt_rp_is {a v : Nat → Int32} {b : Nat} {m : dt_M} {K : Nat → Nat} (h : dt_rp a v b m K) {k j : Nat} (hj : dt_sp K b k j) : m k ≠ none ↔ j < b ∧ K j = k := by
  constructor
  · intro z
    obtain ⟨i, hi, hi'⟩ := h.2.2 k z
    have q1 : j ≤ i := by
      rcases Nat.lt_or_ge i j with y | y
      · have := hj.2.1 i y
        omega
      · exact y
    have q2 := hj.2.2 j (Nat.le_refl j) (by omega)
    have q3 : i = j := by
      rcases Nat.lt_or_ge j i with y | y
      · have := h.2.1 j i y hi
        omega
      · omega
    rw [q3] at hi hi'
    exact ⟨hi, hi'⟩
  · rintro ⟨q, r⟩
    rw [← r, (h.1 j q).2.2]
    exact Option.some_ne_none _
/-- a value written -/
theorem dt_rp_set {a v a' v' : Nat → Int32} {b : Nat} {m : dt_M} {K : Nat → Nat} {x : Int32} (h : dt_rp a v b m K) {k j : Nat} (hjb : j < b) (hjk : K j = k) (ha : ∀ i, i < b → a' i = a i) (hv : ∀ i, i < b → i ≠ j → v' i = v i) (hx : v' j = x) : dt_rp a' v' b (dt_up m k (some x)) K := by
  obtain ⟨h1, h2, h3⟩ := h
  refine ⟨fun i hi => ⟨by rw [ha i hi]; exact (h1 i hi).1, (h1 i hi).2.1, ?_⟩, h2, fun q hq => ?_⟩
  · by_cases z : i = j
    · rw [z, hjk, dt_up_s, hx]
    · have : K i ≠ k := by
        intro y
        rcases Nat.lt_or_ge i j with w | w
        · have := h2 i j w hjb
          omega
        · have := h2 j i (by omega) hi
          omega
      rw [dt_up_n m _ this, hv i hi z]
      exact (h1 i hi).2.2
  · by_cases z : q = k
    · exact ⟨j, hjb, by rw [hjk, z]⟩
    · rw [dt_up_n m _ z] at hq
      exact h3 q hq
/-- a key put in between -/
theorem dt_rp_ins {a v a' v' : Nat → Int32} {b : Nat} {m : dt_M} {K : Nat → Nat} {x : Int32} (h : dt_rp a v b m K) {k j : Nat} (hj : dt_sp K b k j) (hk : k < 4096) (hn : m k = none)
    (h1 : ∀ i, i < j → a' i = a i ∧ v' i = v i) (h2 : a' j = nI k ∧ v' j = x) (h3 : ∀ i, j ≤ i → i < b → a' (i + 1) = a i ∧ v' (i + 1) = v i) :
    dt_rp a' v' (b + 1) (dt_up m k (some x)) (fun i => if i < j then K i else if i = j then k else K (i - 1)) := by
  obtain ⟨g1, g2, g3⟩ := h
  obtain ⟨j1, j2, j3⟩ := hj
  have kn : ∀ i, i < b → K i ≠ k := by
    intro i hi z
    have := (g1 i hi).2.2
    rw [z, hn] at this
    exact absurd this.symm (Option.some_ne_none _)
  have e1 : ∀ i, i < j → (fun i => if i < j then K i else if i = j then k else K (i - 1)) i = K i := fun i hi => by
    dsimp only
    rw [if_pos hi]
  have e2 : (fun i => if i < j then K i else if i = j then k else K (i - 1)) j = k := by
    dsimp only
    rw [if_neg (by omega), if_pos rfl]
  have e3 : ∀ i, j ≤ i → (fun i => if i < j then K i else if i = j then k else K (i - 1)) (i + 1) = K i := fun i hi => by
    dsimp only
    rw [if_neg (by omega), if_neg (by omega)]
    rfl
  have cs : ∀ i, i < j ∨ i = j ∨ ∃ q, j ≤ q ∧ i = q + 1 := fun i => by
    rcases Nat.lt_trichotomy i j with z | z | z
    · exact Or.inl z
    · exact Or.inr (Or.inl z)
    · exact Or.inr (Or.inr ⟨i - 1, by omega, by omega⟩)
  refine ⟨fun i hi => ?_, fun i q hi hq => ?_, fun q hq => ?_⟩
  · rcases cs i with z | z | ⟨q, hq, rfl⟩
    · rw [e1 i z, (h1 i z).1, (h1 i z).2, dt_up_n m _ (kn i (by omega))]
      exact g1 i (by omega)
    · rw [z, e2, h2.1, h2.2, dt_up_s]
      exact ⟨rfl, hk, rfl⟩
    · rw [e3 q hq, (h3 q hq (by omega)).1, (h3 q hq (by omega)).2, dt_up_n m _ (kn q (by omega))]
      exact g1 q (by omega)
  · rcases cs i with z | z | ⟨r, hr, rfl⟩
    · rw [e1 i z]
      rcases cs q with y | y | ⟨s, hs, rfl⟩
      · rw [e1 q y]
        exact g2 i q hi (by omega)
      · rw [y, e2]
        exact j2 i z
      · rw [e3 s hs]
        exact g2 i s (by omega) (by omega)
    · rcases cs q with y | y | ⟨s, hs, rfl⟩
      · omega
      · omega
      · rw [z, e2, e3 s hs]
        have q1 := j3 s hs (by omega)
        have q2 := kn s (by omega)
        omega
    · rcases cs q with y | y | ⟨s, hs, rfl⟩
      · omega
      · omega
      · rw [e3 r hr, e3 s hs]
        exact g2 r s (by omega) (by omega)
  · by_cases z : q = k
    · exact ⟨j, by omega, by rw [e2, z]⟩
    · rw [dt_up_n m _ z] at hq
      obtain ⟨i, hi, hi'⟩ := g3 q hq
      rcases Nat.lt_or_ge i j with y | y
      · exact ⟨i, by omega, by rw [e1 i y, hi']⟩
      · exact ⟨i + 1, by omega, by rw [e3 i y, hi']⟩
/-- a key taken away -/
theorem dt_rp_del {a v a' v' : Nat → Int32} {b : Nat} {m : dt_M} {K : Nat → Nat} (h : dt_rp a v (b + 1) m K) {k j : Nat} (hjb : j < b + 1) (hjk : K j = k)
    (h1 : ∀ i, i < j → a' i = a i ∧ v' i = v i) (h3 : ∀ i, j ≤ i → i < b → a' i = a (i + 1) ∧ v' i = v (i + 1)) :
    dt_rp a' v' b (dt_up m k none) (fun i => if i < j then K i else K (i + 1)) := by
  obtain ⟨g1, g2, g3⟩ := h
  have kl : ∀ i, i < j → K i < k := fun i hi => by
    have := g2 i j hi hjb
    omega
  have kr : ∀ i, j < i → i < b + 1 → k < K i := fun i hi hi' => by
    have := g2 j i hi hi'
    omega
  have e1 : ∀ i, i < j → (fun i => if i < j then K i else K (i + 1)) i = K i := fun i hi => by
    dsimp only
    rw [if_pos hi]
  have e3 : ∀ i, j ≤ i → (fun i => if i < j then K i else K (i + 1)) i = K (i + 1) := fun i hi => by
    dsimp only
    rw [if_neg (by omega)]
  refine ⟨fun i hi => ?_, fun i q hi hq => ?_, fun q hq => ?_⟩
  · rcases Nat.lt_or_ge i j with z | z
    · have := kl i z
      rw [e1 i z, (h1 i z).1, (h1 i z).2, dt_up_n m _ (by omega)]
      exact g1 i (by omega)
    · have := kr (i + 1) (by omega) (by omega)
      rw [e3 i z, (h3 i z hi).1, (h3 i z hi).2, dt_up_n m _ (by omega)]
      exact g1 (i + 1) (by omega)
  · rcases Nat.lt_or_ge i j with z | z
    · rw [e1 i z]
      rcases Nat.lt_or_ge q j with y | y
      · rw [e1 q y]
        exact g2 i q hi (by omega)
      · rw [e3 q y]
        exact g2 i (q + 1) (by omega) (by omega)
    · rw [e3 i z, e3 q (by omega)]
      exact g2 (i + 1) (q + 1) (by omega) (by omega)
  · by_cases z : q = k
    · rw [z, dt_up_s] at hq
      exact absurd rfl hq
    · rw [dt_up_n m _ z] at hq
      obtain ⟨i, hi, hi'⟩ := g3 q hq
      rcases Nat.lt_trichotomy i j with y | y | y
      · exact ⟨i, by omega, by rw [e1 i y, hi']⟩
      · rw [y, hjk] at hi'
        exact absurd hi'.symm z
      · refine ⟨i - 1, by omega, ?_⟩
        rw [e3 (i - 1) (by omega), show i - 1 + 1 = i by omega, hi']
end
section
/-! notes: number, kind, key, value; chains of notes -/
abbrev dt_N : Type := Nat × Nat × Nat × Int32
def dt_ap (b : dt_M) : List dt_N → dt_M
  | [] => b
  | x :: t => if x.2.1 = 2 then dt_lo (dt_ap b t) x.2.2.1 else if x.2.1 = 0 then dt_up (dt_ap b t) x.2.2.1 (some x.2.2.2) else dt_up (dt_ap b t) x.2.2.1 none
def dt_dv : List dt_N → Option dt_N
  | [] => none
  | x :: t => if x.2.1 = 2 then some x else dt_dv t
def dt_ok (f e : Nat) : List dt_N → Prop
  | [] => True
  | x :: t => (x.2.1 = 2 ∧ t = [] ∧ x.2.2.1 = e) ∨ (x.2.1 < 2 ∧ f ≤ x.2.2.1 ∧ x.2.2.1 < e ∧ dt_ok f e t)
theorem dt_dv_ok {f e : Nat} {x : dt_N} : ∀ {L : List dt_N}, dt_ok f e L → dt_dv L = some x → x.2.1 = 2 ∧ x.2.2.1 = e ∧ x ∈ L
  | [], _, h => absurd h.symm (Option.some_ne_none x)
  | y :: t, h, hx => by
    by_cases z : y.2.1 = 2
    · rw [dt_dv, if_pos z] at hx
      have hx' := Option.some.inj hx
      subst hx'
      rcases h with q | q
      · exact ⟨q.1, q.2.2, List.mem_cons_self⟩
      · exact absurd q.1 (by omega)
    · rw [dt_dv, if_neg z] at hx
      rcases h with q | q
      · exact absurd q.1 z
      · have := dt_dv_ok q.2.2.2 hx
        exact ⟨this.1, this.2.1, List.mem_cons_of_mem _ this.2.2⟩
theorem dt_lo_n {m : dt_M} {e k : Nat} (h : e ≤ k) : dt_lo m e k = none := by
  unfold dt_lo
  rw [if_neg (by omega)]
theorem dt_lo_s {m : dt_M} {e k : Nat} (h : k < e) : dt_lo m e k = m k := by
  unfold dt_lo
  rw [if_pos h]
theorem dt_cnt_lo {m : dt_M} {e : Nat} : ∀ n, e ≤ n → dt_cnt (dt_lo m e) n = dt_cnt m e
  | 0, h => by
    have : e = 0 := by omega
    rw [this]
    rfl
  | n + 1, h => by
    by_cases z : e = n + 1
    · rw [z]
      exact dt_cnt_cg _ (fun q hq => dt_lo_s hq)
    · rw [dt_cnt_sn (dt_lo_n (by omega)), dt_cnt_lo n (by omega)]
theorem dt_ap_sz {f e : Nat} {b : dt_M} (he : e ≤ 4096) : ∀ {L : List dt_N}, dt_ok f e L → ((dt_dv L = none ∧ dt_cnt b 4096 ≤ 8) ∨ (dt_dv L ≠ none ∧ dt_cnt b e ≤ 6)) → dt_cnt (dt_ap b L) 4096 ≤ 8 + L.length
  | [], _, h => by
    rcases h with h | h
    · exact h.2
    · exact absurd rfl h.1
  | x :: t, h, hb => by
    rcases h with q | q
    · rw [dt_ap, if_pos q.1, q.2.1, q.2.2, dt_ap, dt_cnt_lo 4096 he]
      rcases hb with h | h
      · rw [dt_dv, if_pos q.1] at h
        exact absurd h.1 (Option.some_ne_none _)
      · show _ ≤ 8 + 1
        omega
    · have z : ¬ x.2.1 = 2 := by omega
      rw [dt_dv, if_neg z] at hb
      have ih := dt_ap_sz (b := b) he q.2.2.2 hb
      rw [dt_ap, if_neg z]
      show _ ≤ 8 + (t.length + 1)
      by_cases y : x.2.1 = 0
      · rw [if_pos y]
        have := dt_cnt_le1 (M := dt_ap b t) (k := x.2.2.1) (n := 4096) (some x.2.2.2)
        omega
      · rw [if_neg y]
        have := dt_cnt_le1 (M := dt_ap b t) (k := x.2.2.1) (n := 4096) none
        omega
theorem dt_ap_in {f e : Nat} {b : dt_M} (hf : ∀ k, b k ≠ none → f ≤ k) : ∀ {L : List dt_N}, dt_ok f e L → (dt_dv L = none → ∀ k, b k ≠ none → k < e) → ∀ k, dt_ap b L k ≠ none → f ≤ k ∧ k < e
  | [], _, h, k, hk => ⟨hf k hk, h rfl k hk⟩
  | x :: t, h, hb, k, hk => by
    rcases h with q | q
    · rw [dt_ap, if_pos q.1, q.2.1, q.2.2, dt_ap] at hk
      by_cases z : k < e
      · rw [dt_lo_s z] at hk
        exact ⟨hf k hk, z⟩
      · rw [dt_lo_n (by omega)] at hk
        exact absurd rfl hk
    · have z : ¬ x.2.1 = 2 := by omega
      rw [dt_dv, if_neg z] at hb
      rw [dt_ap, if_neg z] at hk
      by_cases y : k = x.2.2.1
      · rw [y]
        exact ⟨q.2.1, q.2.2.1⟩
      · refine dt_ap_in hf q.2.2.2 hb k ?_
        by_cases w : x.2.1 = 0
        · rw [if_pos w, dt_up_n _ _ y] at hk
          exact hk
        · rw [if_neg w, dt_up_n _ _ y] at hk
          exact hk
/-! the heap of notes: each has a label (whose chain, how many are behind it) -/
abbrev dt_L : Type := Nat → Nat × Nat
def dt_lu (lab : dt_L) (n : Nat) (x : Nat × Nat) : dt_L := fun j => if j = n then x else lab j
theorem dt_lu_s (lab : dt_L) (n : Nat) (x : Nat × Nat) : dt_lu lab n x n = x := by
  unfold dt_lu
  rw [if_pos rfl]
theorem dt_lu_n (lab : dt_L) {n j : Nat} (x : Nat × Nat) (h : j ≠ n) : dt_lu lab n x j = lab j := by
  unfold dt_lu
  rw [if_neg h]
def dt_sg (lab : dt_L) (a8 a9 a10 a11 : Nat → Int32) (p : Nat) : List dt_N → Int32 → Prop
  | [], h => h = -1
  | x :: t, h => h = nI x.1 ∧ x.1 < 160 ∧ lab x.1 = (p, t.length) ∧ (a8 x.1 = nI x.2.1 ∧ x.2.1 < 3 ∧ a9 x.1 = nI x.2.2.1 ∧ x.2.2.1 < 4096 ∧ a10 x.1 = x.2.2.2) ∧ dt_sg lab a8 a9 a10 a11 p t (a11 x.1)
def dt_sf (lab : dt_L) (a11 : Nat → Int32) : Nat → Int32 → Prop
  | 0, _ => True
  | m + 1, h => ∃ n, h = nI n ∧ n < 160 ∧ lab n = (25, m) ∧ dt_sf lab a11 m (a11 n)
theorem dt_sg_fr {lab lab' : dt_L} {a8 a9 a10 a11 a8' a9' a10' a11' : Nat → Int32} {p : Nat} : ∀ {L : List dt_N} {h : Int32}, (∀ n j, lab n = (p, j) → j < L.length → lab' n = lab n ∧ a8' n = a8 n ∧ a9' n = a9 n ∧ a10' n = a10 n ∧ a11' n = a11 n) → dt_sg lab a8 a9 a10 a11 p L h → dt_sg lab' a8' a9' a10' a11' p L h
  | [], _, _, h => h
  | x :: t, h, k, s => by
    obtain ⟨s1, s2, s3, s4, s5⟩ := s
    obtain ⟨k1, k2, k3, k4, k5⟩ := k x.1 t.length s3 (Nat.lt_succ_self _)
    refine ⟨s1, s2, by rw [k1]; exact s3, by rw [k2, k3, k4]; exact s4, ?_⟩
    rw [k5]
    exact dt_sg_fr (fun n j hn hj => k n j hn (Nat.lt_succ_of_lt hj)) s5
theorem dt_sf_fr {lab lab' : dt_L} {a11 a11' : Nat → Int32} : ∀ {m : Nat} {h : Int32}, (∀ n j, lab n = (25, j) → j < m → lab' n = lab n ∧ a11' n = a11 n) → dt_sf lab a11 m h → dt_sf lab' a11' m h
  | 0, _, _, _ => trivial
  | m + 1, h, k, s => by
    obtain ⟨n, s1, s2, s3, s4⟩ := s
    obtain ⟨k1, k2⟩ := k n m s3 (Nat.lt_succ_self _)
    refine ⟨n, s1, s2, by rw [k1]; exact s3, ?_⟩
    rw [k2]
    exact dt_sf_fr (fun n j hn hj => k n j hn (Nat.lt_succ_of_lt hj)) s4
theorem dt_sg_mem {lab : dt_L} {a8 a9 a10 a11 : Nat → Int32} {p : Nat} {x : dt_N} : ∀ {L : List dt_N} {h : Int32}, dt_sg lab a8 a9 a10 a11 p L h → x ∈ L → x.1 < 160 ∧ a8 x.1 = nI x.2.1 ∧ x.2.1 < 3 ∧ a9 x.1 = nI x.2.2.1 ∧ x.2.2.1 < 4096 ∧ a10 x.1 = x.2.2.2
  | [], _, _, h => absurd h List.not_mem_nil
  | y :: t, h, s, hx => by
    obtain ⟨s1, s2, s3, s4, s5⟩ := s
    rcases List.mem_cons.mp hx with z | z
    · rw [z]
      exact ⟨s2, s4⟩
    · exact dt_sg_mem s5 z
/-- the free list loses its first note, which is put in front of chain p -/
theorem dt_new {lab : dt_L} {a8 a9 a10 a11 : Nat → Int32} {m n p κ k : Nat} {v : Int32} {h : Int32} {L : List dt_N} (hp : p < 25) (hn : n < 160) (hl : lab n = (25, m)) (hf : dt_sf lab a11 m (a11 n)) (hs : dt_sg lab a8 a9 a10 a11 p L h) (hk : κ < 3) (hk' : k < 4096) :
    dt_sf (dt_lu lab n (p, L.length)) (upd a11 n h) m (a11 n) ∧ dt_sg (dt_lu lab n (p, L.length)) (upd a8 n (nI κ)) (upd a9 n (nI k)) (upd a10 n v) (upd a11 n h) p ((n, κ, k, v) :: L) (nI n) ∧
    (∀ q L' h', q < 25 → q ≠ p → dt_sg lab a8 a9 a10 a11 q L' h' → dt_sg (dt_lu lab n (p, L.length)) (upd a8 n (nI κ)) (upd a9 n (nI k)) (upd a10 n v) (upd a11 n h) q L' h') := by
  have fr : ∀ j, j ≠ n → dt_lu lab n (p, L.length) j = lab j ∧ upd a8 n (nI κ) j = a8 j ∧ upd a9 n (nI k) j = a9 j ∧ upd a10 n v j = a10 j ∧ upd a11 n h j = a11 j :=
    fun j hj => ⟨dt_lu_n lab _ hj, pk_un hj, pk_un hj, pk_un hj, pk_un hj⟩
  have ne : ∀ q j i, q < 25 → lab j = (q, i) → j ≠ n := by
    intro q j i hq hj z
    rw [z, hl] at hj
    have := congrArg Prod.fst hj
    dsimp only at this
    omega
  refine ⟨dt_sf_fr (fun j i hj hi => ?_) hf, ⟨rfl, hn, dt_lu_s _ _ _, ⟨pk_us, hk, pk_us, hk', pk_us⟩, ?_⟩, fun q L' h' hq _ hs' => dt_sg_fr (fun j i hj _ => fr j (ne q j i hq hj)) hs'⟩
  · have : j ≠ n := by
      intro z
      rw [z, hl] at hj
      have := congrArg Prod.snd hj
      dsimp only at this
      omega
    exact ⟨(fr j this).1, (fr j this).2.2.2.2⟩
  · rw [pk_us]
    exact dt_sg_fr (fun j i hj _ => fr j (ne p j i hp hj)) hs
/-! the whole -/
def dt_hp (lab : dt_L) (fl : Nat) (fn ic : Int32) (a2 a8 a9 a10 a11 : Nat → Int32) (X : List dt_N) (C : Nat → List dt_N) : Prop :=
  dt_sf lab a11 fl fn ∧ dt_sg lab a8 a9 a10 a11 24 X ic ∧ (∀ p, p < 24 → dt_sg lab a8 a9 a10 a11 p (C p) (a2 p)) ∧ fl + X.length + dt_sm (fun p => (C p).length) 24 = 160
/-- one page: from f to e, its notes L, its base b -/
def dt_p1 (f e : Nat) (M : dt_M) (L : List dt_N) (b : dt_M) (ll p : Nat) (x3 x4 x7 : Int32) (a5 a6 : Nat → Int32) : Prop :=
  f < e ∧ e ≤ 4096 ∧ x3 = nI L.length ∧ L.length ≤ ll ∧ dt_ok f e L ∧ (∀ k, f ≤ k → k < e → M k = dt_ap b L k) ∧
  (∃ n K, x4 = nI n ∧ n ≤ 12 ∧ dt_rp (fun i => a5 (12 * p + i)) (fun i => a6 (12 * p + i)) n b K) ∧ (∀ k, b k ≠ none → f ≤ k) ∧
  ((dt_dv L = none ∧ x7 = nI e ∧ (∀ k, b k ≠ none → k < e) ∧ dt_cnt b 4096 ≤ 8) ∨ (dt_dv L ≠ none ∧ dt_cnt b e ≤ 6))
def dt_pg (F E : Nat → Nat) (U : Nat → Bool) (M : dt_M) (C : Nat → List dt_N) (B : Nat → dt_M) (w : Nat) (a1 a3 a4 a5 a6 a7 : Nat → Int32) : Prop :=
  (∀ p, U p = true → p < 24) ∧ (∀ p, p < 24 → (a1 p = 0 ↔ U p = false)) ∧ (∀ p, U p = false → C p = []) ∧
  (∀ p, U p = true → dt_p1 (F p) (E p) M (C p) (B p) (if p = w then 5 else 4) p (a3 p) (a4 p) (a7 p) a5 a6)
def dt_cv (F E : Nat → Nat) (U : Nat → Bool) : Prop :=
  (∀ k, k < 4096 → ∃ p, U p = true ∧ F p ≤ k ∧ k < E p) ∧ (∀ p q k, U p = true → U q = true → F p ≤ k → k < E p → F q ≤ k → k < E q → p = q)
/-- different keys -/
def dt_dk : List dt_N → Prop
  | [] => True
  | x :: t => (∀ y, y ∈ t → y.2.2.1 ≠ x.2.2.1) ∧ dt_dk t
def dt_ix (F : Nat → Nat) (U kn : Nat → Bool) (c : Nat) (ip : Nat → Nat) (a12 a13 : Nat → Int32) (X : List dt_N) : Prop :=
  1 ≤ c ∧ (∀ i, i < c → kn (ip i) = true ∧ a13 i = nI (ip i) ∧ a12 i = nI (F (ip i))) ∧ (∀ i j, i < j → j < c → F (ip i) < F (ip j)) ∧ F (ip 0) = 0 ∧
  (∀ x, x ∈ X → ∃ q, kn q = true ∧ x.2.2.1 = F q ∧ x.2.2.2 = nI q) ∧ (∀ q, kn q = true → U q = true ∧ ((∃ i, i < c ∧ ip i = q) ∨ ∃ x, x ∈ X ∧ x.2.2.2 = nI q)) ∧
  c + X.length = dt_sm (fun q => (kn q).toNat) 24 ∧ dt_dk X ∧ (∀ x, x ∈ X → ∀ i, i < c → x.2.2.1 ≠ F (ip i))
def dt_dn (F E : Nat → Nat) (U : Nat → Bool) (C : Nat → List dt_N) (kn : Nat → Bool) : Prop :=
  (∀ q x, U q = true → dt_dv (C q) = some x → ∃ p, U p = true ∧ x.2.2.2 = nI p ∧ F p = E q) ∧
  (∀ p, U p = true → kn p = true ∨ ∃ q x, U q = true ∧ dt_dv (C q) = some x ∧ x.2.2.2 = nI p ∧ F p = E q)
def dt_co (fn ic il cn : Int32) (a1 a2 a3 a4 a5 a6 a7 a8 a9 a10 a11 a12 a13 : Nat → Int32) (F E : Nat → Nat) (U : Nat → Bool) (M : dt_M) (C : Nat → List dt_N) (B : Nat → dt_M) (w : Nat) (kn : Nat → Bool) (X : List dt_N) (lab : dt_L) (fl c : Nat) (ip : Nat → Nat) : Prop :=
  dt_hp lab fl fn ic a2 a8 a9 a10 a11 X C ∧ dt_pg F E U M C B w a1 a3 a4 a5 a6 a7 ∧ dt_cv F E U ∧ dt_ix F U kn c ip a12 a13 X ∧ dt_dn F E U C kn ∧ cn = nI c ∧ il = nI X.length ∧ (∀ k, 4096 ≤ k → M k = none)
def dt_c1 (fn ic il cn : Int32) (a1 a2 a3 a4 a5 a6 a7 a8 a9 a10 a11 a12 a13 : Nat → Int32) (F E : Nat → Nat) (U : Nat → Bool) (M : dt_M) (C : Nat → List dt_N) (B : Nat → dt_M) (w : Nat) (kn : Nat → Bool) : Prop :=
  ∃ X lab fl c ip, dt_co fn ic il cn a1 a2 a3 a4 a5 a6 a7 a8 a9 a10 a11 a12 a13 F E U M C B w kn X lab fl c ip ∧ X.length ≤ 4
def dt_Q (u : St2) (F E : Nat → Nat) (U : Nat → Bool) (M : dt_M) (w : Nat) (kn : Nat → Bool) : Prop := match u with
  | (e, fn, ic, il, cn, g, ge, st, a1, a2, a3, a4, a5, a6, a7, a8, a9, a10, a11, a12, a13, a14, a15, a16, a17, a18, a19, a20, a21) => ∃ C B, dt_c1 fn ic il cn a1 a2 a3 a4 a5 a6 a7 a8 a9 a10 a11 a12 a13 F E U M C B w kn
/-! the pages' order -/
theorem dt_nx {F E : Nat → Nat} {U : Nat → Bool} (h : dt_cv F E U) (hl : ∀ p, U p = true → F p < E p) {p : Nat} (hp : U p = true) (he : E p < 4096) : ∃ q, U q = true ∧ F q = E p := by
  obtain ⟨q, hq, h1, h2⟩ := h.1 (E p) he
  refine ⟨q, hq, ?_⟩
  rcases Nat.lt_or_ge (F q) (E p) with z | z
  · have l1 := hl p hp
    have : p = q := h.2 p q (E p - 1) hp hq (by omega) (by omega) (by omega) (by omega)
    rw [this] at h2
    omega
  · omega
theorem dt_Fi {F E : Nat → Nat} {U : Nat → Bool} (h : dt_cv F E U) (hl : ∀ p, U p = true → F p < E p) {p q : Nat} (hp : U p = true) (hq : U q = true) (e : F p = F q) : p = q := by
  have l1 := hl p hp
  have l2 := hl q hq
  exact h.2 p q (F p) hp hq (by omega) (by omega) (by omega) (by omega)
theorem dt_Ei {F E : Nat → Nat} {U : Nat → Bool} (h : dt_cv F E U) (hl : ∀ p, U p = true → F p < E p) {p q : Nat} (hp : U p = true) (hq : U q = true) (e : E p = E q) : p = q := by
  have l1 := hl p hp
  have l2 := hl q hq
  exact h.2 p q (E p - 1) hp hq (by omega) (by omega) (by omega) (by omega)
end
section
section
variable {e fn ic il cn g ge st : Int32} {a1 a2 a3 a4 a5 a6 a7 a8 a9 a10 a11 a12 a13 a14 a15 a16 a17 a18 a19 a20 a21 : Nat → Int32}
/-! the index's base: the last key that isn't greater -/
theorem dt_pi12 {post : Int32 → Prop} {key c : Nat} {q : Nat → Nat} (hk : key < 4096) (hc : c ≤ 24) (h : ∀ i, i < c → a12 i = nI (q i) ∧ q i < 4096)
    (hs : ∀ i j, i < j → j < c → q i < q j) (P : ∀ i, i < c → q i ≤ key → (∀ j, i < j → j < c → key < q j) → post (nI i)) :
    ∀ f lo hi s, lo ≤ hi → hi < c → q lo ≤ key → (∀ j, hi < j → j < c → key < q j) → hi - lo < 2 ^ f → s + f = 5 → wX_placeInIndex_12 post (nI key) e fn ic il cn g ge st a1 a2 a3 a4 a5 a6 a7 a8 a9 a10 a11 a12 a13 a14 a15 a16 a17 a18 a19 a20 a21 (f + 1) (nI lo) (nI hi) (nI s)
  | 0, lo, hi, s, h1, h2, h3, h4, h5, h6 => by
    have e : lo = hi := by omega
    have p : post (nI lo) := P lo (by omega) h3 (fun j hj hj' => h4 j (by omega) hj')
    exact pk_le 6 s (fun _ => p) (fun _ => pk_le hi lo (fun _ => p) (fun z => absurd z (by omega)))
  | f + 1, lo, hi, s, h1, h2, h3, h4, h5, h6 => by
    have e2 : 2 ^ (f + 1) = 2 * 2 ^ f := by rw [Nat.pow_succ, Nat.mul_comm]
    rw [e2] at h5
    refine pk_le 6 s (fun z => absurd z (by omega)) (fun _ => pk_le hi lo (fun z => P lo (by omega) h3 (fun j hj hj' => h4 j (by omega) hj')) (fun z => ⟨by decide, nm_r (e' := nI ((lo + hi + 1) / 2)) ?_ ⟨vp_in_nI (by omega) (by decide), ?_⟩⟩))
    · rw [nI_add, nI_1]
      exact pk_div (by omega) (by decide) (by decide)
    · have hm := h ((lo + hi + 1) / 2) (by omega)
      rw [nI_clamp (by omega)]
      refine pk_lt key (q ((lo + hi + 1) / 2)) (fun z => ?_) (fun z => ?_) (hy := hm.1)
      · refine nm_r (e' := nI ((lo + hi + 1) / 2 - 1)) (pk_sub (b := 1) (by omega)) (nm_r (nI_1 s) (dt_pi12 hk hc h hs P f lo ((lo + hi + 1) / 2 - 1) (s + 1) (by omega) (by omega) h3 (fun j hj hj' => ?_) (by omega) (by omega)))
        by_cases y : j = (lo + hi + 1) / 2
        · rw [y]
          exact z
        · have := hs ((lo + hi + 1) / 2) j (by omega) hj'
          omega
      · exact nm_r (nI_1 s) (dt_pi12 hk hc h hs P f ((lo + hi + 1) / 2) hi (s + 1) (by omega) (by omega) z h4 (by omega) (by omega))
theorem dt_pi {post : Int32 → Prop} {key c : Nat} {q : Nat → Nat} (hk : key < 4096) (h0 : 0 < c) (hc : c ≤ 24) (hcn : cn = nI c) (h : ∀ i, i < c → a12 i = nI (q i) ∧ q i < 4096)
    (hs : ∀ i j, i < j → j < c → q i < q j) (hq : q 0 = 0) (P : ∀ i, i < c → q i ≤ key → (∀ j, i < j → j < c → key < q j) → post (nI i)) : wpX_placeInIndex post (e, fn, ic, il, cn, g, ge, st, a1, a2, a3, a4, a5, a6, a7, a8, a9, a10, a11, a12, a13, a14, a15, a16, a17, a18, a19, a20, a21) (nI key) := by
  subst hcn
  unfold wpX_placeInIndex
  dsimp only
  refine nm_r (e' := nI (c - 1)) (pk_sub (b := 1) (by omega)) ⟨6, ?_⟩
  exact dt_pi12 hk hc h hs P 5 0 (c - 1) 0 (by omega) (by omega) (by omega) (fun j hj hj' => absurd hj' (by omega)) (by omega) (by omega)
/-! chains: where a page was divided -/
theorem dt_dv7 {post : Int32 → Prop} {lab : dt_L} {p : Nat} : ∀ (L : List dt_N) (h : Int32) (f : Nat), dt_sg lab a8 a9 a10 a11 p L h → L.length < f → (dt_dv L = none → post (-1)) → (∀ x, dt_dv L = some x → post (nI x.1)) → wX_divisionOf_7 post e fn ic il cn g ge st a1 a2 a3 a4 a5 a6 a7 a8 a9 a10 a11 a12 a13 a14 a15 a16 a17 a18 a19 a20 a21 f h
  | [], h, f, hs, hf, H1, _ => by
    obtain ⟨f, rfl⟩ : ∃ f', f = f' + 1 := ⟨f - 1, by simp at hf; omega⟩
    have hs' : h = -1 := hs
    subst hs'
    exact br_t (by decide) (H1 rfl)
  | x :: t, h, f, hs, hf, H1, H2 => by
    obtain ⟨f, rfl⟩ : ∃ f', f = f' + 1 := ⟨f - 1, by simp at hf; omega⟩
    obtain ⟨s1, s2, s3, ⟨s4, s5, s6, s7, s8⟩, s9⟩ := hs
    subst s1
    refine br_f (nI_pos (by omega)) ⟨vp_in_nI s2 (by decide), ?_⟩
    rw [nI_clamp (by omega)]
    refine pk_eq x.2.1 2 (fun z => H2 x (by rw [dt_dv, if_pos z])) (fun z => ⟨vp_in_nI s2 (by decide), nm_e ?_⟩) (hx := s4)
    rw [dt_dv, if_neg z] at H1
    refine dt_dv7 t _ f s9 (by simp at hf; omega) H1 (fun y hy => H2 y (by rw [dt_dv, if_neg z]; exact hy))
theorem dt_div {post : Int32 → Prop} {lab : dt_L} {p : Nat} {L : List dt_N} (hp : p < 24) (h : dt_sg lab a8 a9 a10 a11 p L (a2 p)) (H1 : dt_dv L = none → post (-1)) (H2 : ∀ x, dt_dv L = some x → post (nI x.1)) : wpX_divisionOf post (e, fn, ic, il, cn, g, ge, st, a1, a2, a3, a4, a5, a6, a7, a8, a9, a10, a11, a12, a13, a14, a15, a16, a17, a18, a19, a20, a21) (nI p) := by
  unfold wpX_divisionOf
  dsimp only
  refine ⟨vp_in_nI hp (by decide), nm_r (e' := a2 p) (by rw [nI_clamp (by omega)]) ⟨L.length + 1, dt_dv7 L _ _ h (by omega) H1 H2⟩⟩
/-! a key in a page's base -/
theorem dt_pb71 {post : Int32 → Prop} {p key n j : Nat} {b : dt_M} {K : Nat → Nat} (hp : p < 24) (hk : key < 4096) (h4 : a4 p = nI n) (hn : n ≤ 12) (h : dt_rp (fun i => a5 (12 * p + i)) (fun i => a6 (12 * p + i)) n b K)
    (H1 : b key = none → post (-1)) (H2 : ∀ i, i < n → b key = some (a6 (12 * p + i)) → post (nI (12 * p + i))) (hj : dt_sp K n key j) : wX_placeInBase_71 post (nI p) (nI key) (nI (12 * p + j)) e fn ic il cn g ge st a1 a2 a3 a4 a5 a6 a7 a8 a9 a10 a11 a12 a13 a14 a15 a16 a17 a18 a19 a20 a21 := by
  have e12 : (12 : Int32) * nI p = nI (12 * p) := pk_mul 12 p
  have hj1 := hj.1
  unfold wX_placeInBase_71
  rw [nI_clamp (show p < 2 ^ 31 by omega), h4, e12, nI_add, nI_clamp (show 12 * p + j < 2 ^ 31 by omega)]
  refine ⟨vp_in_nI hp (by decide), pk_le (12 * p + n) (12 * p + j) (fun z => H1 ?_) (fun z => ⟨vp_in_nI (by omega) (by decide), ?_⟩)⟩
  · cases e : b key with
    | none => rfl
    | some v => exact absurd ((dt_rp_is h hj).mp (by rw [e]; exact Option.some_ne_none v)).1 (by omega)
  · have h1 := h.1 j (by omega)
    refine pk_eq (K j) key (fun y => ?_) (fun y => H1 ?_) (hx := h1.1) (ha := by omega)
    · refine H2 j (by omega) ?_
      rw [← y]
      exact h1.2.2
    · cases e : b key with
      | none => rfl
      | some v => exact absurd ((dt_rp_is h hj).mp (by rw [e]; exact Option.some_ne_none v)).2 y
theorem dt_pb21 {post : Int32 → Prop} {p key n : Nat} {b : dt_M} {K : Nat → Nat} (hp : p < 24) (hk : key < 4096) (h4 : a4 p = nI n) (hn : n ≤ 12) (h : dt_rp (fun i => a5 (12 * p + i)) (fun i => a6 (12 * p + i)) n b K)
    (H1 : b key = none → post (-1)) (H2 : ∀ i, i < n → b key = some (a6 (12 * p + i)) → post (nI (12 * p + i))) :
    ∀ f i j s, i ≤ j → j ≤ n → (∀ q, q < i → K q < key) → (∀ q, j ≤ q → q < n → key ≤ K q) → j - i < 2 ^ f → s + f = 4 → wX_placeInBase_21 post (nI p) (nI key) e fn ic il cn g ge st a1 a2 a3 a4 a5 a6 a7 a8 a9 a10 a11 a12 a13 a14 a15 a16 a17 a18 a19 a20 a21 (f + 1) (nI (12 * p + i)) (nI (12 * p + j)) (nI s)
  | 0, i, j, s, h1, h2, h3, h5, h6, h7 => by
    have e : i = j := by omega
    subst e
    have w : wX_placeInBase_71 post (nI p) (nI key) (nI (12 * p + i)) e fn ic il cn g ge st a1 a2 a3 a4 a5 a6 a7 a8 a9 a10 a11 a12 a13 a14 a15 a16 a17 a18 a19 a20 a21 := dt_pb71 hp hk h4 hn h H1 H2 (j := i) ⟨h2, h3, h5⟩
    exact pk_le 6 s (fun _ => w) (fun _ => pk_le (12 * p + i) (12 * p + i) (fun _ => w) (fun z => absurd z (by omega)))
  | f + 1, i, j, s, h1, h2, h3, h5, h6, h7 => by
    have e2 : 2 ^ (f + 1) = 2 * 2 ^ f := by rw [Nat.pow_succ, Nat.mul_comm]
    rw [e2] at h6
    refine pk_le 6 s (fun z => absurd z (by omega)) (fun _ => pk_le (12 * p + j) (12 * p + i) (fun z => ?_) (fun z => ⟨by decide, nm_r (e' := nI (12 * p + (i + j) / 2)) ?_ ⟨vp_in_nI (by omega) (by decide), ?_⟩⟩))
    · have e : i = j := by omega
      subst e
      exact dt_pb71 hp hk h4 hn h H1 H2 ⟨h2, h3, h5⟩
    · rw [nI_add]
      rw [show 12 * p + (i + j) / 2 = (12 * p + i + (12 * p + j)) / 2 by omega]
      exact pk_div (by omega) (by decide) (by decide)
    · have hm := h.1 ((i + j) / 2) (by omega)
      rw [nI_clamp (by omega)]
      refine pk_le key (K ((i + j) / 2)) (fun z => ?_) (fun z => ?_) (hy := hm.1) (hb := by omega)
      · refine nm_r (nI_1 s) (dt_pb21 hp hk h4 hn h H1 H2 f i ((i + j) / 2) (s + 1) (by omega) (by omega) h3 (fun q hq hq' => ?_) (by omega) (by omega))
        by_cases y : q = (i + j) / 2
        · rw [y]
          exact z
        · have := h.2.1 ((i + j) / 2) q (by omega) hq'
          omega
      · refine nm_r (e' := nI (12 * p + ((i + j) / 2 + 1))) (nI_1 _) (nm_r (nI_1 s) (dt_pb21 hp hk h4 hn h H1 H2 f ((i + j) / 2 + 1) j (s + 1) (by omega) (by omega) (fun q hq => ?_) h5 (by omega) (by omega)))
        by_cases y : q = (i + j) / 2
        · rw [y]
          exact z
        · have := h.2.1 q ((i + j) / 2) (by omega) (by omega)
          omega
theorem dt_pb {post : Int32 → Prop} {p key n : Nat} {b : dt_M} {K : Nat → Nat} (hp : p < 24) (hk : key < 4096) (h4 : a4 p = nI n) (hn : n ≤ 12) (h : dt_rp (fun i => a5 (12 * p + i)) (fun i => a6 (12 * p + i)) n b K)
    (H1 : b key = none → post (-1)) (H2 : ∀ i, i < n → b key = some (a6 (12 * p + i)) → post (nI (12 * p + i))) : wpX_placeInBase post (e, fn, ic, il, cn, g, ge, st, a1, a2, a3, a4, a5, a6, a7, a8, a9, a10, a11, a12, a13, a14, a15, a16, a17, a18, a19, a20, a21) (nI p) (nI key) := by
  have e12 : (12 : Int32) * nI p = nI (12 * p) := pk_mul 12 p
  unfold wpX_placeInBase
  dsimp only
  refine nm_r (e' := nI (12 * p + 0)) e12 ⟨vp_in_nI hp (by decide), nm_r (e' := nI (12 * p + n)) ?_ ⟨5, ?_⟩⟩
  · rw [nI_clamp (show p < 2 ^ 31 by omega), h4, e12, nI_add]
  · exact dt_pb21 hp hk h4 hn h H1 H2 4 0 n 0 (by omega) (by omega) (fun q hq => absurd hq (by omega)) (fun q hq hq' => absurd hq' (by omega)) (by omega) (by omega)
/-! a key in a page -/
theorem dt_ii7 {post : Int32 → Prop} {lab : dt_L} {p key n f' e' : Nat} {b : dt_M} {K : Nat → Nat} (hp : p < 24) (hk : key < 4096) (he : key < e') (h4 : a4 p = nI n) (hn : n ≤ 12) (hr : dt_rp (fun i => a5 (12 * p + i)) (fun i => a6 (12 * p + i)) n b K) :
    ∀ (L : List dt_N) (h : Int32) (f : Nat), dt_sg lab a8 a9 a10 a11 p L h → dt_ok f' e' L → L.length < f → (dt_ap b L key = none → post 0) → (dt_ap b L key ≠ none → post 1) → wX_isIn_7 post (nI p) (nI key) e fn ic il cn g ge st a1 a2 a3 a4 a5 a6 a7 a8 a9 a10 a11 a12 a13 a14 a15 a16 a17 a18 a19 a20 a21 f h
  | [], h, f, hs, ho, hf, H1, H2 => by
    obtain ⟨f, rfl⟩ : ∃ f', f = f' + 1 := ⟨f - 1, by simp at hf; omega⟩
    have hs' : h = -1 := hs
    subst hs'
    refine br_t (by decide) (dt_pb hp hk h4 hn hr (fun z => br_t (by decide) (H1 z)) (fun i hi hb => br_f (nI_pos (by omega)) (H2 ?_)))
    show b key ≠ none
    rw [hb]
    exact Option.some_ne_none _
  | x :: t, h, f, hs, ho, hf, H1, H2 => by
    obtain ⟨f, rfl⟩ : ∃ f', f = f' + 1 := ⟨f - 1, by simp at hf; omega⟩
    obtain ⟨s1, s2, s3, ⟨s4, s5, s6, s7, s8⟩, s9⟩ := hs
    subst s1
    refine br_f (nI_pos (by omega)) ⟨vp_in_nI s2 (by decide), ?_⟩
    rw [nI_clamp (by omega)]
    rw [dt_ap] at H1 H2
    rcases ho with q | q
    · refine br_t (by rw [s4, q.1]; rfl) ⟨vp_in_nI s2 (by decide), nm_e ?_⟩
      rw [if_pos q.1, q.2.2, dt_lo_s he] at H1 H2
      obtain ⟨q1, q2, q3⟩ := q
      subst q2
      exact dt_ii7 (f' := f') hp hk he h4 hn hr [] _ f s9 trivial (by simp at hf; simp; omega) H1 H2
    · have z2 : ¬ x.2.1 = 2 := by omega
      rw [if_neg z2] at H1 H2
      refine pk_eq x.2.1 2 (fun z => absurd z z2) (fun _ => ⟨vp_in_nI s2 (by decide), ?_⟩) (hx := s4)
      refine pk_eq x.2.2.1 key (fun z => ⟨vp_in_nI s2 (by decide), ?_⟩) (fun z => ⟨vp_in_nI s2 (by decide), nm_e ?_⟩) (hx := s6)
      · refine pk_eq x.2.1 0 (fun y => ?_) (fun y => ?_) (hx := s4)
        · rw [if_pos y, z, dt_up_s] at H2
          exact H2 (Option.some_ne_none _)
        · rw [if_neg y, z, dt_up_s] at H1
          exact H1 rfl
      · have ek : (if x.2.1 = 0 then dt_up (dt_ap b t) x.2.2.1 (some x.2.2.2) else dt_up (dt_ap b t) x.2.2.1 none) key = dt_ap b t key := by
          by_cases y : x.2.1 = 0
          · rw [if_pos y, dt_up_n _ _ (fun w => z w.symm)]
          · rw [if_neg y, dt_up_n _ _ (fun w => z w.symm)]
        rw [ek] at H1 H2
        exact dt_ii7 hp hk he h4 hn hr t _ f s9 q.2.2.2 (by simp at hf; omega) H1 H2
theorem dt_ii {post : Int32 → Prop} {lab : dt_L} {p key n f' e' : Nat} {b : dt_M} {K : Nat → Nat} {L : List dt_N} (hp : p < 24) (hk : key < 4096) (he : key < e') (h4 : a4 p = nI n) (hn : n ≤ 12) (hr : dt_rp (fun i => a5 (12 * p + i)) (fun i => a6 (12 * p + i)) n b K)
    (hs : dt_sg lab a8 a9 a10 a11 p L (a2 p)) (ho : dt_ok f' e' L) (H1 : dt_ap b L key = none → post 0) (H2 : dt_ap b L key ≠ none → post 1) : wpX_isIn post (e, fn, ic, il, cn, g, ge, st, a1, a2, a3, a4, a5, a6, a7, a8, a9, a10, a11, a12, a13, a14, a15, a16, a17, a18, a19, a20, a21) (nI p) (nI key) := by
  unfold wpX_isIn
  dsimp only
  refine ⟨vp_in_nI hp (by decide), nm_r (e' := a2 p) (by rw [nI_clamp (by omega)]) ⟨L.length + 1, dt_ii7 hp hk he h4 hn hr L _ _ hs ho (by omega) H1 H2⟩⟩
/-! a key's value in a page -/
theorem dt_vi7 {post : Int32 → Prop} {lab : dt_L} {p key n f' e' : Nat} {b : dt_M} {K : Nat → Nat} {v : Int32} (hp : p < 24) (hk : key < 4096) (he : key < e') (h4 : a4 p = nI n) (hn : n ≤ 12) (hr : dt_rp (fun i => a5 (12 * p + i)) (fun i => a6 (12 * p + i)) n b K) (H : post v) :
    ∀ (L : List dt_N) (h : Int32) (f : Nat), dt_sg lab a8 a9 a10 a11 p L h → dt_ok f' e' L → L.length < f → dt_ap b L key = some v → wX_valueIn_7 post (nI p) (nI key) e fn ic il cn g ge st a1 a2 a3 a4 a5 a6 a7 a8 a9 a10 a11 a12 a13 a14 a15 a16 a17 a18 a19 a20 a21 f h
  | [], h, f, hs, ho, hf, H1 => by
    obtain ⟨f, rfl⟩ : ∃ f', f = f' + 1 := ⟨f - 1, by simp at hf; omega⟩
    have hs' : h = -1 := hs
    subst hs'
    have H1' : b key = some v := H1
    refine br_t (by decide) (dt_pb hp hk h4 hn hr (fun z => absurd (z.symm.trans H1') (Option.some_ne_none v).symm) (fun i hi hb => br_t (nI_pos' (by omega)) ⟨vp_in_nI (by omega) (by decide), ?_⟩))
    rw [nI_clamp (by omega)]
    rw [H1'] at hb
    rw [← Option.some.inj hb]
    exact H
  | x :: t, h, f, hs, ho, hf, H1 => by
    obtain ⟨f, rfl⟩ : ∃ f', f = f' + 1 := ⟨f - 1, by simp at hf; omega⟩
    obtain ⟨s1, s2, s3, ⟨s4, s5, s6, s7, s8⟩, s9⟩ := hs
    subst s1
    refine br_f (nI_pos (by omega)) ⟨vp_in_nI s2 (by decide), ?_⟩
    rw [nI_clamp (by omega)]
    rw [dt_ap] at H1
    rcases ho with q | q
    · refine pk_eq x.2.1 0 (fun z => absurd z (by omega)) (fun _ => ⟨vp_in_nI s2 (by decide), nm_e ?_⟩) (hx := s4)
      rw [if_pos q.1, q.2.2, dt_lo_s he] at H1
      obtain ⟨q1, q2, q3⟩ := q
      subst q2
      exact dt_vi7 (f' := f') hp hk he h4 hn hr H [] _ f s9 trivial (by simp at hf; simp; omega) H1
    · have z2 : ¬ x.2.1 = 2 := by omega
      rw [if_neg z2] at H1
      have ek : ¬ x.2.2.1 = key → (if x.2.1 = 0 then dt_up (dt_ap b t) x.2.2.1 (some x.2.2.2) else dt_up (dt_ap b t) x.2.2.1 none) key = dt_ap b t key := by
        intro z
        by_cases y : x.2.1 = 0
        · rw [if_pos y, dt_up_n _ _ (fun w => z w.symm)]
        · rw [if_neg y, dt_up_n _ _ (fun w => z w.symm)]
      refine pk_eq x.2.1 0 (fun y => ⟨vp_in_nI s2 (by decide), ?_⟩) (fun y => ⟨vp_in_nI s2 (by decide), nm_e ?_⟩) (hx := s4)
      · refine pk_eq x.2.2.1 key (fun z => ⟨vp_in_nI s2 (by decide), ?_⟩) (fun z => ⟨vp_in_nI s2 (by decide), nm_e ?_⟩) (hx := s6)
        · rw [if_pos y, z, dt_up_s] at H1
          rw [s8, Option.some.inj H1]
          exact H
        · rw [ek z] at H1
          exact dt_vi7 hp hk he h4 hn hr H t _ f s9 q.2.2.2 (by simp at hf; omega) H1
      · by_cases z : x.2.2.1 = key
        · rw [if_neg y, z, dt_up_s] at H1
          exact absurd H1.symm (Option.some_ne_none v)
        · rw [ek z] at H1
          exact dt_vi7 hp hk he h4 hn hr H t _ f s9 q.2.2.2 (by simp at hf; omega) H1
theorem dt_vi {post : Int32 → Prop} {lab : dt_L} {p key n f' e' : Nat} {b : dt_M} {K : Nat → Nat} {L : List dt_N} {v : Int32} (hp : p < 24) (hk : key < 4096) (he : key < e') (h4 : a4 p = nI n) (hn : n ≤ 12) (hr : dt_rp (fun i => a5 (12 * p + i)) (fun i => a6 (12 * p + i)) n b K)
    (hs : dt_sg lab a8 a9 a10 a11 p L (a2 p)) (ho : dt_ok f' e' L) (H1 : dt_ap b L key = some v) (H : post v) : wpX_valueIn post (e, fn, ic, il, cn, g, ge, st, a1, a2, a3, a4, a5, a6, a7, a8, a9, a10, a11, a12, a13, a14, a15, a16, a17, a18, a19, a20, a21) (nI p) (nI key) := by
  unfold wpX_valueIn
  dsimp only
  refine ⟨vp_in_nI hp (by decide), nm_r (e' := a2 p) (by rw [nI_clamp (by omega)]) ⟨L.length + 1, dt_vi7 hp hk he h4 hn hr H L _ _ hs ho (by omega) H1⟩⟩
/-! a page that isn't in use -/
theorem dt_fp2 {post : Int32 → Prop} {U : Nat → Bool} (h : ∀ p, p < 24 → (a1 p = 0 ↔ U p = false)) (H1 : post (-1)) (H2 : ∀ p, p < 24 → U p = false → post (nI p)) : ∃ n, wX_freePage_2 post e fn ic il cn g ge st a1 a2 a3 a4 a5 a6 a7 a8 a9 a10 a11 a12 a13 a14 a15 a16 a17 a18 a19 a20 a21 n 0 :=
  pk_loop (σ := Unit) (fun n i _ => wX_freePage_2 post e fn ic il cn g ge st a1 a2 a3 a4 a5 a6 a7 a8 a9 a10 a11 a12 a13 a14 a15 a16 a17 a18 a19 a20 a21 n (nI i)) (fun _ _ => True) 24 0 () (by omega) trivial
    (fun n _ _ => pk_le 24 24 (fun _ => H1) (fun z => absurd z (by omega)))
    (fun n i _ hi _ hw => pk_le 24 i (fun z => absurd z (by omega)) (fun z => ⟨vp_in_nI hi (by decide), by
      rw [nI_clamp (by omega)]
      exact br_c (fun y => H2 i hi ((h i hi).mp y)) (fun y => nm_r (nI_1 i) (hw () trivial))⟩))
theorem dt_fp {post : Int32 → Prop} {U : Nat → Bool} (h : ∀ p, p < 24 → (a1 p = 0 ↔ U p = false)) (H1 : post (-1)) (H2 : ∀ p, p < 24 → U p = false → post (nI p)) : wpX_freePage post (e, fn, ic, il, cn, g, ge, st, a1, a2, a3, a4, a5, a6, a7, a8, a9, a10, a11, a12, a13, a14, a15, a16, a17, a18, a19, a20, a21) := by
  unfold wpX_freePage
  dsimp only
  exact dt_fp2 h H1 H2
end
end
section
section
variable {e fn ic il cn g ge st : Int32} {a1 a2 a3 a4 a5 a6 a7 a8 a9 a10 a11 a12 a13 a14 a15 a16 a17 a18 a19 a20 a21 : Nat → Int32}
/-! the first key of a known page -/
theorem dt_fk38 {post : Int32 → Prop} {lab : dt_L} {F : Nat → Nat} {p : Nat} (hp : p < 24) (H : post (nI (F p))) :
    ∀ (X : List dt_N) (h : Int32) (f : Nat), dt_sg lab a8 a9 a10 a11 24 X h → (∀ x, x ∈ X → ∃ q, q < 24 ∧ x.2.2.1 = F q ∧ x.2.2.2 = nI q) → (∃ x, x ∈ X ∧ x.2.2.2 = nI p) → X.length < f → wX_firstKeyOf_38 post (nI p) e fn ic il cn g ge st a1 a2 a3 a4 a5 a6 a7 a8 a9 a10 a11 a12 a13 a14 a15 a16 a17 a18 a19 a20 a21 f h
  | [], h, f, hs, hx, he, hf => by
    obtain ⟨x, hx, _⟩ := he
    exact absurd hx List.not_mem_nil
  | x :: t, h, f, hs, hx, he, hf => by
    obtain ⟨f, rfl⟩ : ∃ f', f = f' + 1 := ⟨f - 1, by simp at hf; omega⟩
    obtain ⟨s1, s2, s3, ⟨s4, s5, s6, s7, s8⟩, s9⟩ := hs
    subst s1
    refine br_f (nI_pos (by omega)) ⟨vp_in_nI s2 (by decide), ?_⟩
    rw [nI_clamp (by omega), s8]
    obtain ⟨q, q1, q2, q3⟩ := hx x List.mem_cons_self
    rw [q3]
    refine pk_eq q p (fun z => ⟨vp_in_nI s2 (by decide), ?_⟩) (fun z => ⟨vp_in_nI s2 (by decide), nm_e ?_⟩)
    · rw [s6, q2, z]
      exact H
    · refine dt_fk38 hp H t _ f s9 (fun y hy => hx y (List.mem_cons_of_mem _ hy)) ?_ (by simp at hf; omega)
      obtain ⟨y, hy, hy'⟩ := he
      rcases List.mem_cons.mp hy with w | w
      · rw [w, q3] at hy'
        exact absurd ((nI_eq (by omega) (by omega)).mp hy') z
      · exact ⟨y, w, hy'⟩
theorem dt_fk {post : Int32 → Prop} {lab : dt_L} {F : Nat → Nat} {U kn : Nat → Bool} {c : Nat} {ip : Nat → Nat} {X : List dt_N} {p : Nat} (hU : ∀ p, U p = true → p < 24) (hi : dt_ix F U kn c ip a12 a13 X) (hc : c ≤ 24) (hcn : cn = nI c)
    (hs : dt_sg lab a8 a9 a10 a11 24 X ic) (hk : kn p = true) (H : post (nI (F p))) : wpX_firstKeyOf post (e, fn, ic, il, cn, g, ge, st, a1, a2, a3, a4, a5, a6, a7, a8, a9, a10, a11, a12, a13, a14, a15, a16, a17, a18, a19, a20, a21) (nI p) := by
  obtain ⟨i1, i2, i3, i4, i5, i6, i7, i8, i9⟩ := hi
  have kl : ∀ q, kn q = true → q < 24 := fun q hq => hU q (i6 q hq).1
  subst hcn
  unfold wpX_firstKeyOf
  dsimp only
  refine pk_loop (σ := Unit) (fun n i _ => wX_firstKeyOf_2 post (nI p) e fn ic il (nI c) g ge st a1 a2 a3 a4 a5 a6 a7 a8 a9 a10 a11 a12 a13 a14 a15 a16 a17 a18 a19 a20 a21 n (nI i)) (fun i _ => ∀ j, j < i → ip j ≠ p) c 0 () (by omega) (fun j hj => absurd hj (by omega))
    (fun n _ hI => pk_le c c (fun _ => ⟨X.length + 1, ?_⟩) (fun z => absurd z (by omega)))
    (fun n i _ hi hI hw => pk_le c i (fun z => absurd z (by omega)) (fun z => ⟨vp_in_nI (by omega) (by decide), ?_⟩))
  · refine dt_fk38 (kl p hk) H X ic (X.length + 1) hs (fun x hx => ?_) ?_ (by omega)
    · obtain ⟨q, q1, q2, q3⟩ := i5 x hx
      exact ⟨q, kl q q1, q2, q3⟩
    · rcases (i6 p hk).2 with ⟨i, hi, hi'⟩ | y
      · exact absurd hi' (hI i hi)
      · exact y
  · have hp := kl p hk
    have hq := kl (ip i) (i2 i hi).1
    rw [nI_clamp (by omega), (i2 i hi).2.1]
    refine pk_eq (ip i) p (fun y => ⟨vp_in_nI (by omega) (by decide), ?_⟩) (fun y => nm_r (nI_1 i) (hw () (lt_s hI y)))
    rw [(i2 i hi).2.2, y]
    exact H
/-! notes are taken and given back -/
theorem dt_nn {post : Int32 → St2 → Prop} {n : Nat} {p0 p1 p2 p3 : Int32} (hfn : fn = nI n) (hn : n < 160) (H : post (nI n) (e, a11 n, ic, il, cn, g, ge, st, a1, a2, a3, a4, a5, a6, a7, upd a8 n p0, upd a9 n p1, upd a10 n p2, upd a11 n p3, a12, a13, a14, a15, a16, a17, a18, a19, a20, a21)) : wpX_newNote post (e, fn, ic, il, cn, g, ge, st, a1, a2, a3, a4, a5, a6, a7, a8, a9, a10, a11, a12, a13, a14, a15, a16, a17, a18, a19, a20, a21) p0 p1 p2 p3 := by
  subst hfn
  unfold wpX_newNote
  dsimp only
  rw [nI_clamp (by omega)]
  have v : vp_in (nI n) 160 := vp_in_nI hn (by decide)
  exact ⟨v, nm_e ⟨v, nm_e ⟨v, nm_e ⟨v, nm_e ⟨v, nm_e H⟩⟩⟩⟩⟩
theorem dt_nn2 {post : Int32 → St2 → Prop} {n : Nat} {p0 p1 p2 p3 : Int32} (hfn : fn = nI n) (hn : n < 160) (H : post (nI n) (e, a11 n, ic, il, cn, g, ge, st, a1, a2, a3, a4, a5, a6, a7, upd a8 n p0, upd a9 n p1, upd a10 n p2, upd a11 n p3, a12, a13, a14, a15, a16, a17, a18, a19, a20, a21)) : wpX_newNote_2 post (e, fn, ic, il, cn, g, ge, st, a1, a2, a3, a4, a5, a6, a7, a8, a9, a10, a11, a12, a13, a14, a15, a16, a17, a18, a19, a20, a21) p0 p1 p2 p3 := by
  subst hfn
  unfold wpX_newNote_2
  dsimp only
  rw [nI_clamp (by omega)]
  have v : vp_in (nI n) 160 := vp_in_nI hn (by decide)
  exact ⟨v, nm_e ⟨v, nm_e ⟨v, nm_e ⟨v, nm_e ⟨v, nm_e H⟩⟩⟩⟩⟩
end
/-- one note goes from chain p to the free list -/
theorem dt_fr1 {lab : dt_L} {a8 a9 a10 a11 : Nat → Int32} {p fl : Nat} {h fn : Int32} {x : dt_N} {t : List dt_N} (hp : p < 25) (hs : dt_sg lab a8 a9 a10 a11 p (x :: t) h) (hf : dt_sf lab a11 fl fn) :
    dt_sf (dt_lu lab x.1 (25, fl)) (upd a11 x.1 fn) (fl + 1) (nI x.1) ∧ dt_sg (dt_lu lab x.1 (25, fl)) a8 a9 a10 (upd a11 x.1 fn) p t (a11 x.1) ∧ (∀ n, (lab n).1 ≠ p → dt_lu lab x.1 (25, fl) n = lab n ∧ upd a11 x.1 fn n = a11 n) := by
  obtain ⟨s1, s2, s3, s4, s9⟩ := hs
  have fr : ∀ n, n ≠ x.1 → dt_lu lab x.1 (25, fl) n = lab n ∧ upd a11 x.1 fn n = a11 n := fun n hn => ⟨dt_lu_n _ _ hn, pk_un hn⟩
  refine ⟨⟨x.1, rfl, s2, dt_lu_s _ _ _, ?_⟩, dt_sg_fr (fun n j hn hj => ?_) s9, fun n hn => fr n (fun z => hn (by rw [z, s3]))⟩
  · rw [pk_us]
    refine dt_sf_fr (fun n j hn hj => fr n (fun z => ?_)) hf
    rw [z, s3] at hn
    have := congrArg Prod.fst hn
    dsimp only at this
    omega
  · have hne : n ≠ x.1 := fun z => by
      rw [z, s3] at hn
      have := congrArg Prod.snd hn
      dsimp only at this
      omega
    exact ⟨(fr n hne).1, rfl, rfl, rfl, (fr n hne).2⟩
section
variable {e ic il cn g ge st : Int32} {a1 a2 a3 a4 a5 a6 a7 a8 a9 a10 a12 a13 a14 a15 a16 a17 a18 a19 a20 a21 : Nat → Int32}
theorem dt_fc4 {post : Int32 → St2 → Prop} {p : Nat} (hp : p < 25) : ∀ (L : List dt_N) (h : Int32) (s f : Nat) (lab : dt_L) (fl : Nat) (fn : Int32) (a11 : Nat → Int32), dt_sg lab a8 a9 a10 a11 p L h → dt_sf lab a11 fl fn → s + L.length ≤ 8 → L.length < f →
    (∀ (lab' : dt_L) (fn' : Int32) (a11' : Nat → Int32), dt_sf lab' a11' (fl + L.length) fn' → (∀ n, (lab n).1 ≠ p → (lab n).1 ≠ 25 → lab' n = lab n ∧ a11' n = a11 n) → post (-1) (e, fn', ic, il, cn, g, ge, st, a1, a2, a3, a4, a5, a6, a7, a8, a9, a10, a11', a12, a13, a14, a15, a16, a17, a18, a19, a20, a21)) → wX_freeChain_4 post e ic il cn g ge st f h (nI s) fn a1 a2 a3 a4 a5 a6 a7 a8 a9 a10 a11 a12 a13 a14 a15 a16 a17 a18 a19 a20 a21
  | [], h, s, f, lab, fl, fn, a11, hs, hf, hl, hff, P => by
    obtain ⟨f, rfl⟩ : ∃ f', f = f' + 1 := ⟨f - 1, by simp at hff; omega⟩
    have hs' : h = -1 := hs
    subst hs'
    have p0 := P lab fn a11 hf (fun n _ _ => ⟨rfl, rfl⟩)
    have hl' : s ≤ 8 := by simp at hl; omega
    exact pk_le 8 s (fun _ => p0) (fun _ => br_t (by decide) p0)
  | x :: t, h, s, f, lab, fl, fn, a11, hs, hf, hl, hff, P => by
    obtain ⟨f, rfl⟩ : ∃ f', f = f' + 1 := ⟨f - 1, by simp at hff; omega⟩
    have hl' : s + (t.length + 1) ≤ 8 := hl
    have hff' : t.length + 1 < f + 1 := hff
    obtain ⟨r1, r2, r3⟩ := dt_fr1 hp hs hf
    obtain ⟨s1, s2, s3, s4, s9⟩ := hs
    subst s1
    refine pk_le 8 s (fun z => absurd z (by omega)) (fun _ => br_f (nI_pos (by omega)) ⟨vp_in_nI s2 (by decide), ?_⟩)
    rw [nI_clamp (by omega)]
    refine nm_e ⟨vp_in_nI s2 (by decide), nm_e (nm_r (nI_1 s) (dt_fc4 hp t _ (s + 1) f _ (fl + 1) _ _ r2 r1 (by omega) (by omega) (fun lab' fn' a11' q1 q2 => P lab' fn' a11' ?_ (fun n hn hn' => ?_))))⟩
    · rw [show fl + (x :: t).length = fl + 1 + t.length by simp; omega]
      exact q1
    · obtain ⟨k1, k2⟩ := r3 n hn
      obtain ⟨k3, k4⟩ := q2 n (by rw [k1]; exact hn) (by rw [k1]; exact hn')
      exact ⟨by rw [k3, k1], by rw [k4, k2]⟩
theorem dt_fc24 {post : Int32 → St2 → Prop} {p : Nat} (hp : p < 25) : ∀ (L : List dt_N) (h : Int32) (s f : Nat) (lab : dt_L) (fl : Nat) (fn : Int32) (a11 : Nat → Int32), dt_sg lab a8 a9 a10 a11 p L h → dt_sf lab a11 fl fn → s + L.length ≤ 8 → L.length < f →
    (∀ (lab' : dt_L) (fn' : Int32) (a11' : Nat → Int32), dt_sf lab' a11' (fl + L.length) fn' → (∀ n, (lab n).1 ≠ p → (lab n).1 ≠ 25 → lab' n = lab n ∧ a11' n = a11 n) → post (-1) (e, fn', ic, il, cn, g, ge, st, a1, a2, a3, a4, a5, a6, a7, a8, a9, a10, a11', a12, a13, a14, a15, a16, a17, a18, a19, a20, a21)) → wX_freeChain_2_4 post e ic il cn g ge st f h (nI s) fn a1 a2 a3 a4 a5 a6 a7 a8 a9 a10 a11 a12 a13 a14 a15 a16 a17 a18 a19 a20 a21
  | [], h, s, f, lab, fl, fn, a11, hs, hf, hl, hff, P => by
    obtain ⟨f, rfl⟩ : ∃ f', f = f' + 1 := ⟨f - 1, by simp at hff; omega⟩
    have hs' : h = -1 := hs
    subst hs'
    have p0 := P lab fn a11 hf (fun n _ _ => ⟨rfl, rfl⟩)
    have hl' : s ≤ 8 := by simp at hl; omega
    exact pk_le 8 s (fun _ => p0) (fun _ => br_t (by decide) p0)
  | x :: t, h, s, f, lab, fl, fn, a11, hs, hf, hl, hff, P => by
    obtain ⟨f, rfl⟩ : ∃ f', f = f' + 1 := ⟨f - 1, by simp at hff; omega⟩
    have hl' : s + (t.length + 1) ≤ 8 := hl
    have hff' : t.length + 1 < f + 1 := hff
    obtain ⟨r1, r2, r3⟩ := dt_fr1 hp hs hf
    obtain ⟨s1, s2, s3, s4, s9⟩ := hs
    subst s1
    refine pk_le 8 s (fun z => absurd z (by omega)) (fun _ => br_f (nI_pos (by omega)) ⟨vp_in_nI s2 (by decide), ?_⟩)
    rw [nI_clamp (by omega)]
    refine nm_e ⟨vp_in_nI s2 (by decide), nm_e (nm_r (nI_1 s) (dt_fc24 hp t _ (s + 1) f _ (fl + 1) _ _ r2 r1 (by omega) (by omega) (fun lab' fn' a11' q1 q2 => P lab' fn' a11' ?_ (fun n hn hn' => ?_))))⟩
    · rw [show fl + (x :: t).length = fl + 1 + t.length by simp; omega]
      exact q1
    · obtain ⟨k1, k2⟩ := r3 n hn
      obtain ⟨k3, k4⟩ := q2 n (by rw [k1]; exact hn) (by rw [k1]; exact hn')
      exact ⟨by rw [k3, k1], by rw [k4, k2]⟩
end
section
variable {e fn ic il cn g ge st : Int32} {a1 a2 a3 a4 a5 a6 a7 a8 a9 a10 a11 a12 a13 a14 a15 a16 a17 a18 a19 a20 a21 : Nat → Int32}
theorem dt_fc {post : Int32 → St2 → Prop} {p fl : Nat} {lab : dt_L} {L : List dt_N} {h : Int32} (hp : p < 25) (hs : dt_sg lab a8 a9 a10 a11 p L h) (hf : dt_sf lab a11 fl fn) (hl : L.length ≤ 8)
    (P : ∀ (lab' : dt_L) (fn' : Int32) (a11' : Nat → Int32), dt_sf lab' a11' (fl + L.length) fn' → (∀ n, (lab n).1 ≠ p → (lab n).1 ≠ 25 → lab' n = lab n ∧ a11' n = a11 n) → post (-1) (e, fn', ic, il, cn, g, ge, st, a1, a2, a3, a4, a5, a6, a7, a8, a9, a10, a11', a12, a13, a14, a15, a16, a17, a18, a19, a20, a21)) : wpX_freeChain post (e, fn, ic, il, cn, g, ge, st, a1, a2, a3, a4, a5, a6, a7, a8, a9, a10, a11, a12, a13, a14, a15, a16, a17, a18, a19, a20, a21) h := by
  unfold wpX_freeChain
  dsimp only
  exact ⟨L.length + 1, dt_fc4 hp L h 0 _ lab fl fn a11 hs hf (by omega) (by omega) P⟩
theorem dt_fc2 {post : Int32 → St2 → Prop} {p fl : Nat} {lab : dt_L} {L : List dt_N} {h : Int32} (hp : p < 25) (hs : dt_sg lab a8 a9 a10 a11 p L h) (hf : dt_sf lab a11 fl fn) (hl : L.length ≤ 8)
    (P : ∀ (lab' : dt_L) (fn' : Int32) (a11' : Nat → Int32), dt_sf lab' a11' (fl + L.length) fn' → (∀ n, (lab n).1 ≠ p → (lab n).1 ≠ 25 → lab' n = lab n ∧ a11' n = a11 n) → post (-1) (e, fn', ic, il, cn, g, ge, st, a1, a2, a3, a4, a5, a6, a7, a8, a9, a10, a11', a12, a13, a14, a15, a16, a17, a18, a19, a20, a21)) : wpX_freeChain_2 post (e, fn, ic, il, cn, g, ge, st, a1, a2, a3, a4, a5, a6, a7, a8, a9, a10, a11, a12, a13, a14, a15, a16, a17, a18, a19, a20, a21) h := by
  unfold wpX_freeChain_2
  dsimp only
  exact ⟨L.length + 1, dt_fc24 hp L h 0 _ lab fl fn a11 hs hf (by omega) (by omega) P⟩
end
end
section
/-! the index takes its notes into its base -/
theorem dt_ix_ins {F : Nat → Nat} {U kn : Nat → Bool} {c j : Nat} {ip : Nat → Nat} {A12 A13 a12 a13 : Nat → Int32} {x : dt_N} {t : List dt_N} {q : Nat} (h : dt_ix F U kn c ip A12 A13 (x :: t)) (hq : kn q = true) (h1 : x.2.2.1 = F q) (h2 : x.2.2.2 = nI q) (hU : ∀ p, U p = true → p < 24) (hj : j ≤ c)
    (l : ∀ i, i < j → a12 i = A12 i ∧ a13 i = A13 i) (r : ∀ i, j ≤ i → i < c → a12 (i + 1) = A12 i ∧ a13 (i + 1) = A13 i ∧ F q < F (ip i)) (hz : 0 < j → F (ip (j - 1)) ≤ F q) :
    dt_ix F U kn (c + 1) (fun i => if i < j then ip i else if i = j then q else ip (i - 1)) (upd a12 j (nI (F q))) (upd a13 j (nI q)) t := by
  obtain ⟨i1, i2, i3, i4, i5, i6, i7, i8, i9⟩ := h
  have hne : ∀ i, i < c → F (ip i) ≠ F q := fun i hi z => i9 x List.mem_cons_self i hi (by rw [h1, z])
  have hj0 : 0 < j := by
    rcases Nat.eq_zero_or_pos j with z | z
    · have := (r 0 (by omega) (by omega)).2.2
      omega
    · exact z
  have e1 : ∀ i, i < j → (fun i => if i < j then ip i else if i = j then q else ip (i - 1)) i = ip i := fun i hi => by
    dsimp only
    rw [if_pos hi]
  have e2 : (fun i => if i < j then ip i else if i = j then q else ip (i - 1)) j = q := by
    dsimp only
    rw [if_neg (by omega), if_pos rfl]
  have e3 : ∀ i, j ≤ i → (fun i => if i < j then ip i else if i = j then q else ip (i - 1)) (i + 1) = ip i := fun i hi => by
    dsimp only
    rw [if_neg (by omega), if_neg (by omega)]
    rfl
  have cs : ∀ i, i < j ∨ i = j ∨ ∃ s, j ≤ s ∧ i = s + 1 := fun i => by
    rcases Nat.lt_trichotomy i j with z | z | z
    · exact Or.inl z
    · exact Or.inr (Or.inl z)
    · exact Or.inr (Or.inr ⟨i - 1, by omega, by omega⟩)
  generalize (fun i => if i < j then ip i else if i = j then q else ip (i - 1)) = ip' at e1 e2 e3 ⊢
  refine ⟨by omega, fun i hi => ?_, fun i s hi hs => ?_, by rw [e1 0 hj0]; exact i4, fun y hy => i5 y (List.mem_cons_of_mem _ hy), fun p hp => ⟨(i6 p hp).1, ?_⟩, ?_, i8.2, fun y hy i hi => ?_⟩
  · rcases cs i with z | z | ⟨s, hs, rfl⟩
    · rw [e1 i z, pk_un (by omega), pk_un (by omega), (l i z).1, (l i z).2]
      exact i2 i (by omega)
    · rw [z, e2, pk_us, pk_us]
      exact ⟨hq, rfl, rfl⟩
    · rw [e3 s hs, pk_un (by omega), pk_un (by omega), (r s hs (by omega)).1, (r s hs (by omega)).2.1]
      exact i2 s (by omega)
  · rcases cs i with z | z | ⟨s', hs', rfl⟩
    · rw [e1 i z]
      rcases cs s with y | y | ⟨s2, hs2, rfl⟩
      · rw [e1 s y]
        exact i3 i s hi (by omega)
      · rw [y, e2]
        have q1 := hz hj0
        have q2 := hne (j - 1) (by omega)
        by_cases w : i = j - 1
        · rw [w]
          omega
        · have := i3 i (j - 1) (by omega) (by omega)
          omega
      · rw [e3 s2 hs2]
        exact i3 i s2 (by omega) (by omega)
    · rcases cs s with y | y | ⟨s2, hs2, rfl⟩
      · omega
      · omega
      · rw [z, e2, e3 s2 hs2]
        exact (r s2 hs2 (by omega)).2.2
    · rcases cs s with y | y | ⟨s2, hs2, rfl⟩
      · omega
      · omega
      · rw [e3 s' hs', e3 s2 hs2]
        exact i3 s' s2 (by omega) (by omega)
  · rcases (i6 p hp).2 with ⟨i, hi, hi'⟩ | ⟨y, hy, hy'⟩
    · rcases Nat.lt_or_ge i j with z | z
      · exact Or.inl ⟨i, by omega, by rw [e1 i z, hi']⟩
      · exact Or.inl ⟨i + 1, by omega, by rw [e3 i z, hi']⟩
    · rcases List.mem_cons.mp hy with z | z
      · rw [z, h2] at hy'
        have b1 := hU p (i6 p hp).1
        have b2 := hU q (i6 q hq).1
        exact Or.inl ⟨j, by omega, by rw [e2]; exact (nI_eq (by omega) (by omega)).mp hy'⟩
      · exact Or.inr ⟨y, z, hy'⟩
  · have : c + (t.length + 1) = _ := i7
    omega
  · rcases cs i with z | z | ⟨s, hs, rfl⟩
    · rw [e1 i z]
      exact i9 y (List.mem_cons_of_mem _ hy) i (by omega)
    · rw [z, e2, ← h1]
      exact i8.1 y hy
    · rw [e3 s hs]
      exact i9 y (List.mem_cons_of_mem _ hy) s (by omega)
theorem dt_ix_c {F : Nat → Nat} {U kn : Nat → Bool} {c : Nat} {ip : Nat → Nat} {a12 a13 : Nat → Int32} {X : List dt_N} (h : dt_ix F U kn c ip a12 a13 X) : c + X.length ≤ 24 := by
  rw [h.2.2.2.2.2.2.1]
  exact dt_sm_bd (c := 1) 24 (fun q _ => dt_tn_le _)
section
variable {e fn ic il cn g ge st : Int32} {a1 a2 a3 a4 a5 a6 a7 a8 a9 a10 a11 a14 a15 a16 a17 a18 a19 a20 a21 : Nat → Int32}
theorem dt_ri26 {post : St2 → Prop} {J5 : Int32 → Int32 → (Nat → Int32) → (Nat → Int32) → (Nat → Int32) → (Nat → Int32) → (Nat → Int32) → (Nat → Int32) → (Nat → Int32) → (Nat → Int32) → (Nat → Int32) → (Nat → Int32) → (Nat → Int32) → (Nat → Int32) → (Nat → Int32) → (Nat → Int32) → (Nat → Int32) → (Nat → Int32) → (Nat → Int32) → (Nat → Int32) → (Nat → Int32) → (Nat → Int32) → (Nat → Int32) → Prop} {n key c : Nat} {A12 A13 : Nat → Int32} {q : Nat → Nat} (hn : n < 160) (h9 : a9 n = nI key) (hk : key < 4096) (hc : c < 24) (hA : ∀ i, i < c → A12 i = nI (q i) ∧ q i < 4096)
    (P : ∀ (j : Nat) (a12 a13 : Nat → Int32), j ≤ c → (∀ i, i < j → a12 i = A12 i ∧ a13 i = A13 i) → (∀ i, j ≤ i → i < c → a12 (i + 1) = A12 i ∧ a13 (i + 1) = A13 i ∧ key < q i) → (0 < j → q (j - 1) ≤ key) → wX_rewriteIndex_90 post J5 (nI n) (nI j) e fn ic il cn g ge st a1 a2 a3 a4 a5 a6 a7 a8 a9 a10 a11 a12 a13 a14 a15 a16 a17 a18 a19 a20 a21) :
    ∀ (k s f : Nat) (a12 a13 : Nat → Int32), s + k = c → k < f → (∀ i, i < k → a12 i = A12 i ∧ a13 i = A13 i) → (∀ i, k ≤ i → i < c → a12 (i + 1) = A12 i ∧ a13 (i + 1) = A13 i ∧ key < q i) → wX_rewriteIndex_26 post J5 (nI n) e fn ic il cn g ge st f (nI k) (nI s) a1 a2 a3 a4 a5 a6 a7 a8 a9 a10 a11 a12 a13 a14 a15 a16 a17 a18 a19 a20 a21
  | 0, s, f, a12, a13, h1, h2, h3, h4 => by
    obtain ⟨f, rfl⟩ : ∃ f', f = f' + 1 := ⟨f - 1, by omega⟩
    exact pk_le 24 s (fun z => absurd z (by omega)) (fun _ => pk_le 0 0 (fun _ => P 0 a12 a13 (by omega) h3 h4 (fun z => absurd z (by omega))) (fun z => absurd z (by omega)))
  | k + 1, s, f, a12, a13, h1, h2, h3, h4 => by
    obtain ⟨f, rfl⟩ : ∃ f', f = f' + 1 := ⟨f - 1, by omega⟩
    refine pk_le 24 s (fun z => absurd z (by omega)) (fun _ => br_f (nI_nle (by omega) (by omega)) ?_)
    rw [nI_pred, nI_clamp (show k < 2 ^ 31 by omega), nI_clamp (show n < 2 ^ 31 by omega), nI_clamp (show k + 1 < 2 ^ 31 by omega), (h3 k (by omega)).1, (h3 k (by omega)).2]
    have v1 : vp_in (nI k) 24 := vp_in_nI (by omega) (by decide)
    have v2 : vp_in (nI (k + 1)) 24 := vp_in_nI (by omega) (by decide)
    have hAk := hA k (by omega)
    refine ⟨v1, vp_in_nI hn (by decide), pk_le (q k) key (fun z => P (k + 1) a12 a13 (by omega) h3 h4 (fun _ => z)) (fun z => ⟨v1, v2, nm_e ⟨v1, v2, nm_e (nm_r (pk_m1 k) (nm_r (nI_1 s) ?_))⟩⟩) (hx := hAk.1) (hy := h9) (ha := by omega) (hb := by omega)⟩
    refine dt_ri26 hn h9 hk hc hA P k (s + 1) f _ _ (by omega) (by omega) (fun i hi => ?_) (fun i hi hi' => ?_)
    · rw [pk_un (by omega), pk_un (by omega)]
      exact h3 i (by omega)
    · by_cases y : i = k
      · rw [y, pk_us, pk_us]
        exact ⟨rfl, rfl, z⟩
      · rw [pk_un (by omega), pk_un (by omega)]
        exact h4 i (by omega) hi'
end
section
variable {e fn ic il g ge st : Int32} {a1 a2 a3 a4 a5 a6 a7 a8 a9 a10 a11 a14 a15 a16 a17 a18 a19 a20 a21 : Nat → Int32}
theorem dt_ri5 {post : St2 → Prop} {lab : dt_L} {F : Nat → Nat} {U kn : Nat → Bool} (hU : ∀ p, U p = true → p < 24 ∧ F p < 4096)
    (P : ∀ (c : Nat) (ip : Nat → Nat) (a12 a13 : Nat → Int32), dt_ix F U kn c ip a12 a13 [] → wpX_freeChain (fun r_2 u => match u with | (e', fn', ic', il', cn', g', ge', st', a1', a2', a3', a4', a5', a6', a7', a8', a9', a10', a11', a12', a13', a14', a15', a16', a17', a18', a19', a20', a21') => post (e', fn', r_2, 0, cn', g', ge', st', a1', a2', a3', a4', a5', a6', a7', a8', a9', a10', a11', a12', a13', a14', a15', a16', a17', a18', a19', a20', a21')) (e, fn, ic, il, nI c, g, ge, st, a1, a2, a3, a4, a5, a6, a7, a8, a9, a10, a11, a12, a13, a14, a15, a16, a17, a18, a19, a20, a21) ic) :
    ∀ (X : List dt_N) (h : Int32) (f c : Nat) (ip : Nat → Nat) (a12 a13 : Nat → Int32), dt_sg lab a8 a9 a10 a11 24 X h → dt_ix F U kn c ip a12 a13 X → X.length < f → wX_rewriteIndex_5 post e fn ic il g ge st f h (nI c) a1 a2 a3 a4 a5 a6 a7 a8 a9 a10 a11 a12 a13 a14 a15 a16 a17 a18 a19 a20 a21
  | [], h, f, c, ip, a12, a13, hs, hi, hf => by
    obtain ⟨f, rfl⟩ : ∃ f', f = f' + 1 := ⟨f - 1, by simp at hf; omega⟩
    have hs' : h = -1 := hs
    subst hs'
    exact br_t (by decide) (P c ip a12 a13 hi)
  | x :: t, h, f, c, ip, a12, a13, hs, hi, hf => by
    obtain ⟨f, rfl⟩ : ∃ f', f = f' + 1 := ⟨f - 1, by simp at hf; omega⟩
    have hf' : t.length + 1 < f + 1 := hf
    have hc : c + (t.length + 1) ≤ 24 := dt_ix_c hi
    obtain ⟨s1, s2, s3, ⟨s4, s5, s6, s7, s8⟩, s9⟩ := hs
    subst s1
    obtain ⟨q, q1, q2, q3⟩ := hi.2.2.2.2.1 x List.mem_cons_self
    refine br_f (nI_pos (by omega)) (nm_r (nI_1 c) ⟨c + 1, ?_⟩)
    refine dt_ri26 (A12 := a12) (A13 := a13) (q := fun i => F (ip i)) s2 s6 s7 (by omega) (fun i hi' => ⟨(hi.2.1 i hi').2.2, (hU _ (hi.2.2.2.2.2.1 _ (hi.2.1 i hi').1).1).2⟩) (fun j a12' a13' j1 j2 j3 j4 => ?_) c 0 (c + 1) a12 a13 (by omega) (by omega) (fun i _ => ⟨rfl, rfl⟩) (fun i hi hi' => absurd hi' (by omega))
    unfold wX_rewriteIndex_90
    rw [nI_clamp (show x.1 < 2 ^ 31 by omega), nI_clamp (show j < 2 ^ 31 by omega), s6, s8, q2, q3]
    have v1 : vp_in (nI x.1) 160 := vp_in_nI s2 (by decide)
    have v2 : vp_in (nI j) 24 := vp_in_nI (by omega) (by decide)
    refine ⟨v1, v2, nm_e ⟨v1, v2, nm_e ⟨v1, nm_e ?_⟩⟩⟩
    rw [q2] at j3 j4
    exact dt_ri5 hU P t _ f (c + 1) _ _ _ s9 (dt_ix_ins hi q1 q2 q3 (fun p hp => (hU p hp).1) j1 j2 j3 j4) (by omega)
end
section
variable {e fn ic il cn g ge st : Int32} {a1 a2 a3 a4 a5 a6 a7 a8 a9 a10 a11 a12 a13 a14 a15 a16 a17 a18 a19 a20 a21 : Nat → Int32}
theorem dt_ri {post : St2 → Prop} {F E : Nat → Nat} {U : Nat → Bool} {M : dt_M} {C : Nat → List dt_N} {B : Nat → dt_M} {w : Nat} {kn : Nat → Bool} {X : List dt_N} {lab : dt_L} {fl c : Nat} {ip : Nat → Nat} (h : dt_co fn ic il cn a1 a2 a3 a4 a5 a6 a7 a8 a9 a10 a11 a12 a13 F E U M C B w kn X lab fl c ip) (hX : X.length ≤ 8)
    (P : ∀ (fn cn : Int32) (a11 a12 a13 : Nat → Int32), dt_c1 fn (-1) 0 cn a1 a2 a3 a4 a5 a6 a7 a8 a9 a10 a11 a12 a13 F E U M C B w kn → post (e, fn, (-1), 0, cn, g, ge, st, a1, a2, a3, a4, a5, a6, a7, a8, a9, a10, a11, a12, a13, a14, a15, a16, a17, a18, a19, a20, a21)) : wpX_rewriteIndex post (e, fn, ic, il, cn, g, ge, st, a1, a2, a3, a4, a5, a6, a7, a8, a9, a10, a11, a12, a13, a14, a15, a16, a17, a18, a19, a20, a21) := by
  obtain ⟨⟨h1, h2, h3, h4⟩, hp, hcv, hi, hd, hcn, hil, hM⟩ := h
  subst hcn
  unfold wpX_rewriteIndex
  dsimp only
  refine ⟨X.length + 1, dt_ri5 (fun p hp' => ⟨hp.1 p hp', ?_⟩) (fun c' ip' a12' a13' hi' => ?_) X ic _ c ip a12 a13 h2 hi (by omega)⟩
  · obtain ⟨k1, k2, _⟩ := hp.2.2.2 p hp'
    omega
  · refine dt_fc (p := 24) (by decide) h2 h1 hX (fun lab' fn' a11' f1 f2 => ?_)
    dsimp only
    refine P fn' (nI c') a11' a12' a13' ⟨[], lab', fl + X.length, c', ip', ⟨⟨f1, rfl, fun p hp' => ?_, ?_⟩, hp, hcv, hi', hd, rfl, rfl, hM⟩, by simp⟩
    · refine dt_sg_fr (fun n j hn hj => ?_) (h3 p hp')
      obtain ⟨k1, k2⟩ := f2 n (by rw [hn]; dsimp only; omega) (by rw [hn]; dsimp only; omega)
      exact ⟨k1, rfl, rfl, rfl, k2⟩
    · simp
      omega
/-! the index learns of a page -/
theorem dt_ni32 {post : St2 → Prop} {lab : dt_L} {key : Nat} {y : Int32} (hk : key < 4096) : ∀ (X : List dt_N) (h : Int32) (f : Nat), dt_sg lab a8 a9 a10 a11 24 X h → X.length < f → (∀ x, x ∈ X → x.2.2.1 = key → post (e, fn, ic, il, cn, g, ge, st, a1, a2, a3, a4, a5, a6, a7, a8, a9, a10, a11, a12, a13, a14, a15, a16, a17, a18, a19, a20, a21)) → ((∀ x, x ∈ X → x.2.2.1 ≠ key) → ∀ f, wX_noteInIndex_32 post (nI key) y e fn ic il cn g ge st a1 a2 a3 a4 a5 a6 a7 a8 a9 a10 a11 a12 a13 a14 a15 a16 a17 a18 a19 a20 a21 (f + 1) (-1)) → wX_noteInIndex_32 post (nI key) y e fn ic il cn g ge st a1 a2 a3 a4 a5 a6 a7 a8 a9 a10 a11 a12 a13 a14 a15 a16 a17 a18 a19 a20 a21 f h
  | [], h, f, hs, hf, _, H => by
    obtain ⟨f, rfl⟩ : ∃ f', f = f' + 1 := ⟨f - 1, by simp at hf; omega⟩
    have hs' : h = -1 := hs
    subst hs'
    exact H (fun x hx => absurd hx List.not_mem_nil) f
  | x :: t, h, f, hs, hf, H1, H => by
    obtain ⟨f, rfl⟩ : ∃ f', f = f' + 1 := ⟨f - 1, by simp at hf; omega⟩
    have hf' : t.length + 1 < f + 1 := hf
    obtain ⟨s1, s2, s3, ⟨s4, s5, s6, s7, s8⟩, s9⟩ := hs
    subst s1
    refine br_f (nI_pos (by omega)) ⟨vp_in_nI s2 (by decide), ?_⟩
    rw [nI_clamp (by omega)]
    refine pk_eq x.2.2.1 key (fun z => H1 x List.mem_cons_self z) (fun z => ⟨vp_in_nI s2 (by decide), nm_e ?_⟩) (hx := s6)
    refine dt_ni32 hk t _ f s9 (by omega) (fun a ha => H1 a (List.mem_cons_of_mem _ ha)) (fun hx => H (fun a ha => ?_))
    rcases List.mem_cons.mp ha with w | w
    · rw [w]
      exact z
    · exact hx a w
end
def dt_kb (kn : Nat → Bool) (q : Nat) : Nat → Bool := fun p => if p = q then true else kn p
theorem dt_kb_s (kn : Nat → Bool) (q : Nat) : dt_kb kn q q = true := by
  unfold dt_kb
  rw [if_pos rfl]
theorem dt_kb_n (kn : Nat → Bool) {q p : Nat} (h : p ≠ q) : dt_kb kn q p = kn p := by
  unfold dt_kb
  rw [if_neg h]
theorem dt_kb_k {kn : Nat → Bool} {q p : Nat} (h : kn p = true) : dt_kb kn q p = true := by
  by_cases z : p = q
  · rw [z, dt_kb_s]
  · rw [dt_kb_n kn z, h]
theorem dt_ix_add {F : Nat → Nat} {U kn : Nat → Bool} {c : Nat} {ip : Nat → Nat} {a12 a13 : Nat → Int32} {X : List dt_N} {n q : Nat} (h : dt_ix F U kn c ip a12 a13 X) (hq : U q = true) (hq' : q < 24) (hk : kn q = false) (h1 : ∀ i, i < c → F (ip i) ≠ F q) (h2 : ∀ x, x ∈ X → x.2.2.1 ≠ F q) :
    dt_ix F U (dt_kb kn q) c ip a12 a13 ((n, 2, F q, nI q) :: X) := by
  obtain ⟨i1, i2, i3, i4, i5, i6, i7, i8, i9⟩ := h
  refine ⟨i1, fun i hi => ⟨dt_kb_k (i2 i hi).1, (i2 i hi).2⟩, i3, i4, fun x hx => ?_, fun p hp => ?_, ?_, ⟨h2, i8⟩, fun x hx i hi => ?_⟩
  · rcases List.mem_cons.mp hx with z | z
    · rw [z]
      exact ⟨q, dt_kb_s _ _, rfl, rfl⟩
    · obtain ⟨q', k1, k2⟩ := i5 x z
      exact ⟨q', dt_kb_k k1, k2⟩
  · by_cases z : p = q
    · rw [z]
      exact ⟨hq, Or.inr ⟨_, List.mem_cons_self, rfl⟩⟩
    · rw [dt_kb_n kn z] at hp
      refine ⟨(i6 p hp).1, ?_⟩
      rcases (i6 p hp).2 with k | ⟨x, k1, k2⟩
      · exact Or.inl k
      · exact Or.inr ⟨x, List.mem_cons_of_mem _ k1, k2⟩
  · have := dt_sm_up (f := fun q => (kn q).toNat) (f' := fun p => (dt_kb kn q p).toNat) (p := q) (x := 1) 24 hq' (by rw [dt_kb_s]; rfl) (fun p hp => by rw [dt_kb_n kn hp])
    rw [hk] at this
    show c + (X.length + 1) = _
    have h0 : false.toNat = 0 := rfl
    omega
  · rcases List.mem_cons.mp hx with z | z
    · rw [z]
      exact fun y => h1 i hi y.symm
    · exact i9 x z i hi
theorem dt_fl {lab : dt_L} {fl : Nat} {fn ic : Int32} {a1 a2 a3 a4 a5 a6 a7 a8 a9 a10 a11 : Nat → Int32} {X : List dt_N} {C : Nat → List dt_N} {F E : Nat → Nat} {U : Nat → Bool} {M : dt_M} {B : Nat → dt_M} {w : Nat} (h : dt_hp lab fl fn ic a2 a8 a9 a10 a11 X C) (hp : dt_pg F E U M C B w a1 a3 a4 a5 a6 a7) (hX : X.length ≤ 8) : 30 ≤ fl := by
  have h1 : dt_sm (fun p => (C p).length) 24 ≤ 24 * 5 := dt_sm_bd 24 (fun p _ => by
    cases e : U p with
    | false => rw [hp.2.2.1 p e]; simp
    | true =>
      have := (hp.2.2.2 p e).2.2.2.1
      by_cases z : p = w
      · rw [if_pos z] at this
        exact this
      · rw [if_neg z] at this
        omega)
  have := h.2.2.2
  omega
section
variable {e fn ic il cn g ge st : Int32} {a1 a2 a3 a4 a5 a6 a7 a8 a9 a10 a11 a12 a13 a14 a15 a16 a17 a18 a19 a20 a21 : Nat → Int32}
theorem dt_ni {post : St2 → Prop} {F E : Nat → Nat} {U : Nat → Bool} {M : dt_M} {C : Nat → List dt_N} {B : Nat → dt_M} {w : Nat} {kn : Nat → Bool} {q : Nat} (h : dt_c1 fn ic il cn a1 a2 a3 a4 a5 a6 a7 a8 a9 a10 a11 a12 a13 F E U M C B w kn) (hq : U q = true)
    (P : ∀ (fn ic il cn : Int32) (a8 a9 a10 a11 a12 a13 : Nat → Int32) (kn' : Nat → Bool), dt_c1 fn ic il cn a1 a2 a3 a4 a5 a6 a7 a8 a9 a10 a11 a12 a13 F E U M C B w kn' → kn' q = true → (∀ p, kn' p = true → kn p = true ∨ p = q) → post (e, fn, ic, il, cn, g, ge, st, a1, a2, a3, a4, a5, a6, a7, a8, a9, a10, a11, a12, a13, a14, a15, a16, a17, a18, a19, a20, a21)) : wpX_noteInIndex post (e, fn, ic, il, cn, g, ge, st, a1, a2, a3, a4, a5, a6, a7, a8, a9, a10, a11, a12, a13, a14, a15, a16, a17, a18, a19, a20, a21) (nI (F q)) (nI q) := by
  have h0 := h
  obtain ⟨X, lab, fl, c, ip, ⟨hh, hp, hcv, hi, hd, hcn, hil, hM⟩, hX⟩ := h
  have hfl := dt_fl hh hp (by omega)
  obtain ⟨h1, h2, h3, h4⟩ := hh
  have hcX := dt_ix_c hi
  have hpq := hp.1 q hq
  have hFl : ∀ p, U p = true → F p < 4096 ∧ F p < E p := fun p hp' => by
    obtain ⟨k1, k2, _⟩ := hp.2.2.2 p hp'
    omega
  have hFq := (hFl q hq).1
  have same : ∀ q', U q' = true → F q' = F q → q' = q := fun q' hq' e => dt_Fi hcv (fun p hp' => (hFl p hp').2) hq' hq e
  subst hcn hil
  unfold wpX_noteInIndex
  dsimp only
  have found : kn q = true → post (e, fn, ic, (nI X.length), (nI c), g, ge, st, a1, a2, a3, a4, a5, a6, a7, a8, a9, a10, a11, a12, a13, a14, a15, a16, a17, a18, a19, a20, a21) := fun z => P _ _ _ _ _ _ _ _ _ _ kn h0 z (fun p hp' => Or.inl hp')
  refine pk_loop (σ := Unit) (fun n i _ => wX_noteInIndex_2 post (nI (F q)) (nI q) e fn ic (nI X.length) (nI c) g ge st a1 a2 a3 a4 a5 a6 a7 a8 a9 a10 a11 a12 a13 a14 a15 a16 a17 a18 a19 a20 a21 n (nI i)) (fun i _ => ∀ j, j < i → F (ip j) ≠ F q) c 0 () (by omega) (fun j hj => absurd hj (by omega))
    (fun n _ hI => pk_le c c (fun _ => ⟨X.length + 1, ?_⟩) (fun z => absurd z (by omega)))
    (fun n i _ hi' hI hw => pk_le c i (fun z => absurd z (by omega)) (fun z => ⟨vp_in_nI (by omega) (by decide), ?_⟩))
  · refine dt_ni32 hFq X ic _ h2 (by omega) (fun x hx e => found ?_) (fun hx f => ?_)
    · obtain ⟨q', k1, k2, k3⟩ := hi.2.2.2.2.1 x hx
      rw [← same q' (hi.2.2.2.2.2.1 q' k1).1 (by rw [← k2, e])]
      exact k1
    · have kq : kn q = false := by
        cases kq : kn q with
        | false => rfl
        | true =>
          exfalso
          rcases (hi.2.2.2.2.2.1 q kq).2 with ⟨i, hi1, hi2⟩ | ⟨x, hx1, hx2⟩
          · exact hI i hi1 (by rw [hi2])
          · obtain ⟨q', k1, k2, k3⟩ := hi.2.2.2.2.1 x hx1
            have b1 := hp.1 q' (hi.2.2.2.2.2.1 q' k1).1
            rw [k3] at hx2
            have := (nI_eq (by omega) (by omega)).mp hx2
            exact hx x hx1 (by rw [k2, this])
      obtain ⟨m, rfl⟩ : ∃ m, fl = m + 1 := ⟨fl - 1, by omega⟩
      obtain ⟨n0, f1, f2, f3, f4⟩ := h1
      obtain ⟨n1, n2, n3⟩ := dt_new (κ := 2) (k := F q) (v := nI q) (by decide) f2 f3 f4 h2 (by decide) hFq
      have core : dt_co (a11 n0) (nI n0) (nI (X.length + 1)) (nI c) a1 a2 a3 a4 a5 a6 a7 (upd a8 n0 2) (upd a9 n0 (nI (F q))) (upd a10 n0 (nI q)) (upd a11 n0 ic) a12 a13 F E U M C B w (dt_kb kn q) ((n0, 2, F q, nI q) :: X) (dt_lu lab n0 (24, X.length)) m c ip :=
        ⟨⟨n1, n2, fun p hp' => n3 p _ _ (by omega) (by omega) (h3 p hp'), by show m + (X.length + 1) + _ = 160; omega⟩, hp, hcv, dt_ix_add hi hq hpq kq hI hx, ⟨hd.1, fun p hp' => by
          rcases hd.2 p hp' with k | k
          · exact Or.inl (dt_kb_k k)
          · exact Or.inr k⟩, rfl, rfl, hM⟩
      have kb : ∀ p, dt_kb kn q p = true → kn p = true ∨ p = q := fun p hp' => by
        by_cases z : p = q
        · exact Or.inr z
        · rw [dt_kb_n kn z] at hp'
          exact Or.inl hp'
      refine br_t (by decide) (dt_nn f1 f2 ?_)
      dsimp only
      refine nm_r (nI_1 _) (pk_le (X.length + 1) 4 (fun z => ?_) (fun z => ?_))
      · exact P _ _ _ _ _ _ _ _ _ _ _ ⟨_, _, _, _, _, core, z⟩ (dt_kb_s _ _) kb
      · refine dt_ri core (by show X.length + 1 ≤ 8; omega) (fun fn' cn' a11' a12' a13' hc => ?_)
        exact P _ _ _ _ _ _ _ _ _ _ _ hc (dt_kb_s _ _) kb
  · have k := hi.2.1 i hi'
    have b := (hFl _ (hi.2.2.2.2.2.1 _ k.1).1)
    rw [nI_clamp (by omega)]
    refine pk_eq (F (ip i)) (F q) (fun y => found ?_) (fun y => nm_r (nI_1 i) (hw () (lt_s hI y))) (hx := k.2.2)
    rw [← same _ (hi.2.2.2.2.2.1 _ k.1).1 y]
    exact k.1
end
end
section
/-! from a key to its page -/
def dt_mu (U : Nat → Bool) (F : Nat → Nat) (p key : Nat) : Nat := dt_sm (fun q => (U q && decide (F p < F q) && decide (F q ≤ key)).toNat) 24
theorem dt_mu_lt {U : Nat → Bool} {F : Nat → Nat} {p q key : Nat} (hq : U q = true) (hq' : q < 24) (h1 : F p < F q) (h2 : F q ≤ key) : dt_mu U F q key < dt_mu U F p key := by
  refine dt_sm_lt (p := q) 24 (fun r _ => ?_) hq' ?_
  · by_cases a : F q < F r
    · have b : F p < F r := by omega
      rw [decide_eq_true a, decide_eq_true b]
      exact Nat.le_refl _
    · rw [decide_eq_false a]
      cases U r <;> exact Nat.zero_le _
  · rw [hq, decide_eq_true h1, decide_eq_true h2, decide_eq_false (Nat.lt_irrefl (F q))]
    decide
theorem dt_mu_pos {U : Nat → Bool} {F : Nat → Nat} {p q key : Nat} (hq : U q = true) (hq' : q < 24) (h1 : F p < F q) (h2 : F q ≤ key) : 0 < dt_mu U F p key :=
  Nat.lt_of_le_of_lt (Nat.zero_le _) (dt_mu_lt hq hq' h1 h2)
theorem dt_mu_bd (U : Nat → Bool) (F : Nat → Nat) (p key : Nat) : dt_mu U F p key ≤ 24 := dt_sm_bd (c := 1) 24 (fun q _ => dt_tn_le _)
section
variable {e fn ic il cn g ge st : Int32} {a1 a2 a3 a4 a5 a6 a7 a8 a9 a10 a11 a12 a13 a14 a15 a16 a17 a18 a19 a20 a21 : Nat → Int32}
theorem dt_pf28 {post : Int32 → St2 → Prop} {lab : dt_L} {F : Nat → Nat} {kn : Nat → Bool} {key : Nat} (hk : key < 4096) (hF : ∀ p, kn p = true → p < 24 ∧ F p < 4096) :
    ∀ (X : List dt_N) (h : Int32) (f p : Nat), dt_sg lab a8 a9 a10 a11 24 X h → (∀ x, x ∈ X → ∃ q, kn q = true ∧ x.2.2.1 = F q ∧ x.2.2.2 = nI q) → X.length < f → kn p = true → F p ≤ key →
    (∀ p' f, kn p' = true → F p' ≤ key → F p ≤ F p' → (∀ x, x ∈ X → x.2.2.1 ≤ key → x.2.2.1 ≤ F p') → wX_pageFor_28 post (nI key) e fn ic il cn g ge st a1 a2 a3 a4 a5 a6 a7 a8 a9 a10 a11 a12 a13 a14 a15 a16 a17 a18 a19 a20 a21 (f + 1) (nI p') (nI (F p')) (-1)) → wX_pageFor_28 post (nI key) e fn ic il cn g ge st a1 a2 a3 a4 a5 a6 a7 a8 a9 a10 a11 a12 a13 a14 a15 a16 a17 a18 a19 a20 a21 f (nI p) (nI (F p)) h
  | [], h, f, p, hs, hx, hf, hp, hpk, H => by
    obtain ⟨f, rfl⟩ : ∃ f', f = f' + 1 := ⟨f - 1, by simp at hf; omega⟩
    have hs' : h = -1 := hs
    subst hs'
    exact H p f hp hpk (Nat.le_refl _) (fun x hx => absurd hx List.not_mem_nil)
  | x :: t, h, f, p, hs, hx, hf, hp, hpk, H => by
    obtain ⟨f, rfl⟩ : ∃ f', f = f' + 1 := ⟨f - 1, by simp at hf; omega⟩
    have hf' : t.length + 1 < f + 1 := hf
    obtain ⟨s1, s2, s3, ⟨s4, s5, s6, s7, s8⟩, s9⟩ := hs
    subst s1
    obtain ⟨q, q1, q2, q3⟩ := hx x List.mem_cons_self
    have bq := hF q q1
    have bp := hF p hp
    have v : vp_in (nI x.1) 160 := vp_in_nI s2 (by decide)
    have hx' : ∀ x, x ∈ t → ∃ q, kn q = true ∧ x.2.2.1 = F q ∧ x.2.2.2 = nI q := fun y hy => hx y (List.mem_cons_of_mem _ hy)
    refine br_f (nI_pos (by omega)) ⟨v, ?_⟩
    rw [nI_clamp (by omega), s6, q2, s8, q3]
    refine pk_lt key (F q) (fun z => ⟨v, nm_e ?_⟩) (fun z => ⟨v, pk_le (F q) (F p) (fun y => ⟨v, nm_e ?_⟩) (fun y => ⟨v, nm_e ⟨v, nm_e ⟨v, nm_e ?_⟩⟩⟩)⟩)
    · refine dt_pf28 hk hF t _ f p s9 hx' (by omega) hp hpk (fun p' f' k1 k2 k3 k4 => H p' f' k1 k2 k3 (fun a ha ha' => ?_))
      rcases List.mem_cons.mp ha with w | w
      · rw [w] at ha' ⊢
        omega
      · exact k4 a w ha'
    · refine dt_pf28 hk hF t _ f p s9 hx' (by omega) hp hpk (fun p' f' k1 k2 k3 k4 => H p' f' k1 k2 k3 (fun a ha ha' => ?_))
      rcases List.mem_cons.mp ha with w | w
      · rw [w] at ha' ⊢
        omega
      · exact k4 a w ha'
    · refine dt_pf28 hk hF t _ f q s9 hx' (by omega) q1 z (fun p' f' k1 k2 k3 k4 => H p' f' k1 k2 (by omega) (fun a ha ha' => ?_))
      rcases List.mem_cons.mp ha with w | w
      · rw [w] at ha' ⊢
        omega
      · exact k4 a w ha'
end
section
variable {e g ge st : Int32} {a1 a2 a3 a4 a5 a6 a7 a14 a15 a16 a17 a18 a19 a20 a21 : Nat → Int32}
theorem dt_pf93 {post : Int32 → St2 → Prop} {F E : Nat → Nat} {U : Nat → Bool} {M : dt_M} {C : Nat → List dt_N} {B : Nat → dt_M} {w key : Nat} (hk : key < 4096)
    (P : ∀ (p : Nat) (fn ic il cn : Int32) (a8 a9 a10 a11 a12 a13 : Nat → Int32) (kn : Nat → Bool), dt_c1 fn ic il cn a1 a2 a3 a4 a5 a6 a7 a8 a9 a10 a11 a12 a13 F E U M C B w kn → U p = true → F p ≤ key → key < E p → kn p = true → post (nI p) (e, fn, ic, il, cn, g, ge, st, a1, a2, a3, a4, a5, a6, a7, a8, a9, a10, a11, a12, a13, a14, a15, a16, a17, a18, a19, a20, a21)) :
    ∀ (f p : Nat) (r : Int32) (s : Nat) (fn ic il cn : Int32) (a8 a9 a10 a11 a12 a13 : Nat → Int32) (kn : Nat → Bool), dt_c1 fn ic il cn a1 a2 a3 a4 a5 a6 a7 a8 a9 a10 a11 a12 a13 F E U M C B w kn → U p = true → F p ≤ key → kn p = true → (∀ q, kn q = true → F q ≤ key → F q ≤ F p) →
      (dt_dv (C p) = none → r = -1) → (∀ x, dt_dv (C p) = some x → r = nI x.1) → dt_mu U F p key < f → s + dt_mu U F p key ≤ 24 → wX_pageFor_93 post (nI key) f (nI p) r (nI s) e fn ic il cn g ge st a1 a2 a3 a4 a5 a6 a7 a8 a9 a10 a11 a12 a13 a14 a15 a16 a17 a18 a19 a20 a21
  | 0, p, r, s, fn, ic, il, cn, a8, a9, a10, a11, a12, a13, kn, h, hp, hpk, hkn, hmx, hr1, hr2, hf, hs => absurd hf (by omega)
  | f + 1, p, r, s, fn, ic, il, cn, a8, a9, a10, a11, a12, a13, kn, h, hp, hpk, hkn, hmx, hr1, hr2, hf, hs => by
    have h0 := h
    obtain ⟨X, lab, fl, c, ip, ⟨⟨h1, h2, h3, h4⟩, hg, hcv, hi, hd, hcn, hil, hM⟩, hX⟩ := h
    have hlt : ∀ p, U p = true → F p < E p := fun p hp' => (hg.2.2.2 p hp').1
    have hp24 := hg.1 p hp
    have hpE := (hg.2.2.2 p hp).2.1
    have nx : E p ≤ key → ∃ q, U q = true ∧ F q = E p := fun z => dt_nx hcv hlt hp (by omega)
    have mu1 : E p ≤ key → 0 < dt_mu U F p key := fun z => by
      obtain ⟨q, q1, q2⟩ := nx z
      have := hlt p hp
      exact dt_mu_pos q1 (hg.1 q q1) (by omega) (by omega)
    have fin : key < E p → post (nI p) (e, fn, ic, il, cn, g, ge, st, a1, a2, a3, a4, a5, a6, a7, a8, a9, a10, a11, a12, a13, a14, a15, a16, a17, a18, a19, a20, a21) := fun z => P p fn ic il cn a8 a9 a10 a11 a12 a13 kn h0 hp hpk z hkn
    cases ed : dt_dv (C p) with
    | none =>
      have z : key < E p := by
        rcases Nat.lt_or_ge key (E p) with z | z
        · exact z
        · obtain ⟨q, q1, q2⟩ := nx z
          have l1 := hlt p hp
          rcases hd.2 q q1 with k | ⟨q', x, k1, k2, k3, k4⟩
          · have := hmx q k (by omega)
            omega
          · have : q' = p := dt_Ei hcv hlt k1 hp (by omega)
            rw [this, ed] at k2
            exact absurd k2.symm (Option.some_ne_none _)
      rw [hr1 ed]
      exact pk_le 24 s (fun _ => fin z) (fun _ => br_t (by decide) (fin z))
    | some x =>
      rw [hr2 x ed]
      obtain ⟨o1, o2, o3⟩ := dt_dv_ok (hg.2.2.2 p hp).2.2.2.2.1 ed
      obtain ⟨m1, m2, m3, m4, m5, m6⟩ := dt_sg_mem (h3 p hp24) o3
      obtain ⟨q, q1, q2, q3⟩ := hd.1 p x hp ed
      have v : vp_in (nI x.1) 160 := vp_in_nI m1 (by decide)
      refine pk_le 24 s (fun z => fin ?_) (fun zs => br_f (nI_pos (by omega)) ⟨v, ?_⟩)
      · rcases Nat.lt_or_ge key (E p) with y | y
        · exact y
        · have := mu1 y
          omega
      · rw [nI_clamp (by omega), m4, o2, m6, q2]
        refine pk_lt key (E p) (fun z => fin z) (fun z => ⟨v, v, ?_⟩)
        rw [← q3]
        refine dt_ni h0 q1 (fun fn' ic' il' cn' a8' a9' a10' a11' a12' a13' kn' h' hkq hkn' => ?_)
        dsimp only
        have h0' := h'
        obtain ⟨X', lab', fl', c', ip', ⟨⟨h1', h2', h3', h4'⟩, hg', hcv', hi', hd', hcn', hil', hM'⟩, hX'⟩ := h'
        obtain ⟨m1', m2', m3', m4', m5', m6'⟩ := dt_sg_mem (h3' p hp24) o3
        have l1 := hlt p hp
        have mlt := dt_mu_lt (F := F) (p := p) (key := key) q1 (hg.1 q q1) (by omega) (by omega)
        have rcc : ∀ r, (dt_dv (C q) = none → r = -1) → (∀ x, dt_dv (C q) = some x → r = nI x.1) → wX_pageFor_93 post (nI key) f (nI q) r (nI (s + 1)) e fn' ic' il' cn' g ge st a1 a2 a3 a4 a5 a6 a7 a8' a9' a10' a11' a12' a13' a14 a15 a16 a17 a18 a19 a20 a21 := fun r hr hr' =>
          dt_pf93 hk P f q r (s + 1) fn' ic' il' cn' a8' a9' a10' a11' a12' a13' kn' h0' q1 (by omega) hkq (fun q' hq' hk' => by
            rcases hkn' q' hq' with y | y
            · have := hmx q' y hk'
              omega
            · rw [y]
              exact Nat.le_refl _) hr hr' (by omega) (by omega)
        refine ⟨v, nm_r (e' := nI q) (by rw [m6', q2]) (dt_div (hg.1 q q1) (h3' q (hg.1 q q1)) (fun y => nm_r (nI_1 s) (rcc _ (fun _ => rfl) (fun x' hx' => absurd (y.symm.trans hx') (Option.some_ne_none x').symm))) (fun x' hx' => nm_r (nI_1 s) (rcc _ (fun y => absurd (y.symm.trans hx') (Option.some_ne_none x').symm) (fun x'' hx'' => by rw [hx'] at hx''; rw [Option.some.inj hx'']))))⟩
end
section
variable {e fn ic il cn g ge st : Int32} {a1 a2 a3 a4 a5 a6 a7 a8 a9 a10 a11 a12 a13 a14 a15 a16 a17 a18 a19 a20 a21 : Nat → Int32}
theorem dt_pf {post : Int32 → St2 → Prop} {F E : Nat → Nat} {U : Nat → Bool} {M : dt_M} {C : Nat → List dt_N} {B : Nat → dt_M} {w : Nat} {kn : Nat → Bool} {key : Nat} (h : dt_c1 fn ic il cn a1 a2 a3 a4 a5 a6 a7 a8 a9 a10 a11 a12 a13 F E U M C B w kn) (hk : key < 4096)
    (P : ∀ (p : Nat) (fn ic il cn : Int32) (a8 a9 a10 a11 a12 a13 : Nat → Int32) (kn : Nat → Bool), dt_c1 fn ic il cn a1 a2 a3 a4 a5 a6 a7 a8 a9 a10 a11 a12 a13 F E U M C B w kn → U p = true → F p ≤ key → key < E p → kn p = true → post (nI p) (e, fn, ic, il, cn, g, ge, st, a1, a2, a3, a4, a5, a6, a7, a8, a9, a10, a11, a12, a13, a14, a15, a16, a17, a18, a19, a20, a21)) : wpX_pageFor post (e, fn, ic, il, cn, g, ge, st, a1, a2, a3, a4, a5, a6, a7, a8, a9, a10, a11, a12, a13, a14, a15, a16, a17, a18, a19, a20, a21) (nI key) := by
  have h0 := h
  obtain ⟨X, lab, fl, c, ip, ⟨⟨h1, h2, h3, h4⟩, hg, hcv, hi, hd, hcn, hil, hM⟩, hX⟩ := h
  have hcX := dt_ix_c hi
  obtain ⟨i1, i2, i3, i4, i5, i6, i7, i8, i9⟩ := hi
  have hF : ∀ p, kn p = true → p < 24 ∧ F p < 4096 := fun p hp => by
    obtain ⟨k1, k2, _⟩ := hg.2.2.2 p (i6 p hp).1
    exact ⟨hg.1 p (i6 p hp).1, by omega⟩
  have pi : ∀ {post : Int32 → Prop}, (∀ i, i < c → F (ip i) ≤ key → (∀ j, i < j → j < c → key < F (ip j)) → post (nI i)) → wpX_placeInIndex post (e, fn, ic, il, cn, g, ge, st, a1, a2, a3, a4, a5, a6, a7, a8, a9, a10, a11, a12, a13, a14, a15, a16, a17, a18, a19, a20, a21) (nI key) := fun {post} Pi =>
    dt_pi (q := fun i => F (ip i)) hk i1 (by omega) hcn (fun i hi => ⟨(i2 i hi).2.2, (hF _ (i2 i hi).1).2⟩) i3 i4 Pi
  unfold wpX_pageFor
  dsimp only
  refine pi (fun i hi1 hi2 hi3 => ?_)
  refine ⟨vp_in_nI (by omega) (by decide), nm_r (e' := nI (ip i)) (by rw [nI_clamp (by omega)]; exact (i2 i hi1).2.1) (pi (fun j hj1 hj2 hj3 => ?_))⟩
  have hij : j = i := by
    rcases Nat.lt_trichotomy i j with z | z | z
    · have := hi3 j z hj1
      omega
    · exact z.symm
    · have := hj3 i z hi1
      omega
  subst hij
  refine ⟨vp_in_nI (by omega) (by decide), nm_r (e' := nI (F (ip j))) (by rw [nI_clamp (by omega)]; exact (i2 j hj1).2.2) ⟨X.length + 1, ?_⟩⟩
  refine dt_pf28 hk hF X ic (X.length + 1) (ip j) h2 i5 (by omega) (i2 j hj1).1 hj2 (fun p f k1 k2 k3 k4 => br_t (by decide) ?_)
  have mx : ∀ q, kn q = true → F q ≤ key → F q ≤ F p := fun q hq hqk => by
    rcases (i6 q hq).2 with ⟨i, hi, hi'⟩ | ⟨x, hx, hx'⟩
    · rcases Nat.lt_trichotomy i j with z | z | z
      · have := i3 i j z hj1
        rw [hi'] at this
        omega
      · rw [← hi', z]
        exact k3
      · have := hj3 i z hi
        rw [hi'] at this
        omega
    · obtain ⟨q', y1, y2, y3⟩ := i5 x hx
      rw [y3] at hx'
      have e := (nI_eq (by have := (hF q' y1).1; omega) (by have := (hF q hq).1; omega)).mp hx'
      rw [e] at y2
      have := k4 x hx (by omega)
      omega
  have hU := (i6 p k1).1
  have p24 := hg.1 p hU
  refine dt_div p24 (h3 p p24) (fun y => ⟨dt_mu U F p key + 1, ?_⟩) (fun x hx => ⟨dt_mu U F p key + 1, ?_⟩)
  · exact dt_pf93 hk P _ p _ 0 _ _ _ _ _ _ _ _ _ _ kn h0 hU k2 k1 mx (fun _ => rfl) (fun x' hx' => absurd (y.symm.trans hx') (Option.some_ne_none x').symm) (by omega) (by have := dt_mu_bd U F p key; omega)
  · exact dt_pf93 hk P _ p _ 0 _ _ _ _ _ _ _ _ _ _ kn h0 hU k2 k1 mx (fun y => absurd (y.symm.trans hx) (Option.some_ne_none x).symm) (fun x' hx' => by rw [hx] at hx'; rw [Option.some.inj hx']) (by omega) (by have := dt_mu_bd U F p key; omega)
end
end
section
/-! one note applied -/
section
variable {e fn ic il cn ge st : Int32} {a1 a2 a3 a4 a5 a6 a7 a8 a9 a10 a11 a12 a13 a14 a15 a16 a17 a18 a19 a20 a21 : Nat → Int32}
theorem dt_a19 {post : St2 → Prop} {key g0 : Nat} {K : Nat → Nat} (hk : key < 4096) (h : ∀ i, i < g0 → a14 i = nI (K i) ∧ K i < 4096) (hs : ∀ i j, i < j → j < g0 → K i < K j) (hg : g0 ≤ 16)
    (P : ∀ j, dt_sp K g0 key j → post (e, fn, ic, il, cn, nI j, nI key, st, a1, a2, a3, a4, a5, a6, a7, a8, a9, a10, a11, a12, a13, a14, a15, a16, a17, a18, a19, a20, a21)) : ∀ (j s f : Nat), j ≤ g0 → s + j ≤ 16 → (∀ i, j ≤ i → i < g0 → key ≤ K i) → j < f → wX_apply_19 post (nI key) e fn ic il cn ge st a1 a2 a3 a4 a5 a6 a7 a8 a9 a10 a11 a12 a13 a14 a15 a16 a17 a18 a19 a20 a21 f (nI s) (nI j)
  | 0, s, f, h1, h2, h3, h4 => by
    obtain ⟨f, rfl⟩ : ∃ f', f = f' + 1 := ⟨f - 1, by omega⟩
    have p := P 0 ⟨by omega, fun i hi => absurd hi (by omega), h3⟩
    exact pk_le 16 s (fun _ => p) (fun _ => pk_le 0 0 (fun _ => p) (fun z => absurd z (by omega)))
  | j + 1, s, f, h1, h2, h3, h4 => by
    obtain ⟨f, rfl⟩ : ∃ f', f = f' + 1 := ⟨f - 1, by omega⟩
    refine pk_le 16 s (fun z => absurd z (by omega)) (fun _ => br_f (nI_nle (by omega) (by omega)) ?_)
    rw [nI_pred, nI_clamp (show j < 2 ^ 31 by omega)]
    have hj := h j (by omega)
    refine ⟨vp_in_nI (by omega) (by decide), pk_lt (K j) key (fun z => P (j + 1) ⟨h1, fun i hi => ?_, h3⟩) (fun z => nm_e (nm_r (nI_1 s) (dt_a19 hk h hs hg P j (s + 1) f (by omega) (by omega) (fun i hi hi' => ?_) (by omega)))) (hx := hj.1) (ha := by omega)⟩
    · by_cases y : i = j
      · rw [y]
        exact z
      · have := hs i j (by omega) (by omega)
        omega
    · by_cases y : i = j
      · rw [y]
        exact z
      · exact h3 i (by omega) hi'
end
section
variable {e fn ic il cn g ge st : Int32} {a1 a2 a3 a4 a5 a6 a7 a8 a9 a10 a11 a12 a13 a16 a17 a18 a19 a20 a21 : Nat → Int32}
/-- places from b down to j + 1 take what stood one below -/
theorem dt_a148 {post : St2 → Prop} {b j : Nat} {x1 x2 : Int32} {A14 A15 : Nat → Int32} (hb : b ≤ 15) (hj : j ≤ b)
    (P : ∀ (a14 a15 : Nat → Int32), (∀ i, i < j → a14 i = A14 i ∧ a15 i = A15 i) → (∀ i, j ≤ i → i < b → a14 (i + 1) = A14 i ∧ a15 (i + 1) = A15 i) → wX_apply_197 post x1 x2 (nI j) 0 e fn ic il cn g ge st a1 a2 a3 a4 a5 a6 a7 a8 a9 a10 a11 a12 a13 a14 a15 a16 a17 a18 a19 a20 a21) :
    ∀ (k f : Nat) (a14 a15 : Nat → Int32), j ≤ k → k ≤ b → k < f → (∀ i, i < k → a14 i = A14 i ∧ a15 i = A15 i) → (∀ i, k ≤ i → i < b → a14 (i + 1) = A14 i ∧ a15 (i + 1) = A15 i) → wX_apply_148 post x1 x2 (nI j) 0 e fn ic il cn g ge st f (nI k) a1 a2 a3 a4 a5 a6 a7 a8 a9 a10 a11 a12 a13 a14 a15 a16 a17 a18 a19 a20 a21
  | 0, f, a14, a15, h1, h2, h3, h4, h5 => by
    obtain ⟨f, rfl⟩ : ∃ f', f = f' + 1 := ⟨f - 1, by omega⟩
    have : j = 0 := by omega
    subst this
    exact pk_le 0 0 (fun _ => P a14 a15 h4 h5) (fun z => absurd z (by omega))
  | k + 1, f, a14, a15, h1, h2, h3, h4, h5 => by
    obtain ⟨f, rfl⟩ : ∃ f', f = f' + 1 := ⟨f - 1, by omega⟩
    refine pk_le (k + 1) j (fun z => ?_) (fun z => br_t rfl ?_)
    · have : j = k + 1 := by omega
      subst this
      exact P a14 a15 h4 h5
    · rw [nI_pred, nI_clamp (show k < 2 ^ 31 by omega), nI_clamp (show k + 1 < 2 ^ 31 by omega)]
      have v1 : vp_in (nI k) 16 := vp_in_nI (by omega) (by decide)
      have v2 : vp_in (nI (k + 1)) 16 := vp_in_nI (by omega) (by decide)
      refine ⟨v1, v2, nm_e ⟨v1, v2, nm_e (nm_r (pk_m1 k) (dt_a148 hb hj P k f _ _ (by omega) (by omega) (by omega) (fun i hi => ?_) (fun i hi hi' => ?_)))⟩⟩
      · rw [pk_un (by omega), pk_un (by omega)]
        exact h4 i (by omega)
      · by_cases y : i = k
        · rw [y, pk_us, pk_us]
          exact h4 k (by omega)
        · rw [pk_un (by omega), pk_un (by omega)]
          exact h5 i (by omega) hi'
/-- places from j on take what stood one above -/
theorem dt_a256 {post : St2 → Prop} {b j : Nat} {A14 A15 : Nat → Int32} (hb : b ≤ 15) (hj : j ≤ b) (hg : g = nI b)
    (P : ∀ (a14 a15 : Nat → Int32), (∀ i, i < j → a14 i = A14 i ∧ a15 i = A15 i) → (∀ i, j ≤ i → i < b → a14 i = A14 (i + 1) ∧ a15 i = A15 (i + 1)) → post (e, fn, ic, il, cn, g, ge, st, a1, a2, a3, a4, a5, a6, a7, a8, a9, a10, a11, a12, a13, a14, a15, a16, a17, a18, a19, a20, a21)) :
    ∃ n, wX_apply_256 post e fn ic il cn g ge st n (nI j) a1 a2 a3 a4 a5 a6 a7 a8 a9 a10 a11 a12 a13 A14 A15 a16 a17 a18 a19 a20 a21 := by
  refine pk_loop (σ := (Nat → Int32) × (Nat → Int32)) (fun n i s => wX_apply_256 post e fn ic il cn g ge st n (nI i) a1 a2 a3 a4 a5 a6 a7 a8 a9 a10 a11 a12 a13 s.1 s.2 a16 a17 a18 a19 a20 a21) (fun k s => (∀ i, i < j → s.1 i = A14 i ∧ s.2 i = A15 i) ∧ (∀ i, j ≤ i → i < k → s.1 i = A14 (i + 1) ∧ s.2 i = A15 (i + 1)) ∧ (∀ i, k ≤ i → s.1 i = A14 i ∧ s.2 i = A15 i) ∧ j ≤ k) b j (A14, A15) hj ⟨fun i _ => ⟨rfl, rfl⟩, fun i hi hi' => absurd hi' (by omega), fun i _ => ⟨rfl, rfl⟩, Nat.le_refl _⟩
    (fun n s hI => pk_le b b (fun _ => P s.1 s.2 hI.1 hI.2.1) (fun z => absurd z (by omega)) (hx := hg))
    (fun n k s hk hI hw => pk_le b k (fun z => absurd z (by omega)) (fun z => ?_) (hx := hg))
  obtain ⟨I1, I2, I3, I4⟩ := hI
  have v1 : vp_in (nI k) 16 := vp_in_nI (by omega) (by decide)
  have v2 : vp_in (nI (k + 1)) 16 := vp_in_nI (by omega) (by decide)
  rw [nI_1, nI_clamp (show k < 2 ^ 31 by omega), nI_clamp (show k + 1 < 2 ^ 31 by omega), (I3 (k + 1) (by omega)).1, (I3 (k + 1) (by omega)).2]
  refine ⟨v2, v1, nm_e ⟨v2, v1, nm_e (nm_e (hw (upd s.1 k (A14 (k + 1)), upd s.2 k (A15 (k + 1))) ⟨fun i hi => ?_, fun i hi hi' => ?_, fun i hi => ?_, by omega⟩))⟩⟩
  · dsimp only
    rw [pk_un (by omega), pk_un (by omega)]
    exact I1 i hi
  · dsimp only
    by_cases y : i = k
    · rw [y, pk_us, pk_us]
      exact ⟨rfl, rfl⟩
    · rw [pk_un y, pk_un y]
      exact I2 i hi (by omega)
  · dsimp only
    rw [pk_un (by omega), pk_un (by omega)]
    exact I3 i (by omega)
end
section
variable {e fn ic il cn g ge st : Int32} {a1 a2 a3 a4 a5 a6 a7 a8 a9 a10 a11 a12 a13 a14 a15 a16 a17 a18 a19 a20 a21 : Nat → Int32}
theorem dt_app {post : St2 → Prop} {n κ key g0 : Nat} {v : Int32} {m : dt_M} {K : Nat → Nat} (h : dt_rp a14 a15 g0 m K) (hg : g = nI g0) (hg0 : g0 ≤ 15) (hn : n < 160) (h8 : a8 n = nI κ) (hκ : κ < 3) (h9 : a9 n = nI key) (hk : key < 4096) (h10 : a10 n = v)
    (P : ∀ (g1 : Nat) (gx : Int32) (a14 a15 : Nat → Int32) (K : Nat → Nat), dt_rp a14 a15 g1 (if κ = 2 then dt_lo m key else if κ = 0 then dt_up m key (some v) else dt_up m key none) K → (κ = 2 → gx = nI key) → (κ ≠ 2 → gx = ge) → post (e, fn, ic, il, cn, nI g1, gx, st, a1, a2, a3, a4, a5, a6, a7, a8, a9, a10, a11, a12, a13, a14, a15, a16, a17, a18, a19, a20, a21)) : wpX_apply post (e, fn, ic, il, cn, g, ge, st, a1, a2, a3, a4, a5, a6, a7, a8, a9, a10, a11, a12, a13, a14, a15, a16, a17, a18, a19, a20, a21) (nI n) := by
  have vn : vp_in (nI n) 160 := vp_in_nI hn (by decide)
  subst hg
  unfold wpX_apply
  dsimp only
  rw [nI_clamp (show n < 2 ^ 31 by omega)]
  refine ⟨vn, nm_r h9 ⟨vn, pk_eq κ 2 (fun z => ⟨g0 + 1, ?_⟩) (fun z => ?_) (hx := h8)⟩⟩
  · subst z
    refine dt_a19 hk (fun i hi => ⟨(h.1 i hi).1, (h.1 i hi).2.1⟩) h.2.1 (by omega) (fun j hj => P j (nI key) a14 a15 K ?_ (fun _ => rfl) (fun z => absurd rfl z)) g0 0 (g0 + 1) (by omega) (by omega) (fun i hi hi' => absurd hi' (by omega)) (by omega)
    rw [if_pos rfl]
    exact dt_rp_lo h hj
  · rw [if_neg z] at P
    refine pk_loop (σ := Unit) (fun f i _ => wX_apply_74 post (nI n) (nI key) e fn ic il cn (nI g0) ge st a1 a2 a3 a4 a5 a6 a7 a8 a9 a10 a11 a12 a13 a14 a15 a16 a17 a18 a19 a20 a21 f (nI (dt_sm (fun j => (decide (K j < key)).toNat) i)) (nI i)) (fun _ _ => True) g0 0 () (by omega) trivial (fun f _ _ => ?_) (fun f i _ hi _ hw => ?_)
    · obtain ⟨j, hj, hsm⟩ := dt_sp_ex (K := K) key g0 h.2.1
      have hj1 := hj.1
      rw [hsm]
      have miss : m key = none → wX_apply_131 post (nI n) (nI key) (nI j) 0 e fn ic il cn (nI g0) ge st a1 a2 a3 a4 a5 a6 a7 a8 a9 a10 a11 a12 a13 a14 a15 a16 a17 a18 a19 a20 a21 := fun hm => by
        unfold wX_apply_131
        rw [nI_clamp (show n < 2 ^ 31 by omega)]
        refine ⟨vn, pk_eq κ 0 (fun y => ⟨g0 + 1, ?_⟩) (fun y => br_t rfl ?_) (hx := h8)⟩
        · refine dt_a148 (A14 := a14) (A15 := a15) hg0 hj1 (fun b14 b15 k1 k2 => ?_) g0 (g0 + 1) a14 a15 hj1 (Nat.le_refl _) (by omega) (fun i _ => ⟨rfl, rfl⟩) (fun i hi hi' => absurd hi' (by omega))
          unfold wX_apply_197
          refine br_t rfl ?_
          unfold wX_apply_212
          rw [nI_clamp (show n < 2 ^ 31 by omega), nI_clamp (show j < 2 ^ 31 by omega), h10]
          have vj : vp_in (nI j) 16 := vp_in_nI (by omega) (by decide)
          refine nm_r (nI_1 g0) ⟨vj, nm_e ⟨vn, vj, nm_e ?_⟩⟩
          refine P (g0 + 1) ge _ _ (fun i => if i < j then K i else if i = j then key else K (i - 1)) ?_ (fun z' => absurd z' z) (fun _ => rfl)
          rw [if_pos y]
          refine dt_rp_ins h hj hk hm (fun i hi => ?_) ⟨pk_us, pk_us⟩ (fun i hi hi' => ?_)
          · rw [pk_un (by omega), pk_un (by omega)]
            exact k1 i hi
          · rw [pk_un (by omega), pk_un (by omega)]
            exact k2 i hi hi'
        · refine P g0 ge a14 a15 K ?_ (fun z' => absurd z' z) (fun _ => rfl)
          rw [if_neg y, dt_up_e hm]
          exact h
      have none_of : (¬ (j < g0 ∧ K j = key)) → m key = none := fun z' => by
        cases em : m key with
        | none => rfl
        | some v' => exact absurd ((dt_rp_is h hj).mp (by rw [em]; exact Option.some_ne_none _)) z'
      refine pk_le g0 g0 (fun _ => ?_) (fun z' => absurd z' (by omega))
      refine pk_le g0 j (fun y => miss (none_of (fun t => absurd t.1 (by omega)))) (fun y => ⟨vp_in_nI (by omega) (by decide), ?_⟩)
      rw [nI_clamp (show j < 2 ^ 31 by omega)]
      have hKj := h.1 j y
      refine pk_eq (K j) key (fun t => ?_) (fun t => miss (none_of (fun t' => t t'.2))) (hx := hKj.1) (ha := by omega)
      unfold wX_apply_131
      rw [nI_clamp (show n < 2 ^ 31 by omega)]
      refine ⟨vn, pk_eq κ 0 (fun y' => ⟨1, ?_⟩) (fun y' => br_f (by decide) ?_) (hx := h8)⟩
      · have w : wX_apply_197 post (nI n) (nI key) (nI j) 1 e fn ic il cn (nI g0) ge st a1 a2 a3 a4 a5 a6 a7 a8 a9 a10 a11 a12 a13 a14 a15 a16 a17 a18 a19 a20 a21 := by
          unfold wX_apply_197
          refine br_f (by decide) ?_
          unfold wX_apply_212
          rw [nI_clamp (show n < 2 ^ 31 by omega), nI_clamp (show j < 2 ^ 31 by omega), h10]
          have vj : vp_in (nI j) 16 := vp_in_nI (by omega) (by decide)
          refine nm_r (e' := nI g0) (Int32.add_zero _) ⟨vj, nm_e ⟨vn, vj, nm_e ?_⟩⟩
          refine P g0 ge _ _ K ?_ (fun z' => absurd z' z) (fun _ => rfl)
          rw [if_pos y']
          refine dt_rp_set h y t (fun i hi => ?_) (fun i hi hi' => pk_un hi') pk_us
          by_cases w : i = j
          · rw [w, pk_us, hKj.1, t]
          · rw [pk_un w]
        exact br_c (fun _ => w) (fun _ => br_f (by decide) w)
      · obtain ⟨b, rfl⟩ : ∃ b, g0 = b + 1 := ⟨g0 - 1, by omega⟩
        refine nm_r (nI_pred b) (dt_a256 (by omega) (by omega) rfl (fun b14 b15 k1 k2 => P b ge b14 b15 (fun i => if i < j then K i else K (i + 1)) ?_ (fun z' => absurd z' z) (fun _ => rfl)))
        rw [if_neg y']
        exact dt_rp_del h y t k1 k2
    · have hKi := h.1 i hi
      refine pk_le g0 i (fun z' => absurd z' (by omega)) (fun _ => ⟨vp_in_nI (by omega) (by decide), ?_⟩)
      rw [nI_clamp (show i < 2 ^ 31 by omega)]
      have w := hw () trivial
      rw [dt_sm_s] at w
      refine pk_le key (K i) (fun y => nm_r (e' := nI (dt_sm (fun j => (decide (K j < key)).toNat) i)) (Int32.add_zero _) (nm_r (nI_1 i) ?_)) (fun y => nm_r (nI_1 _) (nm_r (nI_1 i) ?_)) (hy := hKi.1) (hb := by omega)
      · rw [decide_eq_false (show ¬ K i < key by omega)] at w
        exact w
      · rw [decide_eq_true y] at w
        exact w
end
end
section
theorem dt_ok_dr {f e : Nat} : ∀ (i : Nat) (L : List dt_N), dt_ok f e L → L.drop i ≠ [] → dt_ok f e (L.drop i) ∧ dt_dv (L.drop i) = dt_dv L
  | 0, L, h, _ => ⟨h, rfl⟩
  | i + 1, [], _, hn => absurd List.drop_nil hn
  | i + 1, x :: t, h, hn => by
    rw [List.drop_succ_cons] at hn ⊢
    rcases h with q | q
    · rw [q.2.1] at hn
      exact absurd List.drop_nil hn
    · have := dt_ok_dr i t q.2.2.2 hn
      rw [this.2]
      have z : ¬ x.2.1 = 2 := by omega
      exact ⟨this.1, by rw [dt_dv, if_neg z]⟩
/-! a page put together -/
section
variable {e fn ic il cn st : Int32} {a1 a2 a3 a4 a5 a6 a7 a8 a9 a10 a11 a12 a13 a16 a17 a18 a19 a20 a21 : Nat → Int32}
theorem dt_g113 {post : St2 → Prop} {lab : dt_L} {p f' e' : Nat} {b : dt_M} {L : List dt_N} {h x7 : Int32} (hs : dt_sg lab a8 a9 a10 a11 p L h) (hok : dt_ok f' e' L) (he : e' ≤ 4096) (hl : L.length ≤ 5) (hb : dt_cnt b 4096 ≤ 12) (hsz : (dt_dv L = none ∧ dt_cnt b 4096 ≤ 8) ∨ (dt_dv L ≠ none ∧ dt_cnt b e' ≤ 6))
    (h16 : ∀ j, j < L.length → ∃ x, L[j]? = some x ∧ a16 j = nI x.1)
    (P : ∀ (g0 : Nat) (ge : Int32) (a14 a15 : Nat → Int32) (K : Nat → Nat), dt_rp a14 a15 g0 (dt_ap b L) K → (dt_dv L = none → ge = x7) → (dt_dv L ≠ none → ge = nI e') → post (e, fn, ic, il, cn, nI g0, ge, st, a1, a2, a3, a4, a5, a6, a7, a8, a9, a10, a11, a12, a13, a14, a15, a16, a17, a18, a19, a20, a21)) :
    ∀ (i f g0 : Nat) (ge : Int32) (a14 a15 : Nat → Int32) (K : Nat → Nat), i ≤ L.length → i < f → dt_rp a14 a15 g0 (dt_ap b (L.drop i)) K → (dt_dv (L.drop i) = none → ge = x7) → (dt_dv (L.drop i) ≠ none → ge = nI e') → wX_gather_113 post f (nI i - 1) e fn ic il cn (nI g0) ge st a1 a2 a3 a4 a5 a6 a7 a8 a9 a10 a11 a12 a13 a14 a15 a16 a17 a18 a19 a20 a21
  | 0, f, g0, ge, a14, a15, K, h1, h2, h3, h4, h5 => by
    obtain ⟨f, rfl⟩ : ∃ f', f = f' + 1 := ⟨f - 1, by omega⟩
    exact br_t (by decide) (P g0 ge a14 a15 K h3 h4 h5)
  | i + 1, f, g0, ge, a14, a15, K, h1, h2, h3, h4, h5 => by
    obtain ⟨f, rfl⟩ : ∃ f', f = f' + 1 := ⟨f - 1, by omega⟩
    rw [nI_pred]
    refine br_f (nI_pos (by omega)) ⟨vp_in_nI (by omega) (by decide), ?_⟩
    rw [nI_clamp (show i < 2 ^ 31 by omega)]
    obtain ⟨x, hx, hx'⟩ := h16 i (by omega)
    rw [hx']
    have hdr : L.drop i = x :: L.drop (i + 1) := by
      obtain ⟨hi, hxi⟩ := List.getElem?_eq_some_iff.mp hx
      rw [List.drop_eq_getElem_cons hi, hxi]
    obtain ⟨m1, m2, m3, m4, m5, m6⟩ := dt_sg_mem hs (List.mem_of_getElem? hx)
    have hg0 : g0 ≤ 15 := by
      rw [← dt_rp_all h3]
      by_cases z : L.drop (i + 1) = []
      · rw [z]
        show dt_cnt b 4096 ≤ 15
        omega
      · obtain ⟨k1, k2⟩ := dt_ok_dr (i + 1) L hok z
        have := dt_ap_sz (b := b) he k1 (by rw [k2]; exact hsz)
        have hlen : (L.drop (i + 1)).length = L.length - (i + 1) := List.length_drop
        omega
    refine dt_app h3 rfl hg0 m1 m2 m3 m4 m5 m6 (fun g1 gx b14 b15 K' r1 r2 r3 => ?_)
    dsimp only
    refine nm_r (e' := nI i - 1) (Int32.sub_eq_add_neg (nI i) 1).symm (dt_g113 hs hok he hl hb hsz h16 P i f g1 gx b14 b15 K' (by omega) (by omega) ?_ (fun y => ?_) (fun y => ?_))
    · rw [hdr, dt_ap]
      exact r1
    · rw [hdr, dt_dv] at y
      by_cases z : x.2.1 = 2
      · rw [if_pos z] at y
        exact absurd y (Option.some_ne_none _)
      · rw [if_neg z] at y
        rw [r3 z]
        exact h4 y
    · rw [hdr, dt_dv] at y
      by_cases z : x.2.1 = 2
      · rw [r2 z]
        have : dt_dv L = some x := by
          obtain ⟨k1, k2⟩ := dt_ok_dr i L hok (by rw [hdr]; exact List.cons_ne_nil _ _)
          rw [← k2, hdr, dt_dv, if_pos z]
        rw [(dt_dv_ok hok this).2.1]
      · rw [if_neg z] at y
        rw [r3 z]
        exact h5 y
end
section
variable {e fn ic il cn g ge st : Int32} {a1 a2 a3 a4 a5 a6 a7 a8 a9 a10 a11 a12 a13 a14 a15 a17 a18 a19 a20 a21 : Nat → Int32}
theorem dt_g79 {post : St2 → Prop} {lab : dt_L} {p : Nat} {L : List dt_N} (hl : L.length ≤ 5)
    (P : ∀ (a16 : Nat → Int32), (∀ j, j < L.length → ∃ x, L[j]? = some x ∧ a16 j = nI x.1) → ∃ n, wX_gather_113 post n (nI L.length - 1) e fn ic il cn g ge st a1 a2 a3 a4 a5 a6 a7 a8 a9 a10 a11 a12 a13 a14 a15 a16 a17 a18 a19 a20 a21) :
    ∀ (t : List dt_N) (h : Int32) (i f : Nat) (a16 : Nat → Int32), L.drop i = t → i ≤ L.length → dt_sg lab a8 a9 a10 a11 p t h → t.length < f → (∀ j, j < i → ∃ x, L[j]? = some x ∧ a16 j = nI x.1) → wX_gather_79 post e fn ic il cn g ge st f (nI i) h a1 a2 a3 a4 a5 a6 a7 a8 a9 a10 a11 a12 a13 a14 a15 a16 a17 a18 a19 a20 a21
  | [], h, i, f, a16, h1, h2, hs, hf, h3 => by
    obtain ⟨f, rfl⟩ : ∃ f', f = f' + 1 := ⟨f - 1, by simp at hf; omega⟩
    have hs' : h = -1 := hs
    subst hs'
    have hi : i = L.length := by
      have := congrArg List.length h1
      rw [List.length_drop] at this
      simp at this
      omega
    subst hi
    exact br_t (by decide) (nm_e (P a16 h3))
  | x :: t, h, i, f, a16, h1, h2, hs, hf, h3 => by
    obtain ⟨f, rfl⟩ : ∃ f', f = f' + 1 := ⟨f - 1, by simp at hf; omega⟩
    have hf' : t.length + 1 < f + 1 := hf
    have hi : i < L.length := by
      have := congrArg List.length h1
      rw [List.length_drop] at this
      simp at this
      omega
    obtain ⟨s1, s2, s3, s4, s9⟩ := hs
    subst s1
    have hxi : L[i]? = some x := by
      have := congrArg (fun l => l[0]?) h1
      rw [List.getElem?_drop] at this
      exact this
    refine br_f (nI_pos (by omega)) (pk_le 8 i (fun z => absurd z (by omega)) (fun z => ?_))
    rw [nI_clamp (show i < 2 ^ 31 by omega), nI_clamp (show x.1 < 2 ^ 31 by omega)]
    refine ⟨vp_in_nI (by omega) (by decide), nm_e (nm_r (nI_1 i) ⟨vp_in_nI s2 (by decide), nm_e (dt_g79 hl P t _ (i + 1) f _ ?_ (by omega) s9 (by omega) (fun j hj => ?_))⟩)⟩
    · have : L.drop (i + 1) = (L.drop i).drop 1 := by rw [List.drop_drop]
      rw [this, h1]
      rfl
    · by_cases y : j = i
      · rw [y, pk_us]
        exact ⟨x, hxi, rfl⟩
      · rw [pk_un y]
        exact h3 j (by omega)
end
section
variable {e fn ic il cn g ge st : Int32} {a1 a2 a3 a4 a5 a6 a7 a8 a9 a10 a11 a12 a13 a14 a15 a16 a17 a18 a19 a20 a21 : Nat → Int32}
theorem dt_ga {post : St2 → Prop} {lab : dt_L} {f' e' p ll : Nat} {M b : dt_M} {L : List dt_N} (hp : p < 24) (h : dt_p1 f' e' M L b ll p (a3 p) (a4 p) (a7 p) a5 a6) (hll : ll ≤ 5) (hs : dt_sg lab a8 a9 a10 a11 p L (a2 p))
    (P : ∀ (g0 : Nat) (a14 a15 a16 : Nat → Int32) (K : Nat → Nat), dt_rp a14 a15 g0 (dt_rs M f' e') K → g0 ≤ 13 → post (e, fn, ic, il, cn, nI g0, nI e', st, a1, a2, a3, a4, a5, a6, a7, a8, a9, a10, a11, a12, a13, a14, a15, a16, a17, a18, a19, a20, a21)) : wpX_gather post (e, fn, ic, il, cn, g, ge, st, a1, a2, a3, a4, a5, a6, a7, a8, a9, a10, a11, a12, a13, a14, a15, a16, a17, a18, a19, a20, a21) (nI p) := by
  obtain ⟨p1, p2, p3, p4, p5, p6, ⟨n, K, p7, p8, p9⟩, p10, p11⟩ := h
  have hb : dt_cnt b 4096 ≤ 12 := by rw [dt_rp_all p9]; exact p8
  have hsz : (dt_dv L = none ∧ dt_cnt b 4096 ≤ 8) ∨ (dt_dv L ≠ none ∧ dt_cnt b e' ≤ 6) := by
    rcases p11 with z | z
    · exact Or.inl ⟨z.1, z.2.2.2⟩
    · exact Or.inr z
  have e12 : (12 : Int32) * nI p = nI (12 * p) := pk_mul 12 p
  unfold wpX_gather
  dsimp only
  rw [nI_clamp (show p < 2 ^ 31 by omega), p7]
  refine ⟨vp_in_nI hp (by decide), nm_e ⟨vp_in_nI hp (by decide), nm_e ?_⟩⟩
  refine pk_loop (σ := (Nat → Int32) × (Nat → Int32)) (fun f i s => wX_gather_22 post (nI p) e fn ic il cn (nI n) (a7 p) st f (nI i) a1 a2 a3 a4 a5 a6 a7 a8 a9 a10 a11 a12 a13 s.1 s.2 a16 a17 a18 a19 a20 a21) (fun i s => ∀ j, j < i → s.1 j = a5 (12 * p + j) ∧ s.2 j = a6 (12 * p + j)) n 0 (a14, a15) (by omega) (fun j hj => absurd hj (by omega))
    (fun f s hI => pk_le n n (fun _ => ⟨vp_in_nI hp (by decide), ?_⟩) (fun z => absurd z (by omega)))
    (fun f i s hi hI hw => pk_le n i (fun z => absurd z (by omega)) (fun z => ?_))
  · rw [nI_clamp (show p < 2 ^ 31 by omega)]
    refine nm_e ⟨L.length + 1, dt_g79 (by omega) (fun b16 h16 => ⟨L.length + 1, ?_⟩) L (a2 p) 0 _ a16 rfl (by omega) hs (by omega) (fun j hj => absurd hj (by omega))⟩
    refine dt_g113 (x7 := a7 p) hs p5 p2 (by omega) hb hsz h16 (fun g0 ge' b14 b15 K' r1 r2 r3 => ?_) L.length _ n (a7 p) s.1 s.2 K (Nat.le_refl _) (by omega) ?_ (fun _ => rfl) (fun y => ?_)
    · have hge : ge' = nI e' := by
        rcases p11 with z | z
        · rw [r2 z.1]
          exact z.2.1
        · exact r3 z.1
      subst hge
      have sz := dt_ap_sz (b := b) p2 p5 hsz
      rw [dt_rp_all r1] at sz
      refine P g0 b14 b15 b16 K' (dt_rp_cg r1 (fun i _ => rfl) (fun i _ => rfl) (fun k => ?_)) (by omega)
      unfold dt_rs
      by_cases z : f' ≤ k ∧ k < e'
      · rw [if_pos z]
        exact p6 k z.1 z.2
      · rw [if_neg z]
        cases eb : dt_ap b L k with
        | none => rfl
        | some v =>
          exfalso
          refine z (dt_ap_in p10 p5 (fun y => ?_) k (by rw [eb]; exact Option.some_ne_none v))
          rcases p11 with t | t
          · exact t.2.2.1
          · exact absurd y t.1
    · rw [List.drop_length]
      exact dt_rp_cg p9 (fun i hi => (hI i hi).1) (fun i hi => (hI i hi).2) (fun k => rfl)
    · rw [List.drop_length] at y
      exact absurd rfl y
  · rw [e12, nI_add, nI_clamp (show 12 * p + i < 2 ^ 31 by omega), nI_clamp (show i < 2 ^ 31 by omega)]
    have v1 : vp_in (nI (12 * p + i)) 288 := vp_in_nI (by omega) (by decide)
    have v2 : vp_in (nI i) 16 := vp_in_nI (by omega) (by decide)
    refine ⟨v1, v2, nm_e ⟨v1, v2, nm_e (nm_r (nI_1 i) (hw (upd s.1 i (a5 (12 * p + i)), upd s.2 i (a6 (12 * p + i))) (fun j hj => ?_)))⟩⟩
    dsimp only
    by_cases y : j = i
    · rw [y, pk_us, pk_us]
      exact ⟨rfl, rfl⟩
    · rw [pk_un y, pk_un y]
      exact hI j (by omega)
end
end
section
/-! a base written -/
section
variable {e fn ic il cn g ge st : Int32} {a1 a2 a3 a4 a5 a6 a7 a8 a9 a10 a11 a12 a13 a14 a15 a16 a17 a18 a19 a20 a21 : Nat → Int32}
theorem dt_kpb {post : St2 → Prop} {p f t : Nat} (hp : p < 24) (hft : f ≤ t) (ht : t ≤ 16)
    (P : ∀ (a4' a5' a6' : Nat → Int32), a4' p = nI (min (t - f) 12) → (∀ q, q ≠ p → a4' q = a4 q) → (∀ i, i < min (t - f) 12 → a5' (12 * p + i) = a14 (f + i) ∧ a6' (12 * p + i) = a15 (f + i)) → (∀ j, j < 12 * p ∨ 12 * p + 12 ≤ j → a5' j = a5 j ∧ a6' j = a6 j) → post (e, fn, ic, il, cn, g, ge, st, a1, a2, a3, a4', a5', a6', upd a7 p ge, a8, a9, a10, a11, a12, a13, a14, a15, a16, a17, a18, a19, a20, a21)) :
    wpX_keepBase post (e, fn, ic, il, cn, g, ge, st, a1, a2, a3, a4, a5, a6, a7, a8, a9, a10, a11, a12, a13, a14, a15, a16, a17, a18, a19, a20, a21) (nI p) (nI f) (nI t) := by
  have e12 : (12 : Int32) * nI p = nI (12 * p) := pk_mul 12 p
  have e12' : nI f + (12 : Int32) = nI (f + 12) := nI_add f 12
  have vp : vp_in (nI p) 24 := vp_in_nI hp (by decide)
  unfold wpX_keepBase
  dsimp only
  rw [nI_clamp (show p < 2 ^ 31 by omega)]
  refine ⟨vp, nm_e ?_⟩
  have fin : ∀ (s : (Nat → Int32) × (Nat → Int32) × (Nat → Int32)) (hI : s.1 p = nI (min t (f + 12) - f) ∧ (∀ q, q ≠ p → s.1 q = a4 q) ∧ (∀ i, f + i < min t (f + 12) → s.2.1 (12 * p + i) = a14 (f + i) ∧ s.2.2 (12 * p + i) = a15 (f + i)) ∧ (∀ j, j < 12 * p ∨ 12 * p + 12 ≤ j → s.2.1 j = a5 j ∧ s.2.2 j = a6 j)), post (e, fn, ic, il, cn, g, ge, st, a1, a2, a3, s.1, s.2.1, s.2.2, upd a7 p ge, a8, a9, a10, a11, a12, a13, a14, a15, a16, a17, a18, a19, a20, a21) := fun s hI =>
    P s.1 s.2.1 s.2.2 (by rw [hI.1, show min t (f + 12) - f = min (t - f) 12 by omega]) hI.2.1 (fun i hi => hI.2.2.1 i (by omega)) hI.2.2.2
  refine pk_loop (σ := (Nat → Int32) × (Nat → Int32) × (Nat → Int32)) (fun n k s => wX_keepBase_10 post (nI p) (nI f) (nI t) e fn ic il cn g ge st n (nI k) a1 a2 a3 s.1 s.2.1 s.2.2 a7 a8 a9 a10 a11 a12 a13 a14 a15 a16 a17 a18 a19 a20 a21)
    (fun k s => s.1 p = nI (k - f) ∧ (∀ q, q ≠ p → s.1 q = a4 q) ∧ (∀ i, f + i < k → s.2.1 (12 * p + i) = a14 (f + i) ∧ s.2.2 (12 * p + i) = a15 (f + i)) ∧ (∀ j, j < 12 * p ∨ 12 * p + 12 ≤ j → s.2.1 j = a5 j ∧ s.2.2 j = a6 j) ∧ f ≤ k)
    (min t (f + 12)) f (upd a4 p 0, a5, a6) (by omega) ⟨by dsimp only; rw [pk_us, Nat.sub_self]; rfl, fun q hq => pk_un hq, fun i hi => absurd hi (by omega), fun j _ => ⟨rfl, rfl⟩, by omega⟩
    (fun n s hI => pk_le t (min t (f + 12)) (fun z => ⟨vp, ?_⟩) (fun z => pk_le (f + 12) (min t (f + 12)) (fun z' => ⟨vp, ?_⟩) (fun z' => absurd z' (by omega)) (hx := e12')))
    (fun n k s hk hI hw => pk_le t k (fun z => absurd z (by omega)) (fun z => pk_le (f + 12) k (fun z' => absurd z' (by omega)) (fun z' => ?_) (hx := e12')))
  · rw [nI_clamp (show p < 2 ^ 31 by omega)]
    exact nm_e (fin s ⟨hI.1, hI.2.1, hI.2.2.1, hI.2.2.2.1⟩)
  · rw [nI_clamp (show p < 2 ^ 31 by omega)]
    exact nm_e (fin s ⟨hI.1, hI.2.1, hI.2.2.1, hI.2.2.2.1⟩)
  · obtain ⟨I1, I2, I3, I4, I5⟩ := hI
    rw [e12, nI_add, pk_sub (show f ≤ 12 * p + k by omega), nI_clamp (show p < 2 ^ 31 by omega), nI_clamp (show k < 2 ^ 31 by omega), nI_clamp (show 12 * p + k - f < 2 ^ 31 by omega), I1, nI_1]
    have v1 : vp_in (nI k) 16 := vp_in_nI (by omega) (by decide)
    have v2 : vp_in (nI (12 * p + k - f)) 288 := vp_in_nI (by omega) (by decide)
    refine ⟨v1, v2, nm_e ⟨v1, v2, nm_e ⟨vp, vp, nm_e (nm_r (nI_1 k) (hw (upd s.1 p (nI (k - f + 1)), upd s.2.1 (12 * p + k - f) (a14 k), upd s.2.2 (12 * p + k - f) (a15 k)) ⟨?_, fun q hq => ?_, fun i hi => ?_, fun j hj => ?_, by omega⟩))⟩⟩⟩
    · dsimp only
      rw [pk_us, show k - f + 1 = k + 1 - f by omega]
    · dsimp only
      rw [pk_un hq]
      exact I2 q hq
    · dsimp only
      by_cases y : f + i = k
      · rw [show 12 * p + i = 12 * p + k - f by omega, pk_us, pk_us, y]
        exact ⟨rfl, rfl⟩
      · rw [pk_un (by omega), pk_un (by omega)]
        exact I3 i (by omega)
    · dsimp only
      rw [pk_un (by omega), pk_un (by omega)]
      exact I4 j hj
/-! a page laid out anew -/
theorem dt_fil {post : St2 → Prop} {p T : Nat} (hp : p < 10) (hT : T ≤ 60) (hpT : p = 0 ∨ 6 * p < T)
    (P : ∀ (a4' a5' a6' : Nat → Int32), a4' p = nI (min (T - 6 * p) 6) → (∀ q, q ≠ p → a4' q = a4 q) → (∀ i, i < min (T - 6 * p) 6 → a5' (12 * p + i) = a17 (6 * p + i) ∧ a6' (12 * p + i) = a18 (6 * p + i)) → (∀ j, j < 12 * p ∨ 12 * p + 12 ≤ j → a5' j = a5 j ∧ a6' j = a6 j) →
      post (e, fn, ic, il, cn + 1, g, ge, st, a1, a2, a3, a4', a5', a6', upd a7 p (if 6 * p + 6 < T then a17 (6 * p + 6) else 4096), a8, a9, a10, a11, upd a12 p (if p = 0 then 0 else a17 (6 * p)), upd a13 p (nI p), a14, a15, a16, a17, a18, a19, a20, a21)) :
    wpX_fillPage post (e, fn, ic, il, cn, g, ge, st, a1, a2, a3, a4, a5, a6, a7, a8, a9, a10, a11, a12, a13, a14, a15, a16, a17, a18, a19, a20, a21) (nI p) (nI T) := by
  have e6 : (6 : Int32) * nI p = nI (6 * p) := pk_mul 6 p
  have e66 : nI (6 * p) + (6 : Int32) = nI (6 * p + 6) := nI_add (6 * p) 6
  have e12 : (12 : Int32) * nI p = nI (12 * p) := pk_mul 12 p
  have vp : vp_in (nI p) 24 := vp_in_nI (by omega) (by decide)
  unfold wpX_fillPage
  dsimp only
  rw [nI_clamp (show p < 2 ^ 31 by omega)]
  refine ⟨vp, nm_e (nm_r e6 ?_)⟩
  have fin : ∀ (s : (Nat → Int32) × (Nat → Int32) × (Nat → Int32)) (k : Nat) (hk : k = min T (6 * p + 6) ∨ (p = 0 ∧ T = 0 ∧ k = 0)) (hI : s.1 p = nI (k - 6 * p) ∧ (∀ q, q ≠ p → s.1 q = a4 q) ∧ (∀ i, 6 * p + i < k → s.2.1 (12 * p + i) = a17 (6 * p + i) ∧ s.2.2 (12 * p + i) = a18 (6 * p + i)) ∧ (∀ j, j < 12 * p ∨ 12 * p + 12 ≤ j → s.2.1 j = a5 j ∧ s.2.2 j = a6 j)), wX_fillPage_88 post (nI p) (nI T) e fn ic il cn g ge st a1 a2 a3 s.1 s.2.1 s.2.2 a7 a8 a9 a10 a11 a12 a13 a14 a15 a16 a17 a18 a19 a20 a21 := fun s k hk hI => by
    have p0 := P s.1 s.2.1 s.2.2 (by rw [hI.1, show k - 6 * p = min (T - 6 * p) 6 by omega]) hI.2.1 (fun i hi => hI.2.2.1 i (by omega)) hI.2.2.2
    have w145 : ∀ z, z = (if p = 0 then 0 else a17 (6 * p)) → wX_fillPage_145 post (nI p) z (nI p) e fn ic il cn g ge st a1 a2 a3 s.1 s.2.1 s.2.2 (upd a7 p (if 6 * p + 6 < T then a17 (6 * p + 6) else 4096)) a8 a9 a10 a11 a12 a13 a14 a15 a16 a17 a18 a19 a20 a21 := fun z hz => by
      subst hz
      unfold wX_fillPage_145
      rw [nI_clamp (show p < 2 ^ 31 by omega)]
      exact ⟨vp, nm_e ⟨vp, nm_e (nm_e p0)⟩⟩
    have w122 : ∀ z, z = (if 6 * p + 6 < T then a17 (6 * p + 6) else 4096) → wX_fillPage_122 post (nI p) z (nI p) e fn ic il cn g ge st a1 a2 a3 s.1 s.2.1 s.2.2 a7 a8 a9 a10 a11 a12 a13 a14 a15 a16 a17 a18 a19 a20 a21 := fun z hz => by
      subst hz
      unfold wX_fillPage_122
      rw [nI_clamp (show p < 2 ^ 31 by omega), e6, nI_clamp (show 6 * p < 2 ^ 31 by omega)]
      refine ⟨vp, nm_e (pk_eq p 0 (fun y => w145 0 (by rw [if_pos y])) (fun y => ⟨vp_in_nI (by omega) (by decide), w145 _ (by rw [if_neg y])⟩))⟩
    unfold wX_fillPage_88
    rw [e6, e66, nI_clamp (show 6 * p + 6 < 2 ^ 31 by omega)]
    exact pk_le T (6 * p + 6) (fun y => w122 4096 (by rw [if_neg (by omega)])) (fun y => ⟨vp_in_nI (by omega) (by decide), w122 _ (by rw [if_pos y])⟩)
  refine pk_loop (σ := (Nat → Int32) × (Nat → Int32) × (Nat → Int32)) (fun n k s => wX_fillPage_12 post (nI p) (nI T) e fn ic il cn g ge st n (nI k) a1 a2 a3 s.1 s.2.1 s.2.2 a7 a8 a9 a10 a11 a12 a13 a14 a15 a16 a17 a18 a19 a20 a21)
    (fun k s => s.1 p = nI (k - 6 * p) ∧ (∀ q, q ≠ p → s.1 q = a4 q) ∧ (∀ i, 6 * p + i < k → s.2.1 (12 * p + i) = a17 (6 * p + i) ∧ s.2.2 (12 * p + i) = a18 (6 * p + i)) ∧ (∀ j, j < 12 * p ∨ 12 * p + 12 ≤ j → s.2.1 j = a5 j ∧ s.2.2 j = a6 j) ∧ 6 * p ≤ k)
    (min T (6 * p + 6)) (6 * p) (upd a4 p 0, a5, a6) (by omega) ⟨by dsimp only; rw [pk_us, Nat.sub_self]; rfl, fun q hq => pk_un hq, fun i hi => absurd hi (by omega), fun j _ => ⟨rfl, rfl⟩, by omega⟩
    (fun n s hI => pk_le (6 * p + 6) (min T (6 * p + 6)) (fun z => fin s _ (Or.inl rfl) ⟨hI.1, hI.2.1, hI.2.2.1, hI.2.2.2.1⟩) (fun z => pk_le T (min T (6 * p + 6)) (fun z' => fin s _ (Or.inl rfl) ⟨hI.1, hI.2.1, hI.2.2.1, hI.2.2.2.1⟩) (fun z' => absurd z' (by omega))) (hx := by rw [e6, e66]))
    (fun n k s hk hI hw => pk_le (6 * p + 6) k (fun z => absurd z (by omega)) (fun z => pk_le T k (fun z' => absurd z' (by omega)) (fun z' => ?_)) (hx := by rw [e6, e66]))
  obtain ⟨I1, I2, I3, I4, I5⟩ := hI
  rw [nI_clamp (show p < 2 ^ 31 by omega), I1, e12, nI_add, nI_clamp (show k < 2 ^ 31 by omega), nI_clamp (show 12 * p + (k - 6 * p) < 2 ^ 31 by omega), nI_1]
  have v1 : vp_in (nI k) 60 := vp_in_nI (by omega) (by decide)
  have v2 : vp_in (nI (12 * p + (k - 6 * p))) 288 := vp_in_nI (by omega) (by decide)
  refine ⟨vp, v1, v2, nm_e ⟨vp, v1, v2, nm_e ⟨vp, vp, nm_e (nm_r (nI_1 k) (hw (upd s.1 p (nI (k - 6 * p + 1)), upd s.2.1 (12 * p + (k - 6 * p)) (a17 k), upd s.2.2 (12 * p + (k - 6 * p)) (a18 k)) ⟨?_, fun q hq => ?_, fun i hi => ?_, fun j hj => ?_, by omega⟩))⟩⟩⟩
  · dsimp only
    rw [pk_us, show k - 6 * p + 1 = k + 1 - 6 * p by omega]
  · dsimp only
    rw [pk_un hq]
    exact I2 q hq
  · dsimp only
    by_cases y : 6 * p + i = k
    · rw [show 12 * p + i = 12 * p + (k - 6 * p) by omega, pk_us, pk_us, y]
      exact ⟨rfl, rfl⟩
    · rw [pk_un (by omega), pk_un (by omega)]
      exact I3 i (by omega)
  · dsimp only
    rw [pk_un (by omega), pk_un (by omega)]
    exact I4 j hj
end
end
section
/-! what a new layout holds -/
def dt_X (fn ic il cn : Int32) (a1 a2 a3 a4 a5 a6 a7 a8 a9 a10 a11 a12 a13 : Nat → Int32) (M : dt_M) : Prop := ∃ F E U C B kn, dt_c1 fn ic il cn a1 a2 a3 a4 a5 a6 a7 a8 a9 a10 a11 a12 a13 F E U M C B 24 kn
def dt_np (T : Nat) : Nat := max 1 ((T + 5) / 6)
def dt_lF (K : Nat → Nat) (p : Nat) : Nat := if p = 0 then 0 else K (6 * p)
def dt_lE (K : Nat → Nat) (T p : Nat) : Nat := if 6 * p + 6 < T then K (6 * p + 6) else 4096
theorem dt_sm_id {c : Nat} : ∀ n, dt_sm (fun q => (decide (q < c)).toNat) n = min c n
  | 0 => by show 0 = min c 0; omega
  | n + 1 => by
    rw [dt_sm_s, dt_sm_id n]
    by_cases h : n < c
    · rw [decide_eq_true h]
      show min c n + 1 = _
      omega
    · rw [decide_eq_false h]
      show min c n + 0 = _
      omega
theorem dt_sf_all {a11 : Nat → Int32} (h : ∀ n, n < 159 → a11 n = nI (n + 1)) : ∀ m, m ≤ 160 → dt_sf (fun n => (25, 159 - n)) a11 m (nI (160 - m))
  | 0, _ => trivial
  | m + 1, hm => by
    refine ⟨159 - m, by rw [show 160 - (m + 1) = 159 - m by omega], by omega, by dsimp only; rw [show 159 - (159 - m) = m by omega], ?_⟩
    cases m with
    | zero => exact trivial
    | succ m =>
      rw [h (159 - (m + 1)) (by omega), show 159 - (m + 1) + 1 = 160 - (m + 1) by omega]
      exact dt_sf_all h (m + 1) (by omega)
theorem dt_rs_in {M : dt_M} {f e k : Nat} (h1 : f ≤ k) (h2 : k < e) : dt_rs M f e k = M k := by
  unfold dt_rs
  rw [if_pos ⟨h1, h2⟩]
theorem dt_rs_ne {M : dt_M} {f e k : Nat} (h : dt_rs M f e k ≠ none) : f ≤ k ∧ k < e ∧ M k ≠ none := by
  unfold dt_rs at h
  by_cases z : f ≤ k ∧ k < e
  · rw [if_pos z] at h
    exact ⟨z.1, z.2, h⟩
  · rw [if_neg z] at h
    exact absurd rfl h
/-- a stretch of a sorted table -/
theorem dt_rp_cut {a v a' v' : Nat → Int32} {T i0 n f e : Nat} {M : dt_M} {K : Nat → Nat} (h : dt_rp a v T M K) (hn : i0 + n ≤ T) (hf : ∀ i, i < T → (i < i0 ↔ K i < f)) (he : ∀ i, i < T → (i0 + n ≤ i ↔ e ≤ K i)) (ha : ∀ i, i < n → a' i = a (i0 + i) ∧ v' i = v (i0 + i)) :
    dt_rp a' v' n (dt_rs M f e) (fun i => K (i0 + i)) := by
  obtain ⟨h1, h2, h3⟩ := h
  refine ⟨fun i hi => ?_, fun i j hi hj => h2 _ _ (by omega) (by omega), fun k hk => ?_⟩
  · have q1 := hf (i0 + i) (by omega)
    have q2 := he (i0 + i) (by omega)
    obtain ⟨k1, k2, k3⟩ := h1 (i0 + i) (by omega)
    rw [(ha i hi).1, (ha i hi).2]
    refine ⟨k1, k2, ?_⟩
    dsimp only
    rw [dt_rs_in (by omega) (by omega)]
    exact k3
  · obtain ⟨z1, z2, z3⟩ := dt_rs_ne hk
    obtain ⟨i, hi, hi'⟩ := h3 k z3
    have q1 := hf i hi
    have q2 := he i hi
    exact ⟨i - i0, by omega, by dsimp only; rw [show i0 + (i - i0) = i by omega, hi']⟩
theorem dt_lay {a1 a2 a3 a4 a5 a6 a7 a8 a9 a10 a11 a12 a13 a17 a18 : Nat → Int32} {T : Nat} {M : dt_M} {K : Nat → Nat} (h : dt_rp a17 a18 T M K) (hT : T ≤ 60)
    (h1 : ∀ q, q < 24 → a1 q = if q < dt_np T then 1 else 0) (h2 : ∀ q, q < 24 → a2 q = -1) (h3 : ∀ q, q < 24 → a3 q = 0) (h4 : ∀ q, q < dt_np T → a4 q = nI (min (T - 6 * q) 6))
    (h5 : ∀ q, q < dt_np T → ∀ i, i < min (T - 6 * q) 6 → a5 (12 * q + i) = a17 (6 * q + i) ∧ a6 (12 * q + i) = a18 (6 * q + i)) (h7 : ∀ q, q < dt_np T → a7 q = nI (dt_lE K T q))
    (h11 : ∀ n, n < 159 → a11 n = nI (n + 1)) (h12 : ∀ q, q < dt_np T → a12 q = nI (dt_lF K q)) (h13 : ∀ q, q < dt_np T → a13 q = nI q) :
    dt_X 0 (-1) 0 (nI (dt_np T)) a1 a2 a3 a4 a5 a6 a7 a8 a9 a10 a11 a12 a13 M := by
  have hnp1 : 1 ≤ dt_np T := Nat.le_max_left _ _
  have hnp10 : dt_np T ≤ 10 := Nat.max_le.mpr ⟨by omega, by omega⟩
  have hnpT : ∀ q, q < dt_np T → q = 0 ∨ 6 * q < T := fun q hq => by
    unfold dt_np at hq
    omega
  have hnpT' : ∀ q, 6 * q < T → q < dt_np T := fun q hq => by
    unfold dt_np
    omega
  obtain ⟨g1, g2, g3⟩ := h
  have le : ∀ i j, i ≤ j → j < T → K i ≤ K j := fun i j hij hj => by
    by_cases z : i = j
    · rw [z]
      exact Nat.le_refl _
    · exact Nat.le_of_lt (g2 i j (by omega) hj)
  have hE : ∀ p, dt_lE K T p ≤ 4096 := fun p => by
    unfold dt_lE
    by_cases z : 6 * p + 6 < T
    · rw [if_pos z]
      exact Nat.le_of_lt (g1 _ z).2.1
    · rw [if_neg z]
      exact Nat.le_refl _
  have hF0 : dt_lF K 0 = 0 := by
    unfold dt_lF
    rw [if_pos rfl]
  have hFp : ∀ p, p ≠ 0 → dt_lF K p = K (6 * p) := fun p hp => by
    unfold dt_lF
    rw [if_neg hp]
  have hEi : ∀ p, 6 * p + 6 < T → dt_lE K T p = K (6 * p + 6) := fun p hp => by
    unfold dt_lE
    rw [if_pos hp]
  have hEo : ∀ p, ¬ 6 * p + 6 < T → dt_lE K T p = 4096 := fun p hp => by
    unfold dt_lE
    rw [if_neg hp]
  have hFi : ∀ p, p < dt_np T → ∀ i, i < T → (i < 6 * p ↔ K i < dt_lF K p) := fun p hp i hi => by
    by_cases z : p = 0
    · rw [z, hF0]
      omega
    · rw [hFp p z]
      have b := hnpT p hp
      constructor
      · intro y
        exact g2 i (6 * p) y (by omega)
      · intro y
        rcases Nat.lt_or_ge i (6 * p) with w | w
        · exact w
        · have := le (6 * p) i w hi
          omega
  have hEi' : ∀ p, p < dt_np T → ∀ i, i < T → (6 * p + min (T - 6 * p) 6 ≤ i ↔ dt_lE K T p ≤ K i) := fun p hp i hi => by
    by_cases z : 6 * p + 6 < T
    · rw [hEi p z, show 6 * p + min (T - 6 * p) 6 = 6 * p + 6 by omega]
      constructor
      · intro y
        exact le _ _ y hi
      · intro y
        rcases Nat.lt_or_ge i (6 * p + 6) with w | w
        · have := g2 i (6 * p + 6) w z
          omega
        · exact w
    · rw [hEo p z]
      have := (g1 i hi).2.1
      have := hnpT p hp
      omega
  have hFE : ∀ p, p < dt_np T → dt_lF K p < dt_lE K T p := fun p hp => by
    by_cases z : 6 * p + 6 < T
    · have := (hEi' p hp (6 * p + 6) z).mp (by omega)
      rw [hEi p z]
      have q := (hFi p hp (6 * p + 6) z)
      by_cases y : p = 0
      · rw [y, hF0]
        have := g2 0 (6 * 0 + 6) (by omega) (by omega)
        omega
      · rw [hFp p y]
        exact g2 _ _ (by omega) z
    · rw [hEo p z]
      by_cases y : p = 0
      · rw [y, hF0]
        omega
      · rw [hFp p y]
        have b := hnpT p hp
        exact (g1 (6 * p) (by omega)).2.1
  have hEF : ∀ p q, p < q → q < dt_np T → dt_lE K T p ≤ dt_lF K q := fun p q hpq hq => by
    have b := hnpT q hq
    rw [hEi p (by omega), hFp q (by omega)]
    exact le _ _ (by omega) (by omega)
  have hM : ∀ k, 4096 ≤ k → M k = none := fun k hk => by
    cases e : M k with
    | none => rfl
    | some v =>
      obtain ⟨i, hi, hi'⟩ := g3 k (by rw [e]; exact Option.some_ne_none v)
      have := (g1 i hi).2.1
      omega
  have dU : ∀ p, (fun p => decide (p < dt_np T)) p = true ↔ p < dt_np T := fun p => by
    dsimp only
    exact decide_eq_true_iff
  have dU' : ∀ p, (fun p => decide (p < dt_np T)) p = false ↔ ¬ p < dt_np T := fun p => by
    dsimp only
    exact decide_eq_false_iff_not
  refine ⟨dt_lF K, dt_lE K T, fun p => decide (p < dt_np T), fun _ => [], fun p => dt_rs M (dt_lF K p) (dt_lE K T p), fun p => decide (p < dt_np T), [], fun n => (25, 159 - n), 160, dt_np T, fun i => i, ⟨⟨dt_sf_all h11 160 (Nat.le_refl _), rfl, fun p hp => h2 p hp, ?_⟩, ⟨fun p hp => ?_, fun p hp => ?_, fun p _ => rfl, fun p hp => ?_⟩, ⟨fun k hk => ?_, fun p q k hp hq k1 k2 k3 k4 => ?_⟩, ⟨hnp1, fun i hi => ⟨(dU i).mpr hi, h13 i hi, h12 i hi⟩, fun i j hi hj => ?_, hF0, fun x hx => absurd hx List.not_mem_nil, fun q hq => ⟨hq, Or.inl ⟨q, (dU q).mp hq, rfl⟩⟩, ?_, trivial, fun x hx => absurd hx List.not_mem_nil⟩, ⟨fun q x hq hx => absurd hx.symm (Option.some_ne_none x), fun p hp => Or.inl hp⟩, rfl, rfl, hM⟩, Nat.zero_le _⟩
  · have : dt_sm (fun p => ((fun _ => [] : Nat → List dt_N) p).length) 24 = 0 := dt_sm_0 24
    rw [this]
    rfl
  · have := (dU p).mp hp
    omega
  · rw [h1 p hp, dU']
    by_cases z : p < dt_np T
    · rw [if_pos z]
      exact ⟨fun y => absurd y (by decide), fun y => absurd z y⟩
    · rw [if_neg z]
      exact ⟨fun _ => z, fun _ => rfl⟩
  · have hp' := (dU p).mp hp
    have hn := hnpT p hp'
    have rpp : dt_rp (fun i => a5 (12 * p + i)) (fun i => a6 (12 * p + i)) (min (T - 6 * p) 6) (dt_rs M (dt_lF K p) (dt_lE K T p)) (fun i => K (6 * p + i)) :=
      dt_rp_cut ⟨g1, g2, g3⟩ (by omega) (hFi p hp') (hEi' p hp') (h5 p hp')
    refine ⟨hFE p hp', hE p, h3 p (by omega), Nat.zero_le _, trivial, fun k k1 k2 => (dt_rs_in k1 k2).symm, ⟨_, _, h4 p hp', by omega, rpp⟩, fun k hk => (dt_rs_ne hk).1, Or.inl ⟨rfl, h7 p hp', fun k hk => (dt_rs_ne hk).2.1, ?_⟩⟩
    rw [dt_rp_all rpp]
    omega
  · obtain ⟨j, ⟨j1, j2, j3⟩, _⟩ := dt_sp_ex (K := K) (k + 1) T g2
    by_cases z : j = 0
    · refine ⟨0, (dU 0).mpr hnp1, by rw [hF0]; exact Nat.zero_le _, ?_⟩
      by_cases y : 6 * 0 + 6 < T
      · rw [hEi 0 y]
        have := j3 (6 * 0 + 6) (by omega) y
        omega
      · rw [hEo 0 y]
        exact hk
    · have hq : (j - 1) / 6 < dt_np T := by
        by_cases y : (j - 1) / 6 = 0
        · omega
        · exact hnpT' _ (by omega)
      refine ⟨(j - 1) / 6, (dU _).mpr hq, ?_, ?_⟩
      · by_cases y : (j - 1) / 6 = 0
        · rw [y, hF0]
          exact Nat.zero_le _
        · rw [hFp _ y]
          have w1 := le (6 * ((j - 1) / 6)) (j - 1) (by omega) (by omega)
          have w2 := j2 (j - 1) (by omega)
          omega
      · by_cases y : 6 * ((j - 1) / 6) + 6 < T
        · rw [hEi _ y]
          have := j3 (6 * ((j - 1) / 6) + 6) (by omega) y
          omega
        · rw [hEo _ y]
          exact hk
  · have hp' := (dU p).mp hp
    have hq' := (dU q).mp hq
    rcases Nat.lt_trichotomy p q with z | z | z
    · have := hEF p q z hq'
      omega
    · exact z
    · have := hEF q p z hp'
      omega
  · have w1 := hEF i j hi hj
    have w2 := hFE i (by omega)
    exact Nat.lt_of_lt_of_le w2 w1
  · rw [dt_sm_id 24]
    show dt_np T + 0 = _
    omega
end
section
theorem dt_nar1 : vp_nar .boolean 1 = 1 := by decide
theorem dt_nar0 : vp_nar .boolean 0 = 0 := by decide
/-- pages below p are laid out -/
def dt_lI (K : Nat → Nat) (T p : Nat) (a17 a18 : Nat → Int32) (cn : Int32) (a1 a2 a3 a4 a5 a6 a7 a12 a13 : Nat → Int32) : Prop :=
  cn = nI (min p (dt_np T)) ∧ (∀ q, q < p → a1 q = if q < dt_np T then 1 else 0) ∧ (∀ q, q < p → a2 q = -1) ∧ (∀ q, q < p → a3 q = 0) ∧
  (∀ q, q < p → q < dt_np T → a4 q = nI (min (T - 6 * q) 6) ∧ (∀ i, i < min (T - 6 * q) 6 → a5 (12 * q + i) = a17 (6 * q + i) ∧ a6 (12 * q + i) = a18 (6 * q + i)) ∧ a7 q = nI (dt_lE K T q) ∧ a12 q = nI (dt_lF K q) ∧ a13 q = nI q)
section
variable {e fn ic il g ge st : Int32} {a8 a9 a10 a11 a14 a15 a16 a17 a18 a19 a20 a21 : Nat → Int32}
theorem dt_l57 {post : St2 → Prop} {T : Nat} {M : dt_M} {K : Nat → Nat} (h : dt_rp a17 a18 T M K) (hT : T ≤ 60)
    (P : ∀ (cn : Int32) (a1 a2 a3 a4 a5 a6 a7 a12 a13 : Nat → Int32), dt_lI K T 24 a17 a18 cn a1 a2 a3 a4 a5 a6 a7 a12 a13 → post (e, fn, ic, il, cn, g, ge, st, a1, a2, a3, a4, a5, a6, a7, a8, a9, a10, a11, a12, a13, a14, a15, a16, a17, a18, a19, a20, a21)) :
    ∀ (f p : Nat) (cn : Int32) (a1 a2 a3 a4 a5 a6 a7 a12 a13 : Nat → Int32), p ≤ 24 → 24 - p < f → dt_lI K T p a17 a18 cn a1 a2 a3 a4 a5 a6 a7 a12 a13 → wX_layOut_57 post (nI T) f (nI p) e fn ic il cn g ge st a1 a2 a3 a4 a5 a6 a7 a8 a9 a10 a11 a12 a13 a14 a15 a16 a17 a18 a19 a20 a21
  | 0, p, cn, a1, a2, a3, a4, a5, a6, a7, a12, a13, hp, hf, hI => absurd hf (by omega)
  | f + 1, p, cn, a1, a2, a3, a4, a5, a6, a7, a12, a13, hp, hf, hI => by
    have e6 : (6 : Int32) * nI p = nI (6 * p) := pk_mul 6 p
    have hnp10 : dt_np T ≤ 10 := Nat.max_le.mpr ⟨by omega, by omega⟩
    refine pk_le 24 p (fun z => ?_) (fun z => ?_)
    · have : p = 24 := by omega
      subst this
      exact P cn a1 a2 a3 a4 a5 a6 a7 a12 a13 hI
    · obtain ⟨I1, I2, I3, I4, I5⟩ := hI
      have vp : vp_in (nI p) 24 := vp_in_nI (by omega) (by decide)
      have b1 : ∀ x, (x = if p < dt_np T then 1 else 0) → ∀ q, q < p + 1 → upd a1 p x q = if q < dt_np T then 1 else 0 := fun x hx q hq => by
        by_cases y : q = p
        · rw [y, pk_us, hx]
        · rw [pk_un y]
          exact I2 q (by omega)
      have b2 : ∀ q, q < p + 1 → upd a2 p (-1) q = -1 := fun q hq => by
        by_cases y : q = p
        · rw [y, pk_us]
        · rw [pk_un y]
          exact I3 q (by omega)
      have b3 : ∀ q, q < p + 1 → upd a3 p 0 q = 0 := fun q hq => by
        by_cases y : q = p
        · rw [y, pk_us]
        · rw [pk_un y]
          exact I4 q (by omega)
      have off : ¬ p < dt_np T → wX_layOut_85 post (wX_layOut_57 post (nI T) f) (nI T) (nI p) 0 (nI p) e fn ic il cn g ge st a1 a2 a3 a4 a5 a6 a7 a8 a9 a10 a11 a12 a13 a14 a15 a16 a17 a18 a19 a20 a21 := fun y => by
        unfold wX_layOut_85
        rw [nI_clamp (show p < 2 ^ 31 by omega), dt_nar0]
        refine ⟨vp, nm_e ⟨vp, nm_e ⟨vp, nm_e ⟨vp, br_t pk_us (nm_r (nI_1 p) (dt_l57 h hT P f (p + 1) _ _ _ _ _ _ _ _ _ _ (by omega) (by omega) ⟨?_, b1 0 (by rw [if_neg y]), b2, b3, fun q hq hq' => I5 q (by omega) hq'⟩))⟩⟩⟩⟩
        rw [I1, show min (p + 1) (dt_np T) = min p (dt_np T) by omega]
      have on : p < dt_np T → wX_layOut_80 post (wX_layOut_57 post (nI T) f) (nI T) (nI p) (nI p) e fn ic il cn g ge st a1 a2 a3 a4 a5 a6 a7 a8 a9 a10 a11 a12 a13 a14 a15 a16 a17 a18 a19 a20 a21 := fun y => by
        have hpT : p = 0 ∨ 6 * p < T := by
          unfold dt_np at y
          omega
        unfold wX_layOut_80 wX_layOut_85
        rw [nI_clamp (show p < 2 ^ 31 by omega), dt_nar1]
        refine ⟨vp, nm_e ⟨vp, nm_e ⟨vp, nm_e ⟨vp, br_f (by rw [pk_us]; decide) (dt_fil (by omega) hT hpT (fun a4' a5' a6' k1 k2 k3 k4 => ?_))⟩⟩⟩⟩
        dsimp only
        refine nm_r (nI_1 p) (dt_l57 h hT P f (p + 1) _ _ _ _ _ _ _ _ _ _ (by omega) (by omega) ⟨?_, b1 1 (by rw [if_pos y]), b2, b3, fun q hq hq' => ?_⟩)
        · rw [I1, nI_1, show min (p + 1) (dt_np T) = min p (dt_np T) + 1 by omega]
        · by_cases w : q = p
          · subst w
            refine ⟨k1, k3, ?_, ?_, pk_us⟩
            · rw [pk_us]
              unfold dt_lE
              by_cases t : 6 * q + 6 < T
              · rw [if_pos t, if_pos t, (h.1 _ t).1]
              · rw [if_neg t, if_neg t]
                rfl
            · rw [pk_us]
              unfold dt_lF
              by_cases t : q = 0
              · rw [if_pos t, if_pos t]
                rfl
              · rw [if_neg t, if_neg t, (h.1 _ (by omega)).1]
          · obtain ⟨j1, j2, j3, j4, j5⟩ := I5 q (by omega) hq'
            refine ⟨by rw [k2 q w]; exact j1, fun i hi => ?_, by rw [pk_un w]; exact j3, by rw [pk_un w]; exact j4, by rw [pk_un w]; exact j5⟩
            rw [(k4 (12 * q + i) (by omega)).1, (k4 (12 * q + i) (by omega)).2]
            exact j2 i hi
      have c1 : p = 0 → p < dt_np T := fun y => by
        unfold dt_np
        omega
      have c2 : 6 * p < T → p < dt_np T := fun y => by
        unfold dt_np
        omega
      have c3 : p ≠ 0 → T ≤ 6 * p → ¬ p < dt_np T := fun y y' => by
        unfold dt_np
        omega
      exact pk_eq p 0 (fun y => on (c1 y)) (fun y => pk_le T (6 * p) (fun y' => off (c3 y y')) (fun y' => on (c2 y')) (hy := e6))
end
section
variable {e fn ic il cn g ge st : Int32} {a1 a2 a3 a4 a5 a6 a7 a8 a9 a10 a11 a12 a13 a14 a15 a16 a17 a18 a19 a20 a21 : Nat → Int32}
theorem dt_lo1 {post : St2 → Prop} {T : Nat} {M : dt_M} {K : Nat → Nat} (h : dt_rp a17 a18 T M K) (hT : T ≤ 60)
    (P : ∀ (cn : Int32) (a1 a2 a3 a4 a5 a6 a7 a11 a12 a13 : Nat → Int32), dt_X 0 (-1) 0 cn a1 a2 a3 a4 a5 a6 a7 a8 a9 a10 a11 a12 a13 M → post (e, 0, (-1), 0, cn, g, ge, st, a1, a2, a3, a4, a5, a6, a7, a8, a9, a10, a11, a12, a13, a14, a15, a16, a17, a18, a19, a20, a21)) : wpX_layOut post (e, fn, ic, il, cn, g, ge, st, a1, a2, a3, a4, a5, a6, a7, a8, a9, a10, a11, a12, a13, a14, a15, a16, a17, a18, a19, a20, a21) (nI T) := by
  unfold wpX_layOut
  dsimp only
  refine pk_loop (fun n i s => wX_layOut_2 post (nI T) e fn ic il cn g ge st n (nI i) a1 a2 a3 a4 a5 a6 a7 a8 a9 a10 s a12 a13 a14 a15 a16 a17 a18 a19 a20 a21) (fun i s => ∀ n, n < i → n < 159 → s n = nI (n + 1)) 160 0 a11 (by omega) (fun n hn => absurd hn (by omega))
    (fun n s hI => pk_le 160 160 (fun _ => ⟨25, ?_⟩) (fun z => absurd z (by omega)))
    (fun n i s hi hI hw => pk_le 160 i (fun z => absurd z (by omega)) (fun z => ?_))
  · refine dt_l57 h hT (fun cn a1 a2 a3 a4 a5 a6 a7 a12 a13 ⟨I1, I2, I3, I4, I5⟩ => ?_) 25 0 0 a1 a2 a3 a4 a5 a6 a7 a12 a13 (by omega) (by omega) ⟨by rw [Nat.zero_min]; rfl, fun q hq => absurd hq (by omega), fun q hq => absurd hq (by omega), fun q hq => absurd hq (by omega), fun q hq => absurd hq (by omega)⟩
    have hnp10 : dt_np T ≤ 10 := Nat.max_le.mpr ⟨by omega, by omega⟩
    refine P cn a1 a2 a3 a4 a5 a6 a7 s a12 a13 ?_
    rw [I1, show min 24 (dt_np T) = dt_np T by omega]
    exact dt_lay h hT I2 I3 I4 (fun q hq => (I5 q (by omega) hq).1) (fun q hq => (I5 q (by omega) hq).2.1) (fun q hq => (I5 q (by omega) hq).2.2.1) (fun n hn => hI n (by omega) hn) (fun q hq => (I5 q (by omega) hq).2.2.2.1) (fun q hq => (I5 q (by omega) hq).2.2.2.2)
  · have v : vp_in (nI i) 160 := vp_in_nI hi (by decide)
    rw [nI_clamp (show i < 2 ^ 31 by omega)]
    refine pk_eq i 159 (fun y => ⟨v, nm_e (nm_r (nI_1 i) (hw (upd s i (-1)) (fun n hn hn' => ?_)))⟩) (fun y => ⟨v, nm_r (by rw [nI_1]) (nm_r (nI_1 i) (hw (upd s i (nI (i + 1))) (fun n hn hn' => ?_)))⟩)
    · rw [pk_un (by omega)]
      exact hI n (by omega) hn'
    · by_cases w : n = i
      · rw [w, pk_us]
      · rw [pk_un w]
        exact hI n (by omega) hn'
end
end
section
/-! all pages made anew -/
def dt_nu (U : Nat → Bool) (E : Nat → Nat) (key : Nat) : Nat := dt_sm (fun q => (U q && decide (key < E q)).toNat) 24
theorem dt_nu_lt {U : Nat → Bool} {E : Nat → Nat} {p key : Nat} (hp : U p = true) (hp' : p < 24) (h : key < E p) : dt_nu U E (E p) < dt_nu U E key := by
  refine dt_sm_lt (p := p) 24 (fun r _ => ?_) hp' ?_
  · by_cases a : E p < E r
    · have b : key < E r := by omega
      rw [decide_eq_true a, decide_eq_true b]
      exact Nat.le_refl _
    · rw [decide_eq_false a]
      cases U r <;> exact Nat.zero_le _
  · rw [hp, decide_eq_true h, decide_eq_false (Nat.lt_irrefl (E p))]
    decide
theorem dt_nu_bd (U : Nat → Bool) (E : Nat → Nat) (key : Nat) : dt_nu U E key ≤ 24 := dt_sm_bd (c := 1) 24 (fun q _ => dt_tn_le _)
theorem dt_nu_pos {F E : Nat → Nat} {U : Nat → Bool} (h : dt_cv F E U) (hU : ∀ p, U p = true → p < 24) {key : Nat} (hk : key < 4096) : 0 < dt_nu U E key := by
  obtain ⟨p, p1, p2, p3⟩ := h.1 key hk
  exact Nat.lt_of_le_of_lt (Nat.zero_le _) (dt_nu_lt p1 (hU p p1) p3)
theorem dt_rp_app {a v b c a' v' : Nat → Int32} {T n f e : Nat} {M : dt_M} {K L : Nat → Nat} (h : dt_rp a v T (dt_lo M f) K) (h' : dt_rp b c n (dt_rs M f e) L) (hfe : f ≤ e) (h1 : ∀ i, i < T → a' i = a i ∧ v' i = v i) (h2 : ∀ i, i < n → a' (T + i) = b i ∧ v' (T + i) = c i) :
    dt_rp a' v' (T + n) (dt_lo M e) (fun i => if i < T then K i else L (i - T)) := by
  obtain ⟨k1, k2, k3⟩ := h
  obtain ⟨l1, l2, l3⟩ := h'
  have e1 : ∀ i, i < T → (fun i => if i < T then K i else L (i - T)) i = K i := fun i hi => by
    dsimp only
    rw [if_pos hi]
  have e2 : ∀ i, (fun i => if i < T then K i else L (i - T)) (T + i) = L i := fun i => by
    dsimp only
    rw [if_neg (by omega), Nat.add_sub_cancel_left]
  have cs : ∀ i, i < T ∨ ∃ j, i = T + j := fun i => by
    rcases Nat.lt_or_ge i T with z | z
    · exact Or.inl z
    · exact Or.inr ⟨i - T, by omega⟩
  have kf : ∀ i, i < T → K i < f ∧ M (K i) = some (v i) := fun i hi => by
    have := (k1 i hi).2.2
    rcases Nat.lt_or_ge (K i) f with z | z
    · rw [dt_lo_s z] at this
      exact ⟨z, this⟩
    · rw [dt_lo_n z] at this
      exact absurd this.symm (Option.some_ne_none _)
  have lf : ∀ i, i < n → f ≤ L i ∧ L i < e ∧ M (L i) = some (c i) := fun i hi => by
    have := (l1 i hi).2.2
    obtain ⟨z1, z2, z3⟩ := dt_rs_ne (M := M) (f := f) (e := e) (k := L i) (by rw [this]; exact Option.some_ne_none _)
    rw [dt_rs_in z1 z2] at this
    exact ⟨z1, z2, this⟩
  refine ⟨fun i hi => ?_, fun i j hi hj => ?_, fun k hk => ?_⟩
  · rcases cs i with z | ⟨j, rfl⟩
    · rw [e1 i z, (h1 i z).1, (h1 i z).2]
      have := kf i z
      exact ⟨(k1 i z).1, (k1 i z).2.1, by rw [dt_lo_s (by omega)]; exact this.2⟩
    · have hj : j < n := by omega
      rw [e2 j, (h2 j hj).1, (h2 j hj).2]
      have := lf j hj
      exact ⟨(l1 j hj).1, (l1 j hj).2.1, by rw [dt_lo_s this.2.1]; exact this.2.2⟩
  · rcases cs i with z | ⟨i', rfl⟩
    · rw [e1 i z]
      rcases cs j with y | ⟨j', rfl⟩
      · rw [e1 j y]
        exact k2 i j hi y
      · rw [e2 j']
        have q1 := kf i z
        have q2 := lf j' (by omega)
        omega
    · rcases cs j with y | ⟨j', rfl⟩
      · omega
      · rw [e2 i', e2 j']
        exact l2 i' j' (by omega) (by omega)
  · rcases Nat.lt_or_ge k e with z | z
    · rw [dt_lo_s z] at hk
      rcases Nat.lt_or_ge k f with y | y
      · obtain ⟨i, hi, hi'⟩ := k3 k (by rw [dt_lo_s y]; exact hk)
        exact ⟨i, by omega, by rw [e1 i hi, hi']⟩
      · obtain ⟨i, hi, hi'⟩ := l3 k (by rw [dt_rs_in y z]; exact hk)
        exact ⟨T + i, by omega, by rw [e2 i, hi']⟩
    · rw [dt_lo_n z] at hk
      exact absurd rfl hk
section
variable {e fn ic il cn g ge st : Int32} {a1 a2 a3 a4 a5 a6 a7 a8 a9 a10 a11 a12 a13 a14 a15 a16 a17 a18 a19 a20 a21 : Nat → Int32}
theorem dt_ma90 {post : St2 → Prop} {T : Nat} {M : dt_M} {K : Nat → Nat} (h : dt_rp a17 a18 T M K) (hT : T ≤ 60)
    (P : ∀ (fn ic il cn g ge : Int32) (a1 a2 a3 a4 a5 a6 a7 a8 a9 a10 a11 a12 a13 a14 a15 a16 a17 a18 : Nat → Int32), dt_X fn ic il cn a1 a2 a3 a4 a5 a6 a7 a8 a9 a10 a11 a12 a13 M → post (e, fn, ic, il, cn, g, ge, st, a1, a2, a3, a4, a5, a6, a7, a8, a9, a10, a11, a12, a13, a14, a15, a16, a17, a18, a19, a20, a21)) : wX_makeAnew_90 post (nI T) e fn ic il cn g ge st a1 a2 a3 a4 a5 a6 a7 a8 a9 a10 a11 a12 a13 a14 a15 a16 a17 a18 a19 a20 a21 := by
  unfold wX_makeAnew_90
  refine dt_lo1 h hT (fun cn a1 a2 a3 a4 a5 a6 a7 a11 a12 a13 hX => ?_)
  dsimp only
  exact P _ _ _ _ _ _ _ _ _ _ _ _ _ _ _ _ _ _ _ _ _ _ _ _ hX
end
section
variable {e st : Int32} {a1 a2 a3 a4 a5 a6 a7 a19 a20 a21 : Nat → Int32}
theorem dt_ma6 {post : St2 → Prop} {F E : Nat → Nat} {U : Nat → Bool} {M : dt_M} {C : Nat → List dt_N} {B : Nat → dt_M} {w : Nat} (hcnt : dt_cnt M 4096 ≤ 60)
    (P : ∀ (fn ic il cn g ge : Int32) (a1 a2 a3 a4 a5 a6 a7 a8 a9 a10 a11 a12 a13 a14 a15 a16 a17 a18 : Nat → Int32), dt_X fn ic il cn a1 a2 a3 a4 a5 a6 a7 a8 a9 a10 a11 a12 a13 M → post (e, fn, ic, il, cn, g, ge, st, a1, a2, a3, a4, a5, a6, a7, a8, a9, a10, a11, a12, a13, a14, a15, a16, a17, a18, a19, a20, a21)) :
    ∀ (f T key s : Nat) (fn ic il cn g ge : Int32) (a8 a9 a10 a11 a12 a13 a14 a15 a16 a17 a18 : Nat → Int32) (kn : Nat → Bool) (K : Nat → Nat), dt_c1 fn ic il cn a1 a2 a3 a4 a5 a6 a7 a8 a9 a10 a11 a12 a13 F E U M C B w kn → key ≤ 4096 → (key < 4096 → ∃ q, U q = true ∧ F q = key) → dt_rp a17 a18 T (dt_lo M key) K → dt_nu U E key < f → s + dt_nu U E key ≤ 24 → wX_makeAnew_6 post f (nI T) (nI key) (nI s) e fn ic il cn g ge st a1 a2 a3 a4 a5 a6 a7 a8 a9 a10 a11 a12 a13 a14 a15 a16 a17 a18 a19 a20 a21
  | 0, T, key, s, fn, ic, il, cn, g, ge, a8, a9, a10, a11, a12, a13, a14, a15, a16, a17, a18, kn, K, h, hk, hq, hr, hf, hs => absurd hf (by omega)
  | f + 1, T, key, s, fn, ic, il, cn, g, ge, a8, a9, a10, a11, a12, a13, a14, a15, a16, a17, a18, kn, K, h, hk, hq, hr, hf, hs => by
    have h0 := h
    obtain ⟨X, lab, fl, c, ip, ⟨⟨h1, h2, h3, h4⟩, hg, hcv, hi, hd, hcn, hil, hM⟩, hX⟩ := h
    have hTc : T = dt_cnt M key := by rw [← dt_rp_all hr, dt_cnt_lo 4096 hk]
    have hT : T ≤ 60 := by
      have := dt_cnt_mo (M := M) hk
      omega
    have fin : 4096 ≤ key → wX_makeAnew_90 post (nI T) e fn ic il cn g ge st a1 a2 a3 a4 a5 a6 a7 a8 a9 a10 a11 a12 a13 a14 a15 a16 a17 a18 a19 a20 a21 := fun z => by
      have : key = 4096 := by omega
      subst this
      refine dt_ma90 (dt_rp_cg hr (fun i _ => rfl) (fun i _ => rfl) (fun k => ?_)) hT P
      rcases Nat.lt_or_ge k 4096 with y | y
      · rw [dt_lo_s y]
      · rw [dt_lo_n y, hM k y]
    refine pk_le 24 s (fun z => fin ?_) (fun zs => pk_le 4096 key (fun z => fin z) (fun zk => ?_))
    · rcases Nat.lt_or_ge key 4096 with y | y
      · have := dt_nu_pos hcv hg.1 y
        omega
      · exact y
    · refine dt_pf h0 zk (fun p fn' ic' il' cn' a8' a9' a10' a11' a12' a13' kn' h' hp pk1 pk2 pkn => ?_)
      dsimp only
      have h0' := h'
      obtain ⟨X', lab', fl', c', ip', ⟨⟨h1', h2', h3', h4'⟩, hg', hcv', hi', hd', hcn', hil', hM'⟩, hX'⟩ := h'
      have p24 := hg.1 p hp
      have hll : (if p = w then 5 else 4) ≤ 5 := by
        by_cases z : p = w
        · rw [if_pos z]
          exact Nat.le_refl _
        · rw [if_neg z]
          decide
      have hFp : F p = key := by
        obtain ⟨q, q1, q2⟩ := hq zk
        have l := (hg.2.2.2 q q1).1
        have : p = q := hcv.2 p q key hp q1 pk1 pk2 (by omega) (by omega)
        rw [this, q2]
      refine dt_ga p24 (hg'.2.2.2 p hp) hll (h3' p p24) (fun g0 b14 b15 b16 Kg r1 r2 => ?_)
      dsimp only
      have hEp := (hg.2.2.2 p hp).2.1
      have comb := dt_rp_app (a' := fun i => if i < T then a17 i else b14 (i - T)) (v' := fun i => if i < T then a18 i else b15 (i - T)) hr (by rw [← hFp]; exact r1) (by omega : key ≤ E p)
        (fun i hi => by rw [if_pos hi, if_pos hi]; exact ⟨rfl, rfl⟩) (fun i hi => by rw [if_neg (by omega), if_neg (by omega), Nat.add_sub_cancel_left]; exact ⟨rfl, rfl⟩)
      have sz : T + g0 ≤ 60 := by
        rw [← dt_rp_all comb, dt_cnt_lo 4096 hEp]
        have := dt_cnt_mo (M := M) hEp
        omega
      have nul := dt_nu_lt hp p24 pk2
      refine pk_loop (σ := (Nat → Int32) × (Nat → Int32)) (fun n i t => wX_makeAnew_35 post (wX_makeAnew_6 post f) (nI s) e fn' ic' il' cn' (nI g0) (nI (E p)) st n (nI (T + i)) (nI i) a1 a2 a3 a4 a5 a6 a7 a8' a9' a10' a11' a12' a13' b14 b15 b16 t.1 t.2 a19 a20 a21)
        (fun i t => (∀ j, j < T → t.1 j = a17 j ∧ t.2 j = a18 j) ∧ (∀ j, j < i → t.1 (T + j) = b14 j ∧ t.2 (T + j) = b15 j)) g0 0 (a17, a18) (by omega) ⟨fun j _ => ⟨rfl, rfl⟩, fun j hj => absurd hj (by omega)⟩
        (fun n t hI => pk_le g0 g0 (fun _ => nm_r (nI_1 s) ?_) (fun z => absurd z (by omega)))
        (fun n i t hi hI hw => pk_le g0 i (fun z => absurd z (by omega)) (fun z => ?_))
      · refine dt_ma6 hcnt P f (T + g0) (E p) (s + 1) _ _ _ _ _ _ _ _ _ _ _ _ _ _ _ _ _ kn' _ h0' hEp (fun z => dt_nx hcv (fun p hp' => (hg.2.2.2 p hp').1) hp z) (dt_rp_app hr (by rw [← hFp]; exact r1) (by omega) hI.1 hI.2) (by omega) (by omega)
      · rw [nI_clamp (show i < 2 ^ 31 by omega), nI_clamp (show T + i < 2 ^ 31 by omega)]
        have v1 : vp_in (nI i) 16 := vp_in_nI (by omega) (by decide)
        have v2 : vp_in (nI (T + i)) 60 := vp_in_nI (by omega) (by decide)
        refine ⟨v1, v2, nm_e ⟨v1, v2, nm_e (nm_r (nI_1 (T + i)) (nm_r (nI_1 i) (hw (upd t.1 (T + i) (b14 i), upd t.2 (T + i) (b15 i)) ⟨fun j hj => ?_, fun j hj => ?_⟩)))⟩⟩
        · dsimp only
          rw [pk_un (by omega), pk_un (by omega)]
          exact hI.1 j hj
        · dsimp only
          by_cases y : j = i
          · rw [y, pk_us, pk_us]
            exact ⟨rfl, rfl⟩
          · rw [pk_un (by omega), pk_un (by omega)]
            exact hI.2 j (by omega)
end
section
variable {e fn ic il cn g ge st : Int32} {a1 a2 a3 a4 a5 a6 a7 a8 a9 a10 a11 a12 a13 a14 a15 a16 a17 a18 a19 a20 a21 : Nat → Int32}
theorem dt_ma {post : St2 → Prop} {F E : Nat → Nat} {U : Nat → Bool} {M : dt_M} {C : Nat → List dt_N} {B : Nat → dt_M} {w : Nat} {kn : Nat → Bool} (h : dt_c1 fn ic il cn a1 a2 a3 a4 a5 a6 a7 a8 a9 a10 a11 a12 a13 F E U M C B w kn) (hcnt : dt_cnt M 4096 ≤ 60)
    (P : ∀ (fn ic il cn g ge : Int32) (a1 a2 a3 a4 a5 a6 a7 a8 a9 a10 a11 a12 a13 a14 a15 a16 a17 a18 : Nat → Int32), dt_X fn ic il cn a1 a2 a3 a4 a5 a6 a7 a8 a9 a10 a11 a12 a13 M → post (e, fn, ic, il, cn, g, ge, st, a1, a2, a3, a4, a5, a6, a7, a8, a9, a10, a11, a12, a13, a14, a15, a16, a17, a18, a19, a20, a21)) : wpX_makeAnew post (e, fn, ic, il, cn, g, ge, st, a1, a2, a3, a4, a5, a6, a7, a8, a9, a10, a11, a12, a13, a14, a15, a16, a17, a18, a19, a20, a21) := by
  have h0 := h
  obtain ⟨X, lab, fl, c, ip, ⟨⟨h1, h2, h3, h4⟩, hg, hcv, hi, hd, hcn, hil, hM⟩, hX⟩ := h
  unfold wpX_makeAnew
  dsimp only
  refine ⟨dt_nu U E 0 + 1, dt_ma6 hcnt P _ 0 0 0 _ _ _ _ _ _ _ _ _ _ _ _ _ _ _ _ _ kn (fun _ => 0) h0 (by omega) (fun _ => ?_) ⟨fun i hi => absurd hi (by omega), fun i j _ hj => absurd hj (by omega), fun k hk => ?_⟩ (by omega) (by have := dt_nu_bd U E 0; omega)⟩
  · obtain ⟨p, p1, p2, p3⟩ := hcv.1 0 (by omega)
    exact ⟨p, p1, by omega⟩
  · rw [dt_lo_n (by omega)] at hk
    exact absurd rfl hk
end
end
section
/-! a page's notes become its base -/
def dt_fu {α : Type} (f : Nat → α) (p : Nat) (x : α) : Nat → α := fun q => if q = p then x else f q
theorem dt_fu_s {α : Type} (f : Nat → α) (p : Nat) (x : α) : dt_fu f p x p = x := by
  unfold dt_fu
  rw [if_pos rfl]
theorem dt_fu_n {α : Type} (f : Nat → α) {p q : Nat} (x : α) (h : q ≠ p) : dt_fu f p x q = f q := by
  unfold dt_fu
  rw [if_neg h]
theorem dt_p1_fr {f e : Nat} {M M' : dt_M} {L : List dt_N} {b : dt_M} {ll ll' q : Nat} {x3 x4 x7 : Int32} {a5 a6 a5' a6' : Nat → Int32} (h : dt_p1 f e M L b ll q x3 x4 x7 a5 a6) (hl : ll ≤ ll') (hM : ∀ k, f ≤ k → k < e → M' k = M k) (ha : ∀ i, i < 12 → a5' (12 * q + i) = a5 (12 * q + i) ∧ a6' (12 * q + i) = a6 (12 * q + i)) : dt_p1 f e M' L b ll' q x3 x4 x7 a5' a6' := by
  obtain ⟨h1, h2, h3, h4, h5, h6, ⟨n, K, h7, h8, h9⟩, h10⟩ := h
  refine ⟨h1, h2, h3, by omega, h5, fun k k1 k2 => by rw [hM k k1 k2]; exact h6 k k1 k2, ⟨n, K, h7, h8, dt_rp_cg h9 (fun i hi => (ha i (by omega)).1) (fun i hi => (ha i (by omega)).2) (fun k => rfl)⟩, h10⟩
theorem dt_sum_up {C : Nat → List dt_N} {p : Nat} (L : List dt_N) (hp : p < 24) : dt_sm (fun q => (dt_fu C p L q).length) 24 + (C p).length = dt_sm (fun q => (C q).length) 24 + L.length :=
  dt_sm_up (f := fun q => (C q).length) 24 hp (by rw [dt_fu_s]) (fun q hq => by rw [dt_fu_n C L hq])
section
variable {fn ic il cn : Int32} {a1 a2 a3 a4 a5 a6 a7 a8 a9 a10 a11 a12 a13 a14 a15 : Nat → Int32}
theorem dt_rw_small {F E : Nat → Nat} {U : Nat → Bool} {M : dt_M} {C : Nat → List dt_N} {B : Nat → dt_M} {kn : Nat → Bool} {X : List dt_N} {lab : dt_L} {fl c p g0 : Nat} {ip Kg : Nat → Nat} (h : dt_co fn ic il cn a1 a2 a3 a4 a5 a6 a7 a8 a9 a10 a11 a12 a13 F E U M C B p kn X lab fl c ip) (hX : X.length ≤ 4) (hU : U p = true)
    (hdv : ∀ x, dt_dv (C p) = some x → ∃ q, q < 24 ∧ x.2.2.2 = nI q ∧ kn q = true) (hr : dt_rp a14 a15 g0 (dt_rs M (F p) (E p)) Kg) (hg0 : g0 ≤ 8) {lab' : dt_L} {fn' : Int32} {a11' a4' a5' a6' : Nat → Int32}
    (f1 : dt_sf lab' a11' (fl + (C p).length) fn') (f2 : ∀ n, (lab n).1 ≠ p → (lab n).1 ≠ 25 → lab' n = lab n ∧ a11' n = a11 n)
    (k1 : a4' p = nI g0) (k2 : ∀ q, q ≠ p → a4' q = a4 q) (k3 : ∀ i, i < g0 → a5' (12 * p + i) = a14 i ∧ a6' (12 * p + i) = a15 i) (k4 : ∀ j, j < 12 * p ∨ 12 * p + 12 ≤ j → a5' j = a5 j ∧ a6' j = a6 j) :
    dt_X fn' ic il cn a1 (upd a2 p (-1)) (upd a3 p 0) a4' a5' a6' (upd a7 p (nI (E p))) a8 a9 a10 a11' a12 a13 M := by
  obtain ⟨⟨h1, h2, h3, h4⟩, ⟨hg1, hg2, hg3, hg4⟩, hcv, hi, hd, hcn, hil, hM⟩ := h
  have p24 := hg1 p hU
  have su := dt_sum_up (C := C) [] p24
  refine ⟨F, E, U, dt_fu C p [], dt_fu B p (dt_rs M (F p) (E p)), kn, X, lab', fl + (C p).length, c, ip, ⟨⟨f1, ?_, fun q hq => ?_, ?_⟩, ⟨hg1, hg2, fun q hq => ?_, fun q hq => ?_⟩, hcv, hi, ⟨fun q x hq hx => ?_, fun q hq => ?_⟩, hcn, hil, hM⟩, hX⟩
  · refine dt_sg_fr (fun n j hn hj => ?_) h2
    obtain ⟨y1, y2⟩ := f2 n (by rw [hn]; dsimp only; omega) (by rw [hn]; dsimp only; omega)
    exact ⟨y1, rfl, rfl, rfl, y2⟩
  · by_cases z : q = p
    · rw [z, dt_fu_s, pk_us]
      rfl
    · rw [dt_fu_n C _ z, pk_un z]
      refine dt_sg_fr (fun n j hn hj => ?_) (h3 q hq)
      obtain ⟨y1, y2⟩ := f2 n (by rw [hn]; dsimp only; omega) (by rw [hn]; dsimp only; omega)
      exact ⟨y1, rfl, rfl, rfl, y2⟩
  · have e0 : ([] : List dt_N).length = 0 := rfl
    omega
  · by_cases z : q = p
    · rw [z, dt_fu_s]
    · rw [dt_fu_n C _ z]
      exact hg3 q hq
  · have q24 := hg1 q hq
    by_cases z : q = p
    · subst z
      obtain ⟨p1, p2, p3, p4, p5, p6, p7, p8, p9⟩ := hg4 q hU
      rw [dt_fu_s, dt_fu_s, pk_us, pk_us]
      have rr : dt_rp (fun i => a5' (12 * q + i)) (fun i => a6' (12 * q + i)) g0 (dt_rs M (F q) (E q)) Kg := dt_rp_cg hr (fun i hi => (k3 i hi).1) (fun i hi => (k3 i hi).2) (fun k => rfl)
      refine ⟨p1, p2, rfl, Nat.zero_le _, trivial, fun k y1 y2 => (dt_rs_in y1 y2).symm, ⟨g0, Kg, k1, by omega, rr⟩, fun k hk => (dt_rs_ne hk).1, Or.inl ⟨rfl, rfl, fun k hk => (dt_rs_ne hk).2.1, ?_⟩⟩
      rw [dt_rp_all rr]
      exact hg0
    · rw [dt_fu_n C _ z, dt_fu_n B _ z, pk_un z, pk_un z, k2 q z]
      refine dt_p1_fr (hg4 q hq) ?_ (fun k _ _ => rfl) (fun i hi => k4 _ (by omega))
      rw [if_neg z, if_neg (by omega)]
      exact Nat.le_refl _
  · by_cases z : q = p
    · rw [z, dt_fu_s] at hx
      exact absurd hx.symm (Option.some_ne_none x)
    · rw [dt_fu_n C _ z] at hx
      exact hd.1 q x hq hx
  · rcases hd.2 q hq with y | ⟨q', x, y1, y2, y3, y4⟩
    · exact Or.inl y
    · by_cases z : q' = p
      · rw [z] at y2
        obtain ⟨q2, t1, t2, t3⟩ := hdv x y2
        rw [t2] at y3
        have b := hg1 q hq
        rw [← (nI_eq (by omega) (by omega)).mp y3]
        exact Or.inl t3
      · exact Or.inr ⟨q', x, y1, by rw [dt_fu_n C _ z]; exact y2, y3, y4⟩
theorem dt_rw_split {F E : Nat → Nat} {U : Nat → Bool} {M : dt_M} {C : Nat → List dt_N} {B : Nat → dt_M} {kn : Nat → Bool} {X : List dt_N} {lab : dt_L} {fl c p r g0 : Nat} {ip Kg : Nat → Nat} (h : dt_co fn ic il cn a1 a2 a3 a4 a5 a6 a7 a8 a9 a10 a11 a12 a13 F E U M C B p kn X lab fl c ip) (hX : X.length ≤ 4) (hU : U p = true) (hr24 : r < 24) (hUr : U r = false)
    (hdv : ∀ x, dt_dv (C p) = some x → ∃ q, q < 24 ∧ x.2.2.2 = nI q ∧ kn q = true) (hr : dt_rp a14 a15 g0 (dt_rs M (F p) (E p)) Kg) (hg0 : 8 < g0) (hg1' : g0 ≤ 13) {lab' : dt_L} {fn' : Int32} {a11' a4' a5' a6' a4'' a5'' a6'' : Nat → Int32}
    (f1 : dt_sf lab' a11' (fl + (C p).length) fn') (f2 : ∀ n, (lab n).1 ≠ p → (lab n).1 ≠ 25 → lab' n = lab n ∧ a11' n = a11 n)
    (k1 : a4' p = nI (min g0 12)) (k2 : ∀ q, q ≠ p → a4' q = a4 q) (k3 : ∀ i, i < min g0 12 → a5' (12 * p + i) = a14 i ∧ a6' (12 * p + i) = a15 i) (k4 : ∀ j, j < 12 * p ∨ 12 * p + 12 ≤ j → a5' j = a5 j ∧ a6' j = a6 j)
    (l1 : a4'' r = nI (min (g0 - g0 / 2) 12)) (l2 : ∀ q, q ≠ r → a4'' q = a4' q) (l3 : ∀ i, i < min (g0 - g0 / 2) 12 → a5'' (12 * r + i) = a14 (g0 / 2 + i) ∧ a6'' (12 * r + i) = a15 (g0 / 2 + i)) (l4 : ∀ j, j < 12 * r ∨ 12 * r + 12 ≤ j → a5'' j = a5' j ∧ a6'' j = a6' j) :
    ∃ n, fn' = nI n ∧ n < 160 ∧ dt_X (a11' n) ic il cn (upd a1 r 1) (upd (upd (upd a2 p (-1)) r (-1)) p (nI n)) (upd (upd (upd a3 p 0) r 0) p 1) a4'' a5'' a6'' (upd (upd a7 p (nI (E p))) r (nI (E p))) (upd a8 n 2) (upd a9 n (nI (Kg (g0 / 2)))) (upd a10 n (nI r)) (upd a11' n (-1)) a12 a13 M := by
  have hfl := dt_fl h.1 h.2.1 (by omega)
  obtain ⟨⟨h1, h2, h3, h4⟩, ⟨hg1, hg2, hg3, hg4⟩, hcv, hi, hd, hcn, hil, hM⟩ := h
  have p24 := hg1 p hU
  have hpr : r ≠ p := fun z => by
    rw [z, hU] at hUr
    exact absurd hUr (by decide)
  have hUne : ∀ q, U q = true → q ≠ r := fun q hq z => by
    rw [z, hUr] at hq
    exact absurd hq (by decide)
  have hhalf : g0 / 2 < min g0 12 := by omega
  have hh6 : g0 / 2 ≤ 6 := by omega
  obtain ⟨p1, p2, p3, p4, p5, p6, p7, p8, p9⟩ := hg4 p hU
  -- the keys of the page
  have kr : ∀ i, i < g0 → F p ≤ Kg i ∧ Kg i < E p := fun i hi => by
    obtain ⟨_, _, y⟩ := hr.1 i hi
    have := dt_rs_ne (M := M) (f := F p) (e := E p) (k := Kg i) (by rw [y]; exact Option.some_ne_none _)
    exact ⟨this.1, this.2.1⟩
  have kF : F p < Kg (g0 / 2) := by
    have q1 := (kr 0 (by omega)).1
    have q2 := hr.2.1 0 (g0 / 2) (by omega) (by omega)
    omega
  have kE := (kr (g0 / 2) (by omega)).2
  -- the free list
  obtain ⟨m, hm⟩ : ∃ m, fl + (C p).length = m + 1 := ⟨fl + (C p).length - 1, by omega⟩
  rw [hm] at f1
  obtain ⟨n, n1, n2, n3, n4⟩ := f1
  have s0 : dt_sg lab' a8 a9 a10 a11' p [] (-1) := rfl
  obtain ⟨w1, w2, w3⟩ := dt_new (κ := 2) (k := Kg (g0 / 2)) (v := nI r) (by omega) n2 n3 n4 s0 (by decide) (by omega)
  have fr : ∀ q L hh, q < 25 → q ≠ p → dt_sg lab a8 a9 a10 a11 q L hh → dt_sg (dt_lu lab' n (p, 0)) (upd a8 n (nI 2)) (upd a9 n (nI (Kg (g0 / 2)))) (upd a10 n (nI r)) (upd a11' n (-1)) q L hh := fun q L hh hq hqp hs => by
    refine w3 q L hh hq hqp (dt_sg_fr (fun i j hn hj => ?_) hs)
    obtain ⟨y1, y2⟩ := f2 i (by rw [hn]; dsimp only; omega) (by rw [hn]; dsimp only; omega)
    exact ⟨y1, rfl, rfl, rfl, y2⟩
  -- the two bases
  have e2def : ∃ e2, e2 ≤ E p ∧ Kg (g0 / 2) < e2 ∧ ∀ i, i < g0 → (0 + min g0 12 ≤ i ↔ e2 ≤ Kg i) := by
    by_cases z : 12 < g0
    · refine ⟨Kg 12, Nat.le_of_lt (kr 12 z).2, hr.2.1 _ _ (by omega) z, fun i hi => ?_⟩
      rw [show 0 + min g0 12 = 12 by omega]
      constructor
      · intro y
        by_cases t : i = 12
        · rw [t]
          exact Nat.le_refl _
        · exact Nat.le_of_lt (hr.2.1 12 i (by omega) hi)
      · intro y
        rcases Nat.lt_or_ge i 12 with t | t
        · have := hr.2.1 i 12 t z
          omega
        · exact t
    · refine ⟨E p, Nat.le_refl _, kE, fun i hi => ?_⟩
      have := (kr i hi).2
      omega
  obtain ⟨e2, e21, e22, e23⟩ := e2def
  have rb : dt_rp (fun i => a5'' (12 * p + i)) (fun i => a6'' (12 * p + i)) (min g0 12) (dt_rs (dt_rs M (F p) (E p)) (F p) e2) (fun i => Kg (0 + i)) :=
    dt_rp_cut hr (by omega) (fun i hi => ⟨fun y => absurd y (by omega), fun y => by have := (kr i hi).1; omega⟩) e23 (fun i hi => by
      rw [(l4 (12 * p + i) (by omega)).1, (l4 (12 * p + i) (by omega)).2, Nat.zero_add]
      exact k3 i hi)
  have ru : dt_rp (fun i => a5'' (12 * r + i)) (fun i => a6'' (12 * r + i)) (g0 - g0 / 2) (dt_rs (dt_rs M (F p) (E p)) (Kg (g0 / 2)) (E p)) (fun i => Kg (g0 / 2 + i)) :=
    dt_rp_cut hr (by omega) (fun i hi => by
      constructor
      · intro y
        exact hr.2.1 _ _ y (by omega)
      · intro y
        rcases Nat.lt_or_ge i (g0 / 2) with t | t
        · exact t
        · by_cases t' : i = g0 / 2
          · rw [t'] at y
            omega
          · have := hr.2.1 (g0 / 2) i (by omega) hi
            omega) (fun i hi => by have := (kr i hi).2; omega) (fun i hi => l3 i (by omega))
  have suC := dt_sum_up (C := C) [(n, 2, Kg (g0 / 2), nI r)] p24
  have suC2 := dt_sum_up (C := dt_fu C p [(n, 2, Kg (g0 / 2), nI r)]) [] hr24
  rw [dt_fu_n C _ hpr, hg3 r hUr] at suC2
  have l1e : [(n, 2, Kg (g0 / 2), nI r)].length = 1 := rfl
  have l0e : ([] : List dt_N).length = 0 := rfl
  refine ⟨n, n1, n2, dt_fu F r (Kg (g0 / 2)), dt_fu (dt_fu E p (Kg (g0 / 2))) r (E p), dt_fu U r true, dt_fu (dt_fu C p [(n, 2, Kg (g0 / 2), nI r)]) r [], dt_fu (dt_fu B p (dt_rs (dt_rs M (F p) (E p)) (F p) e2)) r (dt_rs (dt_rs M (F p) (E p)) (Kg (g0 / 2)) (E p)), kn, X, dt_lu lab' n (p, 0), m, c, ip, ⟨⟨w1, fr 24 X ic (by decide) (by omega) h2, fun q hq => ?_, by omega⟩, ⟨fun q hq => ?_, fun q hq => ?_, fun q hq => ?_, fun q hq => ?_⟩, ?_, ?_, ⟨fun q x hq hx => ?_, fun q hq => ?_⟩, hcn, hil, hM⟩, hX⟩
  · -- chains
    by_cases z : q = r
    · rw [z, dt_fu_s, pk_un hpr, pk_us]
      rfl
    · rw [dt_fu_n _ _ z]
      by_cases y : q = p
      · rw [y, dt_fu_s, pk_us]
        exact w2
      · rw [dt_fu_n _ _ y, pk_un y, pk_un z, pk_un y]
        exact fr q _ _ (by omega) y (h3 q hq)
  · by_cases z : q = r
    · rw [z]
      exact hr24
    · rw [dt_fu_n _ _ z] at hq
      exact hg1 q hq
  · by_cases z : q = r
    · rw [z, pk_us, dt_fu_s]
      exact ⟨fun y => absurd y (by decide), fun y => absurd y (by decide)⟩
    · rw [dt_fu_n _ _ z, pk_un z]
      exact hg2 q hq
  · by_cases z : q = r
    · rw [z, dt_fu_s]
    · rw [dt_fu_n _ _ z] at hq ⊢
      by_cases y : q = p
      · rw [y, hU] at hq
        exact absurd hq (by decide)
      · rw [dt_fu_n _ _ y]
        exact hg3 q hq
  · by_cases z : q = r
    · -- the new page
      subst z
      rw [dt_fu_s, dt_fu_s, dt_fu_s, dt_fu_s, pk_un hpr, pk_us, pk_us]
      refine ⟨kE, p2, rfl, Nat.zero_le _, trivial, fun k y1 y2 => ?_, ⟨_, _, ?_, ?_, ru⟩, fun k hk => (dt_rs_ne hk).1, Or.inl ⟨rfl, rfl, fun k hk => (dt_rs_ne hk).2.1, ?_⟩⟩
      · show M k = dt_rs _ _ _ k
        rw [dt_rs_in y1 y2, dt_rs_in (by omega) y2]
      · rw [l1, show min (g0 - g0 / 2) 12 = g0 - g0 / 2 by omega]
      · omega
      · rw [dt_rp_all ru]
        omega
    · rw [dt_fu_n _ _ z] at hq
      have q24 := hg1 q hq
      rw [dt_fu_n _ _ z, dt_fu_n _ _ z, dt_fu_n _ _ z, dt_fu_n _ _ z, pk_un z, l2 q z]
      by_cases y : q = p
      · -- the lower half
        subst y
        rw [dt_fu_s, dt_fu_s, dt_fu_s, pk_us, pk_us]
        refine ⟨kF, by omega, rfl, ?_, Or.inl ⟨rfl, rfl, rfl⟩, fun k y1 y2 => ?_, ⟨_, _, k1, by omega, rb⟩, fun k hk => (dt_rs_ne hk).1, Or.inr ⟨Option.some_ne_none _, ?_⟩⟩
        · rw [if_neg (by omega)]
          show 1 ≤ 4
          decide
        · show M k = dt_lo _ _ k
          rw [dt_lo_s y2]
          show M k = dt_rs _ _ _ k
          rw [dt_rs_in y1 (by omega), dt_rs_in y1 (by omega)]
        · have := dt_rp_at rb (i := g0 / 2) hhalf
          rw [Nat.zero_add] at this
          omega
      · rw [dt_fu_n _ _ y, dt_fu_n _ _ y, dt_fu_n _ _ y, pk_un y, pk_un z, pk_un y, pk_un y, k2 q y]
        refine dt_p1_fr (hg4 q hq) ?_ (fun k _ _ => rfl) (fun i hi => ?_)
        · rw [if_neg y, if_neg (by omega)]
          exact Nat.le_refl _
        · rw [(l4 (12 * q + i) (by omega)).1, (l4 (12 * q + i) (by omega)).2]
          exact k4 _ (by omega)
  · -- the order of pages
    refine ⟨fun k hk => ?_, fun q1 q2 k u1 u2 v1 v2 v3 v4 => ?_⟩
    · obtain ⟨q, u1, u2, u3⟩ := hcv.1 k hk
      have hqr := hUne q u1
      by_cases y : q = p
      · subst y
        rcases Nat.lt_or_ge k (Kg (g0 / 2)) with t | t
        · refine ⟨q, ?_, ?_, ?_⟩
          · rw [dt_fu_n _ _ hqr]
            exact u1
          · rw [dt_fu_n _ _ hqr]
            exact u2
          · rw [dt_fu_n _ _ hqr, dt_fu_s]
            exact t
        · refine ⟨r, dt_fu_s _ _ _, ?_, ?_⟩
          · rw [dt_fu_s]
            exact t
          · rw [dt_fu_s]
            exact u3
      · refine ⟨q, ?_, ?_, ?_⟩
        · rw [dt_fu_n _ _ hqr]
          exact u1
        · rw [dt_fu_n _ _ hqr]
          exact u2
        · rw [dt_fu_n _ _ hqr, dt_fu_n _ _ y]
          exact u3
    · -- each page of the new order lies in one of the old
      have old : ∀ q, dt_fu U r true q = true → dt_fu F r (Kg (g0 / 2)) q ≤ k → k < dt_fu (dt_fu E p (Kg (g0 / 2))) r (E p) q → (q ≠ p ∧ q ≠ r ∧ U q = true ∧ F q ≤ k ∧ k < E q) ∨ (q = p ∧ F p ≤ k ∧ k < Kg (g0 / 2)) ∨ (q = r ∧ Kg (g0 / 2) ≤ k ∧ k < E p) := fun q x1 x2 x3 => by
        by_cases z : q = r
        · rw [z, dt_fu_s] at x2 x3
          exact Or.inr (Or.inr ⟨z, x2, x3⟩)
        · rw [dt_fu_n _ _ z] at x1 x2 x3
          by_cases y : q = p
          · rw [y] at x2
            rw [y, dt_fu_s] at x3
            exact Or.inr (Or.inl ⟨y, x2, x3⟩)
          · rw [dt_fu_n _ _ y] at x3
            exact Or.inl ⟨y, z, x1, x2, x3⟩
      rcases old q1 u1 v1 v2 with ⟨a, b, b1, b2, b3⟩ | ⟨a, b2, b3⟩ | ⟨a, b2, b3⟩
      · rcases old q2 u2 v3 v4 with ⟨d, e, e1, e2', e3⟩ | ⟨d, e2', e3⟩ | ⟨d, e2', e3⟩
        · exact hcv.2 q1 q2 k b1 e1 b2 b3 e2' e3
        · exact absurd (hcv.2 q1 p k b1 hU b2 b3 e2' (by omega)) a
        · exact absurd (hcv.2 q1 p k b1 hU b2 b3 (by omega) e3) a
      · rcases old q2 u2 v3 v4 with ⟨d, e, e1, e2', e3⟩ | ⟨d, e2', e3⟩ | ⟨d, e2', e3⟩
        · exact absurd (hcv.2 q2 p k e1 hU e2' e3 b2 (by omega)) d
        · rw [a, d]
        · omega
      · rcases old q2 u2 v3 v4 with ⟨d, e, e1, e2', e3⟩ | ⟨d, e2', e3⟩ | ⟨d, e2', e3⟩
        · exact absurd (hcv.2 q2 p k e1 hU e2' e3 (by omega) b3) d
        · omega
        · rw [a, d]
  · -- the index
    obtain ⟨i1, i2, i3, i4, i5, i6, i7, i8, i9⟩ := hi
    have kF' : ∀ q, kn q = true → dt_fu F r (Kg (g0 / 2)) q = F q := fun q hq => dt_fu_n _ _ (hUne q (i6 q hq).1)
    refine ⟨i1, fun i hi => ?_, fun i j hi hj => ?_, ?_, fun x hx => ?_, fun q hq => ⟨?_, (i6 q hq).2⟩, i7, i8, fun x hx i hi => ?_⟩
    · rw [kF' _ (i2 i hi).1]
      exact i2 i hi
    · rw [kF' _ (i2 i (by omega)).1, kF' _ (i2 j hj).1]
      exact i3 i j hi hj
    · rw [kF' _ (i2 0 (by omega)).1]
      exact i4
    · obtain ⟨q, y1, y2, y3⟩ := i5 x hx
      exact ⟨q, y1, by rw [kF' q y1]; exact y2, y3⟩
    · rw [dt_fu_n _ _ (hUne q (i6 q hq).1)]
      exact (i6 q hq).1
    · rw [kF' _ (i2 i hi).1]
      exact i9 x hx i hi
  · -- notes of divisions
    by_cases z : q = r
    · rw [z, dt_fu_s] at hx
      exact absurd hx.symm (Option.some_ne_none x)
    · rw [dt_fu_n _ _ z] at hx hq
      by_cases y : q = p
      · rw [y, dt_fu_s] at hx
        have hx' := Option.some.inj (show some _ = some x from hx)
        refine ⟨r, dt_fu_s _ _ _, by rw [← hx'], ?_⟩
        rw [dt_fu_s, dt_fu_n _ _ z, y, dt_fu_s]
      · rw [dt_fu_n _ _ y] at hx
        obtain ⟨q2, t1, t2, t3⟩ := hd.1 q x hq hx
        refine ⟨q2, ?_, t2, ?_⟩
        · rw [dt_fu_n _ _ (hUne q2 t1)]
          exact t1
        · rw [dt_fu_n _ _ (hUne q2 t1), dt_fu_n _ _ z, dt_fu_n _ _ y]
          exact t3
  · by_cases z : q = r
    · refine Or.inr ⟨p, (n, 2, Kg (g0 / 2), nI r), ?_, ?_, by rw [z], ?_⟩
      · rw [dt_fu_n _ _ (fun t => hpr t.symm)]
        exact hU
      · rw [dt_fu_n _ _ (fun t => hpr t.symm), dt_fu_s]
        rfl
      · rw [z, dt_fu_s, dt_fu_n _ _ (fun t => hpr t.symm), dt_fu_s]
    · rw [dt_fu_n _ _ z] at hq
      rcases hd.2 q hq with y | ⟨q', x, y1, y2, y3, y4⟩
      · exact Or.inl y
      · by_cases t : q' = p
        · rw [t] at y2
          obtain ⟨q2, t1, t2, t3⟩ := hdv x y2
          rw [t2] at y3
          have b := hg1 q hq
          rw [← (nI_eq (by omega) (by omega)).mp y3]
          exact Or.inl t3
        · have t' := hUne q' y1
          refine Or.inr ⟨q', x, ?_, ?_, y3, ?_⟩
          · rw [dt_fu_n _ _ t']
            exact y1
          · rw [dt_fu_n _ _ t', dt_fu_n _ _ t]
            exact y2
          · rw [dt_fu_n _ _ z, dt_fu_n _ _ t', dt_fu_n _ _ t]
            exact y4
end
end
section
section
variable {e fn ic il cn g ge st : Int32} {a1 a2 a3 a4 a5 a6 a7 a8 a9 a10 a11 a12 a13 a14 a15 a16 a17 a18 a19 a20 a21 : Nat → Int32}
theorem dt_rw54 {post : St2 → Prop} {F E : Nat → Nat} {U : Nat → Bool} {M : dt_M} {C : Nat → List dt_N} {B : Nat → dt_M} {kn : Nat → Bool} {p g0 : Nat} {Kg : Nat → Nat} {r3 : Int32} (h : dt_c1 fn ic il cn a1 a2 a3 a4 a5 a6 a7 a8 a9 a10 a11 a12 a13 F E U M C B p kn) (hU : U p = true)
    (hdv : ∀ x, dt_dv (C p) = some x → ∃ q, q < 24 ∧ x.2.2.2 = nI q ∧ kn q = true) (hr : dt_rp a14 a15 g0 (dt_rs M (F p) (E p)) Kg) (hg13 : g0 ≤ 13) (hg : g = nI g0) (hge : ge = nI (E p)) (hr3 : g0 ≤ 8 ∨ ∃ r, r3 = nI r ∧ r < 24 ∧ U r = false)
    (P : ∀ (fn ic il cn g ge : Int32) (a1 a2 a3 a4 a5 a6 a7 a8 a9 a10 a11 a12 a13 a14 a15 a16 a17 a18 : Nat → Int32), dt_X fn ic il cn a1 a2 a3 a4 a5 a6 a7 a8 a9 a10 a11 a12 a13 M → post (e, fn, ic, il, cn, g, ge, st, a1, a2, a3, a4, a5, a6, a7, a8, a9, a10, a11, a12, a13, a14, a15, a16, a17, a18, a19, a20, a21)) : wX_rewrite_54 post (nI p) r3 e fn ic il cn g ge st a1 a2 a3 a4 a5 a6 a7 a8 a9 a10 a11 a12 a13 a14 a15 a16 a17 a18 a19 a20 a21 := by
  obtain ⟨X, lab, fl, c, ip, hco, hX⟩ := h
  have hco0 := hco
  obtain ⟨⟨h1, h2, h3, h4⟩, ⟨hg1, hg2, hg3, hg4⟩, hcv, hi, hd, hcn, hil, hM⟩ := hco
  have p24 := hg1 p hU
  have vp : vp_in (nI p) 24 := vp_in_nI p24 (by decide)
  have hl5 : (C p).length ≤ 5 := by
    have := (hg4 p hU).2.2.2.1
    rw [if_pos rfl] at this
    exact this
  subst hg hge
  unfold wX_rewrite_54
  rw [nI_clamp (show p < 2 ^ 31 by omega)]
  refine ⟨vp, dt_fc2 (by omega) (h3 p p24) h1 (by omega) (fun lab' fn' a11' f1 f2 => ?_)⟩
  dsimp only
  refine ⟨vp, nm_e ⟨vp, nm_e (dt_kpb (f := 0) (t := g0) p24 (by omega) (by omega) (fun a4' a5' a6' k1 k2 k3 k4 => ?_))⟩⟩
  dsimp only
  rw [Nat.sub_zero] at k1 k3
  have k3' : ∀ i, i < min g0 12 → a5' (12 * p + i) = a14 i ∧ a6' (12 * p + i) = a15 i := fun i hi => by
    have := k3 i hi
    rw [Nat.zero_add] at this
    exact this
  refine pk_le g0 8 (fun z => ?_) (fun z => ⟨by decide, ?_⟩)
  · rw [show min g0 12 = g0 by omega] at k1 k3'
    exact P _ _ _ _ _ _ _ _ _ _ _ _ _ _ _ _ _ _ _ _ _ _ _ _ (dt_rw_small hco0 hX hU hdv hr z f1 f2 k1 k2 k3' k4)
  · rcases hr3 with y | ⟨r, rfl, r24, hUr⟩
    · omega
    · have vr : vp_in (nI r) 24 := vp_in_nI r24 (by decide)
      refine nm_r (e' := nI (g0 / 2)) (pk_div (a := g0) (d := 2) (by omega) (by decide) (by decide)) ?_
      rw [nI_clamp (show r < 2 ^ 31 by omega)]
      refine ⟨vr, nm_e ⟨vr, nm_e ⟨vr, nm_e (dt_kpb (f := g0 / 2) (t := g0) r24 (by omega) (by omega) (fun a4'' a5'' a6'' l1 l2 l3 l4 => ?_))⟩⟩⟩
      dsimp only
      obtain ⟨n, n1, n2, n3⟩ := dt_rw_split hco0 hX hU r24 hUr hdv hr z hg13 f1 f2 k1 k2 k3' k4 l1 l2 l3 l4
      rw [nI_clamp (show g0 / 2 < 2 ^ 31 by omega), (hr.1 (g0 / 2) (by omega)).1]
      refine ⟨vp_in_nI (by omega) (by decide), dt_nn2 n1 n2 ?_⟩
      dsimp only
      exact ⟨vp, nm_e ⟨vp, nm_e (P _ _ _ _ _ _ _ _ _ _ _ _ _ _ _ _ _ _ _ _ _ _ _ _ n3)⟩⟩
theorem dt_rw26 {post : St2 → Prop} {F E : Nat → Nat} {U : Nat → Bool} {M : dt_M} {C : Nat → List dt_N} {B : Nat → dt_M} {kn : Nat → Bool} {p : Nat} (h : dt_c1 fn ic il cn a1 a2 a3 a4 a5 a6 a7 a8 a9 a10 a11 a12 a13 F E U M C B p kn) (hU : U p = true)
    (hdv : ∀ x, dt_dv (C p) = some x → ∃ q, q < 24 ∧ x.2.2.2 = nI q ∧ kn q = true) (hcnt : dt_cnt M 4096 ≤ 60)
    (P : ∀ (fn ic il cn g ge : Int32) (a1 a2 a3 a4 a5 a6 a7 a8 a9 a10 a11 a12 a13 a14 a15 a16 a17 a18 : Nat → Int32), dt_X fn ic il cn a1 a2 a3 a4 a5 a6 a7 a8 a9 a10 a11 a12 a13 M → post (e, fn, ic, il, cn, g, ge, st, a1, a2, a3, a4, a5, a6, a7, a8, a9, a10, a11, a12, a13, a14, a15, a16, a17, a18, a19, a20, a21)) : wX_rewrite_26 post (nI p) e fn ic il cn g ge st a1 a2 a3 a4 a5 a6 a7 a8 a9 a10 a11 a12 a13 a14 a15 a16 a17 a18 a19 a20 a21 := by
  have h0 := h
  obtain ⟨X, lab, fl, c, ip, ⟨⟨h1, h2, h3, h4⟩, hg, hcv, hi, hd, hcn, hil, hM⟩, hX⟩ := h
  have p24 := hg.1 p hU
  unfold wX_rewrite_26
  refine dt_ga p24 (hg.2.2.2 p hU) (by rw [if_pos rfl]; exact Nat.le_refl _) (h3 p p24) (fun g0 b14 b15 b16 Kg r1 r2 => ?_)
  dsimp only
  refine dt_fp hg.2.1 (pk_le g0 8 (fun z => ?_) (fun z => br_f (by decide) ?_)) (fun r r24 hUr => pk_le g0 8 (fun z => ?_) (fun z => br_t (nI_pos' (by omega)) ?_))
  · exact dt_rw54 h0 hU hdv r1 r2 rfl rfl (Or.inl z) P
  · refine dt_ma h0 hcnt (fun fn ic il cn g ge a1 a2 a3 a4 a5 a6 a7 a8 a9 a10 a11 a12 a13 a14 a15 a16 a17 a18 hX' => ?_)
    dsimp only
    exact P _ _ _ _ _ _ _ _ _ _ _ _ _ _ _ _ _ _ _ _ _ _ _ _ hX'
  · exact dt_rw54 h0 hU hdv r1 r2 rfl rfl (Or.inl z) P
  · exact dt_rw54 h0 hU hdv r1 r2 rfl rfl (Or.inr ⟨r, rfl, r24, hUr⟩) P
theorem dt_rw {post : St2 → Prop} {F E : Nat → Nat} {U : Nat → Bool} {M : dt_M} {C : Nat → List dt_N} {B : Nat → dt_M} {kn : Nat → Bool} {p : Nat} (h : dt_c1 fn ic il cn a1 a2 a3 a4 a5 a6 a7 a8 a9 a10 a11 a12 a13 F E U M C B p kn) (hU : U p = true) (hcnt : dt_cnt M 4096 ≤ 60)
    (P : ∀ (fn ic il cn g ge : Int32) (a1 a2 a3 a4 a5 a6 a7 a8 a9 a10 a11 a12 a13 a14 a15 a16 a17 a18 : Nat → Int32), dt_X fn ic il cn a1 a2 a3 a4 a5 a6 a7 a8 a9 a10 a11 a12 a13 M → post (e, fn, ic, il, cn, g, ge, st, a1, a2, a3, a4, a5, a6, a7, a8, a9, a10, a11, a12, a13, a14, a15, a16, a17, a18, a19, a20, a21)) : wpX_rewrite post (e, fn, ic, il, cn, g, ge, st, a1, a2, a3, a4, a5, a6, a7, a8, a9, a10, a11, a12, a13, a14, a15, a16, a17, a18, a19, a20, a21) (nI p) := by
  have h0 := h
  obtain ⟨X, lab, fl, c, ip, ⟨⟨h1, h2, h3, h4⟩, hg, hcv, hi, hd, hcn, hil, hM⟩, hX⟩ := h
  have p24 := hg.1 p hU
  unfold wpX_rewrite
  dsimp only
  refine dt_div p24 (h3 p p24) (fun z => br_t (by decide) (dt_rw26 h0 hU (fun x hx => absurd (z.symm.trans hx) (Option.some_ne_none x).symm) hcnt P)) (fun x hx => ?_)
  obtain ⟨o1, o2, o3⟩ := dt_dv_ok (hg.2.2.2 p hU).2.2.2.2.1 hx
  obtain ⟨m1, m2, m3, m4, m5, m6⟩ := dt_sg_mem (h3 p p24) o3
  obtain ⟨q, q1, q2, q3⟩ := hd.1 p x hU hx
  have v : vp_in (nI x.1) 160 := vp_in_nI m1 (by decide)
  refine br_f (nI_pos (by omega)) ⟨v, v, ?_⟩
  rw [nI_clamp (by omega), m4, o2, m6, q2, ← q3]
  refine dt_ni h0 q1 (fun fn' ic' il' cn' a8' a9' a10' a11' a12' a13' kn' h' hkq hkn' => ?_)
  dsimp only
  refine dt_rw26 h' hU (fun x' hx' => ?_) hcnt P
  rw [hx] at hx'
  rw [← Option.some.inj hx']
  exact ⟨q, hg.1 q q1, q2, hkq⟩
/-! a note is added to a page -/
theorem dt_an {post : St2 → Prop} {F E : Nat → Nat} {U : Nat → Bool} {M : dt_M} {C : Nat → List dt_N} {B : Nat → dt_M} {kn : Nat → Bool} {p key κ : Nat} {v : Int32} (h : dt_c1 fn ic il cn a1 a2 a3 a4 a5 a6 a7 a8 a9 a10 a11 a12 a13 F E U M C B 24 kn) (hU : U p = true) (hF : F p ≤ key) (hE : key < E p) (hκ : κ < 2) (hcnt : dt_cnt (dt_up M key (if κ = 0 then some v else none)) 4096 ≤ 60)
    (P : ∀ (fn ic il cn g ge : Int32) (a1 a2 a3 a4 a5 a6 a7 a8 a9 a10 a11 a12 a13 a14 a15 a16 a17 a18 : Nat → Int32), dt_X fn ic il cn a1 a2 a3 a4 a5 a6 a7 a8 a9 a10 a11 a12 a13 (dt_up M key (if κ = 0 then some v else none)) → post (e, fn, ic, il, cn, g, ge, st, a1, a2, a3, a4, a5, a6, a7, a8, a9, a10, a11, a12, a13, a14, a15, a16, a17, a18, a19, a20, a21)) : wpX_addNote post (e, fn, ic, il, cn, g, ge, st, a1, a2, a3, a4, a5, a6, a7, a8, a9, a10, a11, a12, a13, a14, a15, a16, a17, a18, a19, a20, a21) (nI p) (nI κ) (nI key) v := by
  obtain ⟨X, lab, fl, c, ip, ⟨hh, hg, hcv, hi, hd, hcn, hil, hM⟩, hX⟩ := h
  have hfl := dt_fl hh hg (by omega)
  obtain ⟨h1, h2, h3, h4⟩ := hh
  obtain ⟨hg1, hg2, hg3, hg4⟩ := hg
  have p24 := hg1 p hU
  have vp : vp_in (nI p) 24 := vp_in_nI p24 (by decide)
  obtain ⟨p1, p2, p3, p4, p5, p6, p7, p8, p9⟩ := hg4 p hU
  rw [if_neg (show ¬ p = 24 by omega)] at p4
  obtain ⟨m, rfl⟩ : ∃ m, fl = m + 1 := ⟨fl - 1, by omega⟩
  obtain ⟨n, n1, n2, n3, n4⟩ := h1
  obtain ⟨w1, w2, w3⟩ := dt_new (κ := κ) (k := key) (v := v) (by omega) n2 n3 n4 (h3 p p24) (by omega) (by omega)
  have su := dt_sum_up (C := C) ((n, κ, key, v) :: C p) p24
  have le1 : ((n, κ, key, v) :: C p).length = (C p).length + 1 := rfl
  have apx : dt_ap (B p) ((n, κ, key, v) :: C p) = dt_up (dt_ap (B p) (C p)) key (if κ = 0 then some v else none) := by
    rw [dt_ap, if_neg (show ¬ (n, κ, key, v).2.1 = 2 from fun z => by dsimp only at z; omega)]
    by_cases z : κ = 0
    · rw [if_pos (show (n, κ, key, v).2.1 = 0 from z), if_pos z]
    · rw [if_neg (show ¬ (n, κ, key, v).2.1 = 0 from z), if_neg z]
  have dvx : dt_dv ((n, κ, key, v) :: C p) = dt_dv (C p) := by
    rw [dt_dv, if_neg (show ¬ (n, κ, key, v).2.1 = 2 from fun z => by dsimp only at z; omega)]
  have core : ∀ w, ((C p).length + 1 ≤ 4 ∨ w = p) → dt_co (a11 n) ic il cn a1 (upd a2 p (nI n)) (upd a3 p (nI ((C p).length + 1))) a4 a5 a6 a7 (upd a8 n (nI κ)) (upd a9 n (nI key)) (upd a10 n v) (upd a11 n (a2 p)) a12 a13 F E U (dt_up M key (if κ = 0 then some v else none)) (dt_fu C p ((n, κ, key, v) :: C p)) B w kn X (dt_lu lab n (p, (C p).length)) m c ip := fun w hw => by
    refine ⟨⟨w1, w3 24 X ic (by decide) (by omega) h2, fun q hq => ?_, by omega⟩, ⟨hg1, hg2, fun q hq => ?_, fun q hq => ?_⟩, hcv, hi, ⟨fun q x hq hx => ?_, fun q hq => ?_⟩, hcn, hil, fun k hk => ?_⟩
    · by_cases z : q = p
      · rw [z, dt_fu_s, pk_us]
        exact w2
      · rw [dt_fu_n _ _ z, pk_un z]
        exact w3 q _ _ (by omega) z (h3 q hq)
    · by_cases z : q = p
      · rw [z, hU] at hq
        exact absurd hq (by decide)
      · rw [dt_fu_n _ _ z]
        exact hg3 q hq
    · by_cases z : q = p
      · subst z
        rw [dt_fu_s, pk_us]
        refine ⟨p1, p2, rfl, ?_, Or.inr ⟨hκ, hF, hE, p5⟩, fun k y1 y2 => ?_, p7, p8, ?_⟩
        · rw [le1]
          rcases hw with y | y
          · by_cases t : q = w
            · rw [if_pos t]
              omega
            · rw [if_neg t]
              exact y
          · rw [if_pos y.symm]
            omega
        · rw [apx]
          by_cases t : k = key
          · rw [t, dt_up_s, dt_up_s]
          · rw [dt_up_n _ _ t, dt_up_n _ _ t]
            exact p6 k y1 y2
        · rw [dvx]
          exact p9
      · rw [dt_fu_n _ _ z, pk_un z]
        refine dt_p1_fr (hg4 q hq) ?_ (fun k y1 y2 => dt_up_n _ _ (fun t => ?_)) (fun i _ => ⟨rfl, rfl⟩)
        · have := hg1 q hq
          rw [if_neg (show ¬ q = 24 by omega)]
          by_cases t : q = w
          · rw [if_pos t]
            decide
          · rw [if_neg t]
            exact Nat.le_refl _
        · rw [t] at y1 y2
          exact z (hcv.2 q p key hq hU y1 y2 hF hE)
    · by_cases z : q = p
      · rw [z, dt_fu_s, dvx] at hx
        rw [z] at hq ⊢
        exact hd.1 p x hq hx
      · rw [dt_fu_n _ _ z] at hx
        exact hd.1 q x hq hx
    · rcases hd.2 q hq with y | ⟨q', x, y1, y2, y3, y4⟩
      · exact Or.inl y
      · refine Or.inr ⟨q', x, y1, ?_, y3, y4⟩
        by_cases z : q' = p
        · rw [z, dt_fu_s, dvx, ← z]
          exact y2
        · rw [dt_fu_n _ _ z]
          exact y2
    · rw [dt_up_n _ _ (by omega)]
      exact hM k hk
  unfold wpX_addNote
  dsimp only
  rw [nI_clamp (show p < 2 ^ 31 by omega)]
  refine ⟨vp, dt_nn2 n1 n2 ?_⟩
  dsimp only
  rw [p3, nI_1]
  refine ⟨vp, nm_e ⟨vp, vp, nm_e ⟨vp, ?_⟩⟩⟩
  rw [pk_us]
  refine pk_le ((C p).length + 1) 4 (fun z => ?_) (fun z => ?_)
  · exact P _ _ _ _ _ _ _ _ _ _ _ _ _ _ _ _ _ _ _ _ _ _ _ _ ⟨F, E, U, _, B, kn, X, _, m, c, ip, core 24 (Or.inl z), hX⟩
  · refine dt_rw ⟨X, _, m, c, ip, core p (Or.inr rfl), hX⟩ hU hcnt (fun fn ic il cn g ge a1 a2 a3 a4 a5 a6 a7 a8 a9 a10 a11 a12 a13 a14 a15 a16 a17 a18 hX' => ?_)
    dsimp only
    exact P _ _ _ _ _ _ _ _ _ _ _ _ _ _ _ _ _ _ _ _ _ _ _ _ hX'
end
end
section
/-! the whole tree against a map M and a batch S -/
abbrev dt_O : Type := Bool × Nat × Int32
def dt_S (S : List dt_O) (st : Int32) (a19 a20 a21 : Nat → Int32) : Prop :=
  st = nI S.length ∧ S.length ≤ 6 ∧ ∀ (i : Nat) (x : dt_O), S[i]? = some x → a19 i = (if x.1 = true then 1 else 0) ∧ a20 i = nI x.2.1 ∧ x.2.1 < 4096 ∧ a21 i = x.2.2
def dt_T (u : St2) (M : dt_M) (S : List dt_O) : Prop := match u with
  | (e, fn, ic, il, cn, g, ge, st, a1, a2, a3, a4, a5, a6, a7, a8, a9, a10, a11, a12, a13, a14, a15, a16, a17, a18, a19, a20, a21) => dt_X fn ic il cn a1 a2 a3 a4 a5 a6 a7 a8 a9 a10 a11 a12 a13 M ∧ e = nI (dt_cnt M 4096) ∧ dt_cnt M 4096 ≤ 60 ∧ dt_S S st a19 a20 a21
theorem dt_ik {post : Int32 → Prop} {k : Nat} (h : k < 4096) (H : post 1) : wpX_isKey post () (nI k) :=
  br_f (nI_pos (by omega)) (br_f (nI_nlt (a := 4095) (b := k) (by omega) (by decide)) H)
theorem dt_ik0 {post : Int32 → Prop} {x : Int32} (h : x < 0 ∨ 4095 < x) (H : post 0) : wpX_isKey post () x :=
  br_c (fun _ => H) (fun y => by
    rcases h with z | z
    · exact absurd z y
    · exact br_t z H)
section
variable {e fn ic il cn g ge st : Int32} {a1 a2 a3 a4 a5 a6 a7 a8 a9 a10 a11 a12 a13 a14 a15 a16 a17 a18 a19 a20 a21 : Nat → Int32}
theorem dt_c1_i {post : Int32 → Prop} {F E : Nat → Nat} {U : Nat → Bool} {M : dt_M} {C : Nat → List dt_N} {B : Nat → dt_M} {w : Nat} {kn : Nat → Bool} {p key : Nat} (h : dt_c1 fn ic il cn a1 a2 a3 a4 a5 a6 a7 a8 a9 a10 a11 a12 a13 F E U M C B w kn) (hU : U p = true) (hF : F p ≤ key) (hE : key < E p) (H1 : M key = none → post 0) (H2 : M key ≠ none → post 1) : wpX_isIn post (e, fn, ic, il, cn, g, ge, st, a1, a2, a3, a4, a5, a6, a7, a8, a9, a10, a11, a12, a13, a14, a15, a16, a17, a18, a19, a20, a21) (nI p) (nI key) := by
  obtain ⟨X, lab, fl, c, ip, ⟨⟨h1, h2, h3, h4⟩, hg, hcv, hi, hd, hcn, hil, hM⟩, hX⟩ := h
  have p24 := hg.1 p hU
  obtain ⟨p1, p2, p3, p4, p5, p6, ⟨n, K, p7, p7', p7''⟩, p8, p9⟩ := hg.2.2.2 p hU
  rw [p6 key hF hE] at H1 H2
  exact dt_ii p24 (by omega) hE p7 p7' p7'' (h3 p p24) p5 H1 H2
theorem dt_c1_v {post : Int32 → Prop} {F E : Nat → Nat} {U : Nat → Bool} {M : dt_M} {C : Nat → List dt_N} {B : Nat → dt_M} {w : Nat} {kn : Nat → Bool} {p key : Nat} {v : Int32} (h : dt_c1 fn ic il cn a1 a2 a3 a4 a5 a6 a7 a8 a9 a10 a11 a12 a13 F E U M C B w kn) (hU : U p = true) (hF : F p ≤ key) (hE : key < E p) (hv : M key = some v) (H : post v) : wpX_valueIn post (e, fn, ic, il, cn, g, ge, st, a1, a2, a3, a4, a5, a6, a7, a8, a9, a10, a11, a12, a13, a14, a15, a16, a17, a18, a19, a20, a21) (nI p) (nI key) := by
  obtain ⟨X, lab, fl, c, ip, ⟨⟨h1, h2, h3, h4⟩, hg, hcv, hi, hd, hcn, hil, hM⟩, hX⟩ := h
  have p24 := hg.1 p hU
  obtain ⟨p1, p2, p3, p4, p5, p6, ⟨n, K, p7, p7', p7''⟩, p8, p9⟩ := hg.2.2.2 p hU
  rw [p6 key hF hE] at hv
  exact dt_vi p24 (by omega) hE p7 p7' p7'' (h3 p p24) p5 hv H
end
theorem dt_some {M : dt_M} {k : Nat} (h : M k ≠ none) : ∃ v, M k = some v := by
  cases e : M k with
  | none => exact absurd e h
  | some v => exact ⟨v, rfl⟩
/-! put, remove, get, has, swap, stage, tidy -/
theorem dt_put {post : Int32 → St2 → Prop} {u : St2} {M : dt_M} {S : List dt_O} {key : Nat} {v : Int32} (h : dt_T u M S) (hk : key < 4096)
    (H1 : M key ≠ none → ∀ u', dt_T u' (dt_up M key (some v)) S → post 0 u') (H2 : M key = none → dt_cnt M 4096 < 60 → ∀ u', dt_T u' (dt_up M key (some v)) S → post 1 u') (H3 : M key = none → 60 ≤ dt_cnt M 4096 → ∀ u', dt_T u' M S → post (-1) u') : wpX_put post u (nI key) v := by
  obtain ⟨e, fn, ic, il, cn, g, ge, st, a1, a2, a3, a4, a5, a6, a7, a8, a9, a10, a11, a12, a13, a14, a15, a16, a17, a18, a19, a20, a21⟩ := u
  obtain ⟨⟨F, E, U, C, B, kn, hc⟩, he, hcnt, hS⟩ := h
  subst he
  unfold wpX_put
  dsimp only
  refine dt_ik hk (br_f (by decide) (dt_pf hc hk (fun p fn ic il cn a8 a9 a10 a11 a12 a13 kn' hc' hU hF hE _ => ?_)))
  dsimp only
  refine dt_c1_i hc' hU hF hE (fun z => br_t rfl (pk_lt (dt_cnt M 4096) 60 (fun y => br_t rfl ?_) (fun y => ?_))) (fun z => br_f (by decide) (br_f (by decide) ?_))
  · have ce := dt_cnt_add (n := 4096) v hk z
    refine nm_r (nI_1 _) (dt_an (κ := 0) hc' hU hF hE (by decide) (by rw [if_pos rfl, ce]; omega) (fun fn ic il cn g ge a1 a2 a3 a4 a5 a6 a7 a8 a9 a10 a11 a12 a13 a14 a15 a16 a17 a18 hX => ?_))
    dsimp only
    rw [if_pos rfl] at hX
    exact br_t rfl (H2 z y _ ⟨hX, by rw [ce], by rw [ce]; omega, hS⟩)
  · exact H3 z y _ ⟨⟨F, E, U, C, B, kn', hc'⟩, rfl, hcnt, hS⟩
  · have ce := dt_cnt_set (n := 4096) v hk z
    refine nm_r (Int32.add_zero _) (dt_an (κ := 0) hc' hU hF hE (by decide) (by rw [if_pos rfl, ce]; omega) (fun fn ic il cn g ge a1 a2 a3 a4 a5 a6 a7 a8 a9 a10 a11 a12 a13 a14 a15 a16 a17 a18 hX => ?_))
    dsimp only
    rw [if_pos rfl] at hX
    exact br_f (by decide) (H1 z _ ⟨hX, by rw [ce], by rw [ce]; omega, hS⟩)
theorem dt_rem {post : Int32 → St2 → Prop} {u : St2} {M : dt_M} {S : List dt_O} {key : Nat} (h : dt_T u M S) (hk : key < 4096)
    (H1 : M key ≠ none → ∀ u', dt_T u' (dt_up M key none) S → post 1 u') (H2 : M key = none → ∀ u', dt_T u' M S → post 0 u') : wpX_remove post u (nI key) := by
  obtain ⟨e, fn, ic, il, cn, g, ge, st, a1, a2, a3, a4, a5, a6, a7, a8, a9, a10, a11, a12, a13, a14, a15, a16, a17, a18, a19, a20, a21⟩ := u
  obtain ⟨⟨F, E, U, C, B, kn, hc⟩, he, hcnt, hS⟩ := h
  subst he
  unfold wpX_remove
  dsimp only
  refine dt_ik hk (br_f (by decide) (dt_pf hc hk (fun p fn ic il cn a8 a9 a10 a11 a12 a13 kn' hc' hU hF hE _ => ?_)))
  dsimp only
  refine dt_c1_i hc' hU hF hE (fun z => br_t rfl ?_) (fun z => br_f (by decide) ?_)
  · exact H2 z _ ⟨⟨F, E, U, C, B, kn', hc'⟩, rfl, hcnt, hS⟩
  · have ce := dt_cnt_del (n := 4096) hk z
    refine nm_r (e' := nI (dt_cnt (dt_up M key none) 4096)) (by rw [← ce]; exact nI_pred _) (dt_an (κ := 1) (v := 0) hc' hU hF hE (by decide) (by rw [if_neg (by decide)]; omega) (fun fn ic il cn g ge a1 a2 a3 a4 a5 a6 a7 a8 a9 a10 a11 a12 a13 a14 a15 a16 a17 a18 hX => ?_))
    dsimp only
    rw [if_neg (by decide)] at hX
    exact H1 z _ ⟨hX, rfl, by omega, hS⟩
theorem dt_has {post : Int32 → St2 → Prop} {u : St2} {M : dt_M} {S : List dt_O} {key : Nat} (h : dt_T u M S) (hk : key < 4096)
    (H1 : M key ≠ none → ∀ u', dt_T u' M S → post 1 u') (H2 : M key = none → ∀ u', dt_T u' M S → post 0 u') : wpX_has post u (nI key) := by
  obtain ⟨e, fn, ic, il, cn, g, ge, st, a1, a2, a3, a4, a5, a6, a7, a8, a9, a10, a11, a12, a13, a14, a15, a16, a17, a18, a19, a20, a21⟩ := u
  obtain ⟨⟨F, E, U, C, B, kn, hc⟩, he, hcnt, hS⟩ := h
  unfold wpX_has
  dsimp only
  refine dt_ik hk (br_f (by decide) (dt_pf hc hk (fun p fn ic il cn a8 a9 a10 a11 a12 a13 kn' hc' hU hF hE _ => ?_)))
  dsimp only
  refine dt_c1_i hc' hU hF hE (fun z => br_t rfl ?_) (fun z => br_f (by decide) ?_)
  · exact H2 z _ ⟨⟨F, E, U, C, B, kn', hc'⟩, he, hcnt, hS⟩
  · exact H1 z _ ⟨⟨F, E, U, C, B, kn', hc'⟩, he, hcnt, hS⟩
theorem dt_get {post : Int32 → St2 → Prop} {u : St2} {M : dt_M} {S : List dt_O} {key : Nat} (h : dt_T u M S) (hk : key < 4096)
    (H1 : ∀ v, M key = some v → ∀ u', dt_T u' M S → post v u') (H2 : M key = none → ∀ u', dt_T u' M S → post 0 u') : wpX_get post u (nI key) := by
  obtain ⟨e, fn, ic, il, cn, g, ge, st, a1, a2, a3, a4, a5, a6, a7, a8, a9, a10, a11, a12, a13, a14, a15, a16, a17, a18, a19, a20, a21⟩ := u
  obtain ⟨⟨F, E, U, C, B, kn, hc⟩, he, hcnt, hS⟩ := h
  unfold wpX_get
  dsimp only
  refine dt_ik hk (br_f (by decide) (dt_pf hc hk (fun p fn ic il cn a8 a9 a10 a11 a12 a13 kn' hc' hU hF hE _ => ?_)))
  dsimp only
  refine dt_c1_i hc' hU hF hE (fun z => br_t rfl ?_) (fun z => br_f (by decide) ?_)
  · exact H2 z _ ⟨⟨F, E, U, C, B, kn', hc'⟩, he, hcnt, hS⟩
  · obtain ⟨v, hv⟩ := dt_some z
    exact dt_c1_v hc' hU hF hE hv (H1 v hv _ ⟨⟨F, E, U, C, B, kn', hc'⟩, he, hcnt, hS⟩)
theorem dt_swp {post : Int32 → St2 → Prop} {u : St2} {M : dt_M} {S : List dt_O} {key : Nat} {v x y : Int32} (h : dt_T u M S) (hk : key < 4096) (hv : M key = some v)
    (H1 : v = x → ∀ u', dt_T u' (dt_up M key (some y)) S → post 1 u') (H2 : ¬ v = x → ∀ u', dt_T u' M S → post 0 u') : wpX_swap post u (nI key) x y := by
  obtain ⟨e, fn, ic, il, cn, g, ge, st, a1, a2, a3, a4, a5, a6, a7, a8, a9, a10, a11, a12, a13, a14, a15, a16, a17, a18, a19, a20, a21⟩ := u
  obtain ⟨⟨F, E, U, C, B, kn, hc⟩, he, hcnt, hS⟩ := h
  subst he
  have hn : M key ≠ none := by
    rw [hv]
    exact Option.some_ne_none v
  unfold wpX_swap
  dsimp only
  refine dt_ik hk (br_f (by decide) (dt_pf hc hk (fun p fn ic il cn a8 a9 a10 a11 a12 a13 kn' hc' hU hF hE _ => ?_)))
  dsimp only
  refine dt_c1_i hc' hU hF hE (fun z => absurd z hn) (fun z => br_f (by decide) (dt_c1_v hc' hU hF hE hv (br_c (fun t => ?_) (fun t => ?_))))
  · have ce := dt_cnt_set (n := 4096) y hk z
    refine dt_an (κ := 0) hc' hU hF hE (by decide) (by rw [if_pos rfl, ce]; omega) (fun fn ic il cn g ge a1 a2 a3 a4 a5 a6 a7 a8 a9 a10 a11 a12 a13 a14 a15 a16 a17 a18 hX => ?_)
    dsimp only
    rw [if_pos rfl] at hX
    exact H1 t _ ⟨hX, by rw [ce], by rw [ce]; omega, hS⟩
  · exact H2 t _ ⟨⟨F, E, U, C, B, kn', hc'⟩, rfl, hcnt, hS⟩
theorem dt_tdy {post : St2 → Prop} {u : St2} {M : dt_M} {S : List dt_O} (h : dt_T u M S) (H : ∀ u', dt_T u' M S → post u') : wpX_tidy post u := by
  obtain ⟨e, fn, ic, il, cn, g, ge, st, a1, a2, a3, a4, a5, a6, a7, a8, a9, a10, a11, a12, a13, a14, a15, a16, a17, a18, a19, a20, a21⟩ := u
  obtain ⟨⟨F, E, U, C, B, kn, hc⟩, he, hcnt, hS⟩ := h
  unfold wpX_tidy
  dsimp only
  refine dt_ma hc hcnt (fun fn ic il cn g ge a1 a2 a3 a4 a5 a6 a7 a8 a9 a10 a11 a12 a13 a14 a15 a16 a17 a18 hX => ?_)
  dsimp only
  exact H _ ⟨hX, he, hcnt, hS⟩
theorem dt_stg {post : Int32 → St2 → Prop} {u : St2} {M : dt_M} {S : List dt_O} {key : Nat} {v z : Int32} (b : Bool) (hz : z = if b = true then 1 else 0) (h : dt_T u M S) (hk : key < 4096)
    (H1 : S.length < 6 → ∀ u', dt_T u' M (S ++ [(b, key, v)]) → post (nI (S.length + 1)) u') (H2 : S.length = 6 → ∀ u', dt_T u' M S → post (-1) u') : wpX_stage post u z (nI key) v := by
  obtain ⟨e, fn, ic, il, cn, g, ge, st, a1, a2, a3, a4, a5, a6, a7, a8, a9, a10, a11, a12, a13, a14, a15, a16, a17, a18, a19, a20, a21⟩ := u
  obtain ⟨hX, he, hcnt, s1, s2, s3⟩ := h
  subst s1
  have hn : vp_nar .boolean z = if b = true then 1 else 0 := by
    rw [hz]
    cases b
    · exact dt_nar0
    · exact dt_nar1
  unfold wpX_stage
  dsimp only
  refine dt_ik hk (br_f (by decide) (pk_lt S.length 6 (fun y => ?_) (fun y => ?_)))
  · rw [nI_clamp (by omega)]
    have v6 : vp_in (nI S.length) 6 := vp_in_nI y (by decide)
    refine ⟨v6, nm_e ⟨v6, nm_e ⟨v6, nm_e (nm_r (nI_1 _) (H1 y _ ⟨hX, he, hcnt, ?_, ?_, fun i x hx => ?_⟩))⟩⟩⟩
    · rw [List.length_append]
      rfl
    · rw [List.length_append]
      show S.length + 1 ≤ 6
      omega
    · rcases Nat.lt_trichotomy i S.length with t | t | t
      · rw [List.getElem?_append_left t] at hx
        rw [pk_un (by omega), pk_un (by omega), pk_un (by omega)]
        exact s3 i x hx
      · rw [t, List.getElem?_append_right (Nat.le_refl _), Nat.sub_self] at hx
        have hx' : (b, key, v) = x := Option.some.inj hx
        rw [t, pk_us, pk_us, pk_us, ← hx']
        exact ⟨hn, rfl, hk, rfl⟩
      · rw [List.getElem?_append_right (by omega)] at hx
        obtain ⟨q, hq⟩ : ∃ q, i - S.length = q + 1 := ⟨i - S.length - 1, by omega⟩
        rw [hq] at hx
        exact absurd hx.symm (Option.some_ne_none x)
  · exact H2 (by omega) _ ⟨hX, he, hcnt, rfl, s2, s3⟩
theorem dt_stg0 {post : Int32 → St2 → Prop} {u : St2} {x z v : Int32} (hx : x < 0 ∨ 4095 < x) (H : post (-1) u) : wpX_stage post u z x v := by
  obtain ⟨e, fn, ic, il, cn, g, ge, st, a1, a2, a3, a4, a5, a6, a7, a8, a9, a10, a11, a12, a13, a14, a15, a16, a17, a18, a19, a20, a21⟩ := u
  unfold wpX_stage
  dsimp only
  exact dt_ik0 hx (br_t rfl H)
theorem dt_rem0 {post : Int32 → St2 → Prop} {u : St2} {x : Int32} (hx : x < 0 ∨ 4095 < x) (H : post 0 u) : wpX_remove post u x := by
  obtain ⟨e, fn, ic, il, cn, g, ge, st, a1, a2, a3, a4, a5, a6, a7, a8, a9, a10, a11, a12, a13, a14, a15, a16, a17, a18, a19, a20, a21⟩ := u
  unfold wpX_remove
  dsimp only
  exact dt_ik0 hx (br_t rfl H)
end
section
/-! next, previous, count -/
theorem dt_ll5 (p w : Nat) : (if p = w then 5 else 4) ≤ 5 := by
  by_cases z : p = w
  · rw [if_pos z]
    exact Nat.le_refl _
  · rw [if_neg z]
    decide
section
variable {e st : Int32} {a1 a2 a3 a4 a5 a6 a7 a17 a18 a19 a20 a21 : Nat → Int32}
theorem dt_nx12 {post : Int32 → St2 → Prop} {F E : Nat → Nat} {U : Nat → Bool} {M : dt_M} {C : Nat → List dt_N} {B : Nat → dt_M} {S : List dt_O} {fr : Nat} (he : e = nI (dt_cnt M 4096)) (hcnt : dt_cnt M 4096 ≤ 60) (hS : dt_S S st a19 a20 a21)
    (H1 : ∀ k u', fr ≤ k → k < 4096 → M k ≠ none → (∀ j, fr ≤ j → j < k → M j = none) → dt_T u' M S → post (nI k) u') (H2 : (∀ k, fr ≤ k → M k = none) → ∀ u', dt_T u' M S → post (-1) u') :
    ∀ (f key s : Nat) (fn ic il cn g ge : Int32) (a8 a9 a10 a11 a12 a13 a14 a15 a16 : Nat → Int32) (kn : Nat → Bool), dt_c1 fn ic il cn a1 a2 a3 a4 a5 a6 a7 a8 a9 a10 a11 a12 a13 F E U M C B 24 kn → key ≤ 4096 → fr ≤ key → (∀ j, fr ≤ j → j < key → M j = none) → dt_nu U E key < f → s + dt_nu U E key ≤ 24 → wX_next_12 post f (nI key) (nI s) e fn ic il cn g ge st a1 a2 a3 a4 a5 a6 a7 a8 a9 a10 a11 a12 a13 a14 a15 a16 a17 a18 a19 a20 a21
  | 0, key, s, fn, ic, il, cn, g, ge, a8, a9, a10, a11, a12, a13, a14, a15, a16, kn, h, hk, hfk, hn, hf, hs => absurd hf (by omega)
  | f + 1, key, s, fn, ic, il, cn, g, ge, a8, a9, a10, a11, a12, a13, a14, a15, a16, kn, h, hk, hfk, hn, hf, hs => by
    have h0 := h
    obtain ⟨X, lab, fl, c, ip, ⟨⟨h1, h2, h3, h4⟩, hg, hcv, hi, hd, hcn, hil, hM⟩, hX⟩ := h
    have fin : 4096 ≤ key → post (-1) (e, fn, ic, il, cn, g, ge, st, a1, a2, a3, a4, a5, a6, a7, a8, a9, a10, a11, a12, a13, a14, a15, a16, a17, a18, a19, a20, a21) := fun z => H2 (fun k hk' => by
      rcases Nat.lt_or_ge k key with y | y
      · exact hn k hk' y
      · exact hM k (by omega)) _ ⟨⟨F, E, U, C, B, kn, h0⟩, he, hcnt, hS⟩
    refine pk_le 24 s (fun z => fin ?_) (fun zs => pk_le 4096 key (fun z => fin z) (fun zk => ?_))
    · rcases Nat.lt_or_ge key 4096 with y | y
      · have := dt_nu_pos hcv hg.1 y
        omega
      · exact y
    · refine dt_pf h0 zk (fun p fn' ic' il' cn' a8' a9' a10' a11' a12' a13' kn' h' hp pk1 pk2 pkn => ?_)
      dsimp only
      have h0' := h'
      obtain ⟨X', lab', fl', c', ip', ⟨⟨h1', h2', h3', h4'⟩, hg', hcv', hi', hd', hcn', hil', hM'⟩, hX'⟩ := h'
      have p24 := hg.1 p hp
      refine dt_ga p24 (hg'.2.2.2 p hp) (dt_ll5 p 24) (h3' p p24) (fun g0 b14 b15 b16 Kg r1 r2 => ?_)
      dsimp only
      have hEp := (hg.2.2.2 p hp).2.1
      have nul := dt_nu_lt hp p24 pk2
      have lk : ∀ k, F p ≤ k → k < E p → M k ≠ none → ∃ i, i < g0 ∧ Kg i = k := fun k y1 y2 y3 => r1.2.2 k (by rw [dt_rs_in y1 y2]; exact y3)
      refine pk_loop (σ := Unit) (fun n i _ => wX_next_41 post (wX_next_12 post f) (nI key) (nI s) e fn' ic' il' cn' (nI g0) (nI (E p)) st a1 a2 a3 a4 a5 a6 a7 a8' a9' a10' a11' a12' a13' b14 b15 b16 a17 a18 a19 a20 a21 n (nI i)) (fun i _ => ∀ j, j < i → Kg j < key) g0 0 () (by omega) (fun j hj => absurd hj (by omega))
        (fun n _ hI => pk_le g0 g0 (fun _ => nm_r (nI_1 s) ?_) (fun z => absurd z (by omega)))
        (fun n i _ hi hI hw => pk_le g0 i (fun z => absurd z (by omega)) (fun z => ?_))
      · refine dt_nx12 he hcnt hS H1 H2 f (E p) (s + 1) _ _ _ _ _ _ _ _ _ _ _ _ _ _ _ kn' h0' hEp (by omega) (fun j j1 j2 => ?_) (by omega) (by omega)
        rcases Nat.lt_or_ge j key with y | y
        · exact hn j j1 y
        · cases em : M j with
          | none => rfl
          | some v =>
            obtain ⟨i, t1, t2⟩ := lk j (by omega) j2 (by rw [em]; exact Option.some_ne_none v)
            have := hI i t1
            omega
      · obtain ⟨q1, q2, q3⟩ := r1.1 i hi
        rw [nI_clamp (show i < 2 ^ 31 by omega), q1]
        have v : vp_in (nI i) 16 := vp_in_nI (by omega) (by decide)
        refine ⟨v, pk_lt (Kg i) key (fun y => nm_r (nI_1 i) (hw () (lt_s hI y))) (fun y => ⟨v, ?_⟩)⟩
        obtain ⟨w1, w2, w3⟩ := dt_rs_ne (M := M) (f := F p) (e := E p) (k := Kg i) (by rw [q3]; exact Option.some_ne_none _)
        refine H1 (Kg i) _ (by omega) q2 w3 (fun j j1 j2 => ?_) ⟨⟨F, E, U, C, B, kn', h0'⟩, he, hcnt, hS⟩
        rcases Nat.lt_or_ge j key with t | t
        · exact hn j j1 t
        · cases em : M j with
          | none => rfl
          | some v =>
            obtain ⟨i', t1, t2⟩ := lk j (by omega) (by omega) (by rw [em]; exact Option.some_ne_none v)
            rcases Nat.lt_or_ge i' i with x | x
            · have := hI i' x
              omega
            · by_cases x' : i' = i
              · rw [x'] at t2
                omega
              · have := r1.2.1 i i' (by omega) t1
                omega
end
theorem dt_nxt {post : Int32 → St2 → Prop} {u : St2} {M : dt_M} {S : List dt_O} {fr : Nat} (h : dt_T u M S) (hk : fr < 4096)
    (H1 : ∀ k u', fr ≤ k → k < 4096 → M k ≠ none → (∀ j, fr ≤ j → j < k → M j = none) → dt_T u' M S → post (nI k) u') (H2 : (∀ k, fr ≤ k → M k = none) → ∀ u', dt_T u' M S → post (-1) u') : wpX_next post u (nI fr) := by
  obtain ⟨e, fn, ic, il, cn, g, ge, st, a1, a2, a3, a4, a5, a6, a7, a8, a9, a10, a11, a12, a13, a14, a15, a16, a17, a18, a19, a20, a21⟩ := u
  obtain ⟨⟨F, E, U, C, B, kn, hc⟩, he, hcnt, hS⟩ := h
  unfold wpX_next
  dsimp only
  exact br_t (nI_pos' (by omega)) ⟨dt_nu U E fr + 1, dt_nx12 he hcnt hS H1 H2 _ fr 0 _ _ _ _ _ _ _ _ _ _ _ _ _ _ _ kn hc (by omega) (by omega) (fun j j1 j2 => absurd j2 (by omega)) (by omega) (by have := dt_nu_bd U E fr; omega)⟩
/-! previous: below κ nothing is known yet -/
def dt_rh (U : Nat → Bool) (F : Nat → Nat) (κ : Nat) : Nat := dt_sm (fun q => (U q && decide (F q < κ)).toNat) 24
theorem dt_rh_lt {U : Nat → Bool} {F : Nat → Nat} {p κ : Nat} (hp : U p = true) (hp' : p < 24) (h : F p < κ) : dt_rh U F (F p) < dt_rh U F κ := by
  refine dt_sm_lt (p := p) 24 (fun r _ => ?_) hp' ?_
  · by_cases a : F r < F p
    · have b : F r < κ := by omega
      rw [decide_eq_true a, decide_eq_true b]
      exact Nat.le_refl _
    · rw [decide_eq_false a]
      cases U r <;> exact Nat.zero_le _
  · rw [hp, decide_eq_true h, decide_eq_false (Nat.lt_irrefl (F p))]
    decide
theorem dt_rh_bd (U : Nat → Bool) (F : Nat → Nat) (κ : Nat) : dt_rh U F κ ≤ 24 := dt_sm_bd (c := 1) 24 (fun q _ => dt_tn_le _)
section
variable {e st : Int32} {a1 a2 a3 a4 a5 a6 a7 a17 a18 a19 a20 a21 : Nat → Int32}
theorem dt_pv17 {post : Int32 → St2 → Prop} {F E : Nat → Nat} {U : Nat → Bool} {M : dt_M} {C : Nat → List dt_N} {B : Nat → dt_M} {S : List dt_O} {fr : Nat} (hfr : fr ≤ 4096) (he : e = nI (dt_cnt M 4096)) (hcnt : dt_cnt M 4096 ≤ 60) (hS : dt_S S st a19 a20 a21)
    (H1 : ∀ k u', k < fr → M k ≠ none → (∀ j, k < j → j < fr → M j = none) → dt_T u' M S → post (nI k) u') (H2 : (∀ k, k < fr → M k = none) → ∀ u', dt_T u' M S → post (-1) u') :
    ∀ (f κ s : Nat) (fn ic il cn g ge : Int32) (a8 a9 a10 a11 a12 a13 a14 a15 a16 : Nat → Int32) (kn : Nat → Bool), dt_c1 fn ic il cn a1 a2 a3 a4 a5 a6 a7 a8 a9 a10 a11 a12 a13 F E U M C B 24 kn → κ ≤ fr → (∀ j, κ ≤ j → j < fr → M j = none) → dt_rh U F κ < f → s + dt_rh U F κ ≤ 24 → wX_previous_17 post f (nI κ - 1) (nI s) e fn ic il cn g ge st a1 a2 a3 a4 a5 a6 a7 a8 a9 a10 a11 a12 a13 a14 a15 a16 a17 a18 a19 a20 a21
  | 0, κ, s, fn, ic, il, cn, g, ge, a8, a9, a10, a11, a12, a13, a14, a15, a16, kn, h, hk, hn, hf, hs => absurd hf (by omega)
  | f + 1, 0, s, fn, ic, il, cn, g, ge, a8, a9, a10, a11, a12, a13, a14, a15, a16, kn, h, hk, hn, hf, hs => by
    have fin : post (-1) (e, fn, ic, il, cn, g, ge, st, a1, a2, a3, a4, a5, a6, a7, a8, a9, a10, a11, a12, a13, a14, a15, a16, a17, a18, a19, a20, a21) := H2 (fun k hk' => hn k (by omega) hk') _ ⟨⟨F, E, U, C, B, kn, h⟩, he, hcnt, hS⟩
    exact pk_le 24 s (fun z => fin) (fun zs => br_t (by decide) fin)
  | f + 1, key + 1, s, fn, ic, il, cn, g, ge, a8, a9, a10, a11, a12, a13, a14, a15, a16, kn, h, hk, hn, hf, hs => by
    have h0 := h
    obtain ⟨X, lab, fl, c, ip, ⟨⟨h1, h2, h3, h4⟩, hg, hcv, hi, hd, hcn, hil, hM⟩, hX⟩ := h
    have pos : 0 < dt_rh U F (key + 1) := by
      obtain ⟨p, p1, p2, p3⟩ := hcv.1 key (by omega)
      exact Nat.lt_of_le_of_lt (Nat.zero_le _) (dt_rh_lt p1 (hg.1 p p1) (by omega))
    rw [nI_pred]
    refine pk_le 24 s (fun z => absurd z (by omega)) (fun zs => br_f (nI_pos (by omega)) ?_)
    refine dt_pf h0 (by omega) (fun p fn' ic' il' cn' a8' a9' a10' a11' a12' a13' kn' h' hp pk1 pk2 pkn => ?_)
    dsimp only
    have h0' := h'
    obtain ⟨X', lab', fl', c', ip', ⟨⟨h1', h2', h3', h4'⟩, hg', hcv', hi', hd', hcn', hil', hM'⟩, hX'⟩ := h'
    have p24 := hg.1 p hp
    refine dt_ga p24 (hg'.2.2.2 p hp) (dt_ll5 p 24) (h3' p p24) (fun g0 b14 b15 b16 Kg r1 r2 => ?_)
    dsimp only
    have rl := dt_rh_lt hp p24 (show F p < key + 1 by omega)
    have lk : ∀ k, F p ≤ k → k < E p → M k ≠ none → ∃ i, i < g0 ∧ Kg i = k := fun k y1 y2 y3 => r1.2.2 k (by rw [dt_rs_in y1 y2]; exact y3)
    have inner : ∀ i, i ≤ g0 → (∀ j, i ≤ j → j < g0 → key < Kg j) → wX_previous_48 post (wX_previous_17 post f) (nI key) (nI s) (nI p) e fn' ic' il' cn' (nI g0) (nI (E p)) st a1 a2 a3 a4 a5 a6 a7 a8' a9' a10' a11' a12' a13' b14 b15 b16 a17 a18 a19 a20 a21 (i + 1) (nI i - 1) := by
      intro i
      induction i with
      | zero =>
        intro _ hI
        refine br_t (by decide) (dt_fk hg'.1 hi' (by have := dt_ix_c hi'; omega) hcn' h2' pkn (nm_e (nm_r (nI_1 s) ?_)))
        refine dt_pv17 hfr he hcnt hS H1 H2 f (F p) (s + 1) _ _ _ _ _ _ _ _ _ _ _ _ _ _ _ kn' h0' (by omega) (fun j j1 j2 => ?_) (by omega) (by omega)
        rcases Nat.lt_or_ge j (key + 1) with y | y
        · cases em : M j with
          | none => rfl
          | some v =>
            obtain ⟨i, t1, t2⟩ := lk j j1 (by omega) (by rw [em]; exact Option.some_ne_none v)
            have := hI i (by omega) t1
            omega
        · exact hn j y j2
      | succ i ih =>
        intro hig hI
        rw [nI_pred]
        obtain ⟨q1, q2, q3⟩ := r1.1 i (by omega)
        refine br_f (nI_pos (by omega)) ?_
        rw [nI_clamp (show i < 2 ^ 31 by omega), q1]
        have v : vp_in (nI i) 16 := vp_in_nI (by omega) (by decide)
        refine ⟨v, pk_lt key (Kg i) (fun y => nm_r (e' := nI i - 1) (Int32.sub_eq_add_neg (nI i) 1).symm (ih (by omega) (fun j j1 j2 => ?_))) (fun y => ⟨v, ?_⟩)⟩
        · by_cases t : j = i
          · rw [t]
            exact y
          · exact hI j (by omega) j2
        · obtain ⟨w1, w2, w3⟩ := dt_rs_ne (M := M) (f := F p) (e := E p) (k := Kg i) (by rw [q3]; exact Option.some_ne_none _)
          refine H1 (Kg i) _ (by omega) w3 (fun j j1 j2 => ?_) ⟨⟨F, E, U, C, B, kn', h0'⟩, he, hcnt, hS⟩
          rcases Nat.lt_or_ge j (key + 1) with t | t
          · cases em : M j with
            | none => rfl
            | some v =>
              obtain ⟨i', t1, t2⟩ := lk j (by omega) (by omega) (by rw [em]; exact Option.some_ne_none v)
              rcases Nat.lt_or_ge i i' with x | x
              · have := hI i' (by omega) t1
                omega
              · by_cases x' : i' = i
                · rw [x'] at t2
                  omega
                · have := r1.2.1 i' i (by omega) (by omega)
                  omega
          · exact hn j t j2
    exact nm_e ⟨g0 + 1, inner g0 (Nat.le_refl _) (fun j j1 j2 => absurd j2 (by omega))⟩
end
/-- fr: one more than the key -/
theorem dt_prv {post : Int32 → St2 → Prop} {u : St2} {M : dt_M} {S : List dt_O} {fr : Nat} {x : Int32} (hx : x = nI fr - 1) (h : dt_T u M S) (hk : fr ≤ 4096)
    (H1 : ∀ k u', k < fr → M k ≠ none → (∀ j, k < j → j < fr → M j = none) → dt_T u' M S → post (nI k) u') (H2 : (∀ k, k < fr → M k = none) → ∀ u', dt_T u' M S → post (-1) u') : wpX_previous post u x := by
  obtain ⟨e, fn, ic, il, cn, g, ge, st, a1, a2, a3, a4, a5, a6, a7, a8, a9, a10, a11, a12, a13, a14, a15, a16, a17, a18, a19, a20, a21⟩ := u
  obtain ⟨⟨F, E, U, C, B, kn, hc⟩, he, hcnt, hS⟩ := h
  subst hx
  unfold wpX_previous
  dsimp only
  have hle : nI fr - 1 ≤ 4095 := by
    cases fr with
    | zero => decide
    | succ k =>
      rw [nI_pred]
      exact nI_le (b := 4095) (by omega) (by decide)
  exact br_t hle ⟨dt_rh U F fr + 1, dt_pv17 hk he hcnt hS H1 H2 _ fr 0 _ _ _ _ _ _ _ _ _ _ _ _ _ _ _ kn hc (by omega) (fun j j1 j2 => absurd j2 (by omega)) (by omega) (by have := dt_rh_bd U F fr; omega)⟩
/-! count -/
theorem dt_cnt_rs {M : dt_M} {f e a : Nat} (ha : f ≤ a) : ∀ b, a ≤ b → b ≤ e → dt_cnt (dt_rs M f e) b + dt_cnt M a = dt_cnt M b + dt_cnt (dt_rs M f e) a
  | 0, h1, _ => by
    have : a = 0 := by omega
    rw [this, Nat.add_comm]
  | b + 1, h1, h2 => by
    by_cases z : a = b + 1
    · rw [z, Nat.add_comm]
    · have ih := dt_cnt_rs (M := M) (e := e) ha b (by omega) (by omega)
      rw [dt_cnt_s, dt_cnt_s, dt_rs_in (by omega) (by omega)]
      omega
theorem dt_cnt_rs2 {M : dt_M} {f e : Nat} : ∀ b, e ≤ b → dt_cnt (dt_rs M f e) b = dt_cnt (dt_rs M f e) e
  | 0, h => by
    have : e = 0 := by omega
    rw [this]
  | b + 1, h => by
    by_cases z : e = b + 1
    · rw [z]
    · rw [dt_cnt_sn, dt_cnt_rs2 b (by omega)]
      unfold dt_rs
      rw [if_neg (by omega)]
theorem dt_cnt_pg {a v : Nat → Int32} {g0 f e key hi : Nat} {M : dt_M} {K : Nat → Nat} (h : dt_rp a v g0 (dt_rs M f e) K) (h1 : f ≤ key) (h2 : key < e) (h3 : key ≤ hi) :
    dt_sm (fun j => (decide (key ≤ K j ∧ K j ≤ hi)).toNat) g0 + dt_cnt M key = dt_cnt M (min e (hi + 1)) := by
  have s1 := dt_rp_sm h key
  have s2 := dt_rp_sm h (hi + 1)
  have s3 : dt_sm (fun j => (decide (key ≤ K j ∧ K j ≤ hi)).toNat) g0 + dt_sm (fun j => (decide (K j < key)).toNat) g0 = dt_sm (fun j => (decide (K j < hi + 1)).toNat) g0 :=
    dt_sm_ad g0 (fun j _ => by
      by_cases x : K j < key
      · rw [decide_eq_false (show ¬ (key ≤ K j ∧ K j ≤ hi) by omega), decide_eq_true x, decide_eq_true (show K j < hi + 1 by omega)]
        rfl
      · by_cases y : K j ≤ hi
        · rw [decide_eq_true (show key ≤ K j ∧ K j ≤ hi by omega), decide_eq_false x, decide_eq_true (show K j < hi + 1 by omega)]
          rfl
        · rw [decide_eq_false (show ¬ (key ≤ K j ∧ K j ≤ hi) by omega), decide_eq_false x, decide_eq_false (show ¬ K j < hi + 1 by omega)]
          rfl)
  rcases Nat.lt_or_ge e (hi + 1) with z | z
  · have q1 := dt_cnt_rs2 (M := M) (f := f) (e := e) (hi + 1) (by omega)
    have q2 := dt_cnt_rs (M := M) (e := e) h1 e (by omega) (Nat.le_refl _)
    rw [show min e (hi + 1) = e by omega]
    omega
  · have q2 := dt_cnt_rs (M := M) (e := e) h1 (hi + 1) (by omega) z
    rw [show min e (hi + 1) = hi + 1 by omega]
    omega
section
variable {e st : Int32} {a1 a2 a3 a4 a5 a6 a7 a17 a18 a19 a20 a21 : Nat → Int32}
theorem dt_ct16 {post : Int32 → St2 → Prop} {F E : Nat → Nat} {U : Nat → Bool} {M : dt_M} {C : Nat → List dt_N} {B : Nat → dt_M} {S : List dt_O} {lo hi : Nat} (hlo : lo ≤ hi) (hhi : hi < 4096) (he : e = nI (dt_cnt M 4096)) (hcnt : dt_cnt M 4096 ≤ 60) (hS : dt_S S st a19 a20 a21)
    (H : ∀ u', dt_T u' M S → post (nI (dt_cnt M (hi + 1) - dt_cnt M lo)) u') :
    ∀ (f N key s : Nat) (fn ic il cn g ge : Int32) (a8 a9 a10 a11 a12 a13 a14 a15 a16 : Nat → Int32) (kn : Nat → Bool), dt_c1 fn ic il cn a1 a2 a3 a4 a5 a6 a7 a8 a9 a10 a11 a12 a13 F E U M C B 24 kn → key ≤ 4096 → N + dt_cnt M lo = dt_cnt M (min key (hi + 1)) → dt_nu U E key < f → s + dt_nu U E key ≤ 24 → wX_count_16 post (nI hi) f (nI N) (nI key) (nI s) e fn ic il cn g ge st a1 a2 a3 a4 a5 a6 a7 a8 a9 a10 a11 a12 a13 a14 a15 a16 a17 a18 a19 a20 a21
  | 0, N, key, s, fn, ic, il, cn, g, ge, a8, a9, a10, a11, a12, a13, a14, a15, a16, kn, h, hk, hN, hf, hs => absurd hf (by omega)
  | f + 1, N, key, s, fn, ic, il, cn, g, ge, a8, a9, a10, a11, a12, a13, a14, a15, a16, kn, h, hk, hN, hf, hs => by
    have h0 := h
    obtain ⟨X, lab, fl, c, ip, ⟨⟨h1, h2, h3, h4⟩, hg, hcv, hi', hd, hcn, hil, hM⟩, hX⟩ := h
    have fin : hi < key → post (nI N) (e, fn, ic, il, cn, g, ge, st, a1, a2, a3, a4, a5, a6, a7, a8, a9, a10, a11, a12, a13, a14, a15, a16, a17, a18, a19, a20, a21) := fun z => by
      rw [show min key (hi + 1) = hi + 1 by omega] at hN
      rw [show N = dt_cnt M (hi + 1) - dt_cnt M lo by omega]
      exact H _ ⟨⟨F, E, U, C, B, kn, h0⟩, he, hcnt, hS⟩
    refine pk_le 24 s (fun z => fin ?_) (fun zs => pk_le 4096 key (fun z => fin (by omega)) (fun zk => pk_lt hi key (fun z => fin z) (fun zh => ?_)))
    · rcases Nat.lt_or_ge key 4096 with y | y
      · have := dt_nu_pos hcv hg.1 y
        omega
      · omega
    · refine dt_pf h0 zk (fun p fn' ic' il' cn' a8' a9' a10' a11' a12' a13' kn' h' hp pk1 pk2 pkn => ?_)
      dsimp only
      have h0' := h'
      obtain ⟨X', lab', fl', c', ip', ⟨⟨h1', h2', h3', h4'⟩, hg', hcv', hi'', hd', hcn', hil', hM'⟩, hX'⟩ := h'
      have p24 := hg.1 p hp
      refine dt_ga p24 (hg'.2.2.2 p hp) (dt_ll5 p 24) (h3' p p24) (fun g0 b14 b15 b16 Kg r1 r2 => ?_)
      dsimp only
      have hEp := (hg.2.2.2 p hp).2.1
      have nul := dt_nu_lt hp p24 pk2
      have sm0 := dt_cnt_pg r1 pk1 pk2 zh
      have smb : ∀ i, i ≤ g0 → dt_sm (fun j => (decide (key ≤ Kg j ∧ Kg j ≤ hi)).toNat) i ≤ 13 := fun i hig => by
        have := dt_sm_bd (f := fun j => (decide (key ≤ Kg j ∧ Kg j ≤ hi)).toNat) (c := 1) i (fun q _ => dt_tn_le _)
        omega
      rw [show min key (hi + 1) = key by omega] at hN
      have hNb : N ≤ 60 := by
        have := dt_cnt_mo (M := M) hk
        omega
      refine pk_loop (σ := Unit) (fun n i _ => wX_count_54 post (wX_count_16 post (nI hi) f) (nI hi) (nI key) (nI s) e fn' ic' il' cn' (nI g0) (nI (E p)) st a1 a2 a3 a4 a5 a6 a7 a8' a9' a10' a11' a12' a13' b14 b15 b16 a17 a18 a19 a20 a21 n (nI (N + dt_sm (fun j => (decide (key ≤ Kg j ∧ Kg j ≤ hi)).toNat) i)) (nI i)) (fun i _ => True) g0 0 () (by omega) trivial
        (fun n _ hI => pk_le g0 g0 (fun _ => nm_r (nI_1 s) ?_) (fun z => absurd z (by omega)))
        (fun n i _ hi' hI hw => pk_le g0 i (fun z => absurd z (by omega)) (fun z => ?_))
      · exact dt_ct16 hlo hhi he hcnt hS H f _ (E p) (s + 1) _ _ _ _ _ _ _ _ _ _ _ _ _ _ _ kn' h0' hEp (by omega) (by omega) (by omega)
      · obtain ⟨q1, q2, q3⟩ := r1.1 i hi'
        rw [nI_clamp (show i < 2 ^ 31 by omega), q1]
        have v : vp_in (nI i) 16 := vp_in_nI (by omega) (by decide)
        have w := hw () trivial
        rw [dt_sm_s, ← Nat.add_assoc] at w
        refine ⟨v, pk_lt (Kg i) key (fun y => nm_r (Int32.add_zero _) (nm_r (nI_1 i) ?_)) (fun y => ⟨v, pk_lt hi (Kg i) (fun y' => nm_r (Int32.add_zero _) (nm_r (nI_1 i) ?_)) (fun y' => nm_r (nI_1 _) (nm_r (nI_1 i) ?_))⟩)⟩
        · rw [decide_eq_false (show ¬ (key ≤ Kg i ∧ Kg i ≤ hi) by omega)] at w
          exact w
        · rw [decide_eq_false (show ¬ (key ≤ Kg i ∧ Kg i ≤ hi) by omega)] at w
          exact w
        · rw [decide_eq_true (show key ≤ Kg i ∧ Kg i ≤ hi by omega)] at w
          exact w
end
theorem dt_ctn {post : Int32 → St2 → Prop} {u : St2} {M : dt_M} {S : List dt_O} {lo hi : Nat} (h : dt_T u M S) (hlo : lo ≤ hi) (hhi : hi < 4096) (H : ∀ u', dt_T u' M S → post (nI (dt_cnt M (hi + 1) - dt_cnt M lo)) u') : wpX_count post u (nI lo) (nI hi) := by
  obtain ⟨e, fn, ic, il, cn, g, ge, st, a1, a2, a3, a4, a5, a6, a7, a8, a9, a10, a11, a12, a13, a14, a15, a16, a17, a18, a19, a20, a21⟩ := u
  obtain ⟨⟨F, E, U, C, B, kn, hc⟩, he, hcnt, hS⟩ := h
  unfold wpX_count
  dsimp only
  refine br_t (nI_pos' (by omega)) ⟨dt_nu U E lo + 1, dt_ct16 hlo hhi he hcnt hS H _ 0 lo 0 _ _ _ _ _ _ _ _ _ _ _ _ _ _ _ kn hc (by omega) ?_ (by omega) (by have := dt_nu_bd U E lo; omega)⟩
  rw [show min lo (hi + 1) = lo by omega, Nat.zero_add]
end
section
/-! batches -/
def dt_pk (M : dt_M) (S : List dt_O) : Nat → dt_M
  | 0 => M
  | k + 1 => match S[k]? with
    | some x => dt_up (dt_pk M S k) x.2.1 (if x.1 = true then some x.2.2 else none)
    | none => dt_pk M S k
theorem dt_pk_s {M : dt_M} {S : List dt_O} {k : Nat} {x : dt_O} (h : S[k]? = some x) : dt_pk M S (k + 1) = dt_up (dt_pk M S k) x.2.1 (if x.1 = true then some x.2.2 else none) := by
  rw [dt_pk, h]
theorem dt_pk_le (M : dt_M) (S : List dt_O) : ∀ k, dt_cnt (dt_pk M S k) 4096 ≤ dt_cnt M 4096 + k
  | 0 => Nat.le_refl _
  | k + 1 => by
    have ih := dt_pk_le M S k
    cases e : S[k]? with
    | none =>
      rw [dt_pk, e]
      dsimp only
      omega
    | some x =>
      rw [dt_pk_s e]
      have := dt_cnt_le1 (M := dt_pk M S k) (k := x.2.1) (n := 4096) (if x.1 = true then some x.2.2 else none)
      omega
theorem dt_sx {S : List dt_O} {k : Nat} (h : k < S.length) : ∃ x, S[k]? = some x := ⟨S[k], List.getElem?_eq_getElem h⟩
theorem dt_nb1 : narrow .boolean (.int 1) = .int 1 := by decide
theorem dt_nb0 : narrow .boolean (.int 0) = .int 0 := by decide
theorem dt_itb {post : Int32 → St2 → Prop} {u : St2} {M : dt_M} {S : List dt_O} {k : Nat} {x : dt_O} (h : dt_T u M S) (hx : S[k]? = some x)
    (H1 : dt_pk M S k x.2.1 = none → ∀ u', dt_T u' M S → post 0 u') (H2 : dt_pk M S k x.2.1 ≠ none → ∀ u', dt_T u' M S → post 1 u') : wpX_isThereBefore post u (nI k) := by
  obtain ⟨e, fn, ic, il, cn, g, ge, st, a1, a2, a3, a4, a5, a6, a7, a8, a9, a10, a11, a12, a13, a14, a15, a16, a17, a18, a19, a20, a21⟩ := u
  have h0 := h
  obtain ⟨⟨F, E, U, C, B, kn, hc⟩, he, hcnt, s1, s2, s3⟩ := h
  have hkl : k < S.length := (List.getElem?_eq_some_iff.mp hx).1
  obtain ⟨x1, x2, x3, x4⟩ := s3 k x hx
  have vk : vp_in (nI k) 6 := vp_in_nI (by omega) (by decide)
  have loop : ∀ j, j ≤ k → (dt_pk M S j x.2.1 = none → dt_pk M S k x.2.1 = none) → (dt_pk M S j x.2.1 ≠ none → dt_pk M S k x.2.1 ≠ none) → wX_isThereBefore_4 post (nI k) e fn ic il cn g ge st a1 a2 a3 a4 a5 a6 a7 a8 a9 a10 a11 a12 a13 a14 a15 a16 a17 a18 a19 a20 a21 (j + 1) (nI j - 1) := by
    intro j
    induction j with
    | zero =>
      intro _ j1 j2
      refine br_t (by decide) ⟨vk, ?_⟩
      rw [nI_clamp (show k < 2 ^ 31 by omega), x2]
      refine dt_pf hc x3 (fun p fn' ic' il' cn' a8' a9' a10' a11' a12' a13' kn' h' hU hF hE _ => ?_)
      dsimp only
      refine ⟨vk, ?_⟩
      rw [x2]
      refine dt_c1_i h' hU hF hE (fun z => ⟨dt_nb0, ?_⟩) (fun z => ⟨dt_nb1, ?_⟩)
      · exact H1 (j1 z) _ ⟨⟨F, E, U, C, B, kn', h'⟩, he, hcnt, s1, s2, s3⟩
      · exact H2 (j2 z) _ ⟨⟨F, E, U, C, B, kn', h'⟩, he, hcnt, s1, s2, s3⟩
    | succ j ih =>
      intro hj j1 j2
      rw [nI_pred]
      refine br_f (nI_pos (by omega)) ?_
      rw [nI_clamp (show k < 2 ^ 31 by omega), nI_clamp (show j < 2 ^ 31 by omega), x2]
      have vj : vp_in (nI j) 6 := vp_in_nI (by omega) (by decide)
      obtain ⟨y, hy⟩ := dt_sx (S := S) (k := j) (by omega)
      obtain ⟨y1, y2, y3, y4⟩ := s3 j y hy
      rw [dt_pk_s hy] at j1 j2
      refine ⟨vj, vk, pk_eq y.2.1 x.2.1 (fun z => ⟨vj, ?_⟩) (fun z => nm_r (e' := nI j - 1) (Int32.sub_eq_add_neg (nI j) 1).symm (ih (by omega) ?_ ?_)) (hx := y2)⟩
      · rw [y1]
        rw [← z, dt_up_s] at j1 j2
        cases eb : y.1 with
        | true =>
          rw [eb, if_pos rfl] at j2
          rw [if_pos rfl]
          exact ⟨dt_nb1, H2 (by rw [← z]; exact j2 (Option.some_ne_none _)) _ h0⟩
        | false =>
          rw [eb, if_neg (by decide)] at j1
          rw [if_neg (by decide)]
          exact ⟨dt_nb0, H1 (by rw [← z]; exact j1 rfl) _ h0⟩
      · rw [dt_up_n _ _ (fun t => z t.symm)] at j1
        exact j1
      · rw [dt_up_n _ _ (fun t => z t.symm)] at j2
        exact j2
  unfold wpX_isThereBefore
  dsimp only
  exact nm_e ⟨k + 1, loop k (Nat.le_refl _) (fun z => z) (fun z => z)⟩
theorem dt_S0 {a19 a20 a21 : Nat → Int32} : dt_S [] 0 a19 a20 a21 := ⟨rfl, by decide, fun i x hx => absurd hx.symm (by simp)⟩
theorem dt_146 {post : Int32 → St2 → Prop} (e fn ic il cn g ge st : Int32) (a1 a2 a3 a4 a5 a6 a7 a8 a9 a10 a11 a12 a13 a14 a15 a16 a17 a18 a19 a20 a21 : Nat → Int32) {M : dt_M} {S : List dt_O} (h : dt_T (e, fn, ic, il, cn, g, ge, st, a1, a2, a3, a4, a5, a6, a7, a8, a9, a10, a11, a12, a13, a14, a15, a16, a17, a18, a19, a20, a21) M S) (b : Bool) (H1 : b = true → ∀ u', dt_T u' M [] → post (nI (dt_cnt M 4096)) u') (H2 : b = false → ∀ u', dt_T u' M [] → post (-1) u') : wX_commit_146 post (if b = true then 1 else 0) e fn ic il cn g ge st a1 a2 a3 a4 a5 a6 a7 a8 a9 a10 a11 a12 a13 a14 a15 a16 a17 a18 a19 a20 a21 := by
  obtain ⟨hX, he, hcnt, hS⟩ := h
  subst he
  unfold wX_commit_146
  cases b with
  | true => exact br_f (by decide) (H1 rfl _ ⟨hX, rfl, hcnt, dt_S0⟩)
  | false => exact br_t (by decide) (H2 rfl _ ⟨hX, rfl, hcnt, dt_S0⟩)
theorem dt_cm88 {post : Int32 → St2 → Prop} {M : dt_M} {S : List dt_O} (hfit : ∀ j, j ≤ S.length → dt_cnt (dt_pk M S j) 4096 ≤ 60) (H : ∀ u', dt_T u' (dt_pk M S S.length) [] → post (nI (dt_cnt (dt_pk M S S.length) 4096)) u') :
    ∀ (m k : Nat) (e fn ic il cn g ge st : Int32) (a1 a2 a3 a4 a5 a6 a7 a8 a9 a10 a11 a12 a13 a14 a15 a16 a17 a18 a19 a20 a21 : Nat → Int32), k + m = S.length → dt_T (e, fn, ic, il, cn, g, ge, st, a1, a2, a3, a4, a5, a6, a7, a8, a9, a10, a11, a12, a13, a14, a15, a16, a17, a18, a19, a20, a21) (dt_pk M S k) S → wX_commit_88 post 1 (m + 1) (nI k) e fn ic il cn g ge st a1 a2 a3 a4 a5 a6 a7 a8 a9 a10 a11 a12 a13 a14 a15 a16 a17 a18 a19 a20 a21
  | 0, k, e, fn, ic, il, cn, g, ge, st, a1, a2, a3, a4, a5, a6, a7, a8, a9, a10, a11, a12, a13, a14, a15, a16, a17, a18, a19, a20, a21, hk, h => by
    have hk' : k = S.length := by omega
    subst hk'
    have h0 := h
    obtain ⟨hX, he, hcnt, s1, s2, s3⟩ := h
    exact pk_le S.length S.length (fun _ => dt_146 e fn ic il cn g ge st a1 a2 a3 a4 a5 a6 a7 a8 a9 a10 a11 a12 a13 a14 a15 a16 a17 a18 a19 a20 a21 h0 true (fun _ => H) (fun z => absurd z (by decide))) (fun z => absurd z (by omega)) (hx := s1)
  | m + 1, k, e, fn, ic, il, cn, g, ge, st, a1, a2, a3, a4, a5, a6, a7, a8, a9, a10, a11, a12, a13, a14, a15, a16, a17, a18, a19, a20, a21, hk, h => by
    have h0 := h
    obtain ⟨hX, he, hcnt, s1, s2, s3⟩ := h
    obtain ⟨x, hx⟩ := dt_sx (S := S) (k := k) (by omega)
    obtain ⟨x1, x2, x3, x4⟩ := s3 k x hx
    have vk : vp_in (nI k) 6 := vp_in_nI (by omega) (by decide)
    have nextf := hfit (k + 1) (by omega)
    have ps := dt_pk_s (M := M) hx
    rw [ps] at nextf
    have go : ∀ u', dt_T u' (dt_pk M S (k + 1)) S → (match u' with | (e', fn', ic', il', cn', g', ge', st', a1', a2', a3', a4', a5', a6', a7', a8', a9', a10', a11', a12', a13', a14', a15', a16', a17', a18', a19', a20', a21') => ∀ x3, x3 = nI k + 1 → wX_commit_88 post 1 (m + 1) x3 e' fn' ic' il' cn' g' ge' st' a1' a2' a3' a4' a5' a6' a7' a8' a9' a10' a11' a12' a13' a14' a15' a16' a17' a18' a19' a20' a21') := fun u' hu' => by
      obtain ⟨e', fn', ic', il', cn', g', ge', st', a1', a2', a3', a4', a5', a6', a7', a8', a9', a10', a11', a12', a13', a14', a15', a16', a17', a18', a19', a20', a21'⟩ := u'
      dsimp only
      exact nm_r (nI_1 k) (dt_cm88 hfit H m (k + 1) e' fn' ic' il' cn' g' ge' st' a1' a2' a3' a4' a5' a6' a7' a8' a9' a10' a11' a12' a13' a14' a15' a16' a17' a18' a19' a20' a21' (by omega) hu')
    rw [ps] at go
    refine pk_le S.length k (fun z => absurd z (by omega)) (fun _ => br_f (by decide) ⟨vk, ?_⟩) (hx := s1)
    rw [nI_clamp (show k < 2 ^ 31 by omega), x1, x2, x4]
    cases eb : x.1 with
    | false =>
      rw [eb, if_neg (by decide)] at go
      refine br_t (by decide) ⟨vk, dt_rem h0 x3 (fun z u' hu' => go u' hu') (fun z u' hu' => go u' ?_)⟩
      rw [dt_up_e z]
      exact hu'
    | true =>
      rw [eb, if_pos rfl] at go nextf
      refine br_f (by decide) ⟨vk, vk, dt_put h0 x3 (fun z u' hu' => go u' hu') (fun z _ u' hu' => go u' hu') (fun z y u' hu' => ?_)⟩
      have := dt_cnt_add (n := 4096) x.2.2 x3 z
      omega
theorem dt_cm9 {post : Int32 → St2 → Prop} {M : dt_M} {S : List dt_O}
    (H1 : (∀ j, j ≤ S.length → dt_cnt (dt_pk M S j) 4096 ≤ 60) → ∀ u', dt_T u' (dt_pk M S S.length) [] → post (nI (dt_cnt (dt_pk M S S.length) 4096)) u') (H2 : ¬ (∀ j, j ≤ S.length → dt_cnt (dt_pk M S j) 4096 ≤ 60) → ∀ u', dt_T u' M [] → post (-1) u') :
    ∀ (m k : Nat) (b : Bool) (e fn ic il cn g ge st : Int32) (a1 a2 a3 a4 a5 a6 a7 a8 a9 a10 a11 a12 a13 a14 a15 a16 a17 a18 a19 a20 a21 : Nat → Int32), k + m = S.length → (b = true ↔ ∀ j, j ≤ k → dt_cnt (dt_pk M S j) 4096 ≤ 60) → dt_T (e, fn, ic, il, cn, g, ge, st, a1, a2, a3, a4, a5, a6, a7, a8, a9, a10, a11, a12, a13, a14, a15, a16, a17, a18, a19, a20, a21) M S → wX_commit_9 post (m + 1) (nI (dt_cnt (dt_pk M S k) 4096)) (if b = true then 1 else 0) (nI k) e fn ic il cn g ge st a1 a2 a3 a4 a5 a6 a7 a8 a9 a10 a11 a12 a13 a14 a15 a16 a17 a18 a19 a20 a21
  | 0, k, b, e, fn, ic, il, cn, g, ge, st, a1, a2, a3, a4, a5, a6, a7, a8, a9, a10, a11, a12, a13, a14, a15, a16, a17, a18, a19, a20, a21, hk, hb, h => by
    have hk' : k = S.length := by omega
    subst hk'
    have h0 := h
    obtain ⟨hX, he, hcnt, s1, s2, s3⟩ := h
    refine pk_le S.length S.length (fun _ => ?_) (fun z => absurd z (by omega)) (hx := s1)
    cases b with
    | true => exact ⟨S.length + 1, dt_cm88 (hb.mp rfl) (H1 (hb.mp rfl)) S.length 0 e fn ic il cn g ge st a1 a2 a3 a4 a5 a6 a7 a8 a9 a10 a11 a12 a13 a14 a15 a16 a17 a18 a19 a20 a21 (by omega) h0⟩
    | false =>
      have nf : ¬ (∀ j, j ≤ S.length → dt_cnt (dt_pk M S j) 4096 ≤ 60) := fun z => absurd (hb.mpr z) (by decide)
      have w := dt_146 (post := post) e fn ic il cn g ge st a1 a2 a3 a4 a5 a6 a7 a8 a9 a10 a11 a12 a13 a14 a15 a16 a17 a18 a19 a20 a21 h0 false (fun z => absurd z (by decide)) (fun _ => H2 nf)
      exact ⟨1, pk_le S.length 0 (fun _ => w) (fun _ => br_t (by decide) w) (hx := s1)⟩
  | m + 1, k, b, e, fn, ic, il, cn, g, ge, st, a1, a2, a3, a4, a5, a6, a7, a8, a9, a10, a11, a12, a13, a14, a15, a16, a17, a18, a19, a20, a21, hk, hb, h => by
    have h0 := h
    obtain ⟨hX, he, hcnt, s1, s2, s3⟩ := h
    obtain ⟨x, hx⟩ := dt_sx (S := S) (k := k) (by omega)
    have vk : vp_in (nI k) 6 := vp_in_nI (by omega) (by decide)
    have ps := dt_pk_s (M := M) hx
    have hb60 := dt_pk_le M S (k + 1)
    obtain ⟨_, _, x3, _⟩ := s3 k x hx
    refine pk_le S.length k (fun z => absurd z (by omega)) (fun _ => ?_) (hx := s1)
    have c62 : ∀ (z : Int32) (e' fn' ic' il' cn' g' ge' st' : Int32) (a1' a2' a3' a4' a5' a6' a7' a8' a9' a10' a11' a12' a13' a14' a15' a16' a17' a18' a19' a20' a21' : Nat → Int32), dt_T (e', fn', ic', il', cn', g', ge', st', a1', a2', a3', a4', a5', a6', a7', a8', a9', a10', a11', a12', a13', a14', a15', a16', a17', a18', a19', a20', a21') M S → nI (dt_cnt (dt_pk M S k) 4096) + z = nI (dt_cnt (dt_pk M S (k + 1)) 4096) → wX_commit_62 post (wX_commit_9 post (m + 1)) (if b = true then 1 else 0) (nI k) z (nI (dt_cnt (dt_pk M S k) 4096)) e' fn' ic' il' cn' g' ge' st' a1' a2' a3' a4' a5' a6' a7' a8' a9' a10' a11' a12' a13' a14' a15' a16' a17' a18' a19' a20' a21' := fun z e' fn' ic' il' cn' g' ge' st' a1' a2' a3' a4' a5' a6' a7' a8' a9' a10' a11' a12' a13' a14' a15' a16' a17' a18' a19' a20' a21' hu hz => by
      unfold wX_commit_62
      refine nm_r hz ?_
      cases b with
      | false => exact br_t (by decide) (nm_r (nI_1 k) (dt_cm9 H1 H2 m (k + 1) false e' fn' ic' il' cn' g' ge' st' a1' a2' a3' a4' a5' a6' a7' a8' a9' a10' a11' a12' a13' a14' a15' a16' a17' a18' a19' a20' a21' (by omega) ⟨fun y => absurd y (by decide), fun y => hb.mpr (fun j hj => y j (by omega))⟩ hu))
      | true =>
        refine br_f (by decide) (pk_lt 60 (dt_cnt (dt_pk M S (k + 1)) 4096) (fun y => nm_r (nI_1 k) (dt_cm9 H1 H2 m (k + 1) false e' fn' ic' il' cn' g' ge' st' a1' a2' a3' a4' a5' a6' a7' a8' a9' a10' a11' a12' a13' a14' a15' a16' a17' a18' a19' a20' a21' (by omega) ⟨fun t => absurd t (by decide), fun t => ?_⟩ hu)) (fun y => nm_r (nI_1 k) (dt_cm9 H1 H2 m (k + 1) true e' fn' ic' il' cn' g' ge' st' a1' a2' a3' a4' a5' a6' a7' a8' a9' a10' a11' a12' a13' a14' a15' a16' a17' a18' a19' a20' a21' (by omega) ⟨fun t j hj => ?_, fun t => rfl⟩ hu)))
        · have := t (k + 1) (Nat.le_refl _)
          omega
        · by_cases t' : j = k + 1
          · rw [t']
            exact y
          · exact hb.mp rfl j (by omega)
    refine dt_itb h0 hx (fun z u' hu' => ?_) (fun z u' hu' => ?_)
    · obtain ⟨e', fn', ic', il', cn', g', ge', st', a1', a2', a3', a4', a5', a6', a7', a8', a9', a10', a11', a12', a13', a14', a15', a16', a17', a18', a19', a20', a21'⟩ := u'
      have hu0 := hu'
      obtain ⟨_, _, _, t1, t2, t3⟩ := hu'
      obtain ⟨x1', _, _, _⟩ := t3 k x hx
      dsimp only
      unfold wX_commit_43 wX_commit_61
      rw [nI_clamp (show k < 2 ^ 31 by omega), x1']
      refine ⟨vk, ?_⟩
      cases eb : x.1 with
      | false =>
        refine br_t (by decide) ⟨vk, br_t (by decide) (br_t rfl (c62 0 e' fn' ic' il' cn' g' ge' st' a1' a2' a3' a4' a5' a6' a7' a8' a9' a10' a11' a12' a13' a14' a15' a16' a17' a18' a19' a20' a21' hu0 ?_))⟩
        rw [Int32.add_zero, ps, eb, if_neg (by decide), dt_up_e z]
      | true =>
        refine br_f (by decide) (br_t rfl (c62 1 e' fn' ic' il' cn' g' ge' st' a1' a2' a3' a4' a5' a6' a7' a8' a9' a10' a11' a12' a13' a14' a15' a16' a17' a18' a19' a20' a21' hu0 ?_))
        rw [nI_1, ps, eb, if_pos rfl, dt_cnt_add _ x3 z]
    · obtain ⟨e', fn', ic', il', cn', g', ge', st', a1', a2', a3', a4', a5', a6', a7', a8', a9', a10', a11', a12', a13', a14', a15', a16', a17', a18', a19', a20', a21'⟩ := u'
      have hu0 := hu'
      obtain ⟨_, _, _, t1, t2, t3⟩ := hu'
      obtain ⟨x1', _, _, _⟩ := t3 k x hx
      dsimp only
      unfold wX_commit_43 wX_commit_61
      rw [nI_clamp (show k < 2 ^ 31 by omega), x1']
      refine ⟨vk, ?_⟩
      cases eb : x.1 with
      | false =>
        refine br_t (by decide) ⟨vk, br_t (by decide) (br_f (by decide) (c62 (-1) e' fn' ic' il' cn' g' ge' st' a1' a2' a3' a4' a5' a6' a7' a8' a9' a10' a11' a12' a13' a14' a15' a16' a17' a18' a19' a20' a21' hu0 ?_))⟩
        rw [ps, eb, if_neg (by decide), ← dt_cnt_del x3 z, pk_m1]
      | true =>
        refine br_f (by decide) (br_f (by decide) ⟨vk, br_f (by decide) (c62 0 e' fn' ic' il' cn' g' ge' st' a1' a2' a3' a4' a5' a6' a7' a8' a9' a10' a11' a12' a13' a14' a15' a16' a17' a18' a19' a20' a21' hu0 ?_)⟩)
        rw [Int32.add_zero, ps, eb, if_pos rfl, dt_cnt_set _ x3 z]
theorem dt_cmt {post : Int32 → St2 → Prop} {u : St2} {M : dt_M} {S : List dt_O} (h : dt_T u M S)
    (H1 : (∀ j, j ≤ S.length → dt_cnt (dt_pk M S j) 4096 ≤ 60) → ∀ u', dt_T u' (dt_pk M S S.length) [] → post (nI (dt_cnt (dt_pk M S S.length) 4096)) u') (H2 : ¬ (∀ j, j ≤ S.length → dt_cnt (dt_pk M S j) 4096 ≤ 60) → ∀ u', dt_T u' M [] → post (-1) u') : wpX_commit post u := by
  obtain ⟨e, fn, ic, il, cn, g, ge, st, a1, a2, a3, a4, a5, a6, a7, a8, a9, a10, a11, a12, a13, a14, a15, a16, a17, a18, a19, a20, a21⟩ := u
  have h0 := h
  obtain ⟨hX, he, hcnt, hS⟩ := h
  subst he
  unfold wpX_commit
  dsimp only
  refine ⟨S.length + 1, dt_cm9 H1 H2 S.length 0 true (nI (dt_cnt M 4096)) fn ic il cn g ge st a1 a2 a3 a4 a5 a6 a7 a8 a9 a10 a11 a12 a13 a14 a15 a16 a17 a18 a19 a20 a21 (by omega) ⟨fun _ j hj => ?_, fun _ => rfl⟩ h0⟩
  have : j = 0 := by omega
  subst this
  exact hcnt
/-! a new tree -/
theorem dt_ini {post : St2 → Prop} {mc ms : Nat} (h1 : 21 ≤ mc) (h2 : 1562 ≤ ms) (H : ∀ u', dt_T u' (fun _ => none) [] → post u') : wpX_init post mc ms (0, 0, 0, 0, 0, 0, 0, 0) := by
  unfold wpX_init
  dsimp only
  refine ⟨by omega, by omega, by omega, by omega, by omega, by omega, by omega, by omega, by omega, by omega, by omega, by omega, by omega, by omega, by omega, by omega, by omega, by omega, by omega, by omega, by omega, by omega, by omega, by omega, by omega, by omega, by omega, by omega, by omega, by omega, by omega, by omega, by omega, by omega, by omega, by omega, by omega, by omega, by omega, by omega, by omega, by omega, ?_⟩
  refine dt_lo1 (T := 0) (M := fun _ => none) (K := fun _ => 0) ⟨fun i hi => absurd hi (by omega), fun i j _ hj => absurd hj (by omega), fun k hk => absurd rfl hk⟩ (by decide) (fun cn a1 a2 a3 a4 a5 a6 a7 a11 a12 a13 hX => ?_)
  dsimp only
  have c0 : dt_cnt (fun _ => none) 4096 = 0 := dt_sm_0 4096
  exact H _ ⟨hX, by rw [c0]; rfl, by rw [c0]; decide, dt_S0⟩
end
section
/-! the law's keys: f, f + s, .., f + 59 s -/
def dt_mp (f s : Nat) (v : Int32) (A : Nat → Bool) : dt_M := fun k => if f ≤ k ∧ (k - f) % s = 0 ∧ (k - f) / s < 60 ∧ A ((k - f) / s) = true then some (v + nI ((k - f) / s)) else none
def dt_A (b : Nat) : Nat → Nat → Bool
  | 0 => fun _ => false
  | i + 1 => dt_fu (dt_A b i) (i * b % 60) true
theorem dt_ms {s p q : Nat} (h : p < q) : p * s + s ≤ q * s := by
  have := Nat.mul_le_mul_right s (show p + 1 ≤ q from h)
  rw [Nat.succ_mul] at this
  exact this
theorem dt_mi {s p q : Nat} (hs : 0 < s) (h : p * s = q * s) : p = q := by
  rcases Nat.lt_trichotomy p q with z | z | z
  · have := dt_ms (s := s) z
    omega
  · exact z
  · have := dt_ms (s := s) z
    omega
section
variable {f s : Nat} {v : Int32} {A : Nat → Bool}
theorem dt_mp_k (hs : 0 < s) {p : Nat} (hp : p < 60) : dt_mp f s v A (f + p * s) = if A p = true then some (v + nI p) else none := by
  have e1 : f + p * s - f = p * s := Nat.add_sub_cancel_left f (p * s)
  have e2 : p * s / s = p := Nat.mul_div_cancel p hs
  unfold dt_mp
  rw [e1, e2, Nat.mul_mod_left]
  by_cases z : A p = true
  · rw [if_pos z, if_pos ⟨Nat.le_add_right f _, rfl, hp, z⟩]
  · rw [if_neg z, if_neg (fun t => z t.2.2.2)]
theorem dt_mp_ne {k : Nat} (h : dt_mp f s v A k ≠ none) : ∃ p, p < 60 ∧ A p = true ∧ k = f + p * s := by
  unfold dt_mp at h
  by_cases z : f ≤ k ∧ (k - f) % s = 0 ∧ (k - f) / s < 60 ∧ A ((k - f) / s) = true
  · refine ⟨(k - f) / s, z.2.2.1, z.2.2.2, ?_⟩
    have := Nat.div_add_mod (k - f) s
    rw [z.2.1, Nat.mul_comm] at this
    omega
  · rw [if_neg z] at h
    exact absurd rfl h
theorem dt_mp_no {k : Nat} (h : ∀ p, p < 60 → A p = true → k ≠ f + p * s) : dt_mp f s v A k = none := by
  cases e : dt_mp f s v A k with
  | none => rfl
  | some w =>
    obtain ⟨p, p1, p2, p3⟩ := dt_mp_ne (k := k) (by rw [e]; exact Option.some_ne_none w)
    exact absurd p3 (h p p1 p2)
theorem dt_mp_cg {A' : Nat → Bool} (h : ∀ p, p < 60 → A' p = A p) : dt_mp f s v A' = dt_mp f s v A := by
  funext k
  unfold dt_mp
  by_cases z : (k - f) / s < 60
  · rw [h _ z]
  · rw [if_neg (fun t => z t.2.2.1), if_neg (fun t => z t.2.2.1)]
theorem dt_mp_up (hs : 0 < s) {p : Nat} (hp : p < 60) (b : Bool) : dt_up (dt_mp f s v A) (f + p * s) (if b = true then some (v + nI p) else none) = dt_mp f s v (dt_fu A p b) := by
  funext k
  by_cases z : k = f + p * s
  · rw [z, dt_up_s, dt_mp_k hs hp, dt_fu_s]
  · rw [dt_up_n _ _ z]
    unfold dt_mp
    by_cases y : f ≤ k ∧ (k - f) % s = 0
    · have : (k - f) / s ≠ p := fun t => z (by
        have := Nat.div_add_mod (k - f) s
        rw [y.2, t, Nat.mul_comm] at this
        omega)
      rw [dt_fu_n _ _ this]
    · rw [if_neg (fun t => y ⟨t.1, t.2.1⟩), if_neg (fun t => y ⟨t.1, t.2.1⟩)]
theorem dt_mp_put (hs : 0 < s) {p : Nat} (hp : p < 60) : dt_up (dt_mp f s v A) (f + p * s) (some (v + nI p)) = dt_mp f s v (dt_fu A p true) := by
  have := dt_mp_up (f := f) (v := v) (A := A) hs hp true
  rw [if_pos rfl] at this
  exact this
theorem dt_mp_rem (hs : 0 < s) {p : Nat} (hp : p < 60) : dt_up (dt_mp f s v A) (f + p * s) none = dt_mp f s v (dt_fu A p false) := by
  have := dt_mp_up (f := f) (v := v) (A := A) hs hp false
  rw [if_neg (by decide)] at this
  exact this
end
theorem dt_cnt_gap {M : dt_M} {a : Nat} : ∀ b, a ≤ b → (∀ k, a ≤ k → k < b → M k = none) → dt_cnt M b = dt_cnt M a
  | 0, h, _ => by
    have : a = 0 := by omega
    rw [this]
  | b + 1, h, hn => by
    by_cases z : a = b + 1
    · rw [z]
    · rw [dt_cnt_sn (hn b (by omega) (by omega)), dt_cnt_gap b (by omega) (fun k k1 k2 => hn k k1 (by omega))]
theorem dt_mp_lo {f s : Nat} {v : Int32} {A : Nat → Bool} : dt_cnt (dt_mp f s v A) f = 0 := by
  rw [dt_cnt_gap (a := 0) f (by omega) (fun k _ k2 => dt_mp_no (fun p _ _ z => by omega))]
  rfl
theorem dt_mp_x {f s : Nat} {v : Int32} (hs : 0 < s) : ∀ x, x < 60 → dt_cnt (dt_mp f s v (fun _ => true)) (f + x * s + 1) = x + 1
  | 0, h => by
    have k0 := dt_mp_k (f := f) (v := v) (A := fun _ => true) hs (p := 0) h
    rw [if_pos rfl] at k0
    rw [dt_cnt_ss (by rw [k0]; exact Option.some_ne_none _), Nat.zero_mul, show f + 0 = f from rfl, dt_mp_lo]
  | x + 1, h => by
    have k0 := dt_mp_k (f := f) (v := v) (A := fun _ => true) hs (p := x + 1) h
    rw [if_pos rfl] at k0
    have ex : (x + 1) * s = x * s + s := Nat.succ_mul x s
    rw [dt_cnt_ss (by rw [k0]; exact Option.some_ne_none _), dt_cnt_gap (a := f + x * s + 1) _ (by omega) (fun k k1 k2 => dt_mp_no (fun p _ _ z => ?_)), dt_mp_x hs x (by omega)]
    rcases Nat.lt_or_ge x p with y | y
    · have := dt_ms (s := s) y
      omega
    · have := Nat.mul_le_mul_right s y
      omega
/-! scans that find a given key -/
theorem dt_nxa {post : Int32 → St2 → Prop} {u : St2} {M : dt_M} {S : List dt_O} {fr t : Nat} (h : dt_T u M S) (hk : fr < 4096) (h1 : fr ≤ t) (h2 : M t ≠ none) (h3 : ∀ j, fr ≤ j → j < t → M j = none) (H : ∀ u', dt_T u' M S → post (nI t) u') : wpX_next post u (nI fr) :=
  dt_nxt h hk (fun k u' k1 _ k3 k4 hu => by
    rcases Nat.lt_trichotomy k t with z | z | z
    · exact absurd (h3 k k1 z) k3
    · rw [z]
      exact H u' hu
    · exact absurd (k4 t h1 z) h2) (fun n => absurd (n t h1) h2)
theorem dt_nx0 {post : Int32 → St2 → Prop} {u : St2} {M : dt_M} {S : List dt_O} {fr : Nat} (h : dt_T u M S) (hk : fr < 4096) (h3 : ∀ j, fr ≤ j → M j = none) (H : ∀ u', dt_T u' M S → post (-1) u') : wpX_next post u (nI fr) :=
  dt_nxt h hk (fun k u' k1 _ k3 k4 hu => absurd (h3 k k1) k3) (fun _ => H)
theorem dt_pva {post : Int32 → St2 → Prop} {u : St2} {M : dt_M} {S : List dt_O} {fr t : Nat} {x : Int32} (hx : x = nI fr - 1) (h : dt_T u M S) (hk : fr ≤ 4096) (h1 : t < fr) (h2 : M t ≠ none) (h3 : ∀ j, t < j → j < fr → M j = none) (H : ∀ u', dt_T u' M S → post (nI t) u') : wpX_previous post u x :=
  dt_prv hx h hk (fun k u' k1 k3 k4 hu => by
    rcases Nat.lt_trichotomy k t with z | z | z
    · exact absurd (k4 t z h1) h2
    · rw [z]
      exact H u' hu
    · exact absurd (h3 k z k1) k3) (fun n => absurd (n t h1) h2)
theorem dt_pv0 {post : Int32 → St2 → Prop} {u : St2} {M : dt_M} {S : List dt_O} {fr : Nat} {x : Int32} (hx : x = nI fr - 1) (h : dt_T u M S) (hk : fr ≤ 4096) (h3 : ∀ j, j < fr → M j = none) (H : ∀ u', dt_T u' M S → post (-1) u') : wpX_previous post u x :=
  dt_prv hx h hk (fun k u' k1 k3 k4 hu => absurd (h3 k k1) k3) (fun _ => H)
theorem dt_cmy {post : Int32 → St2 → Prop} {u : St2} {M : dt_M} {S : List dt_O} {c : Nat} (h : dt_T u M S) (hf : ∀ j, j ≤ S.length → dt_cnt (dt_pk M S j) 4096 ≤ 60) (hc : dt_cnt (dt_pk M S S.length) 4096 = c) (H : ∀ u', dt_T u' (dt_pk M S S.length) [] → post (nI c) u') : wpX_commit post u :=
  dt_cmt h (fun _ u' hu => by rw [hc]; exact H u' hu) (fun n => absurd hf n)
theorem dt_cmn {post : Int32 → St2 → Prop} {u : St2} {M : dt_M} {S : List dt_O} {j : Nat} (h : dt_T u M S) (hj : j ≤ S.length) (hf : 60 < dt_cnt (dt_pk M S j) 4096) (H : ∀ u', dt_T u' M [] → post (-1) u') : wpX_commit post u :=
  dt_cmt h (fun n => absurd (n j hj) (by omega)) (fun _ => H)
/-- getting a known value -/
theorem dt_gts {post : Int32 → St2 → Prop} {u : St2} {M : dt_M} {S : List dt_O} {key : Nat} {v : Int32} (h : dt_T u M S) (hk : key < 4096) (hv : M key = some v) (H : ∀ u', dt_T u' M S → post v u') : wpX_get post u (nI key) :=
  dt_get h hk (fun w hw => by
    rw [hv] at hw
    rw [← Option.some.inj hw]
    exact H) (fun z => absurd (z.symm.trans hv) (Option.some_ne_none v).symm)
theorem dt_gtn {post : Int32 → St2 → Prop} {u : St2} {M : dt_M} {S : List dt_O} {key : Nat} (h : dt_T u M S) (hk : key < 4096) (hv : M key = none) (H : ∀ u', dt_T u' M S → post 0 u') : wpX_get post u (nI key) :=
  dt_get h hk (fun w hw => absurd (hv.symm.trans hw) (Option.some_ne_none w).symm) (fun _ => H)
theorem dt_h1 {post : Int32 → St2 → Prop} {u : St2} {M : dt_M} {S : List dt_O} {key : Nat} (h : dt_T u M S) (hk : key < 4096) (hv : M key ≠ none) (H : ∀ u', dt_T u' M S → post 1 u') : wpX_has post u (nI key) :=
  dt_has h hk (fun _ => H) (fun z => absurd z hv)
theorem dt_h0 {post : Int32 → St2 → Prop} {u : St2} {M : dt_M} {S : List dt_O} {key : Nat} (h : dt_T u M S) (hk : key < 4096) (hv : M key = none) (H : ∀ u', dt_T u' M S → post 0 u') : wpX_has post u (nI key) :=
  dt_has h hk (fun z => absurd hv z) (fun _ => H)
theorem dt_st1 {post : Int32 → St2 → Prop} {u : St2} {M : dt_M} {S : List dt_O} {key : Nat} {v z : Int32} (b : Bool) (hz : z = if b = true then 1 else 0) (h : dt_T u M S) (hk : key < 4096) (hl : S.length < 6) (H : ∀ u', dt_T u' M (S ++ [(b, key, v)]) → post (nI (S.length + 1)) u') : wpX_stage post u z (nI key) v :=
  dt_stg b hz h hk (fun _ => H) (fun y => absurd y (by omega))
end
section
/-! the law's last loop: all keys are taken away -/
def dt_B (b i : Nat) : Nat → Bool := fun p => decide (6 ≤ p) && !(dt_A b i p)
section
variable {post : Int32 → St0 → Prop} {mc ms kc ks : Nat} {x2 v : Int32} {f s b k0 : Nat}
theorem dt_w737 (hpost : post 1 ()) (hs : 0 < s) (hs64 : s ≤ 64) (hf : f ≤ 63) (hb : b ≤ 13) (hA1 : ∀ i, i < 60 → dt_A b i (i * b % 60) = false) (hA2 : ∀ p, p < 60 → dt_A b 60 p = true) (hk0 : k0 < 4096) :
    ∀ (m i : Nat) (e fn ic il cn g ge st : Int32) (a1 a2 a3 a4 a5 a6 a7 a8 a9 a10 a11 a12 a13 a14 a15 a16 a17 a18 a19 a20 a21 : Nat → Int32), i + m = 60 → dt_T (e, fn, ic, il, cn, g, ge, st, a1, a2, a3, a4, a5, a6, a7, a8, a9, a10, a11, a12, a13, a14, a15, a16, a17, a18, a19, a20, a21) (dt_mp f s v (dt_B b i)) [] → wL_lawOf_737 post mc ms x2 v (nI s) (nI f) (nI b) (nI k0) kc ks (m + 1) (nI i) e fn ic il cn g ge st a1 a2 a3 a4 a5 a6 a7 a8 a9 a10 a11 a12 a13 a14 a15 a16 a17 a18 a19 a20 a21
  | 0, i, e, fn, ic, il, cn, g, ge, st, a1, a2, a3, a4, a5, a6, a7, a8, a9, a10, a11, a12, a13, a14, a15, a16, a17, a18, a19, a20, a21, hi, h => by
    have hi' : i = 60 := by omega
    subst hi'
    have none_ : ∀ k, dt_mp f s v (dt_B b 60) k = none := fun k => dt_mp_no (fun p hp hB => by
      unfold dt_B at hB
      rw [hA2 p hp] at hB
      simp at hB)
    have c0 : ∀ n, dt_cnt (dt_mp f s v (dt_B b 60)) n = 0 := fun n => by
      rw [dt_cnt_gap (a := 0) n (by omega) (fun k _ _ => none_ k)]
      rfl
    refine pk_le 60 60 (fun _ => ?_) (fun z => absurd z (by omega))
    refine dt_nx0 (fr := 0) h (by decide) (fun j _ => none_ j) (fun u' h1 => ?_)
    obtain ⟨e, fn, ic, il, cn, g, ge, st, a1, a2, a3, a4, a5, a6, a7, a8, a9, a10, a11, a12, a13, a14, a15, a16, a17, a18, a19, a20, a21⟩ := u'
    dsimp only
    refine br_t rfl (dt_ctn (lo := 0) (hi := 4095) h1 (by decide) (by decide) (fun u' h2 => ?_))
    obtain ⟨e, fn, ic, il, cn, g, ge, st, a1, a2, a3, a4, a5, a6, a7, a8, a9, a10, a11, a12, a13, a14, a15, a16, a17, a18, a19, a20, a21⟩ := u'
    dsimp only
    refine br_t (by rw [c0, c0]; rfl) (dt_cmy (c := 0) h2 (fun j hj => ?_) (c0 4096) (fun u' h3 => ?_))
    · have : j = 0 := Nat.le_zero.mp hj
      subst this
      show dt_cnt (dt_mp f s v (dt_B b 60)) 4096 ≤ 60
      rw [c0]
      decide
    obtain ⟨e, fn, ic, il, cn, g, ge, st, a1, a2, a3, a4, a5, a6, a7, a8, a9, a10, a11, a12, a13, a14, a15, a16, a17, a18, a19, a20, a21⟩ := u'
    have h3' : dt_T (e, fn, ic, il, cn, g, ge, st, a1, a2, a3, a4, a5, a6, a7, a8, a9, a10, a11, a12, a13, a14, a15, a16, a17, a18, a19, a20, a21) (dt_mp f s v (dt_B b 60)) [] := h3
    dsimp only
    refine br_t rfl (dt_rem0 (Or.inl (by decide)) ?_)
    refine br_t rfl (dt_rem h3' hk0 (fun z => absurd (none_ k0) z) (fun _ u' h4 => ?_))
    obtain ⟨e, fn, ic, il, cn, g, ge, st, a1, a2, a3, a4, a5, a6, a7, a8, a9, a10, a11, a12, a13, a14, a15, a16, a17, a18, a19, a20, a21⟩ := u'
    dsimp only
    refine br_t rfl (dt_put h4 hk0 (fun z => absurd (none_ k0) z) (fun _ _ u' h5 => ?_) (fun _ z => absurd z (by rw [c0]; decide)))
    obtain ⟨e, fn, ic, il, cn, g, ge, st, a1, a2, a3, a4, a5, a6, a7, a8, a9, a10, a11, a12, a13, a14, a15, a16, a17, a18, a19, a20, a21⟩ := u'
    dsimp only
    refine br_t rfl (dt_gts h5 hk0 (dt_up_s _ _ _) (fun u' h6 => ?_))
    obtain ⟨e, fn, ic, il, cn, g, ge, st, a1, a2, a3, a4, a5, a6, a7, a8, a9, a10, a11, a12, a13, a14, a15, a16, a17, a18, a19, a20, a21⟩ := u'
    exact br_t rfl hpost
  | m + 1, i, e, fn, ic, il, cn, g, ge, st, a1, a2, a3, a4, a5, a6, a7, a8, a9, a10, a11, a12, a13, a14, a15, a16, a17, a18, a19, a20, a21, hi, h => by
    have hpb : i * b % 60 < 60 := Nat.mod_lt _ (by decide)
    have hib : i * b ≤ 60 * 13 := Nat.mul_le_mul (by omega) hb
    have hkey : f + i * b % 60 * s < 4096 := by
      have := Nat.mul_le_mul (show i * b % 60 ≤ 59 by omega) hs64
      omega
    have ep : nI i * nI b - nI i * nI b / 60 * 60 = nI (i * b % 60) := by
      rw [pk_mul]
      exact pk_rem (d := 60) (by omega) (by decide) (by decide)
    have ek : nI f + nI (i * b % 60) * nI s = nI (f + i * b % 60 * s) := by rw [pk_mul, nI_add]
    have hB0 : dt_B b i (i * b % 60) = decide (6 ≤ i * b % 60) := by
      unfold dt_B
      rw [hA1 i (by omega)]
      simp
    have hstep : dt_mp f s v (dt_fu (dt_B b i) (i * b % 60) false) = dt_mp f s v (dt_B b (i + 1)) := dt_mp_cg (fun p _ => by
      by_cases z : p = i * b % 60
      · rw [z, dt_fu_s]
        unfold dt_B
        show false = (_ && !(dt_fu (dt_A b i) (i * b % 60) true (i * b % 60)))
        rw [dt_fu_s]
        simp
      · rw [dt_fu_n _ _ z]
        unfold dt_B
        show _ = (_ && !(dt_fu (dt_A b i) (i * b % 60) true p))
        rw [dt_fu_n _ _ z])
    have w779 : ∀ (z : Int32) (e' fn' ic' il' cn' g' ge' st' : Int32) (a1' a2' a3' a4' a5' a6' a7' a8' a9' a10' a11' a12' a13' a14' a15' a16' a17' a18' a19' a20' a21' : Nat → Int32), dt_T (e', fn', ic', il', cn', g', ge', st', a1', a2', a3', a4', a5', a6', a7', a8', a9', a10', a11', a12', a13', a14', a15', a16', a17', a18', a19', a20', a21') (dt_mp f s v (dt_B b (i + 1))) [] → wL_lawOf_779 post mc ms (wL_lawOf_737 post mc ms x2 v (nI s) (nI f) (nI b) (nI k0) kc ks (m + 1)) x2 v (nI s) (nI f) (nI b) (nI k0) (nI i) z z kc ks e' fn' ic' il' cn' g' ge' st' a1' a2' a3' a4' a5' a6' a7' a8' a9' a10' a11' a12' a13' a14' a15' a16' a17' a18' a19' a20' a21' := fun z e' fn' ic' il' cn' g' ge' st' a1' a2' a3' a4' a5' a6' a7' a8' a9' a10' a11' a12' a13' a14' a15' a16' a17' a18' a19' a20' a21' hu => by
      unfold wL_lawOf_779
      have go : ∀ (e' fn' ic' il' cn' g' ge' st' : Int32) (a1' a2' a3' a4' a5' a6' a7' a8' a9' a10' a11' a12' a13' a14' a15' a16' a17' a18' a19' a20' a21' : Nat → Int32), dt_T (e', fn', ic', il', cn', g', ge', st', a1', a2', a3', a4', a5', a6', a7', a8', a9', a10', a11', a12', a13', a14', a15', a16', a17', a18', a19', a20', a21') (dt_mp f s v (dt_B b (i + 1))) [] → ∀ x, x = nI i + 1 → wL_lawOf_737 post mc ms x2 v (nI s) (nI f) (nI b) (nI k0) kc ks (m + 1) x e' fn' ic' il' cn' g' ge' st' a1' a2' a3' a4' a5' a6' a7' a8' a9' a10' a11' a12' a13' a14' a15' a16' a17' a18' a19' a20' a21' := fun e' fn' ic' il' cn' g' ge' st' a1' a2' a3' a4' a5' a6' a7' a8' a9' a10' a11' a12' a13' a14' a15' a16' a17' a18' a19' a20' a21' hu' => nm_r (nI_1 i) (dt_w737 hpost hs hs64 hf hb hA1 hA2 hk0 m (i + 1) e' fn' ic' il' cn' g' ge' st' a1' a2' a3' a4' a5' a6' a7' a8' a9' a10' a11' a12' a13' a14' a15' a16' a17' a18' a19' a20' a21' (by omega) hu')
      refine br_t rfl (br_c (fun _ => br_c (fun _ => go e' fn' ic' il' cn' g' ge' st' a1' a2' a3' a4' a5' a6' a7' a8' a9' a10' a11' a12' a13' a14' a15' a16' a17' a18' a19' a20' a21' hu) (fun _ => dt_tdy hu (fun u' hu' => ?_))) (fun _ => go e' fn' ic' il' cn' g' ge' st' a1' a2' a3' a4' a5' a6' a7' a8' a9' a10' a11' a12' a13' a14' a15' a16' a17' a18' a19' a20' a21' hu))
      obtain ⟨e'', fn'', ic'', il'', cn'', g'', ge'', st'', a1'', a2'', a3'', a4'', a5'', a6'', a7'', a8'', a9'', a10'', a11'', a12'', a13'', a14'', a15'', a16'', a17'', a18'', a19'', a20'', a21''⟩ := u'
      dsimp only
      exact go _ _ _ _ _ _ _ _ _ _ _ _ _ _ _ _ _ _ _ _ _ _ _ _ _ _ _ _ _ hu'
    refine pk_le 60 i (fun z => absurd z (by omega)) (fun _ => ⟨by decide, nm_r ep ?_⟩)
    rw [ek]
    refine dt_rem h hkey (fun z u' hu => ?_) (fun z u' hu => ?_)
    · obtain ⟨e', fn', ic', il', cn', g', ge', st', a1', a2', a3', a4', a5', a6', a7', a8', a9', a10', a11', a12', a13', a14', a15', a16', a17', a18', a19', a20', a21'⟩ := u'
      dsimp only
      rw [dt_mp_rem hs hpb, hstep] at hu
      rw [dt_mp_k hs hpb, hB0] at z
      refine pk_lt (i * b % 60) 6 (fun y => absurd ?_ z) (fun y => w779 1 e' fn' ic' il' cn' g' ge' st' a1' a2' a3' a4' a5' a6' a7' a8' a9' a10' a11' a12' a13' a14' a15' a16' a17' a18' a19' a20' a21' hu)
      rw [decide_eq_false (by omega), if_neg (by decide)]
    · obtain ⟨e', fn', ic', il', cn', g', ge', st', a1', a2', a3', a4', a5', a6', a7', a8', a9', a10', a11', a12', a13', a14', a15', a16', a17', a18', a19', a20', a21'⟩ := u'
      dsimp only
      rw [dt_mp_k hs hpb, hB0] at z
      have y : ¬ 6 ≤ i * b % 60 := fun y => by
        rw [decide_eq_true y, if_pos rfl] at z
        exact absurd z (Option.some_ne_none _)
      have same : dt_mp f s v (dt_B b i) = dt_mp f s v (dt_B b (i + 1)) := by
        rw [← hstep]
        refine dt_mp_cg (fun p _ => ?_)
        by_cases t : p = i * b % 60
        · rw [t, dt_fu_s, hB0, decide_eq_false y]
        · rw [dt_fu_n _ _ t]
      rw [same] at hu
      exact pk_lt (i * b % 60) 6 (fun _ => w779 0 e' fn' ic' il' cn' g' ge' st' a1' a2' a3' a4' a5' a6' a7' a8' a9' a10' a11' a12' a13' a14' a15' a16' a17' a18' a19' a20' a21' hu) (fun y' => absurd y' (by omega))
end
end
section
/-! six keys are staged away -/
def dt_S6 (f s : Nat) : Nat → List dt_O
  | 0 => []
  | i + 1 => dt_S6 f s i ++ [(false, f + i * s, 0)]
theorem dt_S6_l (f s : Nat) : ∀ i, (dt_S6 f s i).length = i
  | 0 => rfl
  | i + 1 => by
    rw [dt_S6, List.length_append, dt_S6_l f s i]
    rfl
theorem dt_S6_g (f s : Nat) : ∀ i j, j < i → (dt_S6 f s i)[j]? = some (false, f + j * s, 0)
  | 0, j, h => absurd h (by omega)
  | i + 1, j, h => by
    rw [dt_S6]
    by_cases z : j = i
    · rw [z, List.getElem?_append_right (by rw [dt_S6_l]; exact Nat.le_refl _), dt_S6_l, Nat.sub_self]
      rfl
    · rw [List.getElem?_append_left (by rw [dt_S6_l]; omega)]
      exact dt_S6_g f s i j (by omega)
section
variable {post : Int32 → St0 → Prop} {mc ms kc ks : Nat} {x2 v : Int32} {f s b k0 : Nat}
theorem dt_w580 (hpost : post 1 ()) (hs : 0 < s) (hs64 : s ≤ 64) (hf : f ≤ 63) (hb : b ≤ 13) (hA1 : ∀ i, i < 60 → dt_A b i (i * b % 60) = false) (hA2 : ∀ p, p < 60 → dt_A b 60 p = true) (hk0 : k0 < 4096) :
    ∀ (m i : Nat) (e fn ic il cn g ge st : Int32) (a1 a2 a3 a4 a5 a6 a7 a8 a9 a10 a11 a12 a13 a14 a15 a16 a17 a18 a19 a20 a21 : Nat → Int32), i + m = 6 → dt_T (e, fn, ic, il, cn, g, ge, st, a1, a2, a3, a4, a5, a6, a7, a8, a9, a10, a11, a12, a13, a14, a15, a16, a17, a18, a19, a20, a21) (dt_mp f s v (fun _ => true)) (dt_S6 f s i) → wL_lawOf_580 post mc ms x2 v (nI s) (nI f) (nI b) (nI (f + 59 * s)) (nI k0) kc ks (m + 1) (nI i) e fn ic il cn g ge st a1 a2 a3 a4 a5 a6 a7 a8 a9 a10 a11 a12 a13 a14 a15 a16 a17 a18 a19 a20 a21
  | 0, i, e, fn, ic, il, cn, g, ge, st, a1, a2, a3, a4, a5, a6, a7, a8, a9, a10, a11, a12, a13, a14, a15, a16, a17, a18, a19, a20, a21, hi, h => by
    have hi' : i = 6 := by omega
    subst hi'
    have kb : ∀ p, p ≤ 59 → f + p * s < 4096 := fun p hp => by
      have := Nat.mul_le_mul hp hs64
      omega
    have l6 := dt_S6_l f s 6
    have k0v : dt_mp f s v (fun _ => true) (f + 0 * s) = some (v + nI 0) := by
      rw [dt_mp_k hs (by decide), if_pos rfl]
    have ef : f + 0 * s = f := by omega
    have ev : v + nI 0 = v := Int32.add_zero v
    rw [ef, ev] at k0v
    have c60 : dt_cnt (dt_mp f s v (fun _ => true)) 4096 = 60 := by
      rw [dt_cnt_gap (a := f + 59 * s + 1) 4096 (kb 59 (by omega)) (fun k k1 _ => dt_mp_no (fun p hp _ z => by
        have := Nat.mul_le_mul_right s (show p ≤ 59 by omega)
        omega)), dt_mp_x hs 59 (by decide)]
    -- the batch's steps
    have pk : ∀ j, j < 6 → dt_pk (dt_up (dt_mp f s v (fun _ => true)) f (some (-1))) (dt_S6 f s 6) (j + 1) = dt_mp f s v (fun p => decide (j + 1 ≤ p)) := by
      intro j
      induction j with
      | zero =>
        intro _
        rw [dt_pk_s (dt_S6_g f s 6 0 (by decide))]
        show dt_up (dt_up (dt_mp f s v (fun _ => true)) f (some (-1))) (f + 0 * s) (if false = true then _ else none) = _
        rw [if_neg (by decide)]
        have : dt_up (dt_up (dt_mp f s v (fun _ => true)) f (some (-1))) (f + 0 * s) none = dt_up (dt_mp f s v (fun _ => true)) (f + 0 * s) none := by
          funext k
          by_cases z : k = f + 0 * s
          · rw [z, dt_up_s, dt_up_s]
          · rw [dt_up_n _ _ z, dt_up_n _ _ z, dt_up_n _ _ (fun t => z (by omega))]
        rw [this, dt_mp_rem hs (by decide)]
        refine dt_mp_cg (fun p _ => ?_)
        by_cases z : p = 0
        · rw [z, dt_fu_s]
          rfl
        · rw [dt_fu_n _ _ z, decide_eq_true (by omega)]
      | succ j ih =>
        intro hj
        rw [dt_pk_s (dt_S6_g f s 6 (j + 1) hj), ih (by omega)]
        show dt_up _ (f + (j + 1) * s) (if false = true then _ else none) = _
        rw [if_neg (by decide), dt_mp_rem hs (by omega)]
        refine dt_mp_cg (fun p _ => ?_)
        by_cases z : p = j + 1
        · rw [z, dt_fu_s, decide_eq_false (by omega)]
        · rw [dt_fu_n _ _ z]
          by_cases y : j + 1 ≤ p
          · rw [decide_eq_true y, decide_eq_true (by omega)]
          · rw [decide_eq_false y, decide_eq_false (by omega)]
    have cj : ∀ j, j ≤ 6 → dt_cnt (dt_pk (dt_up (dt_mp f s v (fun _ => true)) f (some (-1))) (dt_S6 f s 6) j) 4096 = 60 - j := by
      intro j
      induction j with
      | zero =>
        intro _
        show dt_cnt (dt_up (dt_mp f s v (fun _ => true)) f (some (-1))) 4096 = 60
        rw [dt_cnt_set _ (by omega) (by rw [k0v]; exact Option.some_ne_none _), c60]
      | succ j ih =>
        intro hj
        have ih' := ih (by omega)
        have ps := dt_pk_s (M := dt_up (dt_mp f s v (fun _ => true)) f (some (-1))) (dt_S6_g f s 6 j (by omega))
        have ps' : dt_pk (dt_up (dt_mp f s v (fun _ => true)) f (some (-1))) (dt_S6 f s 6) (j + 1) = dt_up (dt_pk (dt_up (dt_mp f s v (fun _ => true)) f (some (-1))) (dt_S6 f s 6) j) (f + j * s) none := ps
        have hne : dt_pk (dt_up (dt_mp f s v (fun _ => true)) f (some (-1))) (dt_S6 f s 6) j (f + j * s) ≠ none := by
          cases j with
          | zero =>
            show dt_up (dt_mp f s v (fun _ => true)) f (some (-1)) (f + 0 * s) ≠ none
            rw [ef, dt_up_s]
            exact Option.some_ne_none _
          | succ j =>
            rw [pk j (by omega), dt_mp_k hs (by omega), if_pos (decide_eq_true (Nat.le_refl _))]
            exact Option.some_ne_none _
        have := dt_cnt_del (n := 4096) (kb j (by omega)) hne
        rw [ps']
        omega
    have p6 := pk 5 (by decide)
    have six : dt_mp f s v (fun p => decide (5 + 1 ≤ p)) = dt_mp f s v (dt_B b 0) := dt_mp_cg (fun p _ => by
      unfold dt_B
      show _ = (_ && !false)
      rw [Bool.not_false, Bool.and_true])
    rw [six] at p6
    have c54 : dt_cnt (dt_mp f s v (dt_B b 0)) 4096 = 54 := by
      have := cj 6 (by decide)
      rw [p6] at this
      exact this
    have lo6 : ∀ k, k < f + 6 * s → dt_mp f s v (dt_B b 0) k = none := fun k hk => dt_mp_no (fun p hp hB z => by
      unfold dt_B at hB
      have h6 : 6 ≤ p := by
        simp at hB
        exact hB.1
      have := Nat.mul_le_mul_right s h6
      omega)
    have at6 : dt_mp f s v (dt_B b 0) (f + 6 * s) ≠ none := by
      rw [dt_mp_k hs (by decide)]
      exact Option.some_ne_none _
    have ek6 : nI f + 6 * nI s = nI (f + 6 * s) := by
      rw [← nI_add, ← pk_mul]
      rfl
    refine pk_le 6 6 (fun _ => ?_) (fun z => absurd z (by omega))
    refine dt_stg false rfl h (kb 59 (by omega)) (fun z => absurd z (by omega)) (fun _ u' h1 => ?_)
    obtain ⟨e, fn, ic, il, cn, g, ge, st, a1, a2, a3, a4, a5, a6, a7, a8, a9, a10, a11, a12, a13, a14, a15, a16, a17, a18, a19, a20, a21⟩ := u'
    dsimp only
    refine br_t rfl (dt_stg0 (Or.inr (by decide)) ?_)
    refine br_t rfl (dt_gts h1 (by omega) k0v (fun u' h2 => ?_))
    obtain ⟨e, fn, ic, il, cn, g, ge, st, a1, a2, a3, a4, a5, a6, a7, a8, a9, a10, a11, a12, a13, a14, a15, a16, a17, a18, a19, a20, a21⟩ := u'
    dsimp only
    refine br_t rfl (dt_swp h2 (by omega) k0v (fun _ u' h3 => ?_) (fun z => absurd rfl z))
    obtain ⟨e, fn, ic, il, cn, g, ge, st, a1, a2, a3, a4, a5, a6, a7, a8, a9, a10, a11, a12, a13, a14, a15, a16, a17, a18, a19, a20, a21⟩ := u'
    dsimp only
    refine br_t rfl (dt_cmy (c := 54) h3 (fun j hj => ?_) ?_ (fun u' h4 => ?_))
    · rw [l6] at hj
      rw [cj j hj]
      omega
    · rw [l6]
      exact cj 6 (by decide)
    rw [l6, p6] at h4
    obtain ⟨e, fn, ic, il, cn, g, ge, st, a1, a2, a3, a4, a5, a6, a7, a8, a9, a10, a11, a12, a13, a14, a15, a16, a17, a18, a19, a20, a21⟩ := u'
    dsimp only
    refine br_t rfl (dt_nxa (fr := 0) (t := f + 6 * s) h4 (by decide) (Nat.zero_le _) at6 (fun j _ hj => lo6 j hj) (fun u' h5 => ?_))
    obtain ⟨e, fn, ic, il, cn, g, ge, st, a1, a2, a3, a4, a5, a6, a7, a8, a9, a10, a11, a12, a13, a14, a15, a16, a17, a18, a19, a20, a21⟩ := u'
    dsimp only
    rw [ek6]
    refine br_t rfl (dt_tdy h5 (fun u' h6 => ?_))
    obtain ⟨e, fn, ic, il, cn, g, ge, st, a1, a2, a3, a4, a5, a6, a7, a8, a9, a10, a11, a12, a13, a14, a15, a16, a17, a18, a19, a20, a21⟩ := u'
    dsimp only
    refine dt_ctn h6 (by have := Nat.mul_le_mul_right s (show 6 ≤ 59 by decide); omega) (kb 59 (by omega)) (fun u' h7 => ?_)
    obtain ⟨e, fn, ic, il, cn, g, ge, st, a1, a2, a3, a4, a5, a6, a7, a8, a9, a10, a11, a12, a13, a14, a15, a16, a17, a18, a19, a20, a21⟩ := u'
    dsimp only
    refine br_t ?_ (dt_gtn h7 (by omega) (lo6 f (by omega)) (fun u' h8 => ?_))
    · have e1 : dt_cnt (dt_mp f s v (dt_B b 0)) (f + 6 * s) = 0 := by
        rw [dt_cnt_gap (a := 0) _ (by omega) (fun k _ hk => lo6 k hk)]
        rfl
      have e2 : dt_cnt (dt_mp f s v (dt_B b 0)) 4096 = dt_cnt (dt_mp f s v (dt_B b 0)) (f + 59 * s + 1) :=
        dt_cnt_gap (a := f + 59 * s + 1) 4096 (kb 59 (by omega)) (fun k k1 _ => dt_mp_no (fun p hp _ z => by
          have := Nat.mul_le_mul_right s (show p ≤ 59 by omega)
          omega))
      rw [e1, ← e2, c54]
      rfl
    obtain ⟨e, fn, ic, il, cn, g, ge, st, a1, a2, a3, a4, a5, a6, a7, a8, a9, a10, a11, a12, a13, a14, a15, a16, a17, a18, a19, a20, a21⟩ := u'
    dsimp only
    exact br_t rfl ⟨61, dt_w737 hpost hs hs64 hf hb hA1 hA2 hk0 60 0 _ _ _ _ _ _ _ _ _ _ _ _ _ _ _ _ _ _ _ _ _ _ _ _ _ _ _ _ _ (by omega) h8⟩
  | m + 1, i, e, fn, ic, il, cn, g, ge, st, a1, a2, a3, a4, a5, a6, a7, a8, a9, a10, a11, a12, a13, a14, a15, a16, a17, a18, a19, a20, a21, hi, h => by
    have hkey : f + i * s < 4096 := by
      have := Nat.mul_le_mul (show i ≤ 59 by omega) hs64
      omega
    have ek : nI f + nI i * nI s = nI (f + i * s) := by rw [pk_mul, nI_add]
    have hl := dt_S6_l f s i
    refine pk_le 6 i (fun z => absurd z (by omega)) (fun _ => ?_)
    rw [ek]
    refine dt_st1 false rfl h hkey (by omega) (fun u' hu => ?_)
    obtain ⟨e', fn', ic', il', cn', g', ge', st', a1', a2', a3', a4', a5', a6', a7', a8', a9', a10', a11', a12', a13', a14', a15', a16', a17', a18', a19', a20', a21'⟩ := u'
    dsimp only
    exact br_t (by rw [hl, nI_1]) (nm_r (nI_1 i) (dt_w580 hpost hs hs64 hf hb hA1 hA2 hk0 m (i + 1) e' fn' ic' il' cn' g' ge' st' a1' a2' a3' a4' a5' a6' a7' a8' a9' a10' a11' a12' a13' a14' a15' a16' a17' a18' a19' a20' a21' (by omega) hu))
end
end
section
/-! between the loops: batches, and a key that isn't one of the sixty -/
section
variable {post : Int32 → St0 → Prop} {mc ms kc ks : Nat} {x2 v : Int32} {f s b x : Nat}
theorem dt_w308 (hpost : post 1 ()) (hs : 0 < s) (hs64 : s ≤ 64) (hf : f ≤ 63) (hb : b ≤ 13) (hA1 : ∀ i, i < 60 → dt_A b i (i * b % 60) = false) (hA2 : ∀ p, p < 60 → dt_A b 60 p = true) (hx : x < 60) {z : Int32}
    (e fn ic il cn g ge st : Int32) (a1 a2 a3 a4 a5 a6 a7 a8 a9 a10 a11 a12 a13 a14 a15 a16 a17 a18 a19 a20 a21 : Nat → Int32) (h : dt_T (e, fn, ic, il, cn, g, ge, st, a1, a2, a3, a4, a5, a6, a7, a8, a9, a10, a11, a12, a13, a14, a15, a16, a17, a18, a19, a20, a21) (dt_mp f s v (fun _ => true)) []) : wL_lawOf_308 post mc ms x2 v (nI s) (nI f) (nI b) (nI (f + 59 * s)) (nI (f + 59 * s + 1)) (nI x) (nI (f + x * s)) z z kc ks e fn ic il cn g ge st a1 a2 a3 a4 a5 a6 a7 a8 a9 a10 a11 a12 a13 a14 a15 a16 a17 a18 a19 a20 a21 := by
  have kb : ∀ p, p ≤ 59 → f + p * s < 4000 := fun p hp => by
    have := Nat.mul_le_mul hp hs64
    omega
  have b59 := kb 59 (by omega)
  have bx := kb x (by omega)
  have hxl : x * s ≤ 59 * s := Nat.mul_le_mul_right s (by omega)
  have hk : dt_mp f s v (fun _ => true) (f + x * s) = some (v + nI x) := by rw [dt_mp_k hs hx, if_pos rfl]
  have hkn : dt_mp f s v (fun _ => true) (f + x * s) ≠ none := by
    rw [hk]
    exact Option.some_ne_none _
  have hhi : ∀ k, f + 59 * s < k → dt_mp f s v (fun _ => true) k = none := fun k hk' => dt_mp_no (fun p hp _ y => by
    have := Nat.mul_le_mul_right s (show p ≤ 59 by omega)
    omega)
  have hfr := hhi (f + 59 * s + 1) (by omega)
  have c60 : dt_cnt (dt_mp f s v (fun _ => true)) 4096 = 60 := by
    rw [dt_cnt_gap (a := f + 59 * s + 1) 4096 (by omega) (fun k k1 _ => hhi k (by omega)), dt_mp_x hs 59 (by decide)]
  generalize hM1 : dt_mp f s v (fun _ => true) = M1 at h hk hkn hhi hfr c60
  have cx : dt_cnt M1 (f + x * s + 1) - dt_cnt M1 f = x + 1 := by
    rw [← hM1, dt_mp_x hs x hx, dt_mp_lo]
    rfl
  generalize hk0 : f + x * s = k0 at *
  generalize hfe : f + 59 * s + 1 = fe at *
  have hne : k0 ≠ fe := by omega
  have k4 : k0 < 4096 := by omega
  have f4 : fe < 4096 := by omega
  -- the first batch
  have q1 : dt_cnt (dt_up M1 k0 none) 4096 = 59 := by
    have := dt_cnt_del (n := 4096) k4 hkn
    omega
  have q1f : dt_up M1 k0 none fe = none := by rw [dt_up_n _ _ (fun t => hne t.symm), hfr]
  have q2 : dt_cnt (dt_up (dt_up M1 k0 none) fe (some 3)) 4096 = 60 := by rw [dt_cnt_add 3 f4 q1f, q1]
  generalize hM2 : dt_up (dt_up M1 k0 none) fe (some 3) = M2 at q2
  have m2k : M2 k0 = none := by rw [← hM2, dt_up_n _ _ hne, dt_up_s]
  have m2f : M2 fe = some 3 := by rw [← hM2, dt_up_s]
  have m2h : ∀ k, fe < k → M2 k = none := fun k hk' => by rw [← hM2, dt_up_n _ _ (by omega), dt_up_n _ _ (by omega), hhi k (by omega)]
  -- the second
  have q3 : dt_cnt (dt_up M2 k0 (some v)) 4096 = 61 := by rw [dt_cnt_add v k4 m2k, q2]
  -- the third
  have m2fn : M2 fe ≠ none := by
    rw [m2f]
    exact Option.some_ne_none _
  have q4 : dt_cnt (dt_up M2 fe (some 8)) 4096 = 60 := by rw [dt_cnt_set 8 f4 m2fn, q2]
  have q5 : dt_cnt (dt_up (dt_up M2 fe (some 8)) fe none) 4096 = 59 := by
    have := dt_cnt_del (M := dt_up M2 fe (some 8)) (n := 4096) f4 (by rw [dt_up_s]; exact Option.some_ne_none _)
    omega
  have q6k : dt_up (dt_up M2 fe (some 8)) fe none k0 = none := by rw [dt_up_n _ _ hne, dt_up_n _ _ hne, m2k]
  have q6 : dt_cnt (dt_up (dt_up (dt_up M2 fe (some 8)) fe none) k0 (some (v + nI x))) 4096 = 60 := by rw [dt_cnt_add _ k4 q6k, q5]
  have q7 : dt_up (dt_up (dt_up M2 fe (some 8)) fe none) k0 (some (v + nI x)) = M1 := by
    funext k
    by_cases y : k = k0
    · rw [y, dt_up_s, hk]
    · rw [dt_up_n _ _ y]
      by_cases y' : k = fe
      · rw [y', dt_up_s, hfr]
      · rw [dt_up_n _ _ y', dt_up_n _ _ y', ← hM2, dt_up_n _ _ y', dt_up_n _ _ y]
  have fit2 : ∀ {M : dt_M} {a c : dt_O}, dt_cnt M 4096 ≤ 60 → dt_cnt (dt_pk M [a, c] 1) 4096 ≤ 60 → dt_cnt (dt_pk M [a, c] 2) 4096 ≤ 60 → ∀ j, j ≤ [a, c].length → dt_cnt (dt_pk M [a, c] j) 4096 ≤ 60 := fun {M a c} y0 y1 y2 j hj => by
    have hj' : j ≤ 2 := hj
    rcases (show j = 0 ∨ j = 1 ∨ j = 2 by omega) with t | t | t
    · rw [t]
      exact y0
    · rw [t]
      exact y1
    · rw [t]
      exact y2
  have fit3 : ∀ {M : dt_M} {a c d : dt_O}, dt_cnt M 4096 ≤ 60 → dt_cnt (dt_pk M [a, c, d] 1) 4096 ≤ 60 → dt_cnt (dt_pk M [a, c, d] 2) 4096 ≤ 60 → dt_cnt (dt_pk M [a, c, d] 3) 4096 ≤ 60 → ∀ j, j ≤ [a, c, d].length → dt_cnt (dt_pk M [a, c, d] j) 4096 ≤ 60 := fun {M a c d} y0 y1 y2 y3 j hj => by
    have hj' : j ≤ 3 := hj
    rcases (show j = 0 ∨ j = 1 ∨ j = 2 ∨ j = 3 by omega) with t | t | t | t
    · rw [t]
      exact y0
    · rw [t]
      exact y1
    · rw [t]
      exact y2
    · rw [t]
      exact y3
  unfold wL_lawOf_308
  refine br_t rfl (dt_ctn h (by omega) k4 (fun u' h1 => ?_))
  obtain ⟨e, fn, ic, il, cn, g, ge, st, a1, a2, a3, a4, a5, a6, a7, a8, a9, a10, a11, a12, a13, a14, a15, a16, a17, a18, a19, a20, a21⟩ := u'
  dsimp only
  refine br_t (by rw [cx, nI_1]) (dt_swp h1 k4 hk (fun y => ?_) (fun _ u' h2 => ?_))
  · exfalso
    have y' : v + nI x + 1 = v + nI x + 0 := by rw [Int32.add_zero]; exact y.symm
    have := (Int32.add_right_inj (v + nI x)).mp y'
    exact absurd this (by decide)
  obtain ⟨e, fn, ic, il, cn, g, ge, st, a1, a2, a3, a4, a5, a6, a7, a8, a9, a10, a11, a12, a13, a14, a15, a16, a17, a18, a19, a20, a21⟩ := u'
  dsimp only
  refine br_t rfl (dt_st1 false rfl h2 k4 (by decide) (fun u' h3 => ?_))
  obtain ⟨e, fn, ic, il, cn, g, ge, st, a1, a2, a3, a4, a5, a6, a7, a8, a9, a10, a11, a12, a13, a14, a15, a16, a17, a18, a19, a20, a21⟩ := u'
  dsimp only
  refine br_t rfl (dt_st1 true rfl h3 f4 (show 1 < 6 by decide) (fun u' h4 => ?_))
  obtain ⟨e, fn, ic, il, cn, g, ge, st, a1, a2, a3, a4, a5, a6, a7, a8, a9, a10, a11, a12, a13, a14, a15, a16, a17, a18, a19, a20, a21⟩ := u'
  have h4' : dt_T (e, fn, ic, il, cn, g, ge, st, a1, a2, a3, a4, a5, a6, a7, a8, a9, a10, a11, a12, a13, a14, a15, a16, a17, a18, a19, a20, a21) M1 [(false, k0, 9), (true, fe, 3)] := h4
  dsimp only
  refine br_t rfl (dt_h1 h4' k4 hkn (fun u' h5 => ?_))
  obtain ⟨e, fn, ic, il, cn, g, ge, st, a1, a2, a3, a4, a5, a6, a7, a8, a9, a10, a11, a12, a13, a14, a15, a16, a17, a18, a19, a20, a21⟩ := u'
  dsimp only
  refine br_t rfl (dt_cmy (c := 60) h5 (fit2 (by omega) ?_ ?_) ?_ (fun u' h6 => ?_))
  · show dt_cnt (dt_up M1 k0 none) 4096 ≤ 60
    omega
  · show dt_cnt (dt_up (dt_up M1 k0 none) fe (some 3)) 4096 ≤ 60
    rw [hM2]
    omega
  · show dt_cnt (dt_up (dt_up M1 k0 none) fe (some 3)) 4096 = 60
    rw [hM2]
    exact q2
  have h6' : dt_T u' M2 [] := by
    rw [← hM2]
    exact h6
  clear h6
  obtain ⟨e, fn, ic, il, cn, g, ge, st, a1, a2, a3, a4, a5, a6, a7, a8, a9, a10, a11, a12, a13, a14, a15, a16, a17, a18, a19, a20, a21⟩ := u'
  dsimp only
  refine br_t rfl (dt_h0 h6' k4 m2k (fun u' h7 => ?_))
  obtain ⟨e, fn, ic, il, cn, g, ge, st, a1, a2, a3, a4, a5, a6, a7, a8, a9, a10, a11, a12, a13, a14, a15, a16, a17, a18, a19, a20, a21⟩ := u'
  dsimp only
  refine br_t rfl (dt_gts h7 f4 m2f (fun u' h8 => ?_))
  obtain ⟨e, fn, ic, il, cn, g, ge, st, a1, a2, a3, a4, a5, a6, a7, a8, a9, a10, a11, a12, a13, a14, a15, a16, a17, a18, a19, a20, a21⟩ := u'
  dsimp only
  refine br_t rfl (dt_pva (fr := 4096) (t := fe) (by decide) h8 (by decide) f4 m2fn (fun j j1 _ => m2h j j1) (fun u' h9 => ?_))
  obtain ⟨e, fn, ic, il, cn, g, ge, st, a1, a2, a3, a4, a5, a6, a7, a8, a9, a10, a11, a12, a13, a14, a15, a16, a17, a18, a19, a20, a21⟩ := u'
  dsimp only
  refine br_t rfl (dt_st1 true rfl h9 k4 (by decide) (fun u' h10 => ?_))
  obtain ⟨e, fn, ic, il, cn, g, ge, st, a1, a2, a3, a4, a5, a6, a7, a8, a9, a10, a11, a12, a13, a14, a15, a16, a17, a18, a19, a20, a21⟩ := u'
  dsimp only
  refine br_t rfl (dt_st1 false rfl h10 f4 (show 1 < 6 by decide) (fun u' h11 => ?_))
  obtain ⟨e, fn, ic, il, cn, g, ge, st, a1, a2, a3, a4, a5, a6, a7, a8, a9, a10, a11, a12, a13, a14, a15, a16, a17, a18, a19, a20, a21⟩ := u'
  have h11' : dt_T (e, fn, ic, il, cn, g, ge, st, a1, a2, a3, a4, a5, a6, a7, a8, a9, a10, a11, a12, a13, a14, a15, a16, a17, a18, a19, a20, a21) M2 [(true, k0, v), (false, fe, 0)] := h11
  dsimp only
  refine br_t rfl (dt_cmn (j := 1) h11' (show 1 ≤ 2 by decide) ?_ (fun u' h12 => ?_))
  · show 60 < dt_cnt (dt_up M2 k0 (some v)) 4096
    omega
  obtain ⟨e, fn, ic, il, cn, g, ge, st, a1, a2, a3, a4, a5, a6, a7, a8, a9, a10, a11, a12, a13, a14, a15, a16, a17, a18, a19, a20, a21⟩ := u'
  dsimp only
  refine br_t rfl (dt_h0 h12 k4 m2k (fun u' h13 => ?_))
  obtain ⟨e, fn, ic, il, cn, g, ge, st, a1, a2, a3, a4, a5, a6, a7, a8, a9, a10, a11, a12, a13, a14, a15, a16, a17, a18, a19, a20, a21⟩ := u'
  dsimp only
  refine br_t rfl (dt_h1 h13 f4 m2fn (fun u' h14 => ?_))
  obtain ⟨e, fn, ic, il, cn, g, ge, st, a1, a2, a3, a4, a5, a6, a7, a8, a9, a10, a11, a12, a13, a14, a15, a16, a17, a18, a19, a20, a21⟩ := u'
  dsimp only
  refine br_t rfl (dt_cmy (c := 60) h14 (fun j hj => ?_) q2 (fun u' h15 => ?_))
  · have : j = 0 := Nat.le_zero.mp hj
    subst this
    show dt_cnt M2 4096 ≤ 60
    omega
  have h15' : dt_T u' M2 [] := h15
  clear h15
  obtain ⟨e, fn, ic, il, cn, g, ge, st, a1, a2, a3, a4, a5, a6, a7, a8, a9, a10, a11, a12, a13, a14, a15, a16, a17, a18, a19, a20, a21⟩ := u'
  dsimp only
  refine br_t rfl (dt_st1 true rfl h15' f4 (by decide) (fun u' h16 => ?_))
  obtain ⟨e, fn, ic, il, cn, g, ge, st, a1, a2, a3, a4, a5, a6, a7, a8, a9, a10, a11, a12, a13, a14, a15, a16, a17, a18, a19, a20, a21⟩ := u'
  dsimp only
  refine br_t rfl (dt_st1 false rfl h16 f4 (show 1 < 6 by decide) (fun u' h17 => ?_))
  obtain ⟨e, fn, ic, il, cn, g, ge, st, a1, a2, a3, a4, a5, a6, a7, a8, a9, a10, a11, a12, a13, a14, a15, a16, a17, a18, a19, a20, a21⟩ := u'
  dsimp only
  refine br_t rfl (dt_st1 true rfl h17 k4 (show 2 < 6 by decide) (fun u' h18 => ?_))
  obtain ⟨e, fn, ic, il, cn, g, ge, st, a1, a2, a3, a4, a5, a6, a7, a8, a9, a10, a11, a12, a13, a14, a15, a16, a17, a18, a19, a20, a21⟩ := u'
  have h18' : dt_T (e, fn, ic, il, cn, g, ge, st, a1, a2, a3, a4, a5, a6, a7, a8, a9, a10, a11, a12, a13, a14, a15, a16, a17, a18, a19, a20, a21) M2 [(true, fe, 8), (false, fe, 0), (true, k0, v + nI x)] := h18
  dsimp only
  refine br_t rfl (dt_cmy (c := 60) h18' (fit3 (by omega) ?_ ?_ ?_) ?_ (fun u' h19 => ?_))
  · show dt_cnt (dt_up M2 fe (some 8)) 4096 ≤ 60
    omega
  · show dt_cnt (dt_up (dt_up M2 fe (some 8)) fe none) 4096 ≤ 60
    omega
  · show dt_cnt (dt_up (dt_up (dt_up M2 fe (some 8)) fe none) k0 (some (v + nI x))) 4096 ≤ 60
    omega
  · exact q6
  have h19' : dt_T u' M1 [] := by
    rw [← q7]
    exact h19
  clear h19
  obtain ⟨e, fn, ic, il, cn, g, ge, st, a1, a2, a3, a4, a5, a6, a7, a8, a9, a10, a11, a12, a13, a14, a15, a16, a17, a18, a19, a20, a21⟩ := u'
  dsimp only
  refine br_t rfl (dt_gts h19' k4 hk (fun u' h20 => ?_))
  obtain ⟨e, fn, ic, il, cn, g, ge, st, a1, a2, a3, a4, a5, a6, a7, a8, a9, a10, a11, a12, a13, a14, a15, a16, a17, a18, a19, a20, a21⟩ := u'
  dsimp only
  refine br_t rfl (dt_h0 h20 f4 hfr (fun u' h21 => ?_))
  rw [← hM1] at h21
  obtain ⟨e, fn, ic, il, cn, g, ge, st, a1, a2, a3, a4, a5, a6, a7, a8, a9, a10, a11, a12, a13, a14, a15, a16, a17, a18, a19, a20, a21⟩ := u'
  dsimp only
  exact br_t rfl ⟨7, dt_w580 hpost hs hs64 hf hb hA1 hA2 k4 6 0 _ _ _ _ _ _ _ _ _ _ _ _ _ _ _ _ _ _ _ _ _ _ _ _ _ _ _ _ _ (by omega) h21⟩
end
end
section
/-! the law's first loop, and what follows it at once -/
section
variable {post : Int32 → St0 → Prop} {mc ms kc ks : Nat} {x2 v x4 : Int32} {f s b x : Nat}
theorem dt_w282 (hpost : post 1 ()) (hs : 0 < s) (hs64 : s ≤ 64) (hf : f ≤ 63) (hb : b ≤ 13) (hA1 : ∀ i, i < 60 → dt_A b i (i * b % 60) = false) (hA2 : ∀ p, p < 60 → dt_A b 60 p = true) (hx : x < 60) {z : Int32}
    (e fn ic il cn g ge st : Int32) (a1 a2 a3 a4 a5 a6 a7 a8 a9 a10 a11 a12 a13 a14 a15 a16 a17 a18 a19 a20 a21 : Nat → Int32) (h : dt_T (e, fn, ic, il, cn, g, ge, st, a1, a2, a3, a4, a5, a6, a7, a8, a9, a10, a11, a12, a13, a14, a15, a16, a17, a18, a19, a20, a21) (dt_mp f s v (fun _ => true)) []) : wL_lawOf_282 post mc ms x2 v (nI s) (nI f) (nI b) (nI (f + 59 * s)) (nI (f + 59 * s + 1)) (nI x) (nI (f + x * s)) z z kc ks e fn ic il cn g ge st a1 a2 a3 a4 a5 a6 a7 a8 a9 a10 a11 a12 a13 a14 a15 a16 a17 a18 a19 a20 a21 := by
  have hxl : x * s ≤ 59 * s := Nat.mul_le_mul_right s (by omega)
  have b59 : 59 * s ≤ 59 * 64 := Nat.mul_le_mul_left 59 hs64
  unfold wL_lawOf_282
  refine br_t rfl ?_
  by_cases y : x = 0
  · subst y
    refine dt_pv0 (fr := f + 0 * s) rfl h (by omega) (fun j hj => dt_mp_no (fun p _ _ t => by omega)) (fun u' hu => ?_)
    obtain ⟨e, fn, ic, il, cn, g, ge, st, a1, a2, a3, a4, a5, a6, a7, a8, a9, a10, a11, a12, a13, a14, a15, a16, a17, a18, a19, a20, a21⟩ := u'
    dsimp only
    exact br_t (by decide) (dt_w308 hpost hs hs64 hf hb hA1 hA2 hx e fn ic il cn g ge st a1 a2 a3 a4 a5 a6 a7 a8 a9 a10 a11 a12 a13 a14 a15 a16 a17 a18 a19 a20 a21 hu)
  · obtain ⟨w, rfl⟩ : ∃ w, x = w + 1 := ⟨x - 1, by omega⟩
    have ew : (w + 1) * s = w * s + s := Nat.succ_mul w s
    have e1 : nI (f + (w + 1) * s) - nI s = nI (f + w * s) := by
      rw [pk_sub (by omega), show f + (w + 1) * s - s = f + w * s by omega]
    refine dt_pva (fr := f + (w + 1) * s) (t := f + w * s) rfl h (by omega) (by omega) ?_ (fun j j1 j2 => dt_mp_no (fun p _ _ t => ?_)) (fun u' hu => ?_)
    · rw [dt_mp_k hs (by omega), if_pos rfl]
      exact Option.some_ne_none _
    · rcases Nat.lt_trichotomy p w with q | q | q
      · have := dt_ms (s := s) q
        omega
      · rw [q] at t
        omega
      · have := Nat.mul_le_mul_right s (show w + 1 ≤ p from q)
        omega
    · obtain ⟨e, fn, ic, il, cn, g, ge, st, a1, a2, a3, a4, a5, a6, a7, a8, a9, a10, a11, a12, a13, a14, a15, a16, a17, a18, a19, a20, a21⟩ := u'
      dsimp only
      rw [e1]
      exact br_f (nI_nle (by omega) (by omega)) (dt_w308 hpost hs hs64 hf hb hA1 hA2 hx e fn ic il cn g ge st a1 a2 a3 a4 a5 a6 a7 a8 a9 a10 a11 a12 a13 a14 a15 a16 a17 a18 a19 a20 a21 hu)
theorem dt_w52 (hpost : post 1 ()) (hs : 0 < s) (hs64 : s ≤ 64) (hf : f ≤ 63) (hb : b ≤ 13) (hA1 : ∀ i, i < 60 → dt_A b i (i * b % 60) = false) (hA2 : ∀ p, p < 60 → dt_A b 60 p = true) :
    ∀ (m i : Nat) (e fn ic il cn g ge st : Int32) (a1 a2 a3 a4 a5 a6 a7 a8 a9 a10 a11 a12 a13 a14 a15 a16 a17 a18 a19 a20 a21 : Nat → Int32), i + m = 60 → dt_T (e, fn, ic, il, cn, g, ge, st, a1, a2, a3, a4, a5, a6, a7, a8, a9, a10, a11, a12, a13, a14, a15, a16, a17, a18, a19, a20, a21) (dt_mp f s v (dt_A b i)) [] → dt_cnt (dt_mp f s v (dt_A b i)) 4096 = i → wL_lawOf_52 post mc ms x2 v x4 (nI s) (nI f) (nI b) kc ks (m + 1) (nI i) e fn ic il cn g ge st a1 a2 a3 a4 a5 a6 a7 a8 a9 a10 a11 a12 a13 a14 a15 a16 a17 a18 a19 a20 a21
  | 0, i, e, fn, ic, il, cn, g, ge, st, a1, a2, a3, a4, a5, a6, a7, a8, a9, a10, a11, a12, a13, a14, a15, a16, a17, a18, a19, a20, a21, hi, h, hc => by
    have hi' : i = 60 := by omega
    subst hi'
    have b59 : 59 * s ≤ 59 * 64 := Nat.mul_le_mul_left 59 hs64
    have eM : dt_mp f s v (dt_A b 60) = dt_mp f s v (fun _ => true) := dt_mp_cg (fun p hp => hA2 p hp)
    rw [eM] at h hc
    have e59 : nI f + 59 * nI s = nI (f + 59 * s) := by
      rw [← nI_add, ← pk_mul]
      rfl
    have hhi : ∀ k, f + 59 * s < k → dt_mp f s v (fun _ => true) k = none := fun k hk' => dt_mp_no (fun p hp _ y => by
      have := Nat.mul_le_mul_right s (show p ≤ 59 by omega)
      omega)
    have hla : dt_mp f s v (fun _ => true) (f + 59 * s) = some (v + 59) := by
      rw [dt_mp_k hs (by decide), if_pos rfl]
      rfl
    have hlan : dt_mp f s v (fun _ => true) (f + 59 * s) ≠ none := by
      rw [hla]
      exact Option.some_ne_none _
    have h0n : dt_mp f s v (fun _ => true) f ≠ none := by
      have := dt_mp_k (f := f) (v := v) (A := fun _ => true) hs (p := 0) (by decide)
      rw [if_pos rfl, Nat.zero_mul, Nat.add_zero] at this
      rw [this]
      exact Option.some_ne_none _
    obtain ⟨j, j1, j2⟩ := pk_andE x4 (m := 255) 8 (by decide)
    refine pk_le 60 60 (fun _ => nm_r e59 (nm_r (nI_1 _) ?_)) (fun z => absurd z (by omega))
    refine dt_put h (by omega) (fun y => absurd (hhi _ (by omega)) y) (fun _ y => absurd y (by omega)) (fun _ _ u' h1 => ?_)
    obtain ⟨e, fn, ic, il, cn, g, ge, st, a1, a2, a3, a4, a5, a6, a7, a8, a9, a10, a11, a12, a13, a14, a15, a16, a17, a18, a19, a20, a21⟩ := u'
    dsimp only
    refine br_t rfl (dt_h0 h1 (by omega) (hhi _ (by omega)) (fun u' h2 => ?_))
    obtain ⟨e, fn, ic, il, cn, g, ge, st, a1, a2, a3, a4, a5, a6, a7, a8, a9, a10, a11, a12, a13, a14, a15, a16, a17, a18, a19, a20, a21⟩ := u'
    dsimp only
    refine br_t rfl (dt_put h2 (by omega) (fun _ u' h3 => ?_) (fun y => absurd y hlan) (fun y => absurd y hlan))
    rw [dt_up_e hla] at h3
    obtain ⟨e, fn, ic, il, cn, g, ge, st, a1, a2, a3, a4, a5, a6, a7, a8, a9, a10, a11, a12, a13, a14, a15, a16, a17, a18, a19, a20, a21⟩ := u'
    dsimp only
    refine br_t rfl (dt_ctn (lo := 0) (hi := 4095) h3 (by decide) (by decide) (fun u' h4 => ?_))
    obtain ⟨e, fn, ic, il, cn, g, ge, st, a1, a2, a3, a4, a5, a6, a7, a8, a9, a10, a11, a12, a13, a14, a15, a16, a17, a18, a19, a20, a21⟩ := u'
    dsimp only
    refine br_t (by rw [show 4095 + 1 = 4096 from rfl, hc]; rfl) (dt_nxa (fr := 0) (t := f) h4 (by decide) (Nat.zero_le _) h0n (fun j _ hj => dt_mp_no (fun p _ _ t => by omega)) (fun u' h5 => ?_))
    obtain ⟨e, fn, ic, il, cn, g, ge, st, a1, a2, a3, a4, a5, a6, a7, a8, a9, a10, a11, a12, a13, a14, a15, a16, a17, a18, a19, a20, a21⟩ := u'
    dsimp only
    refine br_t rfl (dt_pva (fr := 4096) (t := f + 59 * s) (by decide) h5 (by decide) (by omega) hlan (fun j j1 _ => hhi j j1) (fun u' h6 => ?_))
    obtain ⟨e, fn, ic, il, cn, g, ge, st, a1, a2, a3, a4, a5, a6, a7, a8, a9, a10, a11, a12, a13, a14, a15, a16, a17, a18, a19, a20, a21⟩ := u'
    dsimp only
    refine br_t rfl (dt_nx0 h6 (by omega) (fun j hj => hhi j (by omega)) (fun u' h7 => ?_))
    obtain ⟨e, fn, ic, il, cn, g, ge, st, a1, a2, a3, a4, a5, a6, a7, a8, a9, a10, a11, a12, a13, a14, a15, a16, a17, a18, a19, a20, a21⟩ := u'
    dsimp only
    have hx : j % 60 < 60 := Nat.mod_lt _ (by decide)
    have ex : (x4 &&& 255) - (x4 &&& 255) / 60 * 60 = nI (j % 60) := by
      rw [j2]
      exact pk_rem (d := 60) (by omega) (by decide) (by decide)
    have ek : nI f + nI (j % 60) * nI s = nI (f + j % 60 * s) := by rw [pk_mul, nI_add]
    have hxl : j % 60 * s ≤ 59 * s := Nat.mul_le_mul_right s (by omega)
    refine br_t rfl ⟨by decide, nm_r ex (nm_r ek ?_)⟩
    refine dt_gts (v := v + nI (j % 60)) h7 (by omega) (by rw [dt_mp_k hs hx, if_pos rfl]) (fun u' h8 => ?_)
    obtain ⟨e, fn, ic, il, cn, g, ge, st, a1, a2, a3, a4, a5, a6, a7, a8, a9, a10, a11, a12, a13, a14, a15, a16, a17, a18, a19, a20, a21⟩ := u'
    dsimp only
    refine br_t rfl ?_
    rw [nI_1]
    by_cases y : 59 ≤ j % 60
    · have e59' : j % 60 = 59 := by omega
      refine dt_nx0 h8 (by omega) (fun k hk => hhi k (by rw [e59'] at hk; omega)) (fun u' h9 => ?_)
      obtain ⟨e, fn, ic, il, cn, g, ge, st, a1, a2, a3, a4, a5, a6, a7, a8, a9, a10, a11, a12, a13, a14, a15, a16, a17, a18, a19, a20, a21⟩ := u'
      dsimp only
      exact br_t (nI_le (a := 59) y (by omega)) (dt_w282 hpost hs hs64 hf hb hA1 hA2 hx e fn ic il cn g ge st a1 a2 a3 a4 a5 a6 a7 a8 a9 a10 a11 a12 a13 a14 a15 a16 a17 a18 a19 a20 a21 h9)
    · have ew : (j % 60 + 1) * s = j % 60 * s + s := Nat.succ_mul _ s
      have hw : (j % 60 + 1) * s ≤ 59 * s := Nat.mul_le_mul_right s (by omega)
      refine dt_nxa (t := f + (j % 60 + 1) * s) h8 (by omega) (by omega) ?_ (fun k k1 k2 => dt_mp_no (fun p _ _ t => ?_)) (fun u' h9 => ?_)
      · rw [dt_mp_k hs (by omega), if_pos rfl]
        exact Option.some_ne_none _
      · rcases Nat.lt_or_ge (j % 60) p with q | q
        · have := Nat.mul_le_mul_right s (show j % 60 + 1 ≤ p from q)
          omega
        · have := Nat.mul_le_mul_right s q
          omega
      · obtain ⟨e, fn, ic, il, cn, g, ge, st, a1, a2, a3, a4, a5, a6, a7, a8, a9, a10, a11, a12, a13, a14, a15, a16, a17, a18, a19, a20, a21⟩ := u'
        dsimp only
        rw [nI_add, show f + j % 60 * s + s = f + (j % 60 + 1) * s by omega]
        exact br_f (nI_ge (b := 59) (by omega) (by decide)) (dt_w282 hpost hs hs64 hf hb hA1 hA2 hx e fn ic il cn g ge st a1 a2 a3 a4 a5 a6 a7 a8 a9 a10 a11 a12 a13 a14 a15 a16 a17 a18 a19 a20 a21 h9)
  | m + 1, i, e, fn, ic, il, cn, g, ge, st, a1, a2, a3, a4, a5, a6, a7, a8, a9, a10, a11, a12, a13, a14, a15, a16, a17, a18, a19, a20, a21, hi, h, hc => by
    have hpb : i * b % 60 < 60 := Nat.mod_lt _ (by decide)
    have hib : i * b ≤ 60 * 13 := Nat.mul_le_mul (by omega) hb
    have hkey : f + i * b % 60 * s < 4096 := by
      have := Nat.mul_le_mul (show i * b % 60 ≤ 59 by omega) hs64
      omega
    have ep : nI i * nI b - nI i * nI b / 60 * 60 = nI (i * b % 60) := by
      rw [pk_mul]
      exact pk_rem (d := 60) (by omega) (by decide) (by decide)
    have ek : nI f + nI (i * b % 60) * nI s = nI (f + i * b % 60 * s) := by rw [pk_mul, nI_add]
    have hn : dt_mp f s v (dt_A b i) (f + i * b % 60 * s) = none := by
      rw [dt_mp_k hs hpb, hA1 i (by omega), if_neg (by decide)]
    have hc' : dt_cnt (dt_mp f s v (dt_A b (i + 1))) 4096 = i + 1 := by
      have := dt_cnt_add (n := 4096) (v + nI (i * b % 60)) hkey hn
      rw [dt_mp_put hs hpb, hc] at this
      exact this
    have go : ∀ (e fn ic il cn g ge st : Int32) (a1 a2 a3 a4 a5 a6 a7 a8 a9 a10 a11 a12 a13 a14 a15 a16 a17 a18 a19 a20 a21 : Nat → Int32), dt_T (e, fn, ic, il, cn, g, ge, st, a1, a2, a3, a4, a5, a6, a7, a8, a9, a10, a11, a12, a13, a14, a15, a16, a17, a18, a19, a20, a21) (dt_mp f s v (dt_A b (i + 1))) [] → ∀ x, x = nI i + 1 → wL_lawOf_52 post mc ms x2 v x4 (nI s) (nI f) (nI b) kc ks (m + 1) x e fn ic il cn g ge st a1 a2 a3 a4 a5 a6 a7 a8 a9 a10 a11 a12 a13 a14 a15 a16 a17 a18 a19 a20 a21 := fun e fn ic il cn g ge st a1 a2 a3 a4 a5 a6 a7 a8 a9 a10 a11 a12 a13 a14 a15 a16 a17 a18 a19 a20 a21 hu => nm_r (nI_1 i) (dt_w52 hpost hs hs64 hf hb hA1 hA2 m (i + 1) e fn ic il cn g ge st a1 a2 a3 a4 a5 a6 a7 a8 a9 a10 a11 a12 a13 a14 a15 a16 a17 a18 a19 a20 a21 (by omega) hu hc')
    refine pk_le 60 i (fun z => absurd z (by omega)) (fun _ => ⟨by decide, nm_r ep ?_⟩)
    rw [ek]
    refine dt_put h hkey (fun z => absurd hn z) (fun _ _ u' hu => ?_) (fun _ z => absurd z (by omega))
    rw [dt_mp_put hs hpb] at hu
    have hu' : dt_T u' (dt_mp f s v (dt_A b (i + 1))) [] := hu
    clear hu
    obtain ⟨e, fn, ic, il, cn, g, ge, st, a1, a2, a3, a4, a5, a6, a7, a8, a9, a10, a11, a12, a13, a14, a15, a16, a17, a18, a19, a20, a21⟩ := u'
    dsimp only
    refine br_t rfl (br_c (fun _ => br_c (fun _ => go e fn ic il cn g ge st a1 a2 a3 a4 a5 a6 a7 a8 a9 a10 a11 a12 a13 a14 a15 a16 a17 a18 a19 a20 a21 hu') (fun _ => dt_tdy hu' (fun u' hu2 => ?_))) (fun _ => go e fn ic il cn g ge st a1 a2 a3 a4 a5 a6 a7 a8 a9 a10 a11 a12 a13 a14 a15 a16 a17 a18 a19 a20 a21 hu'))
    obtain ⟨e, fn, ic, il, cn, g, ge, st, a1, a2, a3, a4, a5, a6, a7, a8, a9, a10, a11, a12, a13, a14, a15, a16, a17, a18, a19, a20, a21⟩ := u'
    dsimp only
    exact go e fn ic il cn g ge st a1 a2 a3 a4 a5 a6 a7 a8 a9 a10 a11 a12 a13 a14 a15 a16 a17 a18 a19 a20 a21 hu2
end
theorem dt_A7 : ∀ i, i < 60 → dt_A 7 i (i * 7 % 60) = false := by decide +kernel
theorem dt_A11 : ∀ i, i < 60 → dt_A 11 i (i * 11 % 60) = false := by decide +kernel
theorem dt_A13 : ∀ i, i < 60 → dt_A 13 i (i * 13 % 60) = false := by decide +kernel
theorem dt_A7' : ∀ p, p < 60 → dt_A 7 60 p = true := by decide +kernel
theorem dt_A11' : ∀ p, p < 60 → dt_A 11 60 p = true := by decide +kernel
theorem dt_A13' : ∀ p, p < 60 → dt_A 13 60 p = true := by decide +kernel
end
section
theorem dt_lawOf {post : Int32 → St0 → Prop} (hpost : post 1 ()) (p0 p1 p2 p3 p4 : Int32) : wpL_lawOf post 828 13248 () p0 p1 p2 p3 p4 := by
  obtain ⟨s, s1, s2⟩ := pk_andE p0 (m := 63) 6 (by decide)
  obtain ⟨f, f1, f2⟩ := pk_andE p1 (m := 63) 6 (by decide)
  have e1 : 1 + (p0 &&& 63) = nI (1 + s) := by
    rw [s2]
    exact nI_add 1 s
  have s64 : 1 + s ≤ 64 := by omega
  have f63 : f ≤ 63 := by omega
  have m0 : dt_mp f (1 + s) p3 (fun _ => false) = fun _ => none := by
    funext k
    exact dt_mp_no (fun p _ hA => absurd hA (by decide))
  have c0 : dt_cnt (dt_mp f (1 + s) p3 (fun _ => false)) 4096 = 0 := by
    rw [m0]
    exact dt_sm_0 4096
  unfold wpL_lawOf
  refine ⟨by decide, by decide, 100, 2000, by decide, by decide, dt_ini (by decide) (by decide) (fun u' hu => ?_)⟩
  rw [← m0] at hu
  obtain ⟨e, fn, ic, il, cn, g, ge, st, a1, a2, a3, a4, a5, a6, a7, a8, a9, a10, a11, a12, a13, a14, a15, a16, a17, a18, a19, a20, a21⟩ := u'
  dsimp only
  refine nm_r e1 (nm_r f2 (br_c (fun _ => ⟨61, ?_⟩) (fun _ => br_c (fun _ => ⟨61, ?_⟩) (fun _ => ⟨61, ?_⟩))))
  · exact dt_w52 (b := 7) hpost (by omega) s64 f63 (by decide) dt_A7 dt_A7' 60 0 e fn ic il cn g ge st a1 a2 a3 a4 a5 a6 a7 a8 a9 a10 a11 a12 a13 a14 a15 a16 a17 a18 a19 a20 a21 (by omega) hu c0
  · exact dt_w52 (b := 11) hpost (by omega) s64 f63 (by decide) dt_A11 dt_A11' 60 0 e fn ic il cn g ge st a1 a2 a3 a4 a5 a6 a7 a8 a9 a10 a11 a12 a13 a14 a15 a16 a17 a18 a19 a20 a21 (by omega) hu c0
  · exact dt_w52 (b := 13) hpost (by omega) s64 f63 (by decide) dt_A13 dt_A13' 60 0 e fn ic il cn g ge st a1 a2 a3 a4 a5 a6 a7 a8 a9 a10 a11 a12 a13 a14 a15 a16 a17 a18 a19 a20 a21 (by omega) hu c0
theorem dt_cell {post : Int32 → Prop} {L : Nat} {xs : Nat → Int32} (hL : L ≤ 5) {k : Nat} (hk : k < 5) (H : ∀ x, post x) : wpL_cellAt post L xs () (nI k) := by
  unfold wpL_cellAt
  exact pk_le L k (fun _ => H 0) (fun z => ⟨vp_in_nI z (by omega), H _⟩)
theorem i_vc (xs : Nat → Int32) (L : Nat) (hL : L ≤ 5) : wpL_law (fun r => r = 1) L xs := by
  unfold wpL_law
  refine dt_cell (k := 0) hL (by decide) (fun r1 => dt_cell (k := 1) hL (by decide) (fun r2 => dt_cell (k := 2) hL (by decide) (fun r3 => dt_cell (k := 3) hL (by decide) (fun r4 => dt_cell (k := 4) hL (by decide) (fun r5 => ⟨828, 13248, by decide, by decide, ?_⟩)))))
  exact dt_lawOf rfl r1 r2 r3 r4 r5
end
