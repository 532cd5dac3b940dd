section
/-! counting: cn P n = how many i < n have P i -/
def cn_c (P : Nat → Bool) : Nat → Nat
  | 0 => 0
  | n + 1 => cn_c P n + (if P n = true then 1 else 0)
theorem cn_s (P : Nat → Bool) (n : Nat) : cn_c P (n + 1) = cn_c P n + (if P n = true then 1 else 0) := rfl
theorem cn_le (P : Nat → Bool) (n : Nat) : cn_c P n ≤ n := by
  induction n with
  | zero => exact Nat.le_refl 0
  | succ n ih => rw [cn_s]; split <;> omega
theorem cn_mono (P : Nat → Bool) {a b : Nat} (h : a ≤ b) : cn_c P a ≤ cn_c P b := by
  induction b with
  | zero => have : a = 0 := by omega
            rw [this]; exact Nat.le_refl _
  | succ b ih =>
    by_cases e : a = b + 1
    · rw [e]; exact Nat.le_refl _
    · have := ih (by omega)
      rw [cn_s]; split <;> omega
theorem cn_ext {P Q : Nat → Bool} {n : Nat} (h : ∀ i, i < n → P i = Q i) : cn_c P n = cn_c Q n := by
  induction n with
  | zero => rfl
  | succ n ih => rw [cn_s, cn_s, ih (fun i hi => h i (by omega)), h n (by omega)]
theorem cn_imp {P Q : Nat → Bool} {n : Nat} (h : ∀ i, i < n → P i = true → Q i = true) : cn_c P n ≤ cn_c Q n := by
  induction n with
  | zero => exact Nat.le_refl _
  | succ n ih =>
    have := ih (fun i hi => h i (by omega))
    rw [cn_s, cn_s]
    by_cases e : P n = true
    · rw [if_pos e, if_pos (h n (by omega) e)]; omega
    · rw [if_neg e]; split <;> omega
/-- one more place -/
theorem cn_add {P Q : Nat → Bool} {x n : Nat} (hx : x < n) (hp : P x = false) (hq : Q x = true) (h : ∀ i, i < n → i ≠ x → Q i = P i) : cn_c Q n = cn_c P n + 1 := by
  induction n with
  | zero => omega
  | succ n ih =>
    rw [cn_s, cn_s]
    by_cases e : x = n
    · subst e
      rw [cn_ext (P := Q) (Q := P) (fun i hi => h i (by omega) (by omega)), hp, hq]
      simp
    · rw [ih (by omega) (fun i hi hne => h i (by omega) hne), h n (by omega) (by omega)]
      split <;> omega
theorem cn_all {P : Nat → Bool} {n : Nat} (h : ∀ i, i < n → P i = true) : cn_c P n = n := by
  induction n with
  | zero => rfl
  | succ n ih => rw [cn_s, ih (fun i hi => h i (by omega)), if_pos (h n (by omega))]
theorem cn_none {P : Nat → Bool} {n : Nat} (h : ∀ i, i < n → P i = false) : cn_c P n = 0 := by
  induction n with
  | zero => rfl
  | succ n ih => rw [cn_s, ih (fun i hi => h i (by omega)), h n (by omega)]; simp
theorem cn_free {P : Nat → Bool} {n : Nat} (h : cn_c P n < n) : ∃ i, i < n ∧ P i = false := by
  induction n with
  | zero => omega
  | succ n ih =>
    by_cases e : P n = true
    · rw [cn_s, if_pos e] at h
      obtain ⟨i, hi, h2⟩ := ih (by omega)
      exact ⟨i, by omega, h2⟩
    · exact ⟨n, by omega, by simpa using e⟩
/-- nothing between a and b -/
theorem cn_gap {P : Nat → Bool} {a b : Nat} (hab : a ≤ b) (h : ∀ i, a ≤ i → i < b → P i = false) : cn_c P b = cn_c P a := by
  induction b with
  | zero => have : a = 0 := by omega
            rw [this]
  | succ b ih =>
    by_cases e : a = b + 1
    · rw [e]
    · rw [cn_s, ih (by omega) (fun i h1 h2 => h i h1 (by omega)), h b (by omega) (by omega)]; simp
/-- an injection into Q -/
theorem cn_inj {P : Nat → Bool} {φ : Nat → Nat} {a : Nat} : ∀ {b : Nat} {Q : Nat → Bool}, (∀ i, i < a → P i = true → φ i < b ∧ Q (φ i) = true) → (∀ i j, i < a → j < a → P i = true → P j = true → φ i = φ j → i = j) → cn_c P a ≤ cn_c Q b := by
  induction a with
  | zero => intro b Q _ _; exact Nat.zero_le _
  | succ a ih =>
    intro b Q h hj
    rw [cn_s]
    by_cases e : P a = true
    · rw [if_pos e]
      obtain ⟨h1, h2⟩ := h a (by omega) e
      have key := ih (b := b) (Q := fun j => if j = φ a then false else Q j) (fun i hi hp => by
        obtain ⟨g1, g2⟩ := h i (by omega) hp
        refine ⟨g1, ?_⟩
        have hne : φ i ≠ φ a := fun z => by
          have := hj i a (by omega) (by omega) hp e z
          omega
        simp [hne, g2]) (fun i j hi hj' => hj i j (by omega) (by omega))
      have := cn_add (P := fun j => if j = φ a then false else Q j) (Q := Q) h1 (by simp) h2 (fun i hi hne => by simp [hne])
      omega
    · rw [if_neg e]
      have := ih (b := b) (Q := Q) (fun i hi => h i (by omega)) (fun i j hi hj' => hj i j (by omega) (by omega))
      omega
end
section
/-! the pure picture of the two trees in one pool of 80 nodes.
memory: tk lf sz ky vl ch af; ghosts: ow (0, 1: the tree; 2: free), lv (level, 0: a leaf), lo hi (the keys' range), pa ps (parent and slot, 80: none) -/
def pt_I (tk lf sz : Nat → Nat) (ky : Nat → Nat → Nat) (vl : Nat → Nat → Int64) (ch : Nat → Nat → Nat) (af ow lv lo hi pa ps rt H : Nat → Nat) (mp : Nat → Nat → Option Int64) : Prop :=
  (∀ n, n < 80 → ow n ≤ 2 ∧ (tk n = 0 ↔ ow n = 2) ∧ (ow n = 2 → pa n = 80)) ∧
  (∀ n, n < 80 → ow n < 2 → lv n ≤ H (ow n) ∧ (lf n = 0 ↔ lv n ≠ 0) ∧ hi n ≤ 65536 ∧ lo n < hi n) ∧
  (∀ n i, n < 80 → ow n < 2 → i < sz n → lo n ≤ ky n i ∧ ky n i < hi n) ∧
  (∀ n i j, n < 80 → ow n < 2 → i < j → j < sz n → ky n i < ky n j) ∧
  (∀ n i, n < 80 → ow n < 2 → lv n ≠ 0 → i ≤ sz n → ch n i < 80 ∧ ow (ch n i) = ow n ∧ lv (ch n i) + 1 = lv n ∧ pa (ch n i) = n ∧ ps (ch n i) = i ∧ lo (ch n i) = (if i = 0 then lo n else ky n (i - 1)) ∧ hi (ch n i) = (if i = sz n then hi n else ky n i)) ∧
  (∀ n, n < 80 → ow n < 2 → n ≠ rt (ow n) → pa n < 80 ∧ ow (pa n) = ow n ∧ lv (pa n) = lv n + 1 ∧ ps n ≤ sz (pa n) ∧ ch (pa n) (ps n) = n) ∧
  (∀ n, n < 80 → ow n < 2 → lv n = 0 → (hi n = 65536 → af n = 80) ∧ (hi n ≠ 65536 → af n < 80 ∧ ow (af n) = ow n ∧ lv (af n) = 0 ∧ lo (af n) = hi n)) ∧
  (∀ t, t < 2 → rt t < 80 ∧ ow (rt t) = t ∧ lv (rt t) = H t ∧ lo (rt t) = 0 ∧ hi (rt t) = 65536 ∧ pa (rt t) = 80) ∧
  (∀ n i, n < 80 → ow n < 2 → lv n = 0 → i < sz n → mp (ow n) (ky n i) = some (vl n i)) ∧
  (∀ t k v, t < 2 → mp t k = some v → ∃ n i, n < 80 ∧ ow n = t ∧ lv n = 0 ∧ i < sz n ∧ ky n i = k)
/-- sizes, but for node x -/
def pt_S (sz ow lv rt : Nat → Nat) (x : Nat) : Prop := ∀ n, n < 80 → ow n < 2 → n ≠ x → sz n ≤ 4 ∧ (n ≠ rt (ow n) → 2 ≤ sz n) ∧ (lv n ≠ 0 → 1 ≤ sz n)
/-- the lower bounds alone -/
def pt_L (sz ow lv rt : Nat → Nat) : Prop := ∀ n, n < 80 → ow n < 2 → (n ≠ rt (ow n) → 2 ≤ sz n) ∧ (lv n ≠ 0 → 1 ≤ sz n)
section
variable {tk lf sz : Nat → Nat} {ky : Nat → Nat → Nat} {vl : Nat → Nat → Int64} {ch : Nat → Nat → Nat} {af ow lv lo hi pa ps rt H : Nat → Nat} {mp : Nat → Nat → Option Int64}
theorem pt_up (I : pt_I tk lf sz ky vl ch af ow lv lo hi pa ps rt H mp) {n : Nat} (hn : n < 80) (ho : ow n < 2) (hr : n ≠ rt (ow n)) : lo (pa n) ≤ lo n ∧ hi n ≤ hi (pa n) := by
  obtain ⟨J1, J2, J3, J4, J5, J6, J7, J8, J9, J10⟩ := I
  obtain ⟨p1, p2, p3, p4, p5⟩ := J6 n hn ho hr
  obtain ⟨c1, c2, c3, c4, c5, c6, c7⟩ := J5 (pa n) (ps n) p1 (by omega) (by omega) p4
  rw [p5] at c6 c7
  constructor
  · rw [c6]
    split
    · exact Nat.le_refl _
    · exact (J3 (pa n) (ps n - 1) p1 (by omega) (by omega)).1
  · rw [c7]
    split
    · exact Nat.le_refl _
    · exact Nat.le_of_lt (J3 (pa n) (ps n) p1 (by omega) (by omega)).2
theorem pt_top (I : pt_I tk lf sz ky vl ch af ow lv lo hi pa ps rt H mp) {n : Nat} (hn : n < 80) (ho : ow n < 2) (h : lv n = H (ow n)) : n = rt (ow n) := by
  obtain ⟨J1, J2, J3, J4, J5, J6, J7, J8, J9, J10⟩ := I
  by_cases e : n = rt (ow n)
  · exact e
  · obtain ⟨p1, p2, p3, p4, p5⟩ := J6 n hn ho e
    have := (J2 (pa n) p1 (by omega)).1
    rw [p2] at this
    omega
theorem pt_uq (I : pt_I tk lf sz ky vl ch af ow lv lo hi pa ps rt H mp) {k : Nat} : ∀ d n m, n < 80 → m < 80 → ow n < 2 → ow m = ow n → lv m = lv n → lv n + d = H (ow n) → lo n ≤ k → k < hi n → lo m ≤ k → k < hi m → n = m := by
  intro d
  induction d with
  | zero =>
    intro n m hn hm ho hom hl hd _ _ _ _
    have a := pt_top I hn ho (by omega)
    have b := pt_top I hm (by omega) (by rw [hom]; omega)
    rw [hom] at b
    rw [a]; exact b.symm
  | succ d ih =>
    intro n m hn hm ho hom hl hd k1 k2 k3 k4
    have I' := I
    obtain ⟨J1, J2, J3, J4, J5, J6, J7, J8, J9, J10⟩ := I'
    have en : n ≠ rt (ow n) := fun e => by
      have := (J8 (ow n) ho).2.2.1
      rw [← e] at this
      omega
    have em : m ≠ rt (ow m) := fun e => by
      have := (J8 (ow m) (by omega)).2.2.1
      rw [← e, hom] at this
      omega
    obtain ⟨p1, p2, p3, p4, p5⟩ := J6 n hn ho en
    obtain ⟨q1, q2, q3, q4, q5⟩ := J6 m hm (by omega) em
    have un := pt_up I hn ho en
    have um := pt_up I hm (by omega) em
    have ep : pa n = pa m := ih (pa n) (pa m) p1 q1 (by omega) (by omega) (by omega) (by rw [p2]; omega) (by omega) (by omega) (by omega) (by omega)
    have cn := J5 (pa n) (ps n) p1 (by omega) (by omega) p4
    have cm := J5 (pa n) (ps m) p1 (by omega) (by omega) (by rw [ep]; exact q4)
    rw [p5] at cn
    rw [ep, q5] at cm
    rw [ep] at cn p4
    obtain ⟨-, -, -, -, -, c6, c7⟩ := cn
    obtain ⟨-, -, -, -, -, d6, d7⟩ := cm
    rcases Nat.lt_trichotomy (ps n) (ps m) with z | z | z
    · exfalso
      rw [if_neg (by omega)] at c7 d6
      by_cases g : ps n = ps m - 1
      · rw [g] at c7; omega
      · have := J4 (pa m) (ps n) (ps m - 1) q1 (by omega) (by omega) (by omega)
        omega
    · rw [← p5, ← q5, ep, z]
    · exfalso
      rw [if_neg (by omega)] at d7 c6
      by_cases g : ps m = ps n - 1
      · rw [g] at d7; omega
      · have := J4 (pa m) (ps m) (ps n - 1) q1 (by omega) (by omega) (by omega)
        omega
/-- the leaf of a key is one -/
theorem pt_leaf (I : pt_I tk lf sz ky vl ch af ow lv lo hi pa ps rt H mp) {k n m : Nat} (hn : n < 80) (hm : m < 80) (ho : ow n < 2) (hom : ow m = ow n) (ln : lv n = 0) (lm : lv m = 0) (a : lo n ≤ k) (b : k < hi n) (c : lo m ≤ k) (d : k < hi m) : n = m :=
  pt_uq I (H (ow n)) n m hn hm ho hom (by omega) (by omega) a b c d
/-- a record's leaf, by its key -/
theorem pt_at (I : pt_I tk lf sz ky vl ch af ow lv lo hi pa ps rt H mp) {t k x : Nat} {v : Int64} (ht : t < 2) (hv : mp t k = some v) (hx : x < 80) (ho : ow x = t) (hl : lv x = 0) : (lo x ≤ k → k < hi x → ∃ i, i < sz x ∧ ky x i = k ∧ vl x i = v) ∧ (lo x ≤ k → k < hi x ∨ hi x ≤ k ∧ k < 65536) := by
  have I' := I
  obtain ⟨J1, J2, J3, J4, J5, J6, J7, J8, J9, J10⟩ := I'
  obtain ⟨n, i, hn, hon, hln, hi', hk⟩ := J10 t k v ht hv
  have h3 := J3 n i hn (by omega) hi'
  have h2 := J2 n hn (by omega)
  have h9 := J9 n i hn (by omega) hln hi'
  rw [hon, hk, hv] at h9
  constructor
  · intro a b
    have e : x = n := pt_leaf I hx hn (by omega) (by omega) hl hln a b (by omega) (by omega)
    subst e
    exact ⟨i, hi', hk, (Option.some.inj h9).symm⟩
  · intro a
    omega
/-- a key that isn't in its leaf isn't there -/
theorem pt_no (I : pt_I tk lf sz ky vl ch af ow lv lo hi pa ps rt H mp) {t k x : Nat} (ht : t < 2) (hx : x < 80) (ho : ow x = t) (hl : lv x = 0) (a : lo x ≤ k) (b : k < hi x) (h : ∀ i, i < sz x → ky x i ≠ k) : mp t k = none := by
  rcases e : mp t k with _ | v
  · rfl
  · obtain ⟨i, h1, h2, _⟩ := (pt_at I ht e hx ho hl).1 a b
    exact absurd h2 (h i h1)
end
/-- a place: the first record of tree t from key b on, or the end -/
def pt_P (sz : Nat → Nat) (ky : Nat → Nat → Nat) (ow lv : Nat → Nat) (mp : Nat → Nat → Option Int64) (t b : Nat) (pl pt : Int32) : Prop :=
  (pl = -1 ∧ ∀ k v, mp t k = some v → k < b) ∨ (∃ n i, pl = nI n ∧ pt = nI i ∧ n < 80 ∧ ow n = t ∧ lv n = 0 ∧ i < sz n ∧ b ≤ ky n i ∧ ∀ k v, mp t k = some v → b ≤ k → ky n i ≤ k)
section
variable {tk lf sz : Nat → Nat} {ky : Nat → Nat → Nat} {vl : Nat → Nat → Int64} {ch : Nat → Nat → Nat} {af ow lv lo hi pa ps rt H : Nat → Nat} {mp : Nat → Nat → Option Int64}
/-- a place in a leaf -/
theorem pt_pl (I : pt_I tk lf sz ky vl ch af ow lv lo hi pa ps rt H mp) {t b x i : Nat} (ht : t < 2) (hx : x < 80) (ho : ow x = t) (hl : lv x = 0) (hb : lo x ≤ b) (hi' : i < sz x) (h1 : ∀ j, j < i → ky x j < b) (h2 : b ≤ ky x i) : pt_P sz ky ow lv mp t b (nI x) (nI i) := by
  refine Or.inr ⟨x, i, rfl, rfl, hx, ho, hl, hi', h2, fun k v hk hbk => ?_⟩
  have I' := I
  obtain ⟨J1, J2, J3, J4, J5, J6, J7, J8, J9, J10⟩ := I'
  have h3 := J3 x i hx (by omega) hi'
  by_cases e : k < hi x
  · obtain ⟨j, g1, g2, _⟩ := (pt_at I ht hk hx ho hl).1 (by omega) e
    by_cases z : j < i
    · have := h1 j z; omega
    · by_cases z2 : j = i
      · subst z2; omega
      · have := J4 x i j hx (by omega) (by omega) g1; omega
  · omega
/-- the place behind a leaf's last record -/
theorem pt_pn (I : pt_I tk lf sz ky vl ch af ow lv lo hi pa ps rt H mp) (S : pt_L sz ow lv rt) {t b x : Nat} (ht : t < 2) (hx : x < 80) (ho : ow x = t) (hl : lv x = 0) (hb : lo x ≤ b) (hb2 : b ≤ hi x) (h1 : ∀ j, j < sz x → ky x j < b) : (af x = 80 ∧ pt_P sz ky ow lv mp t b (-1) (nI 0)) ∨ (af x < 80 ∧ pt_P sz ky ow lv mp t b (nI (af x)) (nI 0)) := by
  have I' := I
  obtain ⟨J1, J2, J3, J4, J5, J6, J7, J8, J9, J10⟩ := I'
  have beyond : ∀ k v, mp t k = some v → b ≤ k → hi x ≤ k ∧ k < 65536 := fun k v hk hbk => by
    rcases (pt_at I ht hk hx ho hl).2 (by omega) with z | z
    · obtain ⟨j, g1, g2, _⟩ := (pt_at I ht hk hx ho hl).1 (by omega) z
      have := h1 j g1
      omega
    · exact z
  obtain ⟨a1, a2⟩ := J7 x hx (by omega) hl
  by_cases e : hi x = 65536
  · refine Or.inl ⟨a1 e, Or.inl ⟨rfl, fun k v hk => ?_⟩⟩
    by_cases z : b ≤ k
    · have := beyond k v hk z; omega
    · omega
  · obtain ⟨g1, g2, g3, g4⟩ := a2 e
    refine Or.inr ⟨g1, ?_⟩
    have hsz : 0 < sz (af x) := by
      have := (S (af x) g1 (by omega)).1 (fun z => by
        have h8 := J8 (ow (af x)) (by omega)
        rw [← z] at h8
        have := (J2 x hx (by omega)).2.2
        rcases Nat.eq_zero_or_pos (sz x) with w | w
        · have hx0 : lo (af x) = 0 := h8.2.2.2.1
          have : hi x = 0 := by omega
          have hlv : lv (af x) = H (ow (af x)) := h8.2.2.1
          have hxr : x = rt (ow x) := pt_top I hx (by omega) (by rw [← g2]; omega)
          have := (J8 (ow x) (by omega)).2.2.2.2.1
          rw [← hxr] at this
          omega
        · have := J3 x 0 hx (by omega) w
          have hx0 : lo (af x) = 0 := h8.2.2.2.1
          omega)
      omega
    have h3 := J3 (af x) 0 g1 (by omega) hsz
    refine Or.inr ⟨af x, 0, rfl, rfl, g1, by omega, g3, hsz, by omega, fun k v hk hbk => ?_⟩
    obtain ⟨b1, b2⟩ := beyond k v hk hbk
    by_cases z : k < hi (af x)
    · obtain ⟨j, c1, c2, _⟩ := (pt_at I ht hk g1 (by omega) g3).1 (by omega) z
      rcases Nat.eq_zero_or_pos j with w | w
      · subst w; omega
      · have := J4 (af x) 0 j g1 (by omega) w c1
        omega
    · omega
end
end
section
/-! a record put into a leaf, written over, taken out of a leaf -/
section
variable {tk lf sz : Nat → Nat} {ky : Nat → Nat → Nat} {vl : Nat → Nat → Int64} {ch : Nat → Nat → Nat} {af ow lv lo hi pa ps rt H : Nat → Nat} {mp : Nat → Nat → Option Int64}
theorem pt_put (I : pt_I tk lf sz ky vl ch af ow lv lo hi pa ps rt H mp) {sz' : Nat → Nat} {ky' : Nat → Nat → Nat} {vl' : Nat → Nat → Int64} {t x c k : Nat} {v : Int64} (ht : t < 2) (hx : x < 80) (ho : ow x = t) (hl : lv x = 0) (hc : c ≤ sz x) (b1 : lo x ≤ k) (b2 : k < hi x)
    (h1 : ∀ i, i < c → ky x i < k) (h2 : ∀ i, c ≤ i → i < sz x → k < ky x i) (hno : mp t k = none)
    (s1 : sz' x = sz x + 1) (s0 : ∀ n, n ≠ x → sz' n = sz n)
    (k1 : ∀ i, i < c → ky' x i = ky x i) (k2 : ky' x c = k) (k3 : ∀ i, c < i → i ≤ sz x → ky' x i = ky x (i - 1)) (k0 : ∀ n i, n ≠ x → ky' n i = ky n i)
    (v1 : ∀ i, i < c → vl' x i = vl x i) (v2 : vl' x c = v) (v3 : ∀ i, c < i → i ≤ sz x → vl' x i = vl x (i - 1)) (v0 : ∀ n i, n ≠ x → vl' n i = vl n i) :
    pt_I tk lf sz' ky' vl' ch af ow lv lo hi pa ps rt H (fun a b => if a = t ∧ b = k then some v else mp a b) := by
  obtain ⟨J1, J2, J3, J4, J5, J6, J7, J8, J9, J10⟩ := I
  have ho2 : ow x < 2 := by omega
  have K : ∀ i, i < sz' x → (i < c ∧ ky' x i = ky x i ∧ vl' x i = vl x i) ∨ (i = c ∧ ky' x i = k ∧ vl' x i = v) ∨ (c < i ∧ i - 1 < sz x ∧ ky' x i = ky x (i - 1) ∧ vl' x i = vl x (i - 1)) := by
    intro i hi'
    rw [s1] at hi'
    rcases Nat.lt_trichotomy i c with z | z | z
    · exact Or.inl ⟨z, k1 i z, v1 i z⟩
    · subst z; exact Or.inr (Or.inl ⟨rfl, k2, v2⟩)
    · exact Or.inr (Or.inr ⟨z, by omega, k3 i z (by omega), v3 i z (by omega)⟩)
  refine ⟨J1, J2, ?_, ?_, ?_, ?_, J7, J8, ?_, ?_⟩
  · intro n i hn hon hi'
    by_cases e : n = x
    · subst e
      rcases K i hi' with ⟨z, g, _⟩ | ⟨z, g, _⟩ | ⟨z, z2, g, _⟩
      · rw [g]; exact J3 n i hn hon (by omega)
      · rw [g]; exact ⟨b1, b2⟩
      · rw [g]; exact J3 n (i - 1) hn hon z2
    · rw [s0 n e] at hi'
      rw [k0 n i e]
      exact J3 n i hn hon hi'
  · intro n i j hn hon hij hj
    by_cases e : n = x
    · subst e
      rcases K i (by omega) with ⟨z, g, _⟩ | ⟨z, g, _⟩ | ⟨z, z2, g, _⟩ <;> rcases K j hj with ⟨y, f, _⟩ | ⟨y, f, _⟩ | ⟨y, y2, f, _⟩ <;> rw [g, f]
      · exact J4 n i j hn hon hij (by omega)
      · exact h1 i z
      · exact Nat.lt_trans (h1 i z) (h2 (j - 1) (by omega) y2)
      · omega
      · omega
      · exact h2 (j - 1) (by omega) y2
      · omega
      · omega
      · exact J4 n (i - 1) (j - 1) hn hon (by omega) y2
    · rw [s0 n e] at hj
      rw [k0 n i e, k0 n j e]
      exact J4 n i j hn hon hij hj
  · intro n i hn hon hln hi'
    have e : n ≠ x := fun z => hln (by rw [z]; exact hl)
    rw [s0 n e] at hi' ⊢
    rw [k0 n i e, k0 n (i - 1) e]
    exact J5 n i hn hon hln hi'
  · intro n hn hon hr
    obtain ⟨p1, p2, p3, p4, p5⟩ := J6 n hn hon hr
    have e : pa n ≠ x := fun z => by rw [z] at p3; omega
    rw [s0 _ e]
    exact ⟨p1, p2, p3, p4, p5⟩
  · intro n i hn hon hln hi'
    by_cases e : n = x
    · subst e
      rcases K i hi' with ⟨z, g, f⟩ | ⟨z, g, f⟩ | ⟨z, z2, g, f⟩
      · rw [g, f]
        have := h1 i z
        show (if ow n = t ∧ ky n i = k then some v else mp (ow n) (ky n i)) = _
        rw [if_neg (by omega)]
        exact J9 n i hn hon hln (by omega)
      · rw [g, f]
        show (if ow n = t ∧ k = k then some v else mp (ow n) k) = _
        rw [if_pos ⟨ho, rfl⟩]
      · rw [g, f]
        have := h2 (i - 1) (by omega) z2
        show (if ow n = t ∧ ky n (i - 1) = k then some v else mp (ow n) (ky n (i - 1))) = _
        rw [if_neg (by omega)]
        exact J9 n (i - 1) hn hon hln z2
    · rw [s0 n e] at hi'
      rw [k0 n i e, v0 n i e]
      have g := J9 n i hn hon hln hi'
      show (if ow n = t ∧ ky n i = k then some v else mp (ow n) (ky n i)) = _
      rw [if_neg (fun z => by rw [z.1, z.2, hno] at g; exact absurd g (by simp))]
      exact g
  · intro a b w ha hw
    by_cases e : a = t ∧ b = k
    · obtain ⟨e1, e2⟩ := e
      subst e1 e2
      exact ⟨x, c, hx, ho, hl, by omega, k2⟩
    · have hw' : mp a b = some w := by
        have hw2 : (if a = t ∧ b = k then some v else mp a b) = some w := hw
        rw [if_neg e] at hw2
        exact hw2
      obtain ⟨n, i, g1, g2, g3, g4, g5⟩ := J10 a b w ha hw'
      by_cases z : n = x
      · subst z
        by_cases y : i < c
        · exact ⟨n, i, g1, g2, g3, by omega, by rw [k1 i y]; exact g5⟩
        · exact ⟨n, i + 1, g1, g2, g3, by omega, by rw [k3 (i + 1) (by omega) (by omega)]; exact g5⟩
      · exact ⟨n, i, g1, g2, g3, by rw [s0 n z]; exact g4, by rw [k0 n i z]; exact g5⟩
theorem pt_over (I : pt_I tk lf sz ky vl ch af ow lv lo hi pa ps rt H mp) {vl' : Nat → Nat → Int64} {t x c : Nat} {v : Int64} (ht : t < 2) (hx : x < 80) (ho : ow x = t) (hl : lv x = 0) (hc : c < sz x)
    (v2 : vl' x c = v) (v1 : ∀ i, i ≠ c → vl' x i = vl x i) (v0 : ∀ n i, n ≠ x → vl' n i = vl n i) :
    pt_I tk lf sz ky vl' ch af ow lv lo hi pa ps rt H (fun a b => if a = t ∧ b = ky x c then some v else mp a b) := by
  have I' := I
  obtain ⟨J1, J2, J3, J4, J5, J6, J7, J8, J9, J10⟩ := I'
  have ho2 : ow x < 2 := by omega
  have hb := J3 x c hx ho2 hc
  refine ⟨J1, J2, J3, J4, J5, J6, J7, J8, ?_, ?_⟩
  · intro n i hn hon hln hi'
    show (if ow n = t ∧ ky n i = ky x c then some v else mp (ow n) (ky n i)) = _
    have hb2 := J3 n i hn hon hi'
    by_cases e : n = x
    · subst e
      by_cases z : i = c
      · subst z
        rw [if_pos ⟨ho, rfl⟩, v2]
      · rw [v1 i z, if_neg]
        · exact J9 n i hn hon hln hi'
        · intro w
          rcases Nat.lt_or_ge i c with y | y
          · have := J4 n i c hn hon y hc; omega
          · have := J4 n c i hn hon (by omega) hi'; omega
    · rw [v0 n i e, if_neg]
      · exact J9 n i hn hon hln hi'
      · intro w
        exact e (pt_leaf I (k := ky x c) hn hx hon (by omega) hln hl (by omega) (by omega) (by omega) (by omega))
  · intro a b w ha hw
    have hw2 : (if a = t ∧ b = ky x c then some v else mp a b) = some w := hw
    by_cases e : a = t ∧ b = ky x c
    · exact ⟨x, c, hx, by omega, hl, hc, e.2.symm⟩
    · rw [if_neg e] at hw2
      exact J10 a b w ha hw2
theorem pt_del (I : pt_I tk lf sz ky vl ch af ow lv lo hi pa ps rt H mp) {sz' : Nat → Nat} {ky' : Nat → Nat → Nat} {vl' : Nat → Nat → Int64} {t x c : Nat} (ht : t < 2) (hx : x < 80) (ho : ow x = t) (hl : lv x = 0) (hc : c < sz x)
    (s1 : sz' x = sz x - 1) (s0 : ∀ n, n ≠ x → sz' n = sz n)
    (k1 : ∀ i, i < c → ky' x i = ky x i) (k3 : ∀ i, c ≤ i → i + 1 < sz x → ky' x i = ky x (i + 1)) (k0 : ∀ n i, n ≠ x → ky' n i = ky n i)
    (v1 : ∀ i, i < c → vl' x i = vl x i) (v3 : ∀ i, c ≤ i → i + 1 < sz x → vl' x i = vl x (i + 1)) (v0 : ∀ n i, n ≠ x → vl' n i = vl n i) :
    pt_I tk lf sz' ky' vl' ch af ow lv lo hi pa ps rt H (fun a b => if a = t ∧ b = ky x c then none else mp a b) := by
  have I' := I
  obtain ⟨J1, J2, J3, J4, J5, J6, J7, J8, J9, J10⟩ := I'
  have ho2 : ow x < 2 := by omega
  have hb := J3 x c hx ho2 hc
  have K : ∀ i, i < sz' x → (i < c ∧ i < sz x ∧ ky' x i = ky x i ∧ vl' x i = vl x i) ∨ (c ≤ i ∧ i + 1 < sz x ∧ ky' x i = ky x (i + 1) ∧ vl' x i = vl x (i + 1)) := by
    intro i hi'
    rw [s1] at hi'
    rcases Nat.lt_or_ge i c with z | z
    · exact Or.inl ⟨z, by omega, k1 i z, v1 i z⟩
    · exact Or.inr ⟨z, by omega, k3 i z (by omega), v3 i z (by omega)⟩
  refine ⟨J1, J2, ?_, ?_, ?_, ?_, J7, J8, ?_, ?_⟩
  · intro n i hn hon hi'
    by_cases e : n = x
    · subst e
      rcases K i hi' with ⟨z, z2, g, _⟩ | ⟨z, z2, g, _⟩
      · rw [g]; exact J3 n i hn hon z2
      · rw [g]; exact J3 n (i + 1) hn hon z2
    · rw [s0 n e] at hi'
      rw [k0 n i e]
      exact J3 n i hn hon hi'
  · intro n i j hn hon hij hj
    by_cases e : n = x
    · subst e
      rcases K i (by omega) with ⟨z, z2, g, _⟩ | ⟨z, z2, g, _⟩ <;> rcases K j hj with ⟨y, y2, f, _⟩ | ⟨y, y2, f, _⟩ <;> rw [g, f]
      · exact J4 n i j hn hon hij y2
      · exact J4 n i (j + 1) hn hon (by omega) y2
      · omega
      · exact J4 n (i + 1) (j + 1) hn hon (by omega) y2
    · rw [s0 n e] at hj
      rw [k0 n i e, k0 n j e]
      exact J4 n i j hn hon hij hj
  · intro n i hn hon hln hi'
    have e : n ≠ x := fun z => hln (by rw [z]; exact hl)
    rw [s0 n e] at hi' ⊢
    rw [k0 n i e, k0 n (i - 1) e]
    exact J5 n i hn hon hln hi'
  · intro n hn hon hr
    obtain ⟨p1, p2, p3, p4, p5⟩ := J6 n hn hon hr
    have e : pa n ≠ x := fun z => by rw [z] at p3; omega
    rw [s0 _ e]
    exact ⟨p1, p2, p3, p4, p5⟩
  · intro n i hn hon hln hi'
    show (if ow n = t ∧ ky' n i = ky x c then none else mp (ow n) (ky' n i)) = _
    by_cases e : n = x
    · subst e
      rcases K i hi' with ⟨z, z2, g, f⟩ | ⟨z, z2, g, f⟩
      · rw [g, f, if_neg]
        · exact J9 n i hn hon hln z2
        · intro w
          have := J4 n i c hn hon z hc
          omega
      · rw [g, f, if_neg]
        · exact J9 n (i + 1) hn hon hln z2
        · intro w
          have := J4 n c (i + 1) hn hon (by omega) z2
          omega
    · rw [s0 n e] at hi'
      have hb2 := J3 n i hn hon hi'
      rw [k0 n i e, v0 n i e, if_neg]
      · exact J9 n i hn hon hln hi'
      · intro w
        exact e (pt_leaf I (k := ky x c) hn hx hon (by omega) hln hl (by omega) (by omega) (by omega) (by omega))
  · intro a b w ha hw
    have hw2 : (if a = t ∧ b = ky x c then none else mp a b) = some w := hw
    by_cases e : a = t ∧ b = ky x c
    · rw [if_pos e] at hw2
      exact absurd hw2 (by simp)
    · rw [if_neg e] at hw2
      obtain ⟨n, i, g1, g2, g3, g4, g5⟩ := J10 a b w ha hw2
      by_cases z : n = x
      · subst z
        have hic : i ≠ c := fun y => e ⟨by omega, by rw [← g5, y]⟩
        rcases Nat.lt_or_ge i c with y | y
        · exact ⟨n, i, g1, g2, g3, by omega, by rw [k1 i y]; exact g5⟩
        · refine ⟨n, i - 1, g1, g2, g3, by omega, ?_⟩
          rw [k3 (i - 1) (by omega) (by omega), show i - 1 + 1 = i by omega]
          exact g5
      · exact ⟨n, i, g1, g2, g3, by rw [s0 n z]; exact g4, by rw [k0 n i z]; exact g5⟩
end
end
section
/-! a full node x is split: its upper part goes to the fresh node r, r is hung in behind x -/
section
variable {tk lf sz : Nat → Nat} {ky : Nat → Nat → Nat} {vl : Nat → Nat → Int64} {ch : Nat → Nat → Nat} {af ow lv lo hi pa ps rt H : Nat → Nat} {mp : Nat → Nat → Option Int64}
theorem pt_split (I : pt_I tk lf sz ky vl ch af ow lv lo hi pa ps rt H mp) {tk' lf' sz' : Nat → Nat} {ky' : Nat → Nat → Nat} {vl' : Nat → Nat → Int64} {ch' : Nat → Nat → Nat} {af' : Nat → Nat} {t x p s r q : Nat}
    (ht : t < 2) (hx : x < 80) (ho : ow x = t) (hxr : x ≠ rt t) (hsx : sz x = 5) (hp : pa x = p) (hs : ps x = s) (hr : r < 80) (hor : ow r = 2) (hq : (lv x = 0 ∧ q = 2) ∨ (lv x ≠ 0 ∧ q = 3))
    (t1 : tk' r ≠ 0) (t0 : ∀ n, n ≠ r → tk' n = tk n) (l1 : lf' r = 0 ↔ lv x ≠ 0) (l0 : ∀ n, n ≠ r → lf' n = lf n)
    (z1 : sz' x = 2) (z2 : sz' r = 5 - q) (z3 : sz' p = sz p + 1) (z0 : ∀ n, n ≠ x → n ≠ r → n ≠ p → sz' n = sz n)
    (k1 : ∀ i, i + q < 5 → ky' r i = ky x (i + q)) (k2 : ∀ i, i < s → ky' p i = ky p i) (k3 : ky' p s = ky x 2) (k4 : ∀ i, s < i → i ≤ sz p → ky' p i = ky p (i - 1)) (k0 : ∀ n i, n ≠ r → n ≠ p → ky' n i = ky n i)
    (v1 : lv x = 0 → ∀ i, i + 2 < 5 → vl' r i = vl x (i + 2)) (v0 : ∀ n i, n ≠ r → vl' n i = vl n i)
    (c1 : lv x ≠ 0 → ∀ i, i ≤ 2 → ch' r i = ch x (i + 3)) (c2 : ∀ i, i ≤ s → ch' p i = ch p i) (c3 : ch' p (s + 1) = r) (c4 : ∀ i, s + 1 < i → i ≤ sz p + 1 → ch' p i = ch p (i - 1)) (c0 : ∀ n i, n ≠ r → n ≠ p → ch' n i = ch n i)
    (a1 : lv x = 0 → af' r = af x ∧ af' x = r) (a0 : ∀ n, n ≠ r → (n = x → lv x ≠ 0) → af' n = af n) :
    ∃ ow' lv' lo' hi' pa' ps' : Nat → Nat, pt_I tk' lf' sz' ky' vl' ch' af' ow' lv' lo' hi' pa' ps' rt H mp ∧ (ow' r = t ∧ lv' r = lv x ∧ ∀ n, n ≠ r → ow' n = ow n ∧ lv' n = lv n) ∧ (∀ n, n < 80 → ow n = t → lv x < lv n → pa' n = pa n ∧ ps' n = ps n) := by
  have I' := I
  obtain ⟨J1, J2, J3, J4, J5, J6, J7, J8, J9, J10⟩ := I'
  have ho2 : ow x < 2 := by omega
  obtain ⟨p1, p2, p3, p4, p5⟩ := J6 x hx ho2 (by rw [ho]; exact hxr)
  have U := pt_up I hx ho2 (by rw [ho]; exact hxr)
  rw [hp] at p1 p2 p3 p4 p5 U
  rw [hs] at p4 p5
  have hrx : r ≠ x := fun e => by rw [e] at hor; omega
  have hxr' : x ≠ r := fun e => hrx e.symm
  have hpr : p ≠ r := fun e => by rw [e] at p2; omega
  have hpx : p ≠ x := fun e => by rw [e] at p3; omega
  have hxp : x ≠ p := fun e => hpx e.symm
  have hx2 := J2 x hx ho2
  have hp2 := J2 p p1 (by omega)
  have bx : ∀ i, i < 5 → lo x ≤ ky x i ∧ ky x i < hi x := fun i hi' => J3 x i hx ho2 (by omega)
  have sx : ∀ i j, i < j → j < 5 → ky x i < ky x j := fun i j hij hj => J4 x i j hx ho2 hij (by omega)
  have Cx := J5 p s p1 (by omega) (by omega) p4
  rw [p5] at Cx
  obtain ⟨-, -, -, -, -, Clo, Chi⟩ := Cx
  have hq2 : 2 ≤ q ∧ q ≤ 3 := by omega
  -- the new ghosts
  obtain ⟨ow', o1, o0⟩ : ∃ f : Nat → Nat, f r = t ∧ ∀ n, n ≠ r → f n = ow n := ⟨fun n => if n = r then t else ow n, by simp, fun n h => by simp [h]⟩
  obtain ⟨lv', e1, e0⟩ : ∃ f : Nat → Nat, f r = lv x ∧ ∀ n, n ≠ r → f n = lv n := ⟨fun n => if n = r then lv x else lv n, by simp, fun n h => by simp [h]⟩
  obtain ⟨lo', m1, m0⟩ : ∃ f : Nat → Nat, f r = ky x 2 ∧ ∀ n, n ≠ r → f n = lo n := ⟨fun n => if n = r then ky x 2 else lo n, by simp, fun n h => by simp [h]⟩
  obtain ⟨hi', w1, w2, w0⟩ : ∃ f : Nat → Nat, f r = hi x ∧ f x = ky x 2 ∧ ∀ n, n ≠ r → n ≠ x → f n = hi n := ⟨fun n => if n = r then hi x else if n = x then ky x 2 else hi n, by simp, by simp [hxr'], fun n h h' => by simp [h, h']⟩
  obtain ⟨pa', f1, f2, f0⟩ : ∃ f : Nat → Nat, f r = p ∧ (∀ n, n ≠ r → pa n = x → 3 ≤ ps n → f n = r) ∧ (∀ n, n ≠ r → ¬ (pa n = x ∧ 3 ≤ ps n) → f n = pa n) := ⟨fun n => if n = r then p else if pa n = x ∧ 3 ≤ ps n then r else pa n, by simp, fun n h h1 h2 => by simp [h, h1, h2], fun n h h1 => by simp only [if_neg h, if_neg h1]⟩
  obtain ⟨ps', g1, g2, g3, g0⟩ : ∃ f : Nat → Nat, f r = s + 1 ∧ (∀ n, n ≠ r → pa n = x → 3 ≤ ps n → f n = ps n - 3) ∧ (∀ n, n ≠ r → pa n = p → s < ps n → f n = ps n + 1) ∧ (∀ n, n ≠ r → ¬ (pa n = x ∧ 3 ≤ ps n) → ¬ (pa n = p ∧ s < ps n) → f n = ps n) :=
    ⟨fun n => if n = r then s + 1 else if pa n = x ∧ 3 ≤ ps n then ps n - 3 else if pa n = p ∧ s < ps n then ps n + 1 else ps n, by simp, fun n h h1 h2 => by simp [h, h1, h2], fun n h h1 h2 => by
      have : ¬ (pa n = x ∧ 3 ≤ ps n) := fun z => hpx (by rw [← h1]; exact z.1)
      simp only [if_neg h, if_neg this]
      rw [if_pos ⟨h1, h2⟩], fun n h h1 h2 => by simp only [if_neg h, if_neg h1, if_neg h2]⟩
  refine ⟨ow', lv', lo', hi', pa', ps', ⟨?_, ?_, ?_, ?_, ?_, ?_, ?_, ?_, ?_, ?_⟩, ⟨o1, e1, fun n hn => ⟨o0 n hn, e0 n hn⟩⟩, ?_⟩
  · intro n hn
    by_cases er : n = r
    · subst er
      refine ⟨by omega, ⟨fun z => absurd z t1, fun z => by omega⟩, fun z => by omega⟩
    · obtain ⟨q1, q2, q3⟩ := J1 n hn
      rw [o0 n er, t0 n er]
      refine ⟨q1, q2, fun z => ?_⟩
      have := q3 z
      rw [f0 n er (fun y => by omega)]
      exact this
  · intro n hn hon
    by_cases er : n = r
    · subst er
      rw [o1, e1, w1, m1]
      rw [ho] at hx2
      exact ⟨hx2.1, l1, hx2.2.2.1, (bx 2 (by omega)).2⟩
    · rw [o0 n er] at hon ⊢
      rw [e0 n er, l0 n er]
      obtain ⟨q1, q2, q3, q4⟩ := J2 n hn hon
      refine ⟨q1, q2, ?_⟩
      rw [m0 n er]
      by_cases ex : n = x
      · subst ex
        have := bx 2 (by omega)
        have := bx 0 (by omega)
        have := sx 0 2 (by omega) (by omega)
        rw [w2]
        omega
      · rw [w0 n er ex]; exact ⟨q3, q4⟩
  · intro n i hn hon hi2
    by_cases er : n = r
    · subst er
      rw [z2] at hi2
      rw [k1 i (by omega), m1, w1]
      refine ⟨?_, (bx (i + q) (by omega)).2⟩
      rcases Nat.eq_or_lt_of_le (show 2 ≤ i + q by omega) with y | y
      · rw [← y]; exact Nat.le_refl _
      · exact Nat.le_of_lt (sx 2 (i + q) y (by omega))
    · rw [o0 n er] at hon
      rw [m0 n er]
      by_cases ex : n = x
      · subst ex
        rw [z1] at hi2
        rw [k0 n i er hxp, w2]
        exact ⟨(bx i (by omega)).1, sx i 2 hi2 (by omega)⟩
      · rw [w0 n er ex]
        by_cases ep : n = p
        · subst ep
          rw [z3] at hi2
          rcases Nat.lt_trichotomy i s with y | y | y
          · rw [k2 i y]; exact J3 n i hn hon (by omega)
          · subst y
            rw [k3]
            have := bx 2 (by omega)
            omega
          · rw [k4 i y (by omega)]; exact J3 n (i - 1) hn hon (by omega)
        · rw [z0 n ex er ep] at hi2
          rw [k0 n i er ep]
          exact J3 n i hn hon hi2
  · intro n i j hn hon hij hj
    by_cases er : n = r
    · subst er
      rw [z2] at hj
      rw [k1 i (by omega), k1 j (by omega)]
      exact sx (i + q) (j + q) (by omega) (by omega)
    · rw [o0 n er] at hon
      by_cases ex : n = x
      · subst ex
        rw [z1] at hj
        rw [k0 n i er hxp, k0 n j er hxp]
        exact sx i j hij (by omega)
      · by_cases ep : n = p
        · subst ep
          rw [z3] at hj
          have b2 := bx 2 (by omega)
          rcases Nat.lt_trichotomy i s with y | y | y
          · rcases Nat.lt_trichotomy j s with y2 | y2 | y2
            · rw [k2 i y, k2 j y2]; exact J4 n i j hn hon hij (by omega)
            · subst y2
              rw [k2 i y, k3]
              rw [if_neg (by omega)] at Clo
              have b0 := bx 0 (by omega)
              have s02 := sx 0 2 (by omega) (by omega)
              by_cases y3 : i = j - 1
              · rw [y3]; omega
              · have := J4 n i (j - 1) hn hon (by omega) (by omega)
                omega
            · rw [k2 i y, k4 j y2 (by omega)]; exact J4 n i (j - 1) hn hon (by omega) (by omega)
          · subst y
            rw [k3, k4 j hij (by omega)]
            rw [if_neg (by omega)] at Chi
            by_cases y3 : i = j - 1
            · rw [← y3]; omega
            · have := J4 n i (j - 1) hn hon (by omega) (by omega)
              omega
          · rw [k4 i y (by omega), k4 j (by omega) (by omega)]
            exact J4 n (i - 1) (j - 1) hn hon (by omega) (by omega)
        · rw [z0 n ex er ep] at hj
          rw [k0 n i er ep, k0 n j er ep]
          exact J4 n i j hn hon hij hj
  · intro n i hn hon hln hi2
    by_cases er : n = r
    · subst er
      rw [e1] at hln
      have hq3 : q = 3 := by omega
      subst hq3
      rw [z2] at hi2
      obtain ⟨h1, h2, h3, h4, h5, h6, h7⟩ := J5 x (i + 3) hx ho2 hln (by omega)
      rw [c1 hln i (by omega)]
      have hm1 : ch x (i + 3) ≠ n := fun e => by rw [e] at h2; omega
      have hm2 : ch x (i + 3) ≠ x := fun e => by rw [e] at h3; omega
      refine ⟨h1, by rw [o0 _ hm1, o1]; omega, by rw [e0 _ hm1, e1]; exact h3, f2 _ hm1 h4 (by omega), by rw [g2 _ hm1 h4 (by omega)]; omega, ?_, ?_⟩
      · rw [m0 _ hm1, h6, if_neg (by omega)]
        by_cases y : i = 0
        · subst y; rw [if_pos rfl, m1]
        · rw [if_neg y, k1 (i - 1) (by omega)]
          congr 1
          omega
      · rw [w0 _ hm1 hm2, h7, z2, hsx, w1]
        by_cases y : i = 2
        · subst y; rfl
        · rw [if_neg (by omega), if_neg (by omega), k1 i (by omega)]
    · rw [o0 n er] at hon
      rw [e0 n er] at hln
      by_cases ex : n = x
      · subst ex
        rw [z1] at hi2
        obtain ⟨h1, h2, h3, h4, h5, h6, h7⟩ := J5 n i hn hon hln (by omega)
        rw [c0 n i er hxp]
        have hm1 : ch n i ≠ r := fun e => by rw [e] at h2; omega
        have hm2 : ch n i ≠ n := fun e => by rw [e] at h3; omega
        refine ⟨h1, by rw [o0 _ hm1, o0 n er]; exact h2, by rw [e0 _ hm1, e0 n er]; exact h3, by rw [f0 _ hm1 (fun y => by omega)]; exact h4, by rw [g0 _ hm1 (fun y => by omega) (fun y => hpx (by rw [← y.1, h4]))]; exact h5, ?_, ?_⟩
        · rw [m0 _ hm1, h6, m0 n er, k0 n (i - 1) er hxp]
        · rw [w0 _ hm1 hm2, h7, if_neg (by omega), z1, w2, k0 n i er hxp]
          by_cases y : i = 2
          · rw [if_pos y, y]
          · rw [if_neg y]
      · by_cases ep : n = p
        · subst ep
          rw [z3] at hi2
          rw [o0 n er, e0 n er, z3, m0 n er, w0 n er ex]
          have sub : ∀ j, j ≤ sz n → j ≠ s → ch n j < 80 ∧ ow' (ch n j) = ow n ∧ lv' (ch n j) + 1 = lv n ∧ pa' (ch n j) = n ∧ ps' (ch n j) = (if s < j then j + 1 else j) ∧ lo' (ch n j) = (if j = 0 then lo n else ky n (j - 1)) ∧ hi' (ch n j) = (if j = sz n then hi n else ky n j) := by
            intro j hj hjs
            obtain ⟨h1, h2, h3, h4, h5, h6, h7⟩ := J5 n j hn hon hln hj
            have hm1 : ch n j ≠ r := fun e => by rw [e] at h2; omega
            have hm2 : ch n j ≠ x := fun e => by rw [e] at h5; omega
            refine ⟨h1, by rw [o0 _ hm1]; exact h2, by rw [e0 _ hm1]; exact h3, by rw [f0 _ hm1 (fun y => hpx (by rw [← y.1, h4]))]; exact h4, ?_, by rw [m0 _ hm1]; exact h6, by rw [w0 _ hm1 hm2]; exact h7⟩
            by_cases y : s < j
            · rw [if_pos y, g3 _ hm1 h4 (by omega), h5]
            · rw [if_neg y, g0 _ hm1 (fun y => hpx (by rw [← y.1, h4])) (fun y2 => by omega), h5]
          rcases Nat.lt_or_ge i s with y | y
          · obtain ⟨h1, h2, h3, h4, h5, h6, h7⟩ := sub i (by omega) (by omega)
            rw [c2 i (by omega)]
            refine ⟨h1, h2, h3, h4, by rw [h5, if_neg (by omega)], ?_, ?_⟩
            · rw [h6]
              by_cases y2 : i = 0
              · rw [if_pos y2, if_pos y2]
              · rw [if_neg y2, if_neg y2, k2 (i - 1) (by omega)]
            · rw [h7, if_neg (by omega), if_neg (by omega), k2 i y]
          · rcases Nat.eq_or_lt_of_le y with y2 | y2
            · subst y2
              rw [c2 s (Nat.le_refl s), p5]
              refine ⟨hx, by rw [o0 x hxr']; omega, by rw [e0 x hxr']; omega, by rw [f0 x hxr' (fun y => hpx (by rw [← hp]; exact y.1))]; exact hp, by rw [g0 x hxr' (fun y => hpx (by rw [← hp]; exact y.1)) (fun y => by omega)]; exact hs, ?_, ?_⟩
              · rw [m0 x hxr', Clo]
                by_cases y3 : s = 0
                · rw [if_pos y3, if_pos y3]
                · rw [if_neg y3, if_neg y3, k2 (s - 1) (by omega)]
              · rw [w2, if_neg (by omega), k3]
            · by_cases y3 : i = s + 1
              · subst y3
                rw [c3]
                refine ⟨hr, by omega, by omega, f1, g1, ?_, ?_⟩
                · rw [m1, if_neg (by omega), show s + 1 - 1 = s by omega, k3]
                · rw [w1, Chi]
                  by_cases y4 : s = sz n
                  · rw [if_pos y4, if_pos (by omega)]
                  · rw [if_neg y4, if_neg (by omega), k4 (s + 1) (by omega) (by omega)]
                    rfl
              · obtain ⟨h1, h2, h3, h4, h5, h6, h7⟩ := sub (i - 1) (by omega) (by omega)
                rw [c4 i (by omega) (by omega)]
                refine ⟨h1, h2, h3, h4, by rw [h5, if_pos (by omega)]; omega, ?_, ?_⟩
                · rw [h6, if_neg (by omega), if_neg (by omega), k4 (i - 1) (by omega) (by omega)]
                · rw [h7]
                  by_cases y4 : i - 1 = sz n
                  · rw [if_pos y4, if_pos (by omega)]
                  · rw [if_neg y4, if_neg (by omega), k4 i (by omega) (by omega)]
        · rw [z0 n ex er ep] at hi2 ⊢
          obtain ⟨h1, h2, h3, h4, h5, h6, h7⟩ := J5 n i hn hon hln hi2
          rw [c0 n i er ep, k0 n i er ep, k0 n (i - 1) er ep, o0 n er, e0 n er, m0 n er, w0 n er ex]
          have hm1 : ch n i ≠ r := fun e => by rw [e] at h2; omega
          have hm2 : ch n i ≠ x := fun e => ep (by rw [← h4, e, hp])
          exact ⟨h1, by rw [o0 _ hm1]; exact h2, by rw [e0 _ hm1]; exact h3, by rw [f0 _ hm1 (fun y => ex (by rw [← y.1, h4]))]; exact h4, by rw [g0 _ hm1 (fun y => ex (by rw [← y.1, h4])) (fun y => ep (by rw [← y.1, h4]))]; exact h5, by rw [m0 _ hm1]; exact h6, by rw [w0 _ hm1 hm2]; exact h7⟩
  · intro n hn hon hnr
    by_cases er : n = r
    · subst er
      rw [f1, g1, o1, e1, o0 p hpr, e0 p hpr, z3]
      exact ⟨p1, by omega, p3, by omega, c3⟩
    · rw [o0 n er] at hon hnr ⊢
      rw [e0 n er]
      obtain ⟨u1, u2, u3, u4, u5⟩ := J6 n hn hon hnr
      have hpn : pa n ≠ r := fun e => by rw [e] at u2; omega
      by_cases ex : pa n = x
      · rw [ex] at u1 u2 u3 u4 u5
        by_cases y : 3 ≤ ps n
        · have hl : lv x ≠ 0 := by omega
          rw [f2 n er ex y, g2 n er ex y, o1, e1, z2, c1 hl (ps n - 3) (by omega), show ps n - 3 + 3 = ps n by omega]
          exact ⟨hr, by omega, u3, by omega, u5⟩
        · rw [f0 n er (fun z => y z.2), g0 n er (fun z => y z.2) (fun z => hpx (by rw [← z.1, ex])), ex, o0 x hxr', e0 x hxr', z1, c0 x _ hxr' hxp]
          exact ⟨u1, u2, u3, by omega, u5⟩
      · rw [f0 n er (fun z => ex z.1), o0 _ hpn, e0 _ hpn]
        by_cases ep : pa n = p
        · rw [ep] at u1 u2 u3 u4 u5 ⊢
          rw [z3]
          by_cases y : s < ps n
          · rw [g3 n er ep y, c4 (ps n + 1) (by omega) (by omega)]
            exact ⟨u1, u2, u3, by omega, u5⟩
          · rw [g0 n er (fun z => ex z.1) (fun z => y z.2), c2 (ps n) (by omega)]
            exact ⟨u1, u2, u3, by omega, u5⟩
        · rw [g0 n er (fun z => ex z.1) (fun z => ep z.1), z0 _ ex hpn ep, c0 _ _ hpn ep]
          exact ⟨u1, u2, u3, u4, u5⟩
  · intro n hn hon hln
    by_cases er : n = r
    · subst er
      rw [e1] at hln
      rw [w1, (a1 hln).1, o1]
      obtain ⟨u1, u2⟩ := J7 x hx ho2 hln
      refine ⟨u1, fun y => ?_⟩
      obtain ⟨d1, d2, d3, d4⟩ := u2 y
      have hm1 : af x ≠ n := fun e => by rw [e] at d2; omega
      rw [o0 _ hm1, e0 _ hm1, m0 _ hm1]
      exact ⟨d1, by omega, d3, d4⟩
    · rw [o0 n er] at hon ⊢
      rw [e0 n er] at hln
      by_cases ex : n = x
      · subst ex
        rw [w2, (a1 hln).2, o1, e1, m1]
        have := bx 2 (by omega)
        exact ⟨fun y => by omega, fun _ => ⟨hr, by omega, hln, rfl⟩⟩
      · rw [w0 n er ex, a0 n er (fun z => absurd z ex)]
        obtain ⟨u1, u2⟩ := J7 n hn hon hln
        refine ⟨u1, fun y => ?_⟩
        obtain ⟨d1, d2, d3, d4⟩ := u2 y
        have hm1 : af n ≠ r := fun e => by rw [e] at d2; omega
        rw [o0 _ hm1, e0 _ hm1, m0 _ hm1]
        exact ⟨d1, d2, d3, d4⟩
  · intro a ha
    obtain ⟨d1, d2, d3, d4, d5, d6⟩ := J8 a ha
    have hm1 : rt a ≠ r := fun e => by rw [e] at d2; omega
    have hm2 : rt a ≠ x := fun e => by
      by_cases y : a = t
      · subst y; exact hxr e.symm
      · rw [e] at d2; omega
    rw [o0 _ hm1, e0 _ hm1, m0 _ hm1, w0 _ hm1 hm2, f0 _ hm1 (fun y => by omega)]
    exact ⟨d1, d2, d3, d4, d5, d6⟩
  · intro n i hn hon hln hi2
    by_cases er : n = r
    · subst er
      rw [e1] at hln
      have hq3 : q = 2 := by omega
      subst hq3
      rw [z2] at hi2
      rw [o1, k1 i (by omega), v1 hln i (by omega), ← ho]
      exact J9 x (i + 2) hx ho2 hln (by omega)
    · rw [o0 n er] at hon ⊢
      rw [e0 n er] at hln
      have ep : n ≠ p := fun e => by rw [e] at hln; omega
      rw [k0 n i er ep, v0 n i er]
      by_cases ex : n = x
      · subst ex
        rw [z1] at hi2
        exact J9 n i hn hon hln (by omega)
      · rw [z0 n ex er ep] at hi2
        exact J9 n i hn hon hln hi2
  · intro a k v ha hk
    obtain ⟨n, i, d1, d2, d3, d4, d5⟩ := J10 a k v ha hk
    have er : n ≠ r := fun e => by rw [e] at d2; omega
    have ep : n ≠ p := fun e => by rw [e] at d3; omega
    by_cases ex : n = x
    · subst ex
      by_cases y : i < 2
      · exact ⟨n, i, d1, by rw [o0 n er]; exact d2, by rw [e0 n er]; exact d3, by omega, by rw [k0 n i er ep]; exact d5⟩
      · have hq3 : q = 2 := by omega
        subst hq3
        refine ⟨r, i - 2, hr, by omega, by omega, by omega, ?_⟩
        rw [k1 (i - 2) (by omega), show i - 2 + 2 = i by omega]
        exact d5
    · exact ⟨n, i, d1, by rw [o0 n er]; exact d2, by rw [e0 n er]; exact d3, by rw [z0 n ex er ep]; exact d4, by rw [k0 n i er ep]; exact d5⟩
  · intro n hn hon hlt
    have er : n ≠ r := fun e => by rw [e] at hon; omega
    have key : ¬ (pa n = x ∨ pa n = p) := fun y => by
      by_cases e : n = rt (ow n)
      · have := (J8 (ow n) (by omega)).2.2.2.2.2
        rw [← e] at this
        omega
      · obtain ⟨u1, u2, u3, u4, u5⟩ := J6 n hn (by omega) e
        rcases y with y | y
        · rw [y] at u3; omega
        · rw [y] at u3; omega
    exact ⟨f0 n er (fun y => key (Or.inl y.1)), g0 n er (fun y => key (Or.inl y.1)) (fun y => key (Or.inr y.1))⟩
end
end
section
/-! a new root over the old one; a root without keys goes -/
section
variable {tk lf sz : Nat → Nat} {ky : Nat → Nat → Nat} {vl : Nat → Nat → Int64} {ch : Nat → Nat → Nat} {af ow lv lo hi pa ps rt H : Nat → Nat} {mp : Nat → Nat → Option Int64}
theorem pt_raise (I : pt_I tk lf sz ky vl ch af ow lv lo hi pa ps rt H mp) {tk' lf' sz' : Nat → Nat} {ky' : Nat → Nat → Nat} {vl' : Nat → Nat → Int64} {ch' : Nat → Nat → Nat} {af' rt' : Nat → Nat} {t w : Nat}
    (ht : t < 2) (hw : w < 80) (how : ow w = 2)
    (t1 : tk' w ≠ 0) (t0 : ∀ n, n ≠ w → tk' n = tk n) (l1 : lf' w = 0) (l0 : ∀ n, n ≠ w → lf' n = lf n)
    (z1 : sz' w = 0) (z0 : ∀ n, n ≠ w → sz' n = sz n) (k0 : ∀ n i, n ≠ w → ky' n i = ky n i) (v0 : ∀ n i, n ≠ w → vl' n i = vl n i)
    (c1 : ch' w 0 = rt t) (c0 : ∀ n i, n ≠ w → ch' n i = ch n i) (a0 : ∀ n, n ≠ w → af' n = af n) (r1 : rt' t = w) (r0 : ∀ a, a ≠ t → rt' a = rt a) :
    ∃ ow' lv' lo' hi' pa' ps' H' : Nat → Nat, pt_I tk' lf' sz' ky' vl' ch' af' ow' lv' lo' hi' pa' ps' rt' H' mp ∧ (ow' w = t ∧ lv' w ≠ 0 ∧ ∀ n, n ≠ w → ow' n = ow n ∧ lv' n = lv n) ∧ pa' (rt t) = w ∧ ps' (rt t) = 0 := by
  have I' := I
  obtain ⟨J1, J2, J3, J4, J5, J6, J7, J8, J9, J10⟩ := I'
  obtain ⟨x1, x2, x3, x4, x5, x6⟩ := J8 t ht
  have hxw : rt t ≠ w := fun e => by rw [e] at x2; omega
  obtain ⟨ow', o1, o0⟩ : ∃ f : Nat → Nat, f w = t ∧ ∀ n, n ≠ w → f n = ow n := ⟨fun n => if n = w then t else ow n, by simp, fun n h => by simp [h]⟩
  obtain ⟨lv', e1, e0⟩ : ∃ f : Nat → Nat, f w = H t + 1 ∧ ∀ n, n ≠ w → f n = lv n := ⟨fun n => if n = w then H t + 1 else lv n, by simp, fun n h => by simp [h]⟩
  obtain ⟨lo', m1, m0⟩ : ∃ f : Nat → Nat, f w = 0 ∧ ∀ n, n ≠ w → f n = lo n := ⟨fun n => if n = w then 0 else lo n, by simp, fun n h => by simp [h]⟩
  obtain ⟨hi', w1, w0⟩ : ∃ f : Nat → Nat, f w = 65536 ∧ ∀ n, n ≠ w → f n = hi n := ⟨fun n => if n = w then 65536 else hi n, by simp, fun n h => by simp [h]⟩
  obtain ⟨pa', f1, f2, f0⟩ : ∃ f : Nat → Nat, f w = 80 ∧ f (rt t) = w ∧ ∀ n, n ≠ w → n ≠ rt t → f n = pa n := ⟨fun n => if n = w then 80 else if n = rt t then w else pa n, by simp, by simp [hxw], fun n h h' => by simp [h, h']⟩
  obtain ⟨ps', g2, g0⟩ : ∃ f : Nat → Nat, f (rt t) = 0 ∧ ∀ n, n ≠ rt t → f n = ps n := ⟨fun n => if n = rt t then 0 else ps n, by simp, fun n h' => by simp [h']⟩
  obtain ⟨H', y1, y0⟩ : ∃ f : Nat → Nat, f t = H t + 1 ∧ ∀ n, n ≠ t → f n = H n := ⟨fun n => if n = t then H t + 1 else H n, by simp, fun n h' => by simp [h']⟩
  refine ⟨ow', lv', lo', hi', pa', ps', H', ⟨?_, ?_, ?_, ?_, ?_, ?_, ?_, ?_, ?_, ?_⟩, ⟨o1, by omega, fun n hn => ⟨o0 n hn, e0 n hn⟩⟩, f2, g2⟩
  · intro n hn
    by_cases er : n = w
    · subst er
      exact ⟨by omega, ⟨fun z => absurd z t1, fun z => by omega⟩, fun z => by omega⟩
    · obtain ⟨q1, q2, q3⟩ := J1 n hn
      rw [o0 n er, t0 n er]
      refine ⟨q1, q2, fun z => ?_⟩
      rw [f0 n er (fun e => by rw [e] at z; omega)]
      exact q3 z
  · intro n hn hon
    by_cases er : n = w
    · subst er
      rw [o1, e1, w1, m1, y1, l1]
      omega
    · rw [o0 n er] at hon ⊢
      rw [e0 n er, l0 n er, w0 n er, m0 n er]
      obtain ⟨q1, q2⟩ := J2 n hn hon
      refine ⟨?_, q2⟩
      by_cases e : ow n = t
      · rw [e, y1]; rw [e] at q1; omega
      · rw [y0 _ e]; exact q1
  · intro n i hn hon hi2
    by_cases er : n = w
    · subst er; omega
    · rw [o0 n er] at hon
      rw [z0 n er] at hi2
      rw [k0 n i er, m0 n er, w0 n er]
      exact J3 n i hn hon hi2
  · intro n i j hn hon hij hj
    by_cases er : n = w
    · subst er; omega
    · rw [o0 n er] at hon
      rw [z0 n er] at hj
      rw [k0 n i er, k0 n j er]
      exact J4 n i j hn hon hij hj
  · intro n i hn hon hln hi2
    by_cases er : n = w
    · subst er
      have hi0 : i = 0 := by omega
      subst hi0
      rw [c1, o1, o0 _ hxw, e0 _ hxw, e1, f2, g2, m0 _ hxw, m1, w0 _ hxw, w1, z1]
      exact ⟨x1, x2, by omega, rfl, rfl, x4, x5⟩
    · rw [o0 n er] at hon ⊢
      rw [e0 n er] at hln ⊢
      rw [z0 n er] at hi2 ⊢
      obtain ⟨h1, h2, h3, h4, h5, h6, h7⟩ := J5 n i hn hon hln hi2
      have hm1 : ch n i ≠ w := fun e => by rw [e] at h2; omega
      have hm2 : ch n i ≠ rt t := fun e => by rw [e] at h4; omega
      rw [c0 n i er, k0 n i er, k0 n (i - 1) er, m0 n er, w0 n er, o0 _ hm1, e0 _ hm1, m0 _ hm1, w0 _ hm1, f0 _ hm1 hm2, g0 _ hm2]
      exact ⟨h1, h2, h3, h4, h5, h6, h7⟩
  · intro n hn hon hnr
    by_cases er : n = w
    · subst er
      rw [o1, r1] at hnr
      exact absurd rfl hnr
    · rw [o0 n er] at hon hnr ⊢
      rw [e0 n er]
      by_cases ex : n = rt t
      · subst ex
        rw [f2, g2, o1, e1, z1, c1]
        exact ⟨hw, x2.symm, by omega, by omega, rfl⟩
      · have hnr' : n ≠ rt (ow n) := by
          by_cases e : ow n = t
          · rw [e]; exact ex
          · rw [r0 _ e] at hnr; exact hnr
        obtain ⟨u1, u2, u3, u4, u5⟩ := J6 n hn hon hnr'
        have hpn : pa n ≠ w := fun e => by rw [e] at u2; omega
        rw [f0 n er ex, g0 n ex, o0 _ hpn, e0 _ hpn, z0 _ hpn, c0 _ _ hpn]
        exact ⟨u1, u2, u3, u4, u5⟩
  · intro n hn hon hln
    have er : n ≠ w := fun e => by rw [e] at hln; omega
    rw [o0 n er] at hon ⊢
    rw [e0 n er] at hln
    rw [w0 n er, a0 n er]
    obtain ⟨u1, u2⟩ := J7 n hn hon hln
    refine ⟨u1, fun y => ?_⟩
    obtain ⟨d1, d2, d3, d4⟩ := u2 y
    have hm1 : af n ≠ w := fun e => by rw [e] at d2; omega
    rw [o0 _ hm1, e0 _ hm1, m0 _ hm1]
    exact ⟨d1, d2, d3, d4⟩
  · intro a ha
    by_cases e : a = t
    · subst e
      rw [r1, o1, e1, m1, w1, f1, y1]
      exact ⟨hw, rfl, rfl, rfl, rfl, rfl⟩
    · obtain ⟨d1, d2, d3, d4, d5, d6⟩ := J8 a ha
      rw [r0 a e, y0 a e]
      have hm1 : rt a ≠ w := fun e => by rw [e] at d2; omega
      have hm2 : rt a ≠ rt t := fun e' => by rw [e'] at d2; omega
      rw [o0 _ hm1, e0 _ hm1, m0 _ hm1, w0 _ hm1, f0 _ hm1 hm2]
      exact ⟨d1, d2, d3, d4, d5, d6⟩
  · intro n i hn hon hln hi2
    have er : n ≠ w := fun e => by rw [e] at hln; omega
    rw [o0 n er] at hon ⊢
    rw [e0 n er] at hln
    rw [z0 n er] at hi2
    rw [k0 n i er, v0 n i er]
    exact J9 n i hn hon hln hi2
  · intro a k v ha hk
    obtain ⟨n, i, d1, d2, d3, d4, d5⟩ := J10 a k v ha hk
    have er : n ≠ w := fun e => by rw [e] at d2; omega
    exact ⟨n, i, d1, by rw [o0 n er]; exact d2, by rw [e0 n er]; exact d3, by rw [z0 n er]; exact d4, by rw [k0 n i er]; exact d5⟩
theorem pt_drop (I : pt_I tk lf sz ky vl ch af ow lv lo hi pa ps rt H mp) {tk' rt' : Nat → Nat} {t : Nat}
    (ht : t < 2) (hl : lv (rt t) ≠ 0) (hz : sz (rt t) = 0)
    (t1 : tk' (rt t) = 0) (t0 : ∀ n, n ≠ rt t → tk' n = tk n) (r1 : rt' t = ch (rt t) 0) (r0 : ∀ a, a ≠ t → rt' a = rt a) :
    ∃ ow' pa' H' : Nat → Nat, pt_I tk' lf sz ky vl ch af ow' lv lo hi pa' ps rt' H' mp ∧ (ow' (rt t) = 2 ∧ ∀ n, n ≠ rt t → ow' n = ow n) := by
  have I' := I
  obtain ⟨J1, J2, J3, J4, J5, J6, J7, J8, J9, J10⟩ := I'
  obtain ⟨x1, x2, x3, x4, x5, x6⟩ := J8 t ht
  obtain ⟨w, hw⟩ : ∃ w, w = rt t := ⟨_, rfl⟩
  obtain ⟨m, hm⟩ : ∃ m, m = ch (rt t) 0 := ⟨_, rfl⟩
  rw [← hm] at r1
  have Cm := J5 (rt t) 0 x1 (by omega) hl (by omega)
  rw [← hm, ← hw] at Cm
  rw [← hw] at x1 x2 x3 x4 x5 x6 hl hz t1 t0 ⊢
  rw [if_pos rfl, if_pos (by omega)] at Cm
  obtain ⟨b1, b2, b3, b4, b5, b6, b7⟩ := Cm
  have hmw : m ≠ w := fun e => by rw [e] at b3; omega
  obtain ⟨ow', o1, o0⟩ : ∃ f : Nat → Nat, f w = 2 ∧ ∀ n, n ≠ w → f n = ow n := ⟨fun n => if n = w then 2 else ow n, by simp, fun n h => by simp [h]⟩
  obtain ⟨pa', f1, f0⟩ : ∃ f : Nat → Nat, f m = 80 ∧ ∀ n, n ≠ m → f n = pa n := ⟨fun n => if n = m then 80 else pa n, by simp, fun n h => by simp [h]⟩
  obtain ⟨H', y1, y0⟩ : ∃ f : Nat → Nat, f t = lv m ∧ ∀ n, n ≠ t → f n = H n := ⟨fun n => if n = t then lv m else H n, by simp, fun n h' => by simp [h']⟩
  have nw : ∀ n, ow' n < 2 → n ≠ w := fun n h e => by rw [e] at h; omega
  refine ⟨ow', pa', H', ⟨?_, ?_, ?_, ?_, ?_, ?_, ?_, ?_, ?_, ?_⟩, o1, o0⟩
  · intro n hn
    by_cases er : n = w
    · subst er
      refine ⟨by omega, by omega, fun _ => ?_⟩
      rw [f0 n (fun e => hmw e.symm)]; exact x6
    · obtain ⟨q1, q2, q3⟩ := J1 n hn
      rw [o0 n er, t0 n er]
      refine ⟨q1, q2, fun z => ?_⟩
      rw [f0 n (fun e => by rw [e] at z; omega)]
      exact q3 z
  · intro n hn hon
    have er := nw n hon
    rw [o0 n er] at hon ⊢
    obtain ⟨q1, q2⟩ := J2 n hn hon
    refine ⟨?_, q2⟩
    by_cases e : ow n = t
    · rw [e, y1]
      rw [e] at q1
      have : lv n ≠ H t := fun g => er (by rw [hw, ← e]; exact pt_top I hn hon (by rw [e]; exact g))
      omega
    · rw [y0 _ e]; exact q1
  · intro n i hn hon hi2
    have er := nw n hon
    rw [o0 n er] at hon
    exact J3 n i hn hon hi2
  · intro n i j hn hon hij hj
    have er := nw n hon
    rw [o0 n er] at hon
    exact J4 n i j hn hon hij hj
  · intro n i hn hon hln hi2
    have er := nw n hon
    rw [o0 n er] at hon ⊢
    obtain ⟨h1, h2, h3, h4, h5, h6, h7⟩ := J5 n i hn hon hln hi2
    have hm1 : ch n i ≠ w := fun e => by rw [e] at h4; omega
    have hm2 : ch n i ≠ m := fun e => er (by rw [← h4, e, b4])
    rw [o0 _ hm1, f0 _ hm2]
    exact ⟨h1, h2, h3, h4, h5, h6, h7⟩
  · intro n hn hon hnr
    have er := nw n hon
    rw [o0 n er] at hon hnr ⊢
    have ex : n ≠ m := fun e => hnr (by rw [e, b2, x2, r1])
    have hnr' : n ≠ rt (ow n) := by
      by_cases e : ow n = t
      · rw [e, ← hw]; exact er
      · rw [r0 _ e] at hnr; exact hnr
    obtain ⟨u1, u2, u3, u4, u5⟩ := J6 n hn hon hnr'
    have hpn : pa n ≠ w := fun e => by
      rw [e, hz] at u4
      rw [e, show ps n = 0 by omega, hw, ← hm] at u5
      exact ex u5.symm
    rw [f0 n ex, o0 _ hpn]
    exact ⟨u1, u2, u3, u4, u5⟩
  · intro n hn hon hln
    have er := nw n hon
    rw [o0 n er] at hon ⊢
    obtain ⟨u1, u2⟩ := J7 n hn hon hln
    refine ⟨u1, fun y => ?_⟩
    obtain ⟨d1, d2, d3, d4⟩ := u2 y
    have hm1 : af n ≠ w := fun e => by rw [e] at d3; omega
    rw [o0 _ hm1]
    exact ⟨d1, d2, d3, d4⟩
  · intro a ha
    by_cases e : a = t
    · subst e
      rw [r1, o0 m hmw, f1, y1]
      exact ⟨b1, by omega, rfl, by omega, by omega, rfl⟩
    · obtain ⟨d1, d2, d3, d4, d5, d6⟩ := J8 a ha
      rw [r0 a e, y0 a e]
      have hm1 : rt a ≠ w := fun e => by rw [e] at d2; omega
      have hm2 : rt a ≠ m := fun e' => by rw [e'] at d2; omega
      rw [o0 _ hm1, f0 _ hm2]
      exact ⟨d1, d2, d3, d4, d5, d6⟩
  · intro n i hn hon hln hi2
    have er := nw n hon
    rw [o0 n er] at hon ⊢
    exact J9 n i hn hon hln hi2
  · intro a k v ha hk
    obtain ⟨n, i, d1, d2, d3, d4, d5⟩ := J10 a k v ha hk
    have er : n ≠ w := fun e => by rw [e] at d3; omega
    exact ⟨n, i, d1, by rw [o0 n er]; exact d2, d3, d4, d5⟩
end
end
section
/-! two neighbours x and r below p share their entries anew: a, b entries before, a', b' behind. e = 0: leaves, e = 1: inner nodes -/
section
variable {tk lf sz : Nat → Nat} {ky : Nat → Nat → Nat} {vl : Nat → Nat → Int64} {ch : Nat → Nat → Nat} {af ow lv lo hi pa ps rt H : Nat → Nat} {mp : Nat → Nat → Option Int64}
/-- the neighbours and the row of their keys -/
theorem pt_row (I : pt_I tk lf sz ky vl ch af ow lv lo hi pa ps rt H mp) {t x r p s a b e : Nat} {K : Nat → Nat}
    (ht : t < 2) (hp : p < 80) (hop : ow p = t) (hlp : lv p ≠ 0) (hs : s + 1 ≤ sz p) (hx : ch p s = x) (hr : ch p (s + 1) = r) (ha : sz x = a) (hb : sz r = b) (he : (lv p = 1 ∧ e = 0) ∨ (lv p ≠ 1 ∧ e = 1))
    (K1 : ∀ i, i < a → K i = ky x i) (K2 : e = 1 → K a = ky p s) (K3 : ∀ i, i < b → K (a + e + i) = ky r i) :
    (x < 80 ∧ r < 80 ∧ ow x = t ∧ ow r = t ∧ lv x + 1 = lv p ∧ lv r + 1 = lv p ∧ pa x = p ∧ pa r = p ∧ ps x = s ∧ ps r = s + 1) ∧ (lo x = (if s = 0 then lo p else ky p (s - 1)) ∧ hi x = ky p s ∧ lo r = ky p s ∧ hi r = (if s + 1 = sz p then hi p else ky p (s + 1))) ∧ lo x < ky p s ∧ ky p s < hi r ∧ (∀ i, i < a + b + e → lo x ≤ K i ∧ K i < hi r) ∧ (∀ i j, i < j → j < a + b + e → K i < K j) := by
  obtain ⟨J1, J2, J3, J4, J5, J6, J7, J8, J9, J10⟩ := I
  have hop2 : ow p < 2 := by omega
  have A := J5 p s hp hop2 hlp (by omega)
  have B := J5 p (s + 1) hp hop2 hlp hs
  rw [hx, if_neg (show ¬ s = sz p by omega)] at A
  rw [hr, if_neg (show ¬ s + 1 = 0 by omega), show s + 1 - 1 = s by omega] at B
  obtain ⟨a1, a2, a3, a4, a5, a6, a7⟩ := A
  obtain ⟨b1, b2, b3, b4, b5, b6, b7⟩ := B
  have x2 := (J2 x a1 (by omega)).2.2.2
  have r2 := (J2 r b1 (by omega)).2.2.2
  have split : ∀ i, i < a + b + e → (i < a ∧ K i = ky x i) ∨ (i = a ∧ e = 1 ∧ K i = ky p s) ∨ (a + e ≤ i ∧ i - (a + e) < b ∧ K i = ky r (i - (a + e))) := by
    intro i hi'
    by_cases z : i < a
    · exact Or.inl ⟨z, K1 i z⟩
    · by_cases z2 : i = a ∧ e = 1
      · exact Or.inr (Or.inl ⟨z2.1, z2.2, by rw [z2.1]; exact K2 z2.2⟩)
      · refine Or.inr (Or.inr ⟨by omega, by omega, ?_⟩)
        rw [← K3 (i - (a + e)) (by omega)]
        congr 1
        omega
  refine ⟨⟨a1, b1, by omega, by omega, a3, b3, a4, b4, a5, b5⟩, ⟨a6, a7, b6, b7⟩, by omega, by omega, ?_, ?_⟩
  · intro i hi'
    rcases split i hi' with ⟨z, g⟩ | ⟨z, z2, g⟩ | ⟨z, z2, g⟩
    · have := J3 x i a1 (by omega) (by omega)
      omega
    · omega
    · have := J3 r (i - (a + e)) b1 (by omega) (by omega)
      omega
  · intro i j hij hj
    rcases split i (by omega) with ⟨z, g⟩ | ⟨z, z2, g⟩ | ⟨z, z2, g⟩ <;> rcases split j hj with ⟨y, f⟩ | ⟨y, y2, f⟩ | ⟨y, y2, f⟩
    · have := J4 x i j a1 (by omega) hij (by omega)
      omega
    · have := J3 x i a1 (by omega) (by omega)
      omega
    · have := J3 x i a1 (by omega) (by omega)
      have := J3 r (j - (a + e)) b1 (by omega) (by omega)
      omega
    · omega
    · omega
    · have hlp1 : lv p ≠ 1 := by omega
      have := J3 r (j - (a + e)) b1 (by omega) (by omega)
      have hlr : lv r ≠ 0 := by omega
      have C := J5 r 0 b1 (by omega) hlr (by omega)
      have c2 := (J2 (ch r 0) C.1 (by omega)).2.2.2
      rw [C.2.2.2.2.2.1, C.2.2.2.2.2.2, if_pos rfl, if_neg (by omega)] at c2
      rw [g, f]
      by_cases w : j - (a + e) = 0
      · rw [w]; omega
      · have := J4 r 0 (j - (a + e)) b1 (by omega) (by omega) (by omega)
        omega
    · omega
    · omega
    · have := J4 r (i - (a + e)) (j - (a + e)) b1 (by omega) (by omega) (by omega)
      omega
/-- the row of children -/
theorem pt_kids (I : pt_I tk lf sz ky vl ch af ow lv lo hi pa ps rt H mp) {t x r p s a b : Nat} {K C : Nat → Nat}
    (ht : t < 2) (hp : p < 80) (hop : ow p = t) (hlp : lv p ≠ 0) (hlp1 : lv p ≠ 1) (hs : s + 1 ≤ sz p) (hx : ch p s = x) (hr : ch p (s + 1) = r) (ha : sz x = a) (hb : sz r = b)
    (K1 : ∀ i, i < a → K i = ky x i) (K2 : K a = ky p s) (K3 : ∀ i, i < b → K (a + 1 + i) = ky r i)
    (C1 : ∀ i, i ≤ a → C i = ch x i) (C3 : ∀ i, i ≤ b → C (a + 1 + i) = ch r i) :
    ∀ j, j ≤ a + b + 1 → C j < 80 ∧ ow (C j) = t ∧ lv (C j) + 2 = lv p ∧ lo (C j) = (if j = 0 then lo x else K (j - 1)) ∧ hi (C j) = (if j = a + b + 1 then hi r else K j) ∧ ((j ≤ a ∧ pa (C j) = x ∧ ps (C j) = j) ∨ (a < j ∧ pa (C j) = r ∧ ps (C j) = j - (a + 1))) := by
  obtain ⟨J1, J2, J3, J4, J5, J6, J7, J8, J9, J10⟩ := I
  have hop2 : ow p < 2 := by omega
  have A := J5 p s hp hop2 hlp (by omega)
  have B := J5 p (s + 1) hp hop2 hlp hs
  rw [hx, if_neg (show ¬ s = sz p by omega)] at A
  rw [hr, if_neg (show ¬ s + 1 = 0 by omega), show s + 1 - 1 = s by omega] at B
  obtain ⟨a1, a2, a3, a4, a5, a6, a7⟩ := A
  obtain ⟨b1, b2, b3, b4, b5, b6, b7⟩ := B
  intro j hj
  by_cases z : j ≤ a
  · obtain ⟨h1, h2, h3, h4, h5, h6, h7⟩ := J5 x j a1 (by omega) (by omega) (by omega)
    rw [C1 j z]
    refine ⟨h1, by omega, by omega, ?_, ?_, Or.inl ⟨z, h4, h5⟩⟩
    · rw [h6]
      by_cases y : j = 0
      · rw [if_pos y, if_pos y]
      · rw [if_neg y, if_neg y, K1 (j - 1) (by omega)]
    · rw [h7, if_neg (show ¬ j = a + b + 1 by omega)]
      by_cases y : j = sz x
      · rw [if_pos y, a7, y, ha, K2]
      · rw [if_neg y, K1 j (by omega)]
  · obtain ⟨i, rfl⟩ : ∃ i, j = a + 1 + i := ⟨j - (a + 1), by omega⟩
    obtain ⟨h1, h2, h3, h4, h5, h6, h7⟩ := J5 r i b1 (by omega) (by omega) (by omega)
    rw [C3 i (by omega)]
    refine ⟨h1, by omega, by omega, ?_, ?_, Or.inr ⟨by omega, h4, by omega⟩⟩
    · rw [h6, if_neg (show ¬ a + 1 + i = 0 by omega)]
      by_cases y : i = 0
      · rw [if_pos y, b6, ← K2]
        congr 1
        omega
      · rw [if_neg y, ← K3 (i - 1) (by omega)]
        congr 1
        omega
    · rw [h7]
      by_cases y : i = sz r
      · rw [if_pos y, if_pos (by omega)]
      · rw [if_neg y, if_neg (by omega), K3 i (by omega)]
theorem pt_move (I : pt_I tk lf sz ky vl ch af ow lv lo hi pa ps rt H mp) {sz' : Nat → Nat} {ky' : Nat → Nat → Nat} {vl' : Nat → Nat → Int64} {ch' : Nat → Nat → Nat} {t x r p s a b e a' b' : Nat} {K C : Nat → Nat} {V : Nat → Int64}
    (ht : t < 2) (hp : p < 80) (hop : ow p = t) (hlp : lv p ≠ 0) (hs : s + 1 ≤ sz p) (hx : ch p s = x) (hr : ch p (s + 1) = r) (ha : sz x = a) (hb : sz r = b) (he : (lv p = 1 ∧ e = 0) ∨ (lv p ≠ 1 ∧ e = 1))
    (hab : a' + b' = a + b) (ha1 : 1 ≤ a') (hb1 : 1 ≤ b')
    (K1 : ∀ i, i < a → K i = ky x i) (K2 : e = 1 → K a = ky p s) (K3 : ∀ i, i < b → K (a + e + i) = ky r i)
    (V1 : ∀ i, i < a → V i = vl x i) (V3 : ∀ i, i < b → V (a + i) = vl r i)
    (C1 : ∀ i, i ≤ a → C i = ch x i) (C3 : ∀ i, i ≤ b → C (a + 1 + i) = ch r i)
    (z1 : sz' x = a') (z2 : sz' r = b') (z0 : ∀ n, n ≠ x → n ≠ r → sz' n = sz n)
    (k1 : ∀ i, i < a' → ky' x i = K i) (k2 : ky' p s = K a') (k3 : ∀ i, i < b' → ky' r i = K (a' + e + i)) (kp : ∀ i, i ≠ s → ky' p i = ky p i) (k0 : ∀ n i, n ≠ x → n ≠ r → n ≠ p → ky' n i = ky n i)
    (v1 : lv p = 1 → ∀ i, i < a' → vl' x i = V i) (v3 : lv p = 1 → ∀ i, i < b' → vl' r i = V (a' + i)) (v0 : ∀ n i, n ≠ x → n ≠ r → vl' n i = vl n i)
    (c1 : lv p ≠ 1 → ∀ i, i ≤ a' → ch' x i = C i) (c3 : lv p ≠ 1 → ∀ i, i ≤ b' → ch' r i = C (a' + 1 + i)) (c0 : ∀ n i, n ≠ x → n ≠ r → ch' n i = ch n i) :
    ∃ lo' hi' pa' ps' : Nat → Nat, pt_I tk lf sz' ky' vl' ch' af ow lv lo' hi' pa' ps' rt H mp ∧ (∀ n, n < 80 → ow n = t → lv p ≤ lv n → pa' n = pa n ∧ ps' n = ps n) := by
  obtain ⟨⟨hx8, hr8, hox, hor, hlx, hlr, hpx, hpr, hsx, hsr⟩, ⟨Lx, Hx, Lr, Hr⟩, S1, S2, KB, KS⟩ := pt_row I ht hp hop hlp hs hx hr ha hb he K1 K2 K3
  have CF : lv p ≠ 1 → _ := fun h1 => pt_kids I ht hp hop hlp h1 hs hx hr ha hb K1 (K2 (by omega)) (fun i hi' => by have := K3 i hi'; rw [show e = 1 by omega] at this; exact this) C1 C3
  have I' := I
  obtain ⟨J1, J2, J3, J4, J5, J6, J7, J8, J9, J10⟩ := I'
  have hop2 : ow p < 2 := by omega
  have hxr : x ≠ r := fun z => by rw [z] at hsx; omega
  have hrx : r ≠ x := fun z => hxr z.symm
  have hxp : x ≠ p := fun z => by rw [z] at hlx; omega
  have hrp : r ≠ p := fun z => by rw [z] at hlr; omega
  have KA := KB a' (by omega)
  have K0 := KB 0 (by omega)
  have K0A := KS 0 a' (by omega) (by omega)
  have rootx : ∀ c, c < 2 → rt c ≠ x ∧ rt c ≠ r := fun c hc => ⟨fun z => by have := (J8 c hc).2.2.2.2.2; rw [z] at this; omega, fun z => by have := (J8 c hc).2.2.2.2.2; rw [z] at this; omega⟩
  have kid : ∀ n, n < 80 → ow n < 2 → (pa n = x ∨ pa n = r) → lv n + 2 = lv p ∧ lv p ≠ 1 ∧ ∃ j, j ≤ a + b + 1 ∧ C j = n ∧ (if pa n = x then ps n else a + 1 + ps n) = j := by
    intro n hn hon hpn
    have hnr : n ≠ rt (ow n) := fun z => by
      have := (J8 (ow n) hon).2.2.2.2.2
      rw [← z] at this
      omega
    obtain ⟨u1, u2, u3, u4, u5⟩ := J6 n hn hon hnr
    rcases hpn with z | z
    · rw [z] at u3 u4 u5
      refine ⟨by omega, by omega, ps n, by omega, by rw [C1 _ (by omega)]; exact u5, by rw [if_pos z]⟩
    · rw [z] at u3 u4 u5
      refine ⟨by omega, by omega, a + 1 + ps n, by omega, by rw [C3 _ (by omega)]; exact u5, by rw [if_neg (by rw [z]; exact hrx)]⟩
  obtain ⟨lo', m1, m0⟩ : ∃ f : Nat → Nat, f r = K a' ∧ ∀ n, n ≠ r → f n = lo n := ⟨fun n => if n = r then K a' else lo n, by simp, fun n h => by simp [h]⟩
  obtain ⟨hi', w1, w0⟩ : ∃ f : Nat → Nat, f x = K a' ∧ ∀ n, n ≠ x → f n = hi n := ⟨fun n => if n = x then K a' else hi n, by simp, fun n h => by simp [h]⟩
  obtain ⟨pa', f1, f2, f0⟩ : ∃ f : Nat → Nat, (∀ n, (pa n = x ∨ pa n = r) → (if pa n = x then ps n else a + 1 + ps n) ≤ a' → f n = x) ∧ (∀ n, (pa n = x ∨ pa n = r) → ¬ (if pa n = x then ps n else a + 1 + ps n) ≤ a' → f n = r) ∧ ∀ n, ¬ (pa n = x ∨ pa n = r) → f n = pa n :=
    ⟨fun n => if pa n = x ∨ pa n = r then (if (if pa n = x then ps n else a + 1 + ps n) ≤ a' then x else r) else pa n, fun n h1 h2 => by simp only [if_pos h1, if_pos h2], fun n h1 h2 => by simp only [if_pos h1, if_neg h2], fun n h1 => by simp only [if_neg h1]⟩
  obtain ⟨ps', g1, g2, g0⟩ : ∃ f : Nat → Nat, (∀ n, (pa n = x ∨ pa n = r) → (if pa n = x then ps n else a + 1 + ps n) ≤ a' → f n = (if pa n = x then ps n else a + 1 + ps n)) ∧ (∀ n, (pa n = x ∨ pa n = r) → ¬ (if pa n = x then ps n else a + 1 + ps n) ≤ a' → f n = (if pa n = x then ps n else a + 1 + ps n) - (a' + 1)) ∧ ∀ n, ¬ (pa n = x ∨ pa n = r) → f n = ps n :=
    ⟨fun n => if pa n = x ∨ pa n = r then (if (if pa n = x then ps n else a + 1 + ps n) ≤ a' then (if pa n = x then ps n else a + 1 + ps n) else (if pa n = x then ps n else a + 1 + ps n) - (a' + 1)) else ps n, fun n h1 h2 => by simp only [if_pos h1, if_pos h2], fun n h1 h2 => by simp only [if_pos h1, if_neg h2], fun n h1 => by simp only [if_neg h1]⟩
  -- a child of the row: its new parent and slot
  have PC : lv p ≠ 1 → ∀ j, j ≤ a + b + 1 → (j ≤ a' → pa' (C j) = x ∧ ps' (C j) = j) ∧ (¬ j ≤ a' → pa' (C j) = r ∧ ps' (C j) = j - (a' + 1)) := by
    intro h1 j hj
    obtain ⟨-, -, -, -, -, d⟩ := CF h1 j hj
    have hd : (pa (C j) = x ∨ pa (C j) = r) ∧ (if pa (C j) = x then ps (C j) else a + 1 + ps (C j)) = j := by
      rcases d with ⟨d1, d2, d3⟩ | ⟨d1, d2, d3⟩
      · exact ⟨Or.inl d2, by rw [if_pos d2]; exact d3⟩
      · exact ⟨Or.inr d2, by rw [if_neg (by rw [d2]; exact hrx)]; omega⟩
    refine ⟨fun z => ?_, fun z => ?_⟩
    · refine ⟨f1 _ hd.1 (by rw [hd.2]; exact z), ?_⟩
      rw [g1 _ hd.1 (by rw [hd.2]; exact z), hd.2]
    · refine ⟨f2 _ hd.1 (by rw [hd.2]; exact z), ?_⟩
      rw [g2 _ hd.1 (by rw [hd.2]; exact z), hd.2]
  refine ⟨lo', hi', pa', ps', ⟨?_, ?_, ?_, ?_, ?_, ?_, ?_, ?_, ?_, ?_⟩, ?_⟩
  · intro n hn
    obtain ⟨q1, q2, q3⟩ := J1 n hn
    refine ⟨q1, q2, fun z => ?_⟩
    rw [f0 n (fun y => by have := q3 z; omega)]
    exact q3 z
  · intro n hn hon
    obtain ⟨q1, q2, q3, q4⟩ := J2 n hn hon
    refine ⟨q1, q2, ?_⟩
    by_cases ex : n = x
    · subst ex
      have := (J2 r hr8 (by omega)).2.2.1
      rw [w1, m0 n hxr]
      omega
    · rw [w0 n ex]
      by_cases er : n = r
      · subst er
        rw [m1]; omega
      · rw [m0 n er]; exact ⟨q3, q4⟩
  · intro n i hn hon hi2
    by_cases ex : n = x
    · subst ex
      rw [z1] at hi2
      rw [k1 i hi2, m0 n hxr, w1]
      exact ⟨(KB i (by omega)).1, KS i a' hi2 (by omega)⟩
    · rw [w0 n ex]
      by_cases er : n = r
      · subst er
        rw [z2] at hi2
        rw [k3 i hi2, m1]
        refine ⟨?_, (KB (a' + e + i) (by omega)).2⟩
        rcases Nat.eq_or_lt_of_le (show a' ≤ a' + e + i by omega) with y | y
        · rw [← y]; exact Nat.le_refl _
        · exact Nat.le_of_lt (KS a' (a' + e + i) y (by omega))
      · rw [m0 n er]
        rw [z0 n ex er] at hi2
        by_cases ep : n = p
        · subst ep
          by_cases y : i = s
          · subst y
            rw [k2]
            have u := pt_up (I) hx8 (by omega) (fun z => (rootx (ow x) (by omega)).1 z.symm)
            have u2 := pt_up (I) hr8 (by omega) (fun z => (rootx (ow r) (by omega)).2 z.symm)
            rw [hpx] at u
            rw [hpr] at u2
            omega
          · rw [kp i y]; exact J3 n i hn hon hi2
        · rw [k0 n i ex er ep]; exact J3 n i hn hon hi2
  · intro n i j hn hon hij hj
    by_cases ex : n = x
    · subst ex
      rw [z1] at hj
      rw [k1 i (by omega), k1 j hj]
      exact KS i j hij (by omega)
    · by_cases er : n = r
      · subst er
        rw [z2] at hj
        rw [k3 i (by omega), k3 j hj]
        exact KS _ _ (by omega) (by omega)
      · rw [z0 n ex er] at hj
        by_cases ep : n = p
        · subst ep
          by_cases y : i = s
          · subst y
            rw [k2, kp j (by omega)]
            rw [if_neg (by omega)] at Hr
            by_cases y2 : j = i + 1
            · rw [y2]; omega
            · have := J4 n (i + 1) j hn hon (by omega) hj
              omega
          · by_cases y2 : j = s
            · subst y2
              rw [k2, kp i y]
              rw [if_neg (by omega)] at Lx
              by_cases y3 : i = j - 1
              · rw [y3]; omega
              · have := J4 n i (j - 1) hn hon (by omega) (by omega)
                omega
            · rw [kp i y, kp j y2]; exact J4 n i j hn hon hij hj
        · rw [k0 n i ex er ep, k0 n j ex er ep]; exact J4 n i j hn hon hij hj
  · intro n i hn hon hln hi2
    by_cases ex : n = x
    · subst ex
      rw [z1] at hi2
      have h1 : lv p ≠ 1 := by omega
      obtain ⟨q1, q2, q3, q4, q5, q6⟩ := CF h1 i (by omega)
      obtain ⟨y1, y2⟩ := (PC h1 i (by omega)).1 hi2
      have hm1 : C i ≠ r := fun z => by rw [z] at q3; omega
      have hm2 : C i ≠ n := fun z => by rw [z] at q3; omega
      rw [c1 h1 i hi2, m0 _ hm1, w0 _ hm2, q4, q5, if_neg (show ¬ i = a + b + 1 by omega), z1, w1, m0 n hxr]
      refine ⟨q1, by omega, by omega, y1, y2, ?_, ?_⟩
      · by_cases y : i = 0
        · rw [if_pos y, if_pos y]
        · rw [if_neg y, if_neg y, k1 (i - 1) (by omega)]
      · by_cases y : i = a'
        · rw [if_pos y, y]
        · rw [if_neg y, k1 i (by omega)]
    · by_cases er : n = r
      · subst er
        rw [z2] at hi2
        have h1 : lv p ≠ 1 := by omega
        have he1 : e = 1 := by omega
        obtain ⟨q1, q2, q3, q4, q5, q6⟩ := CF h1 (a' + 1 + i) (by omega)
        obtain ⟨y1, y2⟩ := (PC h1 (a' + 1 + i) (by omega)).2 (by omega)
        have hm1 : C (a' + 1 + i) ≠ n := fun z => by rw [z] at q3; omega
        have hm2 : C (a' + 1 + i) ≠ x := fun z => by rw [z] at q3; omega
        rw [c3 h1 i hi2, m0 _ hm1, w0 _ hm2, q4, q5, if_neg (show ¬ a' + 1 + i = 0 by omega), z2, w0 n ex, m1]
        refine ⟨q1, by omega, by omega, y1, by omega, ?_, ?_⟩
        · by_cases y : i = 0
          · rw [if_pos y]; congr 1; omega
          · rw [if_neg y, k3 (i - 1) (by omega)]; congr 1; omega
        · by_cases y : i = b'
          · rw [if_pos y, if_pos (by omega)]
          · rw [if_neg y, if_neg (by omega), k3 i (by omega)]; congr 1; omega
      · obtain ⟨h1, h2, h3, h4, h5, h6, h7⟩ := J5 n i hn hon hln (by rw [z0 n ex er] at hi2; exact hi2)
        rw [c0 n i ex er, z0 n ex er, m0 n er, w0 n ex]
        have hpa : ¬ (pa (ch n i) = x ∨ pa (ch n i) = r) := fun z => by
          rcases z with z | z
          · exact ex (by rw [← h4, z])
          · exact er (by rw [← h4, z])
        rw [f0 _ hpa, g0 _ hpa]
        by_cases ep : n = p
        · subst ep
          by_cases y : i = s
          · subst y
            rw [hx] at h1 h2 h3 h4 h5 h6 h7 ⊢
            rw [w1, m0 x hxr, if_neg (show ¬ i = sz n by omega), k2]
            refine ⟨h1, h2, h3, h4, h5, ?_, rfl⟩
            rw [h6]
            by_cases y2 : i = 0
            · rw [if_pos y2, if_pos y2]
            · rw [if_neg y2, if_neg y2, kp (i - 1) (by omega)]
          · by_cases y2 : i = s + 1
            · subst y2
              rw [hr] at h1 h2 h3 h4 h5 h6 h7 ⊢
              rw [w0 r hrx, m1, if_neg (show ¬ s + 1 = 0 by omega), show s + 1 - 1 = s by omega, k2, kp (s + 1) (by omega)]
              exact ⟨h1, h2, h3, h4, h5, rfl, h7⟩
            · have hm1 : ch n i ≠ x := fun z => by rw [z] at h5; omega
              have hm2 : ch n i ≠ r := fun z => by rw [z] at h5; omega
              rw [m0 _ hm2, w0 _ hm1, kp i y]
              refine ⟨h1, h2, h3, h4, h5, ?_, h7⟩
              rw [h6]
              by_cases y3 : i = 0
              · rw [if_pos y3, if_pos y3]
              · rw [if_neg y3, if_neg y3, kp (i - 1) (by omega)]
        · have hm1 : ch n i ≠ x := fun z => ep (by rw [← h4, z, hpx])
          have hm2 : ch n i ≠ r := fun z => ep (by rw [← h4, z, hpr])
          rw [m0 _ hm2, w0 _ hm1, k0 n i ex er ep, k0 n (i - 1) ex er ep]
          exact ⟨h1, h2, h3, h4, h5, h6, h7⟩
  · intro n hn hon hnr
    obtain ⟨u1, u2, u3, u4, u5⟩ := J6 n hn hon hnr
    by_cases hpn : pa n = x ∨ pa n = r
    · obtain ⟨y1, y2, j, y3, y4, y5⟩ := kid n hn hon hpn
      have hcf := CF y2 j y3
      rw [y4] at hcf
      by_cases y6 : j ≤ a'
      · have := (PC y2 j y3).1 y6
        rw [y4] at this
        rw [this.1, this.2, z1, c1 y2 j y6]
        exact ⟨hx8, by omega, by omega, y6, y4⟩
      · have := (PC y2 j y3).2 y6
        rw [y4] at this
        rw [this.1, this.2, z2, c3 y2 (j - (a' + 1)) (by omega)]
        refine ⟨hr8, by omega, by omega, by omega, ?_⟩
        rw [← y4]
        congr 1
        omega
    · rw [f0 n hpn, g0 n hpn, z0 _ (fun z => hpn (Or.inl z)) (fun z => hpn (Or.inr z)), c0 _ _ (fun z => hpn (Or.inl z)) (fun z => hpn (Or.inr z))]
      exact ⟨u1, u2, u3, u4, u5⟩
  · intro n hn hon hln
    obtain ⟨u1, u2⟩ := J7 n hn hon hln
    by_cases ex : n = x
    · subst ex
      have hr2 := J2 r hr8 (by omega)
      have hlr0 : lv r = 0 := by omega
      obtain ⟨d1, d2, d3, d4⟩ := u2 (by omega)
      have haf2 := J2 (af n) d1 (by omega)
      have haf : af n = r := pt_leaf I (k := ky p s) d1 hr8 (by omega) (by omega) d3 hlr0 (by omega) (by omega) (by omega) (by omega)
      rw [w1, haf, m1]
      exact ⟨fun z => by omega, fun _ => ⟨hr8, by omega, hlr0, rfl⟩⟩
    · rw [w0 n ex]
      refine ⟨u1, fun y => ?_⟩
      obtain ⟨d1, d2, d3, d4⟩ := u2 y
      have hm1 : af n ≠ r := fun z => ex (by
        rw [z] at d2 d3 d4
        have hn2 := J2 n hn hon
        exact pt_leaf I (k := ky p s - 1) hn hx8 hon (by omega) hln (by omega) (by omega) (by omega) (by omega) (by omega))
      rw [m0 _ hm1]
      exact ⟨d1, d2, d3, d4⟩
  · intro c hc
    obtain ⟨d1, d2, d3, d4, d5, d6⟩ := J8 c hc
    obtain ⟨y1, y2⟩ := rootx c hc
    rw [m0 _ y2, w0 _ y1, f0 _ (fun z => by omega)]
    exact ⟨d1, d2, d3, d4, d5, d6⟩
  · intro n i hn hon hln hi2
    by_cases ex : n = x
    · subst ex
      have h1 : lv p = 1 := by omega
      rw [z1] at hi2
      rw [k1 i hi2, v1 h1 i hi2]
      by_cases y : i < a
      · rw [K1 i y, V1 i y]; exact J9 n i hn hon hln (by omega)
      · obtain ⟨j, rfl⟩ : ∃ j, i = a + j := ⟨i - a, by omega⟩
        have := K3 j (by omega)
        rw [show e = 0 by omega] at this
        rw [show a + j = a + 0 + j by omega, this, show a + 0 + j = a + j by omega, V3 j (by omega), hox, ← hor]
        exact J9 r j hr8 (by omega) (by omega) (by omega)
    · by_cases er : n = r
      · subst er
        have h1 : lv p = 1 := by omega
        rw [z2] at hi2
        rw [k3 i hi2, v3 h1 i hi2, show e = 0 by omega, show a' + 0 + i = a' + i by omega]
        by_cases y : a' + i < a
        · rw [K1 _ y, V1 _ y, hor, ← hox]; exact J9 x _ hx8 (by omega) (by omega) (by omega)
        · obtain ⟨j, hj⟩ : ∃ j, a' + i = a + j := ⟨a' + i - a, by omega⟩
          have := K3 j (by omega)
          rw [show e = 0 by omega] at this
          rw [hj, V3 j (by omega), show a + j = a + 0 + j by omega, this]
          exact J9 n j hn hon hln (by omega)
      · have ep : n ≠ p := fun z => hlp (by rw [← z]; exact hln)
        rw [z0 n ex er] at hi2
        rw [k0 n i ex er ep, v0 n i ex er]
        exact J9 n i hn hon hln hi2
  · intro c k v hc hk
    obtain ⟨n, i, d1, d2, d3, d4, d5⟩ := J10 c k v hc hk
    have ep : n ≠ p := fun z => hlp (by rw [← z]; exact d3)
    have fin : ∀ j, j < a + b → e = 0 → c = t → lv x = 0 → K j = k → ∃ n i, n < 80 ∧ ow n = c ∧ lv n = 0 ∧ i < sz' n ∧ ky' n i = k := by
      intro j hj he0 hct hlx0 hkj
      by_cases y : j < a'
      · exact ⟨x, j, hx8, by omega, hlx0, by omega, by rw [k1 j y]; exact hkj⟩
      · refine ⟨r, j - a', hr8, by omega, by omega, by omega, ?_⟩
        rw [k3 (j - a') (by omega), ← hkj]
        congr 1
        omega
    by_cases ex : n = x
    · subst ex
      exact fin i (by omega) (by omega) (by omega) d3 (by rw [K1 i (by omega)]; exact d5)
    · by_cases er : n = r
      · subst er
        refine fin (a + i) (by omega) (by omega) (by omega) (by omega) ?_
        have := K3 i (by omega)
        rw [show e = 0 by omega] at this
        rw [show a + i = a + 0 + i by omega, this]
        exact d5
      · exact ⟨n, i, d1, d2, d3, by rw [z0 n ex er]; exact d4, by rw [k0 n i ex er ep]; exact d5⟩
  · intro n hn hon hlt
    have hpa : ¬ (pa n = x ∨ pa n = r) := fun z => by
      have := (kid n hn (by omega) z).1
      omega
    exact ⟨f0 n hpa, g0 n hpa⟩
end
end
section
/-! two neighbours x and r below p become one, r is given back -/
def pt_nq (a b : Nat) : Prop := a ≠ b
def pt_e (l e : Nat) : Prop := (l = 1 ∧ e = 0) ∨ (l ≠ 1 ∧ e = 1)
theorem pt_e1 {l e : Nat} (h : pt_e l e) (hl : l ≠ 1) : e = 1 := by
  unfold pt_e at h; omega
theorem pt_e0 {l e : Nat} (h : pt_e l e) (hl : l = 1) : e = 0 := by
  unfold pt_e at h; omega
section
variable {tk lf sz : Nat → Nat} {ky : Nat → Nat → Nat} {vl : Nat → Nat → Int64} {ch : Nat → Nat → Nat} {af ow lv lo hi pa ps rt H : Nat → Nat} {mp : Nat → Nat → Option Int64}
set_option maxHeartbeats 8000000 in
theorem pt_merge (I : pt_I tk lf sz ky vl ch af ow lv lo hi pa ps rt H mp) {tk' sz' : Nat → Nat} {ky' : Nat → Nat → Nat} {vl' : Nat → Nat → Int64} {ch' : Nat → Nat → Nat} {af' : Nat → Nat} {t x r p s a b e : Nat} {K C : Nat → Nat} {V : Nat → Int64}
    (ht : t < 2) (hp : p < 80) (hop : ow p = t) (hlp : lv p ≠ 0) (hs : s + 1 ≤ sz p) (hx : ch p s = x) (hr : ch p (s + 1) = r) (ha : sz x = a) (hb : sz r = b) (he : (lv p = 1 ∧ e = 0) ∨ (lv p ≠ 1 ∧ e = 1))
    (K1 : ∀ i, i < a → K i = ky x i) (K2 : e = 1 → K a = ky p s) (K3 : ∀ i, i < b → K (a + e + i) = ky r i)
    (V1 : ∀ i, i < a → V i = vl x i) (V3 : ∀ i, i < b → V (a + i) = vl r i)
    (C1 : ∀ i, i ≤ a → C i = ch x i) (C3 : ∀ i, i ≤ b → C (a + 1 + i) = ch r i)
    (t1 : tk' r = 0) (t0 : ∀ n, n ≠ r → tk' n = tk n)
    (z1 : sz' x = a + b + e) (z3 : sz' p = sz p - 1) (z0 : ∀ n, n ≠ x → n ≠ r → n ≠ p → sz' n = sz n)
    (k1 : ∀ i, i < a + b + e → ky' x i = K i) (kp1 : ∀ i, i < s → ky' p i = ky p i) (kp2 : ∀ i, s ≤ i → i + 1 < sz p → ky' p i = ky p (i + 1)) (k0 : ∀ n i, n ≠ x → n ≠ r → n ≠ p → ky' n i = ky n i)
    (v1 : lv p = 1 → ∀ i, i < a + b → vl' x i = V i) (v0 : ∀ n i, n ≠ x → n ≠ r → vl' n i = vl n i)
    (c1 : lv p ≠ 1 → ∀ i, i ≤ a + b + 1 → ch' x i = C i) (cp1 : ∀ i, i ≤ s → ch' p i = ch p i) (cp2 : ∀ i, s < i → i + 1 ≤ sz p → ch' p i = ch p (i + 1)) (c0 : ∀ n i, n ≠ x → n ≠ r → n ≠ p → ch' n i = ch n i)
    (a1 : lv p = 1 → af' x = af r) (a0 : ∀ n, n ≠ x → n ≠ r → af' n = af n) :
    ∃ ow' hi' pa' ps' : Nat → Nat, pt_I tk' lf sz' ky' vl' ch' af' ow' lv lo hi' pa' ps' rt H mp ∧ (ow' r = 2 ∧ ∀ n, n ≠ r → ow' n = ow n) ∧ (∀ n, n < 80 → ow n = t → lv p ≤ lv n → pa' n = pa n ∧ ps' n = ps n) := by
  obtain ⟨⟨hx8, hr8, hox, hor, hlx, hlr, hpx, hpr, hsx, hsr⟩, ⟨Lx, Hx, Lr, Hr⟩, S1, S2, KB, KS⟩ := pt_row I ht hp hop hlp hs hx hr ha hb he K1 K2 K3
  have CF : lv p ≠ 1 → _ := fun h1 => pt_kids I ht hp hop hlp h1 hs hx hr ha hb K1 (K2 (by omega)) (fun i hi' => by have := K3 i hi'; rw [show e = 1 by omega] at this; exact this) C1 C3
  have I' := I
  obtain ⟨J1, J2, J3, J4, J5, J6, J7, J8, J9, J10⟩ := I'
  have hop2 : ow p < 2 := by omega
  have he' : pt_e (lv p) e := he
  clear he
  have hox2 : ow x < 2 := by omega
  have hor2 : ow r < 2 := by omega
  have hxr : pt_nq x r := fun z => by rw [z] at hsx; omega
  have hrx : pt_nq r x := fun z => hxr z.symm
  have hxp : pt_nq x p := fun z => by rw [z] at hlx; omega
  have hpx' : pt_nq p x := fun z => hxp z.symm
  have hrp : pt_nq r p := fun z => by rw [z] at hlr; omega
  have hpr' : pt_nq p r := fun z => hrp z.symm
  have rootx : ∀ c, c < 2 → rt c ≠ x ∧ rt c ≠ r := fun c hc => ⟨fun z => by have := (J8 c hc).2.2.2.2.2; rw [z] at this; omega, fun z => by have := (J8 c hc).2.2.2.2.2; rw [z] at this; omega⟩
  obtain ⟨ow', o1, o0⟩ : ∃ f : Nat → Nat, f r = 2 ∧ ∀ n, n ≠ r → f n = ow n := ⟨fun n => if n = r then 2 else ow n, by simp, fun n h => by simp [h]⟩
  obtain ⟨hi', w1, w0⟩ : ∃ f : Nat → Nat, f x = hi r ∧ ∀ n, n ≠ x → f n = hi n := ⟨fun n => if n = x then hi r else hi n, by simp, fun n h => by simp [h]⟩
  obtain ⟨pa', f1, f2, f0⟩ : ∃ f : Nat → Nat, f r = 80 ∧ (∀ n, n ≠ r → pa n = r → f n = x) ∧ ∀ n, n ≠ r → pa n ≠ r → f n = pa n := ⟨fun n => if n = r then 80 else if pa n = r then x else pa n, by simp, fun n h1 h2 => by simp only [if_neg h1, if_pos h2], fun n h1 h2 => by simp only [if_neg h1, if_neg h2]⟩
  obtain ⟨ps', g2, g3, g0⟩ : ∃ f : Nat → Nat, (∀ n, pa n = r → f n = a + 1 + ps n) ∧ (∀ n, pa n = p → s + 1 < ps n → f n = ps n - 1) ∧ ∀ n, pa n ≠ r → ¬ (pa n = p ∧ s + 1 < ps n) → f n = ps n :=
    ⟨fun n => if pa n = r then a + 1 + ps n else if pa n = p ∧ s + 1 < ps n then ps n - 1 else ps n, fun n h1 => by simp only [if_pos h1], fun n h1 h2 => by
      have : pa n ≠ r := by rw [h1]; exact hpr'
      simp only [if_neg this]
      rw [if_pos ⟨h1, h2⟩], fun n h1 h2 => by simp only [if_neg h1, if_neg h2]⟩
  have nr : ∀ n, ow' n < 2 → n ≠ r := fun n h z => by rw [z] at h; omega
  -- a child of the row: its new parent and slot
  have PC : lv p ≠ 1 → ∀ j, j ≤ a + b + 1 → C j ≠ r ∧ C j ≠ x ∧ pa' (C j) = x ∧ ps' (C j) = j := by
    intro h1 j hj
    obtain ⟨-, -, q3, -, -, d⟩ := CF h1 j hj
    have n1 : C j ≠ r := fun z => by rw [z] at q3; omega
    have n2 : C j ≠ x := fun z => by rw [z] at q3; omega
    rcases d with ⟨d1, d2, d3⟩ | ⟨d1, d2, d3⟩
    · refine ⟨n1, n2, ?_, ?_⟩
      · rw [f0 _ n1 (by rw [d2]; exact hxr)]; exact d2
      · rw [g0 _ (by rw [d2]; exact hxr) (fun z => hxp (by rw [← d2]; exact z.1))]; exact d3
    · refine ⟨n1, n2, f2 _ n1 d2, ?_⟩
      rw [g2 _ d2]; omega
  refine ⟨ow', hi', pa', ps', ⟨?_, ?_, ?_, ?_, ?_, ?_, ?_, ?_, ?_, ?_⟩, ⟨o1, o0⟩, ?_⟩
  · intro n hn
    by_cases er : n = r
    · subst er
      exact ⟨by omega, by omega, fun _ => f1⟩
    · obtain ⟨q1, q2, q3⟩ := J1 n hn
      rw [o0 n er, t0 n er]
      refine ⟨q1, q2, fun z => ?_⟩
      have := q3 z
      rw [f0 n er (by omega)]
      exact this
  · intro n hn hon
    have er := nr n hon
    rw [o0 n er] at hon ⊢
    obtain ⟨q1, q2, q3, q4⟩ := J2 n hn hon
    refine ⟨q1, q2, ?_⟩
    by_cases ex : n = x
    · subst ex
      have := (J2 r hr8 hor2).2.2.1
      rw [w1]
      omega
    · rw [w0 n ex]; exact ⟨q3, q4⟩
  · intro n i hn hon hi2
    have er := nr n hon
    rw [o0 n er] at hon
    by_cases ex : n = x
    · subst ex
      rw [z1] at hi2
      rw [k1 i hi2, w1]
      exact KB i hi2
    · rw [w0 n ex]
      by_cases ep : n = p
      · subst ep
        rw [z3] at hi2
        by_cases y : i < s
        · rw [kp1 i y]; exact J3 n i hn hon (by omega)
        · rw [kp2 i (by omega) (by omega)]; exact J3 n (i + 1) hn hon (by omega)
      · rw [z0 n ex er ep] at hi2
        rw [k0 n i ex er ep]
        exact J3 n i hn hon hi2
  · intro n i j hn hon hij hj
    have er := nr n hon
    rw [o0 n er] at hon
    by_cases ex : n = x
    · subst ex
      rw [z1] at hj
      rw [k1 i (by omega), k1 j hj]
      exact KS i j hij hj
    · by_cases ep : n = p
      · subst ep
        rw [z3] at hj
        by_cases y : i < s
        · by_cases y2 : j < s
          · rw [kp1 i y, kp1 j y2]; exact J4 n i j hn hon hij (by omega)
          · rw [kp1 i y, kp2 j (by omega) (by omega)]; exact J4 n i (j + 1) hn hon (by omega) (by omega)
        · rw [kp2 i (by omega) (by omega), kp2 j (by omega) (by omega)]; exact J4 n (i + 1) (j + 1) hn hon (by omega) (by omega)
      · rw [z0 n ex er ep] at hj
        rw [k0 n i ex er ep, k0 n j ex er ep]
        exact J4 n i j hn hon hij hj
  · intro n i hn hon hln hi2
    have er := nr n hon
    rw [o0 n er] at hon ⊢
    by_cases ex : n = x
    · subst ex
      have h1 : lv p ≠ 1 := by omega
      have he1 : e = 1 := pt_e1 he' h1
      subst he1
      rw [z1] at hi2
      obtain ⟨q1, q2, q3, q4, q5, q6⟩ := CF h1 i hi2
      obtain ⟨n1, n2, y1, y2⟩ := PC h1 i hi2
      rw [c1 h1 i hi2, o0 _ n1, w0 _ n2, q4, q5, z1, w1]
      refine ⟨q1, by omega, by omega, y1, y2, ?_, ?_⟩
      · by_cases y : i = 0
        · rw [if_pos y, if_pos y]
        · rw [if_neg y, if_neg y, k1 (i - 1) (by omega)]
      · by_cases y : i = a + b + 1
        · rw [if_pos y, if_pos y]
        · rw [if_neg y, if_neg y, k1 i (by omega)]
    · rw [w0 n ex]
      by_cases ep : n = p
      · subst ep
        rw [z3] at hi2 ⊢
        by_cases y : i = s
        · subst y
          rw [cp1 i (Nat.le_refl i), hx, o0 x hxr, w1, f0 x hxr (by rw [hpx]; exact hpr'), g0 x (by rw [hpx]; exact hpr') (fun z => by omega), Lx, Hr]
          refine ⟨hx8, by omega, hlx, hpx, hsx, ?_, ?_⟩
          · by_cases y2 : i = 0
            · rw [if_pos y2, if_pos y2]
            · rw [if_neg y2, if_neg y2, kp1 (i - 1) (by omega)]
          · by_cases y2 : i + 1 = sz n
            · rw [if_pos y2, if_pos (by omega)]
            · rw [if_neg y2, if_neg (by omega), kp2 i (Nat.le_refl i) (by omega)]
        · have sub : ∀ j, j ≤ sz n → j ≠ s → j ≠ s + 1 → ch n j < 80 ∧ ow' (ch n j) = ow n ∧ lv (ch n j) + 1 = lv n ∧ pa' (ch n j) = n ∧ ps' (ch n j) = (if s + 1 < j then j - 1 else j) ∧ lo (ch n j) = (if j = 0 then lo n else ky n (j - 1)) ∧ hi' (ch n j) = (if j = sz n then hi n else ky n j) := by
            intro j hj j1 j2
            obtain ⟨h1, h2, h3, h4, h5, h6, h7⟩ := J5 n j hn hon hln hj
            have hm1 : ch n j ≠ r := fun z => by rw [z] at h5; omega
            have hm2 : ch n j ≠ x := fun z => by rw [z] at h5; omega
            refine ⟨h1, by rw [o0 _ hm1]; exact h2, h3, by rw [f0 _ hm1 (by rw [h4]; exact er)]; exact h4, ?_, h6, by rw [w0 _ hm2]; exact h7⟩
            by_cases w : s + 1 < j
            · rw [if_pos w, g3 _ h4 (by omega), h5]
            · rw [if_neg w, g0 _ (by rw [h4]; exact er) (fun z => by omega), h5]
          by_cases y2 : i < s
          · obtain ⟨h1, h2, h3, h4, h5, h6, h7⟩ := sub i (by omega) (by omega) (by omega)
            rw [cp1 i (by omega)]
            refine ⟨h1, h2, h3, h4, by rw [h5, if_neg (by omega)], ?_, ?_⟩
            · rw [h6]
              by_cases y3 : i = 0
              · rw [if_pos y3, if_pos y3]
              · rw [if_neg y3, if_neg y3, kp1 (i - 1) (by omega)]
            · rw [h7, if_neg (by omega), if_neg (by omega), kp1 i y2]
          · obtain ⟨h1, h2, h3, h4, h5, h6, h7⟩ := sub (i + 1) (by omega) (by omega) (by omega)
            rw [cp2 i (by omega) (by omega)]
            refine ⟨h1, h2, h3, h4, by rw [h5, if_pos (by omega)]; omega, ?_, ?_⟩
            · rw [h6, if_neg (by omega), if_neg (by omega), kp2 (i - 1) (by omega) (by omega)]
              congr 1
              omega
            · rw [h7]
              by_cases y3 : i + 1 = sz n
              · rw [if_pos y3, if_pos (by omega)]
              · rw [if_neg y3, if_neg (by omega), kp2 i (by omega) (by omega)]
      · rw [z0 n ex er ep] at hi2 ⊢
        obtain ⟨h1, h2, h3, h4, h5, h6, h7⟩ := J5 n i hn hon hln hi2
        have hm1 : ch n i ≠ r := fun z => ep (by rw [← h4, z, hpr])
        have hm2 : ch n i ≠ x := fun z => ep (by rw [← h4, z, hpx])
        rw [c0 n i ex er ep, k0 n i ex er ep, k0 n (i - 1) ex er ep, o0 _ hm1, w0 _ hm2, f0 _ hm1 (by rw [h4]; exact er), g0 _ (by rw [h4]; exact er) (fun z => ep (by rw [← h4]; exact z.1))]
        exact ⟨h1, h2, h3, h4, h5, h6, h7⟩
  · intro n hn hon hnr
    have er := nr n hon
    rw [o0 n er] at hon hnr ⊢
    obtain ⟨u1, u2, u3, u4, u5⟩ := J6 n hn hon hnr
    by_cases e1 : pa n = r
    · rw [e1] at u1 u2 u3 u4 u5
      have h1 : lv p ≠ 1 := by omega
      have he1 : e = 1 := pt_e1 he' h1
      rw [f2 n er e1, g2 n e1, o0 x hxr, z1, c1 h1 (a + 1 + ps n) (by omega), C3 _ (by omega)]
      exact ⟨hx8, by omega, by omega, by omega, u5⟩
    · rw [f0 n er e1, o0 _ e1]
      by_cases e2 : pa n = x
      · rw [g0 n e1 (fun z => hxp (by rw [← e2]; exact z.1)), e2, z1]
        rw [e2] at u1 u2 u3 u4 u5
        have h1 : lv p ≠ 1 := by omega
        rw [c1 h1 (ps n) (by omega), C1 _ (by omega)]
        exact ⟨u1, u2, u3, by omega, u5⟩
      · by_cases e3 : pa n = p
        · rw [e3] at u1 u2 u3 u4 u5 ⊢
          rw [z3]
          have e4 : ps n ≠ s + 1 := fun z => er (by rw [← u5, z, hr])
          by_cases y : s + 1 < ps n
          · rw [g3 n e3 y, cp2 (ps n - 1) (by omega) (by omega), show ps n - 1 + 1 = ps n by omega]
            exact ⟨u1, u2, u3, by omega, u5⟩
          · rw [g0 n e1 (fun z => y z.2), cp1 (ps n) (by omega)]
            exact ⟨u1, u2, u3, by omega, u5⟩
        · rw [g0 n e1 (fun z => e3 z.1), z0 _ e2 e1 e3, c0 _ _ e2 e1 e3]
          exact ⟨u1, u2, u3, u4, u5⟩
  · intro n hn hon hln
    have er := nr n hon
    rw [o0 n er] at hon ⊢
    by_cases ex : n = x
    · subst ex
      obtain ⟨u1, u2⟩ := J7 r hr8 hor2 (by omega)
      rw [w1, a1 (by omega)]
      refine ⟨u1, fun y => ?_⟩
      obtain ⟨d1, d2, d3, d4⟩ := u2 y
      have hm1 : af r ≠ r := fun z => by rw [z] at d4; omega
      rw [o0 _ hm1]
      exact ⟨d1, by omega, d3, d4⟩
    · obtain ⟨u1, u2⟩ := J7 n hn hon hln
      rw [w0 n ex, a0 n ex er]
      refine ⟨u1, fun y => ?_⟩
      obtain ⟨d1, d2, d3, d4⟩ := u2 y
      have hm1 : af n ≠ r := fun z => ex (by
        rw [z] at d2 d3 d4
        have hn2 := J2 n hn hon
        exact pt_leaf I (k := ky p s - 1) hn hx8 hon (by omega) hln (by omega) (by omega) (by omega) (by omega) (by omega))
      rw [o0 _ hm1]
      exact ⟨d1, d2, d3, d4⟩
  · intro c hc
    obtain ⟨d1, d2, d3, d4, d5, d6⟩ := J8 c hc
    obtain ⟨y1, y2⟩ := rootx c hc
    rw [o0 _ y2, w0 _ y1, f0 _ y2 (fun z => by omega)]
    exact ⟨d1, d2, d3, d4, d5, d6⟩
  · intro n i hn hon hln hi2
    have er := nr n hon
    rw [o0 n er] at hon ⊢
    by_cases ex : n = x
    · subst ex
      have h1 : lv p = 1 := by omega
      have he0 : e = 0 := pt_e0 he' (by omega)
      subst he0
      rw [z1] at hi2
      rw [k1 i hi2, v1 h1 i hi2]
      by_cases y : i < a
      · rw [K1 i y, V1 i y]; exact J9 n i hn hon hln (by omega)
      · obtain ⟨j, rfl⟩ : ∃ j, i = a + j := ⟨i - a, by omega⟩
        have := K3 j (by omega)
        rw [Nat.add_zero] at this
        rw [this, V3 j (by omega), hox, ← hor]
        exact J9 r j hr8 hor2 (by omega) (by omega)
    · have ep : n ≠ p := fun z => hlp (by rw [← z]; exact hln)
      rw [z0 n ex er ep] at hi2
      rw [k0 n i ex er ep, v0 n i ex er]
      exact J9 n i hn hon hln hi2
  · intro c k v hc hk
    obtain ⟨n, i, d1, d2, d3, d4, d5⟩ := J10 c k v hc hk
    have ep : n ≠ p := fun z => hlp (by rw [← z]; exact d3)
    by_cases ex : n = x
    · subst ex
      exact ⟨n, i, d1, by rw [o0 n hxr]; exact d2, d3, by omega, by rw [k1 i (by omega), K1 i (by omega)]; exact d5⟩
    · by_cases er : n = r
      · subst er
        have he0 : e = 0 := pt_e0 he' (by omega)
        subst he0
        refine ⟨x, a + i, hx8, by rw [o0 x hxr]; omega, by omega, by omega, ?_⟩
        have := K3 i (by omega)
        rw [Nat.add_zero] at this
        rw [k1 _ (by omega), this]
        exact d5
      · exact ⟨n, i, d1, by rw [o0 n er]; exact d2, d3, by rw [z0 n ex er ep]; exact d4, by rw [k0 n i ex er ep]; exact d5⟩
  · intro n hn hon hlt
    have er : n ≠ r := fun z => by rw [z] at hlt; omega
    have hpa : pa n ≠ r ∧ pa n ≠ p := by
      by_cases e1 : n = rt (ow n)
      · have := (J8 (ow n) (by omega)).2.2.2.2.2
        rw [← e1] at this
        omega
      · obtain ⟨u1, u2, u3, u4, u5⟩ := J6 n hn (by omega) e1
        exact ⟨fun z => by rw [z] at u3; omega, fun z => by rw [z] at u3; omega⟩
    exact ⟨f0 n er hpa.1, g0 n hpa.1 (fun z => hpa.2 z.1)⟩
end
end
section
/-! how many nodes, how high: counted by maps that hit nothing twice -/
theorem cn_pos {P : Nat → Bool} {x n : Nat} (hx : x < n) (h : P x = true) : 1 ≤ cn_c P n := by
  have := cn_mono P (show x + 1 ≤ n by omega)
  rw [cn_s, if_pos h] at this
  omega
/-- how many keys a map holds -/
def cn_k (f : Nat → Option Int64) (n : Nat) : Nat := cn_c (fun k => (f k).isSome) n
section
variable {tk lf sz : Nat → Nat} {ky : Nat → Nat → Nat} {vl : Nat → Nat → Int64} {ch : Nat → Nat → Nat} {af ow lv lo hi pa ps rt H : Nat → Nat} {mp : Nat → Nat → Option Int64}
theorem pt_edge (I : pt_I tk lf sz ky vl ch af ow lv lo hi pa ps rt H mp) {t : Nat} (ht : t < 2) (P Q : Nat → Bool) (hP : ∀ e, e < 480 → P e = true → ow (e / 6) = t ∧ lv (e / 6) ≠ 0 ∧ e % 6 ≤ sz (e / 6))
    (hQ : ∀ e, e < 480 → P e = true → ∀ m, m < 80 → ow m = t → m ≠ rt t → lv m + 1 = lv (e / 6) → Q m = true) : cn_c P 480 ≤ cn_c Q 80 := by
  obtain ⟨J1, J2, J3, J4, J5, J6, J7, J8, J9, J10⟩ := I
  refine cn_inj (φ := fun e => ch (e / 6) (e % 6)) (fun e he hp => ?_) (fun e f he hf hp hq h => ?_)
  · obtain ⟨h1, h2, h3⟩ := hP e he hp
    obtain ⟨g1, g2, g3, g4, g5, -, -⟩ := J5 (e / 6) (e % 6) (by omega) (by omega) h2 h3
    refine ⟨g1, hQ e he hp _ g1 (by omega) (fun z => ?_) g3⟩
    have := (J8 t ht).2.2.2.2.2
    rw [← z, g4] at this
    omega
  · obtain ⟨h1, h2, h3⟩ := hP e he hp
    obtain ⟨g1, g2, g3, g4, g5, -, -⟩ := J5 (e / 6) (e % 6) (by omega) (by omega) h2 h3
    obtain ⟨h1', h2', h3'⟩ := hP f hf hq
    obtain ⟨g1', g2', g3', g4', g5', -, -⟩ := J5 (f / 6) (f % 6) (by omega) (by omega) h2' h3'
    have h' : ch (e / 6) (e % 6) = ch (f / 6) (f % 6) := h
    rw [h'] at g4 g5
    omega
theorem pt_inner (L : pt_L sz ow lv rt) {t : Nat} (ht : t < 2) (m : Nat) (hm : m ≤ 80) : 3 * cn_c (fun n => decide (ow n = t ∧ lv n ≠ 0)) m ≤ cn_c (fun e => decide (ow (e / 6) = t ∧ lv (e / 6) ≠ 0 ∧ e % 6 ≤ sz (e / 6))) (6 * m) + (if rt t < m then 1 else 0) := by
  induction m with
  | zero => exact Nat.zero_le _
  | succ m ih =>
    have ih := ih (by omega)
    have q1 := cn_s (fun e => decide (ow (e / 6) = t ∧ lv (e / 6) ≠ 0 ∧ e % 6 ≤ sz (e / 6))) (6 * m)
    have q2 := cn_s (fun e => decide (ow (e / 6) = t ∧ lv (e / 6) ≠ 0 ∧ e % 6 ≤ sz (e / 6))) (6 * m + 1)
    have q3 := cn_s (fun e => decide (ow (e / 6) = t ∧ lv (e / 6) ≠ 0 ∧ e % 6 ≤ sz (e / 6))) (6 * m + 2)
    have q4 := cn_mono (fun e => decide (ow (e / 6) = t ∧ lv (e / 6) ≠ 0 ∧ e % 6 ≤ sz (e / 6))) (show 6 * m + 2 + 1 ≤ 6 * (m + 1) by omega)
    rw [show 6 * m + 1 + 1 = 6 * m + 2 from rfl] at q2
    simp only [show (6 * m) / 6 = m by omega, show (6 * m + 1) / 6 = m by omega, show (6 * m + 2) / 6 = m by omega, show (6 * m) % 6 = 0 by omega, show (6 * m + 1) % 6 = 1 by omega, show (6 * m + 2) % 6 = 2 by omega, decide_eq_true_eq] at q1 q2 q3
    rw [cn_s]
    simp only [decide_eq_true_eq]
    by_cases e : ow m = t ∧ lv m ≠ 0
    · rw [if_pos e]
      obtain ⟨s1, s2⟩ := L m (by omega) (by omega)
      have s2 := s2 e.2
      rw [if_pos ⟨e.1, e.2, by omega⟩] at q1 q2
      by_cases r : m = rt t
      · rw [if_neg (by omega)] at ih
        rw [if_pos (by omega)]
        split at q3 <;> omega
      · have s1 := s1 (by rw [e.1]; exact r)
        rw [if_pos ⟨e.1, e.2, by omega⟩] at q3
        split at ih <;> split <;> omega
    · rw [if_neg e]
      have : cn_c (fun e => decide (ow (e / 6) = t ∧ lv (e / 6) ≠ 0 ∧ e % 6 ≤ sz (e / 6))) (6 * m) ≤ cn_c (fun e => decide (ow (e / 6) = t ∧ lv (e / 6) ≠ 0 ∧ e % 6 ≤ sz (e / 6))) (6 * (m + 1)) := cn_mono _ (by omega)
      split at ih <;> split <;> omega
theorem pt_recs (L : pt_L sz ow lv rt) {t : Nat} (ht : t < 2) (m : Nat) (hm : m ≤ 80) : 2 * cn_c (fun n => decide (ow n = t ∧ lv n = 0)) m ≤ cn_c (fun e => decide (ow (e / 5) = t ∧ lv (e / 5) = 0 ∧ e % 5 < sz (e / 5))) (5 * m) + (if rt t < m then 2 else 0) := by
  induction m with
  | zero => exact Nat.zero_le _
  | succ m ih =>
    have ih := ih (by omega)
    have q1 := cn_s (fun e => decide (ow (e / 5) = t ∧ lv (e / 5) = 0 ∧ e % 5 < sz (e / 5))) (5 * m)
    have q2 := cn_s (fun e => decide (ow (e / 5) = t ∧ lv (e / 5) = 0 ∧ e % 5 < sz (e / 5))) (5 * m + 1)
    have q4 := cn_mono (fun e => decide (ow (e / 5) = t ∧ lv (e / 5) = 0 ∧ e % 5 < sz (e / 5))) (show 5 * m + 1 + 1 ≤ 5 * (m + 1) by omega)
    simp only [show (5 * m) / 5 = m by omega, show (5 * m + 1) / 5 = m by omega, show (5 * m) % 5 = 0 by omega, show (5 * m + 1) % 5 = 1 by omega, decide_eq_true_eq] at q1 q2
    rw [cn_s]
    simp only [decide_eq_true_eq]
    by_cases e : ow m = t ∧ lv m = 0
    · rw [if_pos e]
      obtain ⟨s1, s2⟩ := L m (by omega) (by omega)
      by_cases r : m = rt t
      · rw [if_neg (by omega)] at ih
        rw [if_pos (by omega)]
        split at q1 <;> split at q2 <;> omega
      · have s1 := s1 (by rw [e.1]; exact r)
        rw [if_pos ⟨e.1, e.2, by omega⟩] at q1 q2
        split at ih <;> split <;> omega
    · rw [if_neg e]
      have : cn_c (fun e => decide (ow (e / 5) = t ∧ lv (e / 5) = 0 ∧ e % 5 < sz (e / 5))) (5 * m) ≤ cn_c (fun e => decide (ow (e / 5) = t ∧ lv (e / 5) = 0 ∧ e % 5 < sz (e / 5))) (5 * (m + 1)) := cn_mono _ (by omega)
      split at ih <;> split <;> omega
theorem pt_recs2 (I : pt_I tk lf sz ky vl ch af ow lv lo hi pa ps rt H mp) {t : Nat} (ht : t < 2) : cn_c (fun e => decide (ow (e / 5) = t ∧ lv (e / 5) = 0 ∧ e % 5 < sz (e / 5))) 400 ≤ cn_k (mp t) 65536 := by
  have I' := I
  obtain ⟨J1, J2, J3, J4, J5, J6, J7, J8, J9, J10⟩ := I'
  refine cn_inj (φ := fun e => ky (e / 5) (e % 5)) (fun e he hp => ?_) (fun e f he hf hp hq h => ?_)
  · obtain ⟨h1, h2, h3⟩ := of_decide_eq_true hp
    have g := J3 (e / 5) (e % 5) (by omega) (by omega) h3
    have g2 := (J2 (e / 5) (by omega) (by omega)).2.2.1
    have g9 := J9 (e / 5) (e % 5) (by omega) (by omega) h2 h3
    rw [h1] at g9
    refine ⟨show ky (e / 5) (e % 5) < 65536 by omega, ?_⟩
    show (mp t (ky (e / 5) (e % 5))).isSome = true
    rw [g9]
    rfl
  · obtain ⟨h1, h2, h3⟩ := of_decide_eq_true hp
    obtain ⟨h1', h2', h3'⟩ := of_decide_eq_true hq
    have g := J3 (e / 5) (e % 5) (by omega) (by omega) h3
    have g' := J3 (f / 5) (f % 5) (by omega) (by omega) h3'
    have h' : ky (e / 5) (e % 5) = ky (f / 5) (f % 5) := h
    have en : e / 5 = f / 5 := pt_leaf I (k := ky (f / 5) (f % 5)) (by omega) (by omega) (by omega) (by omega) h2 h2' (by omega) (by omega) (by omega) (by omega)
    rw [en] at h' h3
    rcases Nat.lt_trichotomy (e % 5) (f % 5) with z | z | z
    · have := J4 (f / 5) (e % 5) (f % 5) (by omega) (by omega) z h3'
      omega
    · omega
    · have := J4 (f / 5) (f % 5) (e % 5) (by omega) (by omega) z h3
      omega
/-- a tree's nodes against its records -/
theorem pt_nodes (I : pt_I tk lf sz ky vl ch af ow lv lo hi pa ps rt H mp) (L : pt_L sz ow lv rt) {t : Nat} (ht : t < 2) : 4 * cn_c (fun n => decide (ow n = t)) 80 ≤ 3 * cn_k (mp t) 65536 + 6 := by
  have A : cn_c (fun e => decide (ow (e / 6) = t ∧ lv (e / 6) ≠ 0 ∧ e % 6 ≤ sz (e / 6))) 480 ≤ cn_c (fun n => decide (ow n = t ∧ n ≠ rt t)) 80 :=
    pt_edge I ht _ _ (fun e he hp => of_decide_eq_true hp) (fun e he hp m hm h1 h2 _ => decide_eq_true ⟨h1, h2⟩)
  have B := pt_inner L ht 80 (Nat.le_refl 80)
  have C := pt_recs L ht 80 (Nat.le_refl 80)
  have D := pt_recs2 I ht
  obtain ⟨J1, J2, J3, J4, J5, J6, J7, J8, J9, J10⟩ := I
  obtain ⟨x1, x2, -⟩ := J8 t ht
  have E : cn_c (fun n => decide (ow n = t)) 80 = cn_c (fun n => decide (ow n = t ∧ n ≠ rt t)) 80 + 1 :=
    cn_add x1 (decide_eq_false (fun z => z.2 rfl)) (decide_eq_true x2) (fun i hi' hne => by
      show decide (ow i = t) = decide (ow i = t ∧ i ≠ rt t)
      exact decide_eq_decide.mpr ⟨fun z => ⟨z, hne⟩, fun z => z.1⟩)
  have F : ∀ m, cn_c (fun n => decide (ow n = t)) m = cn_c (fun n => decide (ow n = t ∧ lv n = 0)) m + cn_c (fun n => decide (ow n = t ∧ lv n ≠ 0)) m := by
    intro m
    induction m with
    | zero => rfl
    | succ m ih =>
      rw [cn_s, cn_s, cn_s]
      simp only [decide_eq_true_eq]
      by_cases e : ow m = t
      · by_cases f : lv m = 0
        · rw [if_pos e, if_pos ⟨e, f⟩, if_neg (fun z => z.2 f)]; omega
        · rw [if_pos e, if_neg (fun z => f z.2), if_pos ⟨e, f⟩]; omega
      · rw [if_neg e, if_neg (fun z => e z.1), if_neg (fun z => e z.1)]; omega
  have F := F 80
  rw [if_pos x1] at B C
  rw [show 6 * 80 = 480 from rfl] at B
  rw [show 5 * 80 = 400 from rfl] at C
  omega
theorem pt_room (I : pt_I tk lf sz ky vl ch af ow lv lo hi pa ps rt H mp) (L : pt_L sz ow lv rt) : 4 * cn_c (fun n => decide (tk n ≠ 0)) 80 ≤ 3 * (cn_k (mp 0) 65536 + cn_k (mp 1) 65536) + 12 := by
  have A := pt_nodes I L (t := 0) (by omega)
  have B := pt_nodes I L (t := 1) (by omega)
  obtain ⟨J1, J2, J3, J4, J5, J6, J7, J8, J9, J10⟩ := I
  have F : ∀ m, m ≤ 80 → cn_c (fun n => decide (tk n ≠ 0)) m = cn_c (fun n => decide (ow n = 0)) m + cn_c (fun n => decide (ow n = 1)) m := by
    intro m hm
    induction m with
    | zero => rfl
    | succ m ih =>
      have ih := ih (by omega)
      rw [cn_s, cn_s, cn_s]
      simp only [decide_eq_true_eq]
      obtain ⟨h1, h2, -⟩ := J1 m (by omega)
      split <;> split <;> split <;> omega
  have F := F 80 (Nat.le_refl 80)
  omega
theorem pt_free (I : pt_I tk lf sz ky vl ch af ow lv lo hi pa ps rt H mp) (L : pt_L sz ow lv rt) (hc : cn_k (mp 0) 65536 + cn_k (mp 1) 65536 ≤ 95) : cn_c (fun n => decide (tk n ≠ 0)) 80 ≤ 77 := by
  have := pt_room I L
  omega
theorem pt_high (I : pt_I tk lf sz ky vl ch af ow lv lo hi pa ps rt H mp) (L : pt_L sz ow lv rt) {t : Nat} (ht : t < 2) : H t ≤ 6 := by
  have step : ∀ j, 2 * cn_c (fun n => decide (ow n = t ∧ lv n = j + 1)) 80 ≤ cn_c (fun n => decide (ow n = t ∧ lv n = j)) 80 := by
    intro j
    have A : cn_c (fun e => decide (e < 480 ∧ ow (e / 6) = t ∧ lv (e / 6) = j + 1 ∧ e % 6 ≤ 1)) 480 ≤ cn_c (fun n => decide (ow n = t ∧ lv n = j)) 80 :=
      pt_edge I ht _ _ (fun e he hp => by
        obtain ⟨h0, h1, h2, h3⟩ := of_decide_eq_true hp
        have := (L (e / 6) (by omega) (by omega)).2 (by omega)
        exact ⟨h1, by omega, by omega⟩) (fun e he hp m hm h1 h2 h3 => by
        obtain ⟨g0, g1, g2, g3⟩ := of_decide_eq_true hp
        exact decide_eq_true ⟨h1, by omega⟩)
    have B : ∀ m, m ≤ 80 → 2 * cn_c (fun n => decide (ow n = t ∧ lv n = j + 1)) m ≤ cn_c (fun e => decide (e < 480 ∧ ow (e / 6) = t ∧ lv (e / 6) = j + 1 ∧ e % 6 ≤ 1)) (6 * m) := by
      intro m hm
      induction m with
      | zero => exact Nat.zero_le _
      | succ m ih =>
        have ih := ih (by omega)
        have q1 := cn_s (fun e => decide (e < 480 ∧ ow (e / 6) = t ∧ lv (e / 6) = j + 1 ∧ e % 6 ≤ 1)) (6 * m)
        have q2 := cn_s (fun e => decide (e < 480 ∧ ow (e / 6) = t ∧ lv (e / 6) = j + 1 ∧ e % 6 ≤ 1)) (6 * m + 1)
        have q4 := cn_mono (fun e => decide (e < 480 ∧ ow (e / 6) = t ∧ lv (e / 6) = j + 1 ∧ e % 6 ≤ 1)) (show 6 * m + 1 + 1 ≤ 6 * (m + 1) by omega)
        simp only [show (6 * m) / 6 = m by omega, show (6 * m + 1) / 6 = m by omega, show (6 * m) % 6 = 0 by omega, show (6 * m + 1) % 6 = 1 by omega, decide_eq_true_eq] at q1 q2
        rw [cn_s]
        simp only [decide_eq_true_eq]
        by_cases e : ow m = t ∧ lv m = j + 1
        · rw [if_pos e]
          rw [if_pos ⟨by omega, e.1, e.2, by omega⟩] at q1 q2
          omega
        · rw [if_neg e]
          split at q1 <;> split at q2 <;> omega
    have B := B 80 (Nat.le_refl 80)
    rw [show 6 * 80 = 480 from rfl] at B
    omega
  obtain ⟨J1, J2, J3, J4, J5, J6, J7, J8, J9, J10⟩ := I
  obtain ⟨x1, x2, x3, -⟩ := J8 t ht
  have top : 1 ≤ cn_c (fun n => decide (ow n = t ∧ lv n = H t)) 80 := cn_pos x1 (decide_eq_true ⟨x2, x3⟩)
  have le := cn_le (fun n => decide (ow n = t ∧ lv n = H t - 7)) 80
  by_cases h : H t ≤ 6
  · exact h
  · exfalso
    obtain ⟨g, hg⟩ : ∃ g, H t = g + 7 := ⟨H t - 7, by omega⟩
    rw [hg] at top le
    have st : ∀ i j, j = i + 1 → 2 * cn_c (fun n => decide (ow n = t ∧ lv n = j)) 80 ≤ cn_c (fun n => decide (ow n = t ∧ lv n = i)) 80 := fun i j h => by rw [h]; exact step i
    have s0 := st g (g + 1) rfl
    have s1 := st (g + 1) (g + 2) rfl
    have s2 := st (g + 2) (g + 3) rfl
    have s3 := st (g + 3) (g + 4) rfl
    have s4 := st (g + 4) (g + 5) rfl
    have s5 := st (g + 5) (g + 6) rfl
    have s6 := st (g + 6) (g + 7) rfl
    rw [show g + 7 - 7 = g by omega] at le
    omega
end
end
section
/-! the arrays and their pictures -/
def cs_1 (N B : Nat) (a : Nat → Int32) (f : Nat → Nat) : Prop := ∀ n, n < N → a n = nI (f n) ∧ f n < B
def cs_2 (W B : Nat) (a : Nat → Int32) (f : Nat → Nat → Nat) : Prop := ∀ n i, n < 80 → i < W → a (W * n + i) = nI (f n i) ∧ f n i < B
def cs_V (a : Nat → Int64) (f : Nat → Nat → Int64) : Prop := ∀ n i, n < 80 → i < 5 → a (5 * n + i) = f n i
def cs_A (a : Nat → Int32) (f : Nat → Nat) : Prop := ∀ n, n < 80 → a n = (if f n = 80 then -1 else nI (f n)) ∧ f n ≤ 80
theorem cs_1r {N B : Nat} {a : Nat → Int32} {f : Nat → Nat} (h : cs_1 N B a f) {n : Nat} (hn : n < N) (hN : N ≤ 1000 := by omega) : a (nI n).toNatClampNeg = nI (f n) := by
  rw [nI_clamp (by omega)]; exact (h n hn).1
theorem cs_1c {N B : Nat} {a : Nat → Int32} {f g : Nat → Nat} (h : cs_1 N B a f) (e : ∀ n, n < N → g n = f n) : cs_1 N B a g := fun n hn => by
  rw [e n hn]; exact h n hn
theorem cs_1w {N B : Nat} {a : Nat → Int32} {f : Nat → Nat} (h : cs_1 N B a f) {n v : Nat} (hn : n < N) (hv : v < B) (hN : N ≤ 1000 := by omega) : cs_1 N B (upd a (nI n).toNatClampNeg (nI v)) (fun m => if m = n then v else f m) := fun m hm => by
  rw [nI_clamp (by omega)]
  by_cases e : m = n
  · subst e
    rw [pk_us]
    simp only [if_true]
    exact ⟨trivial, hv⟩
  · rw [pk_un e]
    simp only [if_neg e]
    exact h m hm
theorem cs_2r {W B : Nat} {a : Nat → Int32} {f : Nat → Nat → Nat} (h : cs_2 W B a f) {n i : Nat} (hn : n < 80) (hi : i < W) {x : Int32} (hx : x = nI (W * n + i)) (hW : W ≤ 6 := by omega) : a x.toNatClampNeg = nI (f n i) := by
  have hb : W * n + i < 2 ^ 31 := by
    have := Nat.mul_le_mul hW (show n ≤ 80 by omega)
    omega
  rw [hx, nI_clamp hb]; exact (h n i hn hi).1
theorem cs_2c {W B : Nat} {a : Nat → Int32} {f g : Nat → Nat → Nat} (h : cs_2 W B a f) (e : ∀ n i, n < 80 → i < W → g n i = f n i) : cs_2 W B a g := fun n i hn hi => by
  rw [e n i hn hi]; exact h n i hn hi
theorem cs_ix {W n i m j : Nat} (hi : i < W) (hj : j < W) (h : W * n + i = W * m + j) : n = m ∧ i = j := by
  have a1 : (W * n + i) / W = n := by rw [Nat.mul_add_div (by omega), Nat.div_eq_of_lt hi, Nat.add_zero]
  have a2 : (W * m + j) / W = m := by rw [Nat.mul_add_div (by omega), Nat.div_eq_of_lt hj, Nat.add_zero]
  have : n = m := by rw [← a1, ← a2, h]
  subst this
  exact ⟨rfl, by omega⟩
theorem cs_2w {W B : Nat} {a : Nat → Int32} {f : Nat → Nat → Nat} (h : cs_2 W B a f) {n i v : Nat} (hn : n < 80) (hi : i < W) {x : Int32} (hx : x = nI (W * n + i)) (hv : v < B) (hW : W ≤ 6 := by omega) : cs_2 W B (upd a x.toNatClampNeg (nI v)) (fun m j => if m = n ∧ j = i then v else f m j) := fun m j hm hj => by
  have hb : W * n + i < 2 ^ 31 := by
    have := Nat.mul_le_mul hW (show n ≤ 80 by omega)
    omega
  rw [hx, nI_clamp hb]
  by_cases e : m = n ∧ j = i
  · obtain ⟨rfl, rfl⟩ := e
    rw [pk_us]
    simp only [and_self, if_true]
    exact ⟨trivial, hv⟩
  · rw [pk_un (fun z => e (cs_ix hj hi z))]
    simp only [if_neg e]
    exact h m j hm hj
theorem cs_Vr {a : Nat → Int64} {f : Nat → Nat → Int64} (h : cs_V a f) {n i : Nat} (hn : n < 80) (hi : i < 5) {x : Int32} (hx : x = nI (5 * n + i)) : a x.toNatClampNeg = f n i := by
  rw [hx, nI_clamp (by omega)]; exact h n i hn hi
theorem cs_Vc {a : Nat → Int64} {f g : Nat → Nat → Int64} (h : cs_V a f) (e : ∀ n i, n < 80 → i < 5 → g n i = f n i) : cs_V a g := fun n i hn hi => by
  rw [e n i hn hi]; exact h n i hn hi
theorem cs_Vw {a : Nat → Int64} {f : Nat → Nat → Int64} (h : cs_V a f) {n i : Nat} {v : Int64} (hn : n < 80) (hi : i < 5) {x : Int32} (hx : x = nI (5 * n + i)) : cs_V (vp_updL a x.toNatClampNeg v) (fun m j => if m = n ∧ j = i then v else f m j) := fun m j hm hj => by
  rw [hx, nI_clamp (by omega)]
  by_cases e : m = n ∧ j = i
  · obtain ⟨rfl, rfl⟩ := e
    rw [pk_uLs]
    simp only [and_self, if_true]
  · rw [pk_uLn (fun z => e (cs_ix hj hi z))]
    simp only [if_neg e]
    exact h m j hm hj
theorem cs_Ar {a : Nat → Int32} {f : Nat → Nat} (h : cs_A a f) {n : Nat} (hn : n < 80) : a (nI n).toNatClampNeg = (if f n = 80 then -1 else nI (f n)) := by
  rw [nI_clamp (by omega)]; exact (h n hn).1
theorem cs_Ac {a : Nat → Int32} {f g : Nat → Nat} (h : cs_A a f) (e : ∀ n, n < 80 → g n = f n) : cs_A a g := fun n hn => by
  rw [e n hn]; exact h n hn
theorem cs_Aw {a : Nat → Int32} {f : Nat → Nat} (h : cs_A a f) {n v : Nat} {x : Int32} (hn : n < 80) (hv : v ≤ 80) (hx : x = (if v = 80 then -1 else nI v)) : cs_A (upd a (nI n).toNatClampNeg x) (fun m => if m = n then v else f m) := fun m hm => by
  rw [nI_clamp (by omega)]
  by_cases e : m = n
  · subst e
    rw [pk_us]
    simp only [if_true]
    exact ⟨hx, hv⟩
  · rw [pk_un e]
    simp only [if_neg e]
    exact h m hm
/-! indices -/
theorem ix_5 (x i : Nat) : 5 * nI x + nI i = nI (5 * x + i) := by
  rw [show (5 : Int32) = nI 5 from rfl, pk_mul, nI_add]
theorem ix_6 (x i : Nat) : 6 * nI x + nI i = nI (6 * x + i) := by
  rw [show (6 : Int32) = nI 6 from rfl, pk_mul, nI_add]
theorem ix_50 (x : Nat) : 5 * nI x = nI (5 * x + 0) := by
  rw [show (5 : Int32) = nI 5 from rfl, pk_mul]
  rfl
theorem ix_60 (x : Nat) : 6 * nI x = nI (6 * x + 0) := by
  rw [show (6 : Int32) = nI 6 from rfl, pk_mul]
  rfl
theorem ix_5m (x i : Nat) (h : 1 ≤ i) : 5 * nI x + nI i - 1 = nI (5 * x + (i - 1)) := by
  rw [ix_5, show (1 : Int32) = nI 1 from rfl, pk_sub (by omega)]
  congr 1
  omega
theorem ix_6m (x i : Nat) (h : 1 ≤ i) : 6 * nI x + nI i - 1 = nI (6 * x + (i - 1)) := by
  rw [ix_6, show (1 : Int32) = nI 1 from rfl, pk_sub (by omega)]
  congr 1
  omega
theorem ix_5p (x i : Nat) : 5 * nI x + nI i + 1 = nI (5 * x + (i + 1)) := by
  rw [ix_5, nI_1]
  rfl
theorem ix_6p (x i : Nat) : 6 * nI x + nI i + 1 = nI (6 * x + (i + 1)) := by
  rw [ix_6, nI_1]
  rfl
theorem ix_6q (x i : Nat) : 6 * nI x + nI i + 2 = nI (6 * x + (i + 2)) := by
  rw [ix_6, show (2 : Int32) = nI 2 from rfl, nI_add]
  congr 1
theorem ix_m1 (n : Nat) (h : 1 ≤ n) : nI n - 1 = nI (n - 1) := by
  rw [show (1 : Int32) = nI 1 from rfl, pk_sub h]
theorem in_5 {x i : Nat} {y : Int32} (hx : x < 80) (hi : i < 5) (e : y = nI (5 * x + i)) : vp_in y 400 := pk_in (5 * x + i) 400 (by omega) e
theorem in_6 {x i : Nat} {y : Int32} (hx : x < 80) (hi : i < 6) (e : y = nI (6 * x + i)) : vp_in y 480 := pk_in (6 * x + i) 480 (by omega) e
end
section
/-! the walks: takeNode, position, descend -/
section
variable {d pl pp sk gv pr fb : Int32} {a1 a2 a3 a4 a5 : Nat → Int32} {a6 : Nat → Int64} {a7 a8 a9 a10 a11 : Nat → Int32}
theorem wk_take7 {post : Int32 → St1 → Prop} {l : Nat} {tk lf sz af : Nat → Nat} (hl : l < 2) (hn : vp_nar .boolean (nI l) = nI l) (hT : cs_1 80 2 a2 tk) (hL : cs_1 80 2 a3 lf) (hS : cs_1 80 6 a4 sz) (hA : cs_A a8 af) {r0 : Nat} (h0 : r0 < 80) (hf : tk r0 = 0)
    (Hp : ∀ r b2 b3 b4 b8, r < 80 → tk r = 0 → cs_1 80 2 b2 (fun n => if n = r then 1 else tk n) → cs_1 80 2 b3 (fun n => if n = r then l else lf n) → cs_1 80 6 b4 (fun n => if n = r then 0 else sz n) → cs_A b8 (fun n => if n = r then 80 else af n) → post (nI r) (d, pl, pp, sk, gv, pr, fb, a1, b2, b3, b4, a5, a6, a7, b8, a9, a10, a11)) :
    ∀ m j, j + m = r0 → wX_takeNode_2 post (nI l) d pl pp sk gv pr fb a1 a2 a3 a4 a5 a6 a7 a8 a9 a10 a11 (m + 1) (nI j) := by
  intro m
  induction m with
  | zero =>
    intro j hj
    have ej : j = r0 := by omega
    subst ej
    refine pk_le 80 j (fun z => absurd z (by omega)) (fun _ => ⟨pk_in j 80 h0, ?_⟩)
    rw [cs_1r hT h0, hf]
    refine br_t nI_0 ⟨pk_in j 80 h0, nm_e ⟨pk_in j 80 h0, nm_e ⟨pk_in j 80 h0, nm_e ⟨pk_in j 80 h0, nm_e ?_⟩⟩⟩⟩
    rw [hn]
    exact Hp j _ _ _ _ h0 hf (cs_1w (v := 1) hT h0 (by omega)) (cs_1w hL h0 hl) (cs_1w (v := 0) hS h0 (by omega)) (cs_Aw (v := 80) hA h0 (by omega) rfl)
  | succ m ih =>
    intro j hj
    have hj8 : j < 80 := by omega
    refine pk_le 80 j (fun z => absurd z (by omega)) (fun _ => ⟨pk_in j 80 hj8, ?_⟩)
    rw [cs_1r hT hj8]
    refine pk_eq (tk j) 0 (fun z => ?_) (fun z => ?_) rfl rfl (by have := (hT j hj8).2; omega)
    · refine ⟨pk_in j 80 hj8, nm_e ⟨pk_in j 80 hj8, nm_e ⟨pk_in j 80 hj8, nm_e ⟨pk_in j 80 hj8, nm_e ?_⟩⟩⟩⟩
      rw [hn]
      exact Hp j _ _ _ _ hj8 z (cs_1w (v := 1) hT hj8 (by omega)) (cs_1w hL hj8 hl) (cs_1w (v := 0) hS hj8 (by omega)) (cs_Aw (v := 80) hA hj8 (by omega) rfl)
    · exact nm_r (nI_1 j) (ih (j + 1) (by omega))
theorem wk_take {post : Int32 → St1 → Prop} {l : Nat} {tk lf sz af : Nat → Nat} (hl : l < 2) (hn : vp_nar .boolean (nI l) = nI l) (hT : cs_1 80 2 a2 tk) (hL : cs_1 80 2 a3 lf) (hS : cs_1 80 6 a4 sz) (hA : cs_A a8 af) (hf : ∃ r, r < 80 ∧ tk r = 0)
    (Hp : ∀ r b2 b3 b4 b8, r < 80 → tk r = 0 → cs_1 80 2 b2 (fun n => if n = r then 1 else tk n) → cs_1 80 2 b3 (fun n => if n = r then l else lf n) → cs_1 80 6 b4 (fun n => if n = r then 0 else sz n) → cs_A b8 (fun n => if n = r then 80 else af n) → post (nI r) (d, pl, pp, sk, gv, pr, fb, a1, b2, b3, b4, a5, a6, a7, b8, a9, a10, a11)) :
    wpX_takeNode post (d, pl, pp, sk, gv, pr, fb, a1, a2, a3, a4, a5, a6, a7, a8, a9, a10, a11) (nI l) := by
  obtain ⟨r, hr, h⟩ := hf
  exact ⟨r + 1, wk_take7 hl hn hT hL hS hA hr h Hp r 0 (by omega)⟩
theorem wk_same {post : Int32 → St1 → Prop} {x1 : Int32} : ∀ m x2, wX_takeNode_2 post x1 d pl pp sk gv pr fb a1 a2 a3 a4 a5 a6 a7 a8 a9 a10 a11 m x2 → wX_takeNode_2_2 post x1 d pl pp sk gv pr fb a1 a2 a3 a4 a5 a6 a7 a8 a9 a10 a11 m x2 := by
  intro m
  induction m with
  | zero => exact fun _ h => h
  | succ m ih =>
    intro x2 h
    exact ⟨h.1, fun z => ⟨(h.2 z).1, (h.2 z).2.1, fun y x2' ex => ih x2' ((h.2 z).2.2 y x2' ex)⟩⟩
theorem wk_take2 {post : Int32 → St1 → Prop} {l : Nat} {tk lf sz af : Nat → Nat} (hl : l < 2) (hn : vp_nar .boolean (nI l) = nI l) (hT : cs_1 80 2 a2 tk) (hL : cs_1 80 2 a3 lf) (hS : cs_1 80 6 a4 sz) (hA : cs_A a8 af) (hf : ∃ r, r < 80 ∧ tk r = 0)
    (Hp : ∀ r b2 b3 b4 b8, r < 80 → tk r = 0 → cs_1 80 2 b2 (fun n => if n = r then 1 else tk n) → cs_1 80 2 b3 (fun n => if n = r then l else lf n) → cs_1 80 6 b4 (fun n => if n = r then 0 else sz n) → cs_A b8 (fun n => if n = r then 80 else af n) → post (nI r) (d, pl, pp, sk, gv, pr, fb, a1, b2, b3, b4, a5, a6, a7, b8, a9, a10, a11)) :
    wpX_takeNode_2 post (d, pl, pp, sk, gv, pr, fb, a1, a2, a3, a4, a5, a6, a7, a8, a9, a10, a11) (nI l) := by
  obtain ⟨r, hr, h⟩ := hf
  exact ⟨r + 1, wk_same _ _ (wk_take7 hl hn hT hL hS hA hr h Hp r 0 (by omega))⟩
/-! position -/
theorem wk_pos5 {post : Int32 → Prop} {x k : Nat} {sz : Nat → Nat} {ky : Nat → Nat → Nat} (hS : cs_1 80 6 a4 sz) (hK : cs_2 5 65536 a5 ky) (hx : x < 80) (hk : k < 2 ^ 31) (srt : ∀ i j, i < j → j < sz x → ky x i < ky x j)
    (Hp : ∀ c, c ≤ sz x → (∀ i, i < c → ky x i < k) → (∀ i, c ≤ i → i < sz x → k ≤ ky x i) → post (nI c)) :
    ∀ m j c, j + m = sz x → c ≤ j → (∀ i, i < c → ky x i < k) → (∀ i, c ≤ i → i < j → k ≤ ky x i) → wX_position_5 post (nI x) (nI k) d pl pp sk gv pr fb a1 a2 a3 a4 a5 a6 a7 a8 a9 a10 a11 (m + 1) (nI c) (nI j) := by
  intro m
  have hz := (hS x hx).2
  induction m with
  | zero =>
    intro j c hj hc h1 h2
    refine ⟨pk_in x 80 hx, ?_⟩
    rw [cs_1r hS hx]
    exact pk_le (sz x) j (fun _ => Hp c (by omega) h1 (fun i a b => h2 i a (by omega))) (fun z => absurd z (by omega))
  | succ m ih =>
    intro j c hj hc h1 h2
    refine ⟨pk_in x 80 hx, ?_⟩
    rw [cs_1r hS hx]
    refine pk_le (sz x) j (fun z => absurd z (by omega)) (fun _ => ⟨in_5 hx (show j < 5 by omega) (ix_5 x j), ?_⟩)
    rw [cs_2r hK hx (show j < 5 by omega) (ix_5 x j)]
    have hkb := (hK x j hx (by omega)).2
    refine pk_le k (ky x j) (fun z => nm_r (nI_1 j) (ih (j + 1) c (by omega) (by omega) h1 (fun i a b => ?_))) (fun z => nm_r (nI_1 j) (nm_r (nI_1 j) (ih (j + 1) (j + 1) (by omega) (by omega) (fun i a => ?_) (fun i a b => absurd a (by omega)))))
    · by_cases e : i = j
      · rw [e]; exact z
      · exact h2 i a (by omega)
    · by_cases e : i = j
      · rw [e]; exact z
      · have := srt i j (by omega) (by omega)
        omega
theorem wk_pos {post : Int32 → Prop} {x k : Nat} {sz : Nat → Nat} {ky : Nat → Nat → Nat} (hS : cs_1 80 6 a4 sz) (hK : cs_2 5 65536 a5 ky) (hx : x < 80) (hk : k < 2 ^ 31) (srt : ∀ i j, i < j → j < sz x → ky x i < ky x j)
    (Hp : ∀ c, c ≤ sz x → (∀ i, i < c → ky x i < k) → (∀ i, c ≤ i → i < sz x → k ≤ ky x i) → post (nI c)) : wpX_position post (d, pl, pp, sk, gv, pr, fb, a1, a2, a3, a4, a5, a6, a7, a8, a9, a10, a11) (nI x) (nI k) :=
  ⟨sz x + 1, wk_pos5 hS hK hx hk srt Hp (sz x) 0 0 (by omega) (by omega) (fun i a => absurd a (by omega)) (fun i a b => absurd b (by omega))⟩
end
/-- the way down: D steps from the root of tree t to node n -/
def cs_W (a9 a10 : Nat → Int32) (ow lv pa ps : Nat → Nat) (t r0 Ht D n : Nat) : Prop := ∃ w : Nat → Nat, w 0 = r0 ∧ w D = n ∧ (∀ j, j ≤ D → w j < 80 ∧ ow (w j) = t ∧ lv (w j) + j = Ht) ∧ (∀ j, j < D → a9 j = nI (w j) ∧ a10 j = nI (ps (w (j + 1))) ∧ pa (w (j + 1)) = w j)
theorem cs_Wup {a9 a10 : Nat → Int32} {ow lv pa ps : Nat → Nat} {t r0 Ht D n : Nat} (h : cs_W a9 a10 ow lv pa ps t r0 Ht (D + 1) n) : a9 D = nI (pa n) ∧ a10 D = nI (ps n) ∧ cs_W a9 a10 ow lv pa ps t r0 Ht D (pa n) := by
  obtain ⟨w, h0, h1, h2, h3⟩ := h
  obtain ⟨g1, g2, g3⟩ := h3 D (by omega)
  rw [h1] at g2 g3
  rw [g3]
  exact ⟨g1, g2, w, h0, rfl, fun j hj => h2 j (by omega), fun j hj => h3 j (by omega)⟩
theorem cs_Wg {a9 a10 : Nat → Int32} {ow lv pa ps ow' lv' pa' ps' : Nat → Nat} {t r0 Ht D n : Nat} (h : cs_W a9 a10 ow lv pa ps t r0 Ht D n) (e : ∀ m, m < 80 → ow m = t → lv n ≤ lv m → ow' m = ow m ∧ lv' m = lv m ∧ pa' m = pa m ∧ ps' m = ps m) : cs_W a9 a10 ow' lv' pa' ps' t r0 Ht D n := by
  obtain ⟨w, h0, h1, h2, h3⟩ := h
  have hD := h2 D (Nat.le_refl D)
  rw [h1] at hD
  have E : ∀ j, j ≤ D → ow' (w j) = ow (w j) ∧ lv' (w j) = lv (w j) ∧ pa' (w j) = pa (w j) ∧ ps' (w j) = ps (w j) := fun j hj => by
    obtain ⟨g1, g2, g3⟩ := h2 j hj
    exact e (w j) g1 g2 (by omega)
  refine ⟨w, h0, h1, fun j hj => ?_, fun j hj => ?_⟩
  · rw [(E j hj).1, (E j hj).2.1]; exact h2 j hj
  · rw [(E (j + 1) (by omega)).2.2.1, (E (j + 1) (by omega)).2.2.2]; exact h3 j hj
theorem cs_Wn {a9 a10 : Nat → Int32} {ow lv pa ps : Nat → Nat} {t r0 Ht D n : Nat} (h : cs_W a9 a10 ow lv pa ps t r0 Ht D n) : n < 80 ∧ ow n = t ∧ lv n + D = Ht := by
  obtain ⟨w, h0, h1, h2, h3⟩ := h
  have := h2 D (Nat.le_refl D)
  rw [h1] at this
  exact this
theorem cs_Wr {a9 a10 : Nat → Int32} {ow lv pa ps : Nat → Nat} {t r0 Ht n : Nat} (h : cs_W a9 a10 ow lv pa ps t r0 Ht 0 n) : n = r0 := by
  obtain ⟨w, h0, h1, h2, h3⟩ := h
  rw [← h0, h1]
/-- one step further down -/
theorem cs_Wd {a9 a10 : Nat → Int32} {ow lv pa ps : Nat → Nat} {t r0 Ht D n m : Nat} (h : cs_W a9 a10 ow lv pa ps t r0 Ht D n) (hD : D < 8) (m1 : m < 80) (m2 : ow m = t) (m3 : lv m + 1 = lv n) (m4 : pa m = n) :
    cs_W (upd a9 (nI D).toNatClampNeg (nI n)) (upd a10 (nI D).toNatClampNeg (nI (ps m))) ow lv pa ps t r0 Ht (D + 1) m := by
  obtain ⟨w, h0, h1, h2, h3⟩ := h
  rw [nI_clamp (by omega)]
  have hDn := h2 D (Nat.le_refl D)
  refine ⟨fun j => if j = D + 1 then m else w j, ?_, ?_, fun j hj => ?_, fun j hj => ?_⟩
  · show (if 0 = D + 1 then m else w 0) = r0
    rw [if_neg (by omega)]; exact h0
  · show (if D + 1 = D + 1 then m else w (D + 1)) = m
    rw [if_pos rfl]
  · show (if j = D + 1 then m else w j) < 80 ∧ ow (if j = D + 1 then m else w j) = t ∧ lv (if j = D + 1 then m else w j) + j = Ht
    by_cases e : j = D + 1
    · rw [if_pos e]
      rw [h1] at hDn
      exact ⟨m1, m2, by omega⟩
    · rw [if_neg e]; exact h2 j (by omega)
  · show upd a9 D (nI n) j = nI (if j = D + 1 then m else w j) ∧ upd a10 D (nI (ps m)) j = nI (ps (if j + 1 = D + 1 then m else w (j + 1))) ∧ pa (if j + 1 = D + 1 then m else w (j + 1)) = (if j = D + 1 then m else w j)
    rw [if_neg (show ¬ j = D + 1 by omega)]
    by_cases e : j = D
    · subst e
      rw [pk_us, pk_us, if_pos rfl, h1]
      exact ⟨rfl, rfl, m4⟩
    · rw [pk_un e, pk_un e, if_neg (by omega)]
      exact h3 j (by omega)
section
variable {d pl pp sk gv pr fb : Int32} {a1 a2 a3 a4 a5 : Nat → Int32} {a6 : Nat → Int64} {a7 a8 a9 a10 a11 : Nat → Int32} {tk lf sz : Nat → Nat} {ky : Nat → Nat → Nat} {vl : Nat → Nat → Int64} {ch : Nat → Nat → Nat} {af ow lv lo hi pa ps rt H : Nat → Nat} {mp : Nat → Nat → Option Int64}
theorem wk_desc37 {post : Int32 → St1 → Prop} {J : Int32 → Int32 → Int32 → (Nat → Int32) → (Nat → Int32) → (Nat → Int32) → (Nat → Int32) → (Nat → Int32) → (Nat → Int64) → (Nat → Int32) → (Nat → Int32) → (Nat → Int32) → (Nat → Int32) → (Nat → Int32) → Prop} {x k D : Nat} {x4 : Int32} (hS : cs_1 80 6 a4 sz) (hK : cs_2 5 65536 a5 ky) (hC : cs_2 6 80 a7 ch) (hx : x < 80) (hk : k < 2 ^ 31) (hD : D < 8) (srt : ∀ i j, i < j → j < sz x → ky x i < ky x j)
    (Hp : ∀ c, c ≤ sz x → (∀ i, i < c → ky x i ≤ k) → (∀ i, c ≤ i → i < sz x → k < ky x i) → J (nI (ch x c)) (x4 + 1) (nI (D + 1)) a1 a2 a3 a4 a5 a6 a7 a8 (upd a9 (nI D).toNatClampNeg (nI x)) (upd a10 (nI D).toNatClampNeg (nI c)) a11) :
    ∀ m j c, j + m = sz x → c ≤ j → (∀ i, i < c → ky x i ≤ k) → (∀ i, c ≤ i → i < j → k < ky x i) → wX_descend_37 post J (nI k) (nI x) x4 (nI D) pl pp sk gv pr fb a1 a2 a3 a4 a5 a6 a7 a8 a9 a10 a11 (m + 1) (nI c) (nI j) := by
  intro m
  have hz := (hS x hx).2
  induction m with
  | zero =>
    intro j c hj hc h1 h2
    refine ⟨pk_in x 80 hx, ?_⟩
    rw [cs_1r hS hx]
    refine pk_le (sz x) j (fun _ => ⟨pk_in D 8 hD, nm_e ⟨pk_in D 8 hD, nm_e (nm_r (nI_1 D) ⟨in_6 hx (show c < 6 by omega) (ix_6 x c), nm_r (cs_2r hC hx (show c < 6 by omega) (ix_6 x c)) (nm_e ?_)⟩)⟩⟩) (fun z => absurd z (by omega))
    exact Hp c (by omega) h1 (fun i a b => h2 i a (by omega))
  | succ m ih =>
    intro j c hj hc h1 h2
    refine ⟨pk_in x 80 hx, ?_⟩
    rw [cs_1r hS hx]
    refine pk_le (sz x) j (fun z => absurd z (by omega)) (fun _ => ⟨in_5 hx (show j < 5 by omega) (ix_5 x j), ?_⟩)
    rw [cs_2r hK hx (show j < 5 by omega) (ix_5 x j)]
    have hkb := (hK x j hx (by omega)).2
    refine pk_lt k (ky x j) (fun z => nm_r (nI_1 j) (ih (j + 1) c (by omega) (by omega) h1 (fun i a b => ?_))) (fun z => nm_r (nI_1 j) (nm_r (nI_1 j) (ih (j + 1) (j + 1) (by omega) (by omega) (fun i a => ?_) (fun i a b => absurd a (by omega)))))
    · by_cases e : i = j
      · rw [e]; exact z
      · exact h2 i a (by omega)
    · by_cases e : i = j
      · rw [e]; exact z
      · have := srt i j (by omega) (by omega)
        omega
theorem wk_desc15 {post : Int32 → St1 → Prop} {t k : Nat} (I : pt_I tk lf sz ky vl ch af ow lv lo hi pa ps rt H mp) (ht : t < 2) (hH : H t ≤ 6) (hL : cs_1 80 2 a3 lf) (hS : cs_1 80 6 a4 sz) (hK : cs_2 5 65536 a5 ky) (hC : cs_2 6 80 a7 ch) (hk : k < 65536)
    (Hp : ∀ n b9 b10, n < 80 → ow n = t → lv n = 0 → lo n ≤ k → k < hi n → cs_W b9 b10 ow lv pa ps t (rt t) (H t) (H t) n → post (nI n) ((nI (H t)), pl, pp, sk, gv, pr, fb, a1, a2, a3, a4, a5, a6, a7, a8, b9, b10, a11)) :
    ∀ m D n a9 a10, D + m = H t → cs_W a9 a10 ow lv pa ps t (rt t) (H t) D n → lo n ≤ k → k < hi n → wX_descend_15 post (nI k) pl pp sk gv pr fb (m + 1) (nI n) (nI D) (nI D) a1 a2 a3 a4 a5 a6 a7 a8 a9 a10 a11 := by
  obtain ⟨J1, J2, J3, J4, J5, J6, J7, J8, J9, J10⟩ := I
  intro m
  induction m with
  | zero =>
    intro D n a9 a10 hD W b1 b2
    obtain ⟨w1, w2, w3⟩ := cs_Wn W
    have hl := (J2 n w1 (by omega)).2.1
    have hlb := (hL n w1).2
    refine pk_le 7 D (fun z => absurd z (by omega)) (fun _ => ⟨pk_in n 80 w1, ?_⟩)
    rw [cs_1r hL w1]
    have hD2 : D = H t := by omega
    subst hD2
    refine pk_eq (lf n) 0 (fun z => absurd z (by omega)) (fun _ => Hp n a9 a10 w1 w2 (by omega) b1 b2 W)
  | succ m ih =>
    intro D n a9 a10 hD W b1 b2
    obtain ⟨w1, w2, w3⟩ := cs_Wn W
    have hl := (J2 n w1 (by omega)).2.1
    have hlb := (hL n w1).2
    refine pk_le 7 D (fun z => absurd z (by omega)) (fun _ => ⟨pk_in n 80 w1, ?_⟩)
    rw [cs_1r hL w1]
    refine pk_eq (lf n) 0 (fun z => ⟨sz n + 1, ?_⟩) (fun z => absurd z (by omega))
    refine wk_desc37 hS hK hC w1 (by omega) (by omega) (fun i j => J4 n i j w1 (by omega)) (fun c c1 c2 c3 => ?_) (sz n) 0 0 (by omega) (by omega) (fun i a => absurd a (by omega)) (fun i a b => absurd b (by omega))
    obtain ⟨h1, h2, h3, h4, h5, h6, h7⟩ := J5 n c w1 (by omega) (by omega) c1
    have W' := cs_Wd W (by omega) h1 (by omega) h3 h4
    rw [h5] at W'
    rw [nI_1]
    refine ih (D + 1) (ch n c) _ _ (by omega) W' ?_ ?_
    · rw [h6]
      by_cases e : c = 0
      · rw [if_pos e]; exact b1
      · rw [if_neg e]; exact c2 (c - 1) (by omega)
    · rw [h7]
      by_cases e : c = sz n
      · rw [if_pos e]; exact b2
      · rw [if_neg e]; exact c3 c (Nat.le_refl c) (by omega)
theorem wk_desc {post : Int32 → St1 → Prop} {t k : Nat} (I : pt_I tk lf sz ky vl ch af ow lv lo hi pa ps rt H mp) (ht : t < 2) (hH : H t ≤ 6) (hR : cs_1 2 80 a1 rt) (hL : cs_1 80 2 a3 lf) (hS : cs_1 80 6 a4 sz) (hK : cs_2 5 65536 a5 ky) (hC : cs_2 6 80 a7 ch) (hk : k < 65536)
    (Hp : ∀ n b9 b10, n < 80 → ow n = t → lv n = 0 → lo n ≤ k → k < hi n → cs_W b9 b10 ow lv pa ps t (rt t) (H t) (H t) n → post (nI n) ((nI (H t)), pl, pp, sk, gv, pr, fb, a1, a2, a3, a4, a5, a6, a7, a8, b9, b10, a11)) : wpX_descend post (d, pl, pp, sk, gv, pr, fb, a1, a2, a3, a4, a5, a6, a7, a8, a9, a10, a11) (nI t) (nI k) := by
  have I' := I
  obtain ⟨J1, J2, J3, J4, J5, J6, J7, J8, J9, J10⟩ := I'
  obtain ⟨x1, x2, x3, x4, x5, x6⟩ := J8 t ht
  refine ⟨pk_in t 2 ht, nm_r (cs_1r hR ht) ⟨H t + 1, ?_⟩⟩
  exact wk_desc15 I ht hH hL hS hK hC hk Hp (H t) 0 (rt t) a9 a10 (by omega) ⟨fun _ => rt t, rfl, rfl, fun j hj => ⟨x1, x2, by rw [show j = 0 by omega]; exact x3⟩, fun j hj => absurd hj (by omega)⟩ (by omega) (by omega)
end
end
section
/-! the walks: openSlot, splitLeaf, splitInner, insertChild, growRoot -/
theorem ix_51 (x : Nat) : 5 * nI x + 1 = nI (5 * x + 1) := ix_5 x 1
theorem ix_52 (x : Nat) : 5 * nI x + 2 = nI (5 * x + 2) := ix_5 x 2
theorem ix_53 (x : Nat) : 5 * nI x + 3 = nI (5 * x + 3) := ix_5 x 3
theorem ix_54 (x : Nat) : 5 * nI x + 4 = nI (5 * x + 4) := ix_5 x 4
theorem ix_61 (x : Nat) : 6 * nI x + 1 = nI (6 * x + 1) := ix_6 x 1
theorem ix_5mm (x i : Nat) (h : 2 ≤ i) : 5 * nI x + nI i - 2 = nI (5 * x + (i - 2)) := by
  rw [ix_5, show (2 : Int32) = nI 2 from rfl, pk_sub (by omega)]
  congr 1
  omega
theorem ix_6mm (x i : Nat) (h : 3 ≤ i) : 6 * nI x + nI i - 3 = nI (6 * x + (i - 3)) := by
  rw [ix_6, show (3 : Int32) = nI 3 from rfl, pk_sub (by omega)]
  congr 1
  omega
section
variable {d pl pp sk gv pr fb : Int32} {a1 a2 a3 a4 a5 : Nat → Int32} {a6 : Nat → Int64} {a7 a8 a9 a10 a11 : Nat → Int32} {tk lf sz af rt : Nat → Nat} {ky ch : Nat → Nat → Nat} {vl : Nat → Nat → Int64}
theorem wk_open7 {post : St1 → Prop} {x c : Nat} (hx : x < 80) (hc : c ≤ sz x) (hz : sz x ≤ 4) (hS : cs_1 80 6 a4 sz) (hK : ∀ i, i < 5 → ky x i < 65536)
    (Hp : ∀ b4 b5 b6, cs_1 80 6 b4 (fun n => if n = x then sz x + 1 else sz n) → cs_2 5 65536 b5 (fun n i => if n = x ∧ c < i ∧ i ≤ sz x then ky x (i - 1) else ky n i) → cs_V b6 (fun n i => if n = x ∧ c < i ∧ i ≤ sz x then vl x (i - 1) else vl n i) → post (d, pl, pp, sk, gv, pr, fb, a1, a2, a3, b4, b5, b6, a7, a8, a9, a10, a11)) :
    ∀ m a5 a6, c + m ≤ sz x → cs_2 5 65536 a5 (fun n i => if n = x ∧ c + m < i ∧ i ≤ sz x then ky x (i - 1) else ky n i) → cs_V a6 (fun n i => if n = x ∧ c + m < i ∧ i ≤ sz x then vl x (i - 1) else vl n i) → wX_openSlot_7 post (nI x) (nI c) d pl pp sk gv pr fb (m + 1) (nI (c + m)) a1 a2 a3 a4 a5 a6 a7 a8 a9 a10 a11 := by
  intro m
  induction m with
  | zero =>
    intro a5 a6 hm h5 h6
    refine pk_le (c + 0) c (fun _ => ⟨pk_in x 80 hx, pk_in x 80 hx, nm_e ?_⟩) (fun z => absurd z (by omega))
    rw [cs_1r hS hx, nI_1]
    exact Hp _ _ _ (cs_1w hS hx (by omega)) h5 h6
  | succ m ih =>
    intro a5 a6 hm h5 h6
    have e1 := ix_5 x (c + (m + 1))
    have e2 := ix_5m x (c + (m + 1)) (by omega)
    have i1 : c + (m + 1) < 5 := by omega
    have i2 : c + (m + 1) - 1 < 5 := by omega
    refine pk_le (c + (m + 1)) c (fun z => absurd z (by omega)) (fun _ => ⟨in_5 hx i2 e2, in_5 hx i1 e1, nm_e ⟨in_5 hx i2 e2, in_5 hx i1 e1, nm_e (nm_r (pk_m1 (c + m)) ?_)⟩⟩)
    rw [cs_2r h5 hx i2 e2, cs_Vr h6 hx i2 e2]
    simp only [show ¬ (c + (m + 1) < c + (m + 1) - 1) by omega, and_false, false_and, if_false]
    refine ih _ _ (by omega) (cs_2c (cs_2w h5 hx i1 e1 (hK _ i2)) (fun n i hn hi => ?_)) (cs_Vc (cs_Vw h6 hx i1 e1) (fun n i hn hi => ?_))
    · by_cases e : n = x ∧ i = c + (m + 1)
      · obtain ⟨rfl, rfl⟩ := e
        rw [if_pos ⟨rfl, by omega, by omega⟩, if_pos ⟨rfl, rfl⟩]
      · rw [if_neg e]
        by_cases f : n = x ∧ c + m < i ∧ i ≤ sz x
        · rw [if_pos f, if_pos ⟨f.1, by omega, f.2.2⟩]
        · rw [if_neg f, if_neg (by omega)]
    · by_cases e : n = x ∧ i = c + (m + 1)
      · obtain ⟨rfl, rfl⟩ := e
        rw [if_pos ⟨rfl, by omega, by omega⟩, if_pos ⟨rfl, rfl⟩]
      · rw [if_neg e]
        by_cases f : n = x ∧ c + m < i ∧ i ≤ sz x
        · rw [if_pos f, if_pos ⟨f.1, by omega, f.2.2⟩]
        · rw [if_neg f, if_neg (by omega)]
theorem wk_open {post : St1 → Prop} {x c : Nat} (hx : x < 80) (hc : c ≤ sz x) (hz : sz x ≤ 4) (hS : cs_1 80 6 a4 sz) (hK : cs_2 5 65536 a5 ky) (hV : cs_V a6 vl)
    (Hp : ∀ b4 b5 b6, cs_1 80 6 b4 (fun n => if n = x then sz x + 1 else sz n) → cs_2 5 65536 b5 (fun n i => if n = x ∧ c < i ∧ i ≤ sz x then ky x (i - 1) else ky n i) → cs_V b6 (fun n i => if n = x ∧ c < i ∧ i ≤ sz x then vl x (i - 1) else vl n i) → post (d, pl, pp, sk, gv, pr, fb, a1, a2, a3, b4, b5, b6, a7, a8, a9, a10, a11)) : wpX_openSlot post (d, pl, pp, sk, gv, pr, fb, a1, a2, a3, a4, a5, a6, a7, a8, a9, a10, a11) (nI x) (nI c) := by
  refine ⟨pk_in x 80 hx, nm_r (cs_1r hS hx) ⟨sz x - c + 1, ?_⟩⟩
  have := wk_open7 (post := post) (d := d) (pl := pl) (pp := pp) (sk := sk) (gv := gv) (pr := pr) (fb := fb) (a1 := a1) (a2 := a2) (a3 := a3) (a7 := a7) (a8 := a8) (a9 := a9) (a10 := a10) (a11 := a11) hx hc hz hS (fun i hi => (hK x i hx hi).2) Hp (sz x - c) a5 a6 (by omega) (cs_2c hK (fun n i hn hi => by rw [if_neg (by omega)])) (cs_Vc hV (fun n i hn hi => by rw [if_neg (by omega)]))
  rw [show c + (sz x - c) = sz x by omega] at this
  exact this
theorem wk_sleaf8 {post : Int32 → St1 → Prop} {x r : Nat} (hx : x < 80) (hr : r < 80) (hxr : x ≠ r) (hS : cs_1 80 6 a4 sz) (hA : cs_A a8 af) (hK : ∀ i, i < 5 → ky x i < 65536)
    (Hp : ∀ b4 b5 b6 b8, cs_1 80 6 b4 (fun n => if n = x then 2 else if n = r then 3 else sz n) → cs_2 5 65536 b5 (fun n i => if n = r ∧ i < 3 then ky x (i + 2) else ky n i) → cs_V b6 (fun n i => if n = r ∧ i < 3 then vl x (i + 2) else vl n i) → cs_A b8 (fun n => if n = x then r else if n = r then af x else af n) → post (nI r) (d, pl, pp, (nI (ky x 2)), gv, pr, fb, a1, a2, a3, b4, b5, b6, a7, b8, a9, a10, a11)) :
    ∀ m j a5 a6, j + m = 5 → 2 ≤ j → cs_2 5 65536 a5 (fun n i => if n = r ∧ i + 2 < j then ky x (i + 2) else ky n i) → cs_V a6 (fun n i => if n = r ∧ i + 2 < j then vl x (i + 2) else vl n i) → wX_splitLeaf_8 post (nI x) (nI r) d pl pp sk gv pr fb (m + 1) (nI j) a1 a2 a3 a4 a5 a6 a7 a8 a9 a10 a11 := by
  intro m
  induction m with
  | zero =>
    intro j a5 a6 hj hj2 h5 h6
    have ej : j = 5 := by omega
    subst ej
    refine pk_le 5 5 (fun _ => ⟨pk_in r 80 hr, nm_e ⟨pk_in x 80 hx, nm_e ⟨pk_in x 80 hx, pk_in r 80 hr, nm_e ⟨pk_in x 80 hx, nm_e ⟨in_5 hr (show 0 < 5 by omega) (ix_50 r), nm_r (cs_2r h5 hr (show 0 < 5 by omega) (ix_50 r)) ?_⟩⟩⟩⟩⟩) (fun z => absurd z (by omega))
    rw [cs_Ar hA hx, if_pos (show r = r ∧ 0 + 2 < 5 from ⟨rfl, by omega⟩)]
    have hB := cs_Aw hA hr (hA x hx).2 rfl
    have hB2 := cs_Aw (v := r) (x := nI r) hB hx (by omega) (by rw [if_neg (by omega)])
    exact Hp _ _ _ _ (cs_1w (v := 2) (cs_1w (v := 3) hS hr (by omega)) hx (by omega)) (cs_2c h5 (fun n i hn hi => by
      by_cases e : n = r ∧ i < 3
      · rw [if_pos e, if_pos ⟨e.1, by omega⟩]
      · rw [if_neg e, if_neg (by omega)])) (cs_Vc h6 (fun n i hn hi => by
      by_cases e : n = r ∧ i < 3
      · rw [if_pos e, if_pos ⟨e.1, by omega⟩]
      · rw [if_neg e, if_neg (by omega)])) hB2
  | succ m ih =>
    intro j a5 a6 hj hj2 h5 h6
    have e1 := ix_5 x j
    have e2 := ix_5mm r j hj2
    have i1 : j < 5 := by omega
    have i2 : j - 2 < 5 := by omega
    refine pk_le 5 j (fun z => absurd z (by omega)) (fun _ => ⟨in_5 hx i1 e1, in_5 hr i2 e2, nm_e ⟨in_5 hx i1 e1, in_5 hr i2 e2, nm_e (nm_r (nI_1 j) ?_)⟩⟩)
    rw [cs_2r h5 hx i1 e1, cs_Vr h6 hx i1 e1]
    simp only [if_neg (show ¬ (x = r ∧ j + 2 < j) by omega)]
    refine ih (j + 1) _ _ (by omega) (by omega) (cs_2c (cs_2w h5 hr i2 e2 (hK j i1)) (fun n i hn hi => ?_)) (cs_Vc (cs_Vw h6 hr i2 e2) (fun n i hn hi => ?_))
    · by_cases e : n = r ∧ i = j - 2
      · obtain ⟨rfl, rfl⟩ := e
        rw [if_pos ⟨rfl, by omega⟩, if_pos ⟨rfl, rfl⟩]
        congr 1
        omega
      · rw [if_neg e]
        by_cases f : n = r ∧ i + 2 < j + 1
        · rw [if_pos f, if_pos ⟨f.1, by omega⟩]
        · rw [if_neg f, if_neg (by omega)]
    · by_cases e : n = r ∧ i = j - 2
      · obtain ⟨rfl, rfl⟩ := e
        rw [if_pos ⟨rfl, by omega⟩, if_pos ⟨rfl, rfl⟩]
        congr 1
        omega
      · rw [if_neg e]
        by_cases f : n = r ∧ i + 2 < j + 1
        · rw [if_pos f, if_pos ⟨f.1, by omega⟩]
        · rw [if_neg f, if_neg (by omega)]
theorem wk_sleaf {post : Int32 → St1 → Prop} {x : Nat} (hx : x < 80) (htx : tk x ≠ 0) (hT : cs_1 80 2 a2 tk) (hL : cs_1 80 2 a3 lf) (hS : cs_1 80 6 a4 sz) (hK : cs_2 5 65536 a5 ky) (hV : cs_V a6 vl) (hA : cs_A a8 af) (hf : ∃ r, r < 80 ∧ tk r = 0)
    (Hp : ∀ r b2 b3 b4 b5 b6 b8, r < 80 → tk r = 0 → cs_1 80 2 b2 (fun n => if n = r then 1 else tk n) → cs_1 80 2 b3 (fun n => if n = r then 1 else lf n) → cs_1 80 6 b4 (fun n => if n = x then 2 else if n = r then 3 else sz n) → cs_2 5 65536 b5 (fun n i => if n = r ∧ i < 3 then ky x (i + 2) else ky n i) → cs_V b6 (fun n i => if n = r ∧ i < 3 then vl x (i + 2) else vl n i) → cs_A b8 (fun n => if n = x then r else if n = r then af x else af n) → post (nI r) (d, pl, pp, (nI (ky x 2)), gv, pr, fb, a1, b2, b3, b4, b5, b6, a7, b8, a9, a10, a11)) :
    wpX_splitLeaf post (d, pl, pp, sk, gv, pr, fb, a1, a2, a3, a4, a5, a6, a7, a8, a9, a10, a11) (nI x) := by
  refine wk_take2 (l := 1) (by omega) rfl hT hL hS hA hf (fun r b2 b3 b4 b8 hr h0 g2 g3 g4 g8 => ?_)
  have hxr : x ≠ r := fun e => htx (by rw [e]; exact h0)
  refine ⟨4, wk_sleaf8 hx hr hxr g4 g8 (fun i hi => (hK x i hx hi).2) (fun c4 c5 c6 c8 h4 h5 h6 h8 => Hp r b2 b3 c4 c5 c6 c8 hr h0 g2 g3 (cs_1c h4 (fun n hn => ?_)) h5 h6 (cs_Ac h8 (fun n hn => ?_))) 3 2 a5 a6 (by omega) (by omega) (cs_2c hK (fun n i hn hi => by rw [if_neg (by omega)])) (cs_Vc hV (fun n i hn hi => by rw [if_neg (by omega)]))⟩
  · by_cases e : n = x
    · rw [if_pos e, if_pos e]
    · rw [if_neg e, if_neg e]
      by_cases f : n = r
      · rw [if_pos f, if_pos f]
      · rw [if_neg f, if_neg f, if_neg f]
  · by_cases e : n = x
    · rw [if_pos e, if_pos e]
    · rw [if_neg e, if_neg e]
      by_cases f : n = r
      · rw [if_pos f, if_pos f, if_neg hxr]
      · rw [if_neg f, if_neg f, if_neg f]
theorem wk_sin60 {post : Int32 → St1 → Prop} {x r : Nat} (hx : x < 80) (hr : r < 80) (hxr : x ≠ r) (hS : cs_1 80 6 a4 sz) (hC : ∀ i, i < 6 → ch x i < 80)
    (Hp : ∀ b4 b7, cs_1 80 6 b4 (fun n => if n = x then 2 else if n = r then 2 else sz n) → cs_2 6 80 b7 (fun n i => if n = r ∧ i < 3 then ch x (i + 3) else ch n i) → post (nI r) (d, pl, pp, sk, gv, pr, fb, a1, a2, a3, b4, a5, a6, b7, a8, a9, a10, a11)) :
    ∀ m j a7, j + m = 6 → 3 ≤ j → cs_2 6 80 a7 (fun n i => if n = r ∧ i + 3 < j then ch x (i + 3) else ch n i) → wX_splitInner_60 post (nI x) (nI r) d pl pp sk gv pr fb (m + 1) (nI j) a1 a2 a3 a4 a5 a6 a7 a8 a9 a10 a11 := by
  intro m
  induction m with
  | zero =>
    intro j a7 hj hj2 h7
    have ej : j = 6 := by omega
    subst ej
    refine pk_le 6 6 (fun _ => ⟨pk_in r 80 hr, nm_e ⟨pk_in x 80 hx, nm_e ?_⟩⟩) (fun z => absurd z (by omega))
    exact Hp _ _ (cs_1w (v := 2) (cs_1w (v := 2) hS hr (by omega)) hx (by omega)) (cs_2c h7 (fun n i hn hi => by
      by_cases e : n = r ∧ i < 3
      · rw [if_pos e, if_pos ⟨e.1, by omega⟩]
      · rw [if_neg e, if_neg (by omega)]))
  | succ m ih =>
    intro j a7 hj hj2 h7
    have e1 := ix_6 x j
    have e2 := ix_6mm r j hj2
    have i1 : j < 6 := by omega
    have i2 : j - 3 < 6 := by omega
    refine pk_le 6 j (fun z => absurd z (by omega)) (fun _ => ⟨in_6 hx i1 e1, in_6 hr i2 e2, nm_e (nm_r (nI_1 j) ?_)⟩)
    rw [cs_2r h7 hx i1 e1]
    simp only [if_neg (show ¬ (x = r ∧ j + 3 < j) by omega)]
    refine ih (j + 1) _ (by omega) (by omega) (cs_2c (cs_2w h7 hr i2 e2 (hC j i1)) (fun n i hn hi => ?_))
    by_cases e : n = r ∧ i = j - 3
    · obtain ⟨rfl, rfl⟩ := e
      rw [if_pos ⟨rfl, by omega⟩, if_pos ⟨rfl, rfl⟩]
      congr 1
      omega
    · rw [if_neg e]
      by_cases f : n = r ∧ i + 3 < j + 1
      · rw [if_pos f, if_pos ⟨f.1, by omega⟩]
      · rw [if_neg f, if_neg (by omega)]
theorem wk_sin {post : Int32 → St1 → Prop} {x : Nat} (hx : x < 80) (htx : tk x ≠ 0) (hT : cs_1 80 2 a2 tk) (hL : cs_1 80 2 a3 lf) (hS : cs_1 80 6 a4 sz) (hK : cs_2 5 65536 a5 ky) (hC : cs_2 6 80 a7 ch) (hA : cs_A a8 af) (hf : ∃ r, r < 80 ∧ tk r = 0)
    (Hp : ∀ r b2 b3 b4 b5 b7 b8, r < 80 → tk r = 0 → cs_1 80 2 b2 (fun n => if n = r then 1 else tk n) → cs_1 80 2 b3 (fun n => if n = r then 0 else lf n) → cs_1 80 6 b4 (fun n => if n = x then 2 else if n = r then 2 else sz n) → cs_2 5 65536 b5 (fun n i => if n = r ∧ i < 2 then ky x (i + 3) else ky n i) → cs_2 6 80 b7 (fun n i => if n = r ∧ i < 3 then ch x (i + 3) else ch n i) → cs_A b8 (fun n => if n = r then 80 else af n) → post (nI r) (d, pl, pp, (nI (ky x 2)), gv, pr, fb, a1, b2, b3, b4, b5, a6, b7, b8, a9, a10, a11)) :
    wpX_splitInner post (d, pl, pp, sk, gv, pr, fb, a1, a2, a3, a4, a5, a6, a7, a8, a9, a10, a11) (nI x) := by
  refine wk_take2 (l := 0) (by omega) rfl hT hL hS hA hf (fun r b2 b3 b4 b8 hr h0 g2 g3 g4 g8 => ?_)
  have hxr : x ≠ r := fun e => htx (by rw [e]; exact h0)
  have L2 : 2 < 5 := by omega
  have L3 : 3 < 5 := by omega
  have L4 : 4 < 5 := by omega
  have L0 : 0 < 5 := by omega
  have L1 : 1 < 5 := by omega
  have u1 := cs_2w hK hr L0 (ix_50 r) (hK x 3 hx L3).2
  have u2 := cs_2w u1 hr L1 (ix_51 r) (hK x 4 hx L4).2
  refine ⟨in_5 hx L2 (ix_52 x), nm_r (cs_2r hK hx L2 (ix_52 x)) ⟨in_5 hx L3 (ix_53 x), in_5 hr L0 (ix_50 r), nm_e ⟨in_5 hx L4 (ix_54 x), in_5 hr L1 (ix_51 r), nm_e ?_⟩⟩⟩
  rw [cs_2r hK hx L3 (ix_53 x), cs_2r u1 hx L4 (ix_54 x)]
  simp only [if_neg (show ¬ (x = r ∧ 4 = 0) by omega)]
  refine ⟨4, wk_sin60 hx hr hxr g4 (fun i hi => (hC x i hx hi).2) (fun c4 c7 h4 h7 => Hp r b2 b3 c4 _ c7 b8 hr h0 g2 g3 (cs_1c h4 (fun n hn => ?_)) (cs_2c u2 (fun n i hn hi => ?_)) h7 g8) 3 3 a7 (by omega) (by omega) (cs_2c hC (fun n i hn hi => by rw [if_neg (by omega)]))⟩
  · by_cases e : n = x
    · rw [if_pos e, if_pos e]
    · rw [if_neg e, if_neg e]
      by_cases f : n = r
      · rw [if_pos f, if_pos f]
      · rw [if_neg f, if_neg f, if_neg f]
  · by_cases e : n = r ∧ i < 2
    · rw [if_pos e]
      obtain ⟨rfl, e2⟩ := e
      by_cases f : i = 1
      · subst f; rw [if_pos ⟨rfl, rfl⟩]
      · have : i = 0 := by omega
        subst this
        rw [if_neg (by omega), if_pos ⟨rfl, rfl⟩]
    · rw [if_neg e, if_neg (by omega), if_neg (by omega)]
theorem wk_ins8 {post : St1 → Prop} {p s r K0 : Nat} (hp : p < 80) (hr : r < 80) (hs : s ≤ sz p) (hz : sz p ≤ 4) (hS : cs_1 80 6 a4 sz) (hK : ∀ i, i < 5 → ky p i < 65536) (hC : ∀ i, i < 6 → ch p i < 80) (hK0 : K0 < 65536)
    (Hp : ∀ b4 b5 b7, cs_1 80 6 b4 (fun n => if n = p then sz p + 1 else sz n) → cs_2 5 65536 b5 (fun n i => if n = p ∧ i = s then K0 else if n = p ∧ s < i ∧ i ≤ sz p then ky p (i - 1) else ky n i) → cs_2 6 80 b7 (fun n i => if n = p ∧ i = s + 1 then r else if n = p ∧ s + 1 < i ∧ i ≤ sz p + 1 then ch p (i - 1) else ch n i) → post (d, pl, pp, (nI K0), gv, pr, fb, a1, a2, a3, b4, b5, a6, b7, a8, a9, a10, a11)) :
    ∀ m a5 a7, s + m ≤ sz p → cs_2 5 65536 a5 (fun n i => if n = p ∧ s + m < i ∧ i ≤ sz p then ky p (i - 1) else ky n i) → cs_2 6 80 a7 (fun n i => if n = p ∧ s + m + 1 < i ∧ i ≤ sz p + 1 then ch p (i - 1) else ch n i) → wX_insertChild_8 post (nI p) (nI s) (nI r) d pl pp (nI K0) gv pr fb (m + 1) (nI (s + m)) a1 a2 a3 a4 a5 a6 a7 a8 a9 a10 a11 := by
  intro m
  induction m with
  | zero =>
    intro a5 a7 hm h5 h7
    refine pk_le (s + 0) s (fun _ => ⟨in_5 hp (show s < 5 by omega) (ix_5 p s), nm_e ⟨in_6 hp (show s + 1 < 6 by omega) (ix_6p p s), nm_e ⟨pk_in p 80 hp, pk_in p 80 hp, nm_e ?_⟩⟩⟩) (fun z => absurd z (by omega))
    rw [cs_1r hS hp, nI_1]
    exact Hp _ _ _ (cs_1w hS hp (by omega)) (cs_2w h5 hp (show s < 5 by omega) (ix_5 p s) hK0) (cs_2w h7 hp (show s + 1 < 6 by omega) (ix_6p p s) hr)
  | succ m ih =>
    intro a5 a7 hm h5 h7
    have e1 := ix_5 p (s + (m + 1))
    have e2 := ix_5m p (s + (m + 1)) (by omega)
    have e3 := ix_6 p (s + (m + 1))
    have e4 := ix_6p p (s + (m + 1))
    have i1 : s + (m + 1) < 5 := by omega
    have i2 : s + (m + 1) - 1 < 5 := by omega
    have i3 : s + (m + 1) < 6 := by omega
    have i4 : s + (m + 1) + 1 < 6 := by omega
    refine pk_le (s + (m + 1)) s (fun z => absurd z (by omega)) (fun _ => ⟨in_5 hp i2 e2, in_5 hp i1 e1, nm_e ⟨in_6 hp i3 e3, in_6 hp i4 e4, nm_e (nm_r (pk_m1 (s + m)) ?_)⟩⟩)
    rw [cs_2r h5 hp i2 e2, cs_2r h7 hp i3 e3]
    simp only [show ¬ (s + (m + 1) < s + (m + 1) - 1) by omega, show ¬ (s + (m + 1) + 1 < s + (m + 1)) by omega, and_false, false_and, if_false]
    refine ih _ _ (by omega) (cs_2c (cs_2w h5 hp i1 e1 (hK _ i2)) (fun n i hn hi => ?_)) (cs_2c (cs_2w h7 hp i4 e4 (hC _ i3)) (fun n i hn hi => ?_))
    · by_cases e : n = p ∧ i = s + (m + 1)
      · obtain ⟨rfl, rfl⟩ := e
        rw [if_pos ⟨rfl, by omega, by omega⟩, if_pos ⟨rfl, rfl⟩]
      · rw [if_neg e]
        by_cases f : n = p ∧ s + m < i ∧ i ≤ sz p
        · rw [if_pos f, if_pos ⟨f.1, by omega, f.2.2⟩]
        · rw [if_neg f, if_neg (by omega)]
    · by_cases e : n = p ∧ i = s + (m + 1) + 1
      · obtain ⟨rfl, rfl⟩ := e
        rw [if_pos ⟨rfl, by omega, by omega⟩, if_pos ⟨rfl, rfl⟩]
        rfl
      · rw [if_neg e]
        by_cases f : n = p ∧ s + m + 1 < i ∧ i ≤ sz p + 1
        · rw [if_pos f, if_pos ⟨f.1, by omega, f.2.2⟩]
        · rw [if_neg f, if_neg (by omega)]
theorem wk_ins {post : St1 → Prop} {p s r K0 : Nat} (hp : p < 80) (hr : r < 80) (hs : s ≤ sz p) (hz : sz p ≤ 4) (hS : cs_1 80 6 a4 sz) (hK : cs_2 5 65536 a5 ky) (hC : cs_2 6 80 a7 ch) (hK0 : K0 < 65536)
    (Hp : ∀ b4 b5 b7, cs_1 80 6 b4 (fun n => if n = p then sz p + 1 else sz n) → cs_2 5 65536 b5 (fun n i => if n = p ∧ i = s then K0 else if n = p ∧ s < i ∧ i ≤ sz p then ky p (i - 1) else ky n i) → cs_2 6 80 b7 (fun n i => if n = p ∧ i = s + 1 then r else if n = p ∧ s + 1 < i ∧ i ≤ sz p + 1 then ch p (i - 1) else ch n i) → post (d, pl, pp, (nI K0), gv, pr, fb, a1, a2, a3, b4, b5, a6, b7, a8, a9, a10, a11)) :
    wpX_insertChild post (d, pl, pp, (nI K0), gv, pr, fb, a1, a2, a3, a4, a5, a6, a7, a8, a9, a10, a11) (nI p) (nI s) (nI r) := by
  refine ⟨pk_in p 80 hp, nm_r (cs_1r hS hp) ⟨sz p - s + 1, ?_⟩⟩
  have := wk_ins8 (post := post) (d := d) (pl := pl) (pp := pp) (gv := gv) (pr := pr) (fb := fb) (a1 := a1) (a2 := a2) (a3 := a3) (a6 := a6) (a8 := a8) (a9 := a9) (a10 := a10) (a11 := a11) hp hr hs hz hS (fun i hi => (hK p i hp hi).2) (fun i hi => (hC p i hp hi).2) hK0 Hp (sz p - s) a5 a7 (by omega) (cs_2c hK (fun n i hn hi => by rw [if_neg (by omega)])) (cs_2c hC (fun n i hn hi => by rw [if_neg (by omega)]))
  rw [show s + (sz p - s) = sz p by omega] at this
  exact this
theorem wk_grow {post : St1 → Prop} {t r K0 : Nat} (ht : t < 2) (hr : r < 80) (hK0 : K0 < 65536) (hR : cs_1 2 80 a1 rt) (hT : cs_1 80 2 a2 tk) (hL : cs_1 80 2 a3 lf) (hS : cs_1 80 6 a4 sz) (hK : cs_2 5 65536 a5 ky) (hC : cs_2 6 80 a7 ch) (hA : cs_A a8 af) (hf : ∃ r, r < 80 ∧ tk r = 0)
    (Hp : ∀ w b1 b2 b3 b4 b5 b7 b8, w < 80 → tk w = 0 → cs_1 2 80 b1 (fun n => if n = t then w else rt n) → cs_1 80 2 b2 (fun n => if n = w then 1 else tk n) → cs_1 80 2 b3 (fun n => if n = w then 0 else lf n) → cs_1 80 6 b4 (fun n => if n = w then 1 else sz n) → cs_2 5 65536 b5 (fun n i => if n = w ∧ i = 0 then K0 else ky n i) → cs_2 6 80 b7 (fun n i => if n = w ∧ i = 1 then r else if n = w ∧ i = 0 then rt t else ch n i) → cs_A b8 (fun n => if n = w then 80 else af n) → post (d, pl, pp, (nI K0), gv, pr, fb, b1, b2, b3, b4, b5, a6, b7, b8, a9, a10, a11)) :
    wpX_growRoot post (d, pl, pp, (nI K0), gv, pr, fb, a1, a2, a3, a4, a5, a6, a7, a8, a9, a10, a11) (nI t) (nI r) := by
  refine wk_take2 (l := 0) (by omega) rfl hT hL hS hA hf (fun w b2 b3 b4 b8 hw h0 g2 g3 g4 g8 => ?_)
  have L0 : 0 < 5 := by omega
  have M0 : 0 < 6 := by omega
  have M1 : 1 < 6 := by omega
  refine ⟨in_5 hw L0 (ix_50 w), nm_e ⟨pk_in t 2 ht, in_6 hw M0 (ix_60 w), nm_e ⟨in_6 hw M1 (ix_61 w), nm_e ⟨pk_in w 80 hw, nm_e ⟨pk_in t 2 ht, nm_e ?_⟩⟩⟩⟩⟩
  rw [cs_1r hR ht]
  exact Hp w _ _ _ _ _ _ _ hw h0 (cs_1w hR ht hw) g2 g3 (cs_1c (cs_1w (v := 1) g4 hw (by omega)) (fun n hn => by
    by_cases e : n = w
    · rw [if_pos e, if_pos e]
    · rw [if_neg e, if_neg e, if_neg e])) (cs_2w hK hw L0 (ix_50 w) hK0) (cs_2w (cs_2w hC hw M0 (ix_60 w) (hR t ht).2) hw M1 (ix_61 w) hr) g8
end
end
section
/-! the walks: merge, borrowFromRight, borrowFromLeft -/
theorem nI_p1 (n : Nat) : nI n + 1 = nI (n + 1) := nI_1 n
section
variable {d pl pp sk gv pr fb : Int32} {a1 a2 a3 a4 a5 : Nat → Int32} {a6 : Nat → Int64} {a7 a8 a9 a10 a11 : Nat → Int32} {tk lf sz af rt : Nat → Nat} {ky ch : Nat → Nat → Nat} {vl : Nat → Nat → Int64}
theorem wk_mrg232 {post : St1 → Prop} {p s : Nat} (hp : p < 80) (hs : s + 1 ≤ sz p) (hz : sz p ≤ 4) (hS : cs_1 80 6 a4 sz) (hK : ∀ i, i < 5 → ky p i < 65536) (hC : ∀ i, i < 6 → ch p i < 80)
    (Hp : ∀ b4 b5 b7, cs_1 80 6 b4 (fun n => if n = p then sz p - 1 else sz n) → cs_2 5 65536 b5 (fun n i => if n = p ∧ s ≤ i ∧ i + 1 < sz p then ky p (i + 1) else ky n i) → cs_2 6 80 b7 (fun n i => if n = p ∧ s < i ∧ i + 1 ≤ sz p then ch p (i + 1) else ch n i) → post (d, pl, pp, sk, gv, pr, fb, a1, a2, a3, b4, b5, a6, b7, a8, a9, a10, a11)) :
    ∀ m j a5 a7, s ≤ j → j + 1 + m = sz p → cs_2 5 65536 a5 (fun n i => if n = p ∧ s ≤ i ∧ i < j then ky p (i + 1) else ky n i) → cs_2 6 80 a7 (fun n i => if n = p ∧ s < i ∧ i ≤ j then ch p (i + 1) else ch n i) → wX_merge_232 post (nI p) d pl pp sk gv pr fb (m + 1) (nI j) a1 a2 a3 a4 a5 a6 a7 a8 a9 a10 a11 := by
  intro m
  induction m with
  | zero =>
    intro j a5 a7 hj hm h5 h7
    refine ⟨pk_in p 80 hp, ?_⟩
    rw [cs_1r hS hp]
    refine pk_le (sz p) (j + 1) (fun _ => ⟨pk_in p 80 hp, pk_in p 80 hp, nm_e ?_⟩) (fun z => absurd z (by omega)) rfl (nI_1 j)
    rw [ix_m1 _ (by omega)]
    exact Hp _ _ _ (cs_1w hS hp (by omega)) (cs_2c h5 (fun n i hn hi => by
      by_cases e : n = p ∧ s ≤ i ∧ i + 1 < sz p
      · rw [if_pos e, if_pos ⟨e.1, e.2.1, by omega⟩]
      · rw [if_neg e, if_neg (by omega)])) (cs_2c h7 (fun n i hn hi => by
      by_cases e : n = p ∧ s < i ∧ i + 1 ≤ sz p
      · rw [if_pos e, if_pos ⟨e.1, e.2.1, by omega⟩]
      · rw [if_neg e, if_neg (by omega)]))
  | succ m ih =>
    intro j a5 a7 hj hm h5 h7
    refine ⟨pk_in p 80 hp, ?_⟩
    rw [cs_1r hS hp]
    have e1 := ix_5 p j
    have e2 := ix_5p p j
    have e3 := ix_6q p j
    have e4 := ix_6p p j
    have i1 : j < 5 := by omega
    have i2 : j + 1 < 5 := by omega
    have i3 : j + 2 < 6 := by omega
    have i4 : j + 1 < 6 := by omega
    refine pk_le (sz p) (j + 1) (fun z => absurd z (by omega)) (fun _ => ⟨in_5 hp i2 e2, in_5 hp i1 e1, nm_e ⟨in_6 hp i3 e3, in_6 hp i4 e4, nm_e (nm_r (nI_1 j) ?_)⟩⟩) rfl (nI_1 j)
    rw [cs_2r h5 hp i2 e2, cs_2r h7 hp i3 e3]
    simp only [show ¬ (j + 1 < j) by omega, show ¬ (j + 2 ≤ j) by omega, and_false, if_false]
    refine ih (j + 1) _ _ (by omega) (by omega) (cs_2c (cs_2w h5 hp i1 e1 (hK _ i2)) (fun n i hn hi => ?_)) (cs_2c (cs_2w h7 hp i4 e4 (hC _ i3)) (fun n i hn hi => ?_))
    · by_cases e : n = p ∧ i = j
      · obtain ⟨rfl, rfl⟩ := e
        rw [if_pos ⟨rfl, by omega, by omega⟩, if_pos ⟨rfl, rfl⟩]
      · rw [if_neg e]
        by_cases f : n = p ∧ s ≤ i ∧ i < j + 1
        · rw [if_pos f, if_pos ⟨f.1, f.2.1, by omega⟩]
        · rw [if_neg f, if_neg (by omega)]
    · by_cases e : n = p ∧ i = j + 1
      · obtain ⟨rfl, rfl⟩ := e
        rw [if_pos ⟨rfl, by omega, by omega⟩, if_pos ⟨rfl, rfl⟩]
      · rw [if_neg e]
        by_cases f : n = p ∧ s < i ∧ i ≤ j + 1
        · rw [if_pos f, if_pos ⟨f.1, f.2.1, by omega⟩]
        · rw [if_neg f, if_neg (by omega)]
/-- the keys that come behind the left node's -/
def wk_KR (ky : Nat → Nat → Nat) (p s r a e i : Nat) : Nat := if i < a + e then ky p s else ky r (i - (a + e))
theorem wk_mrg95 {post : St1 → Prop} {p s x r a b e : Nat} (hp : p < 80) (hx : x < 80) (hr : r < 80) (hxp : x ≠ p) (hxr : x ≠ r) (hrp : r ≠ p) (hs : s + 1 ≤ sz p) (hz : sz p ≤ 4) (ha : sz x = a) (hb : sz r = b) (he : (lf x ≠ 0 ∧ e = 0) ∨ (lf x = 0 ∧ e = 1)) (hab : a + b + e ≤ 4)
    (hT : cs_1 80 2 a2 tk) (hL : cs_1 80 2 a3 lf) (hS : cs_1 80 6 a4 sz) (hA : cs_A a8 af) (hK : ∀ n i, n < 80 → i < 5 → ky n i < 65536) (hC : ∀ n i, n < 80 → i < 6 → ch n i < 80)
    (Hp : ∀ b2 b4 b5 b6 b7 b8, cs_1 80 2 b2 (fun n => if n = r then 0 else tk n) → cs_1 80 6 b4 (fun n => if n = p then sz p - 1 else if n = x then a + b + e else sz n) →
      cs_2 5 65536 b5 (fun n i => if n = p ∧ s ≤ i ∧ i + 1 < sz p then ky p (i + 1) else if n = x ∧ a ≤ i ∧ i < a + b + e then wk_KR ky p s r a e i else ky n i) →
      cs_V b6 (fun n i => if n = x ∧ a + e ≤ i ∧ i < a + b + e then vl r (i - (a + e)) else vl n i) →
      cs_2 6 80 b7 (fun n i => if n = p ∧ s < i ∧ i + 1 ≤ sz p then ch p (i + 1) else if e = 1 ∧ n = x ∧ a + 1 ≤ i ∧ i ≤ a + 1 + b then ch r (i - (a + 1)) else ch n i) →
      cs_A b8 (fun n => if n = x then af r else af n) → post (d, pl, pp, sk, gv, pr, fb, a1, b2, a3, b4, b5, b6, b7, b8, a9, a10, a11)) :
    ∀ m j a5 a6 a7, j + m = b → cs_2 5 65536 a5 (fun n i => if n = x ∧ a ≤ i ∧ i < a + e + j then wk_KR ky p s r a e i else ky n i) → cs_V a6 (fun n i => if n = x ∧ a + e ≤ i ∧ i < a + e + j then vl r (i - (a + e)) else vl n i) → cs_2 6 80 a7 (fun n i => if e = 1 ∧ n = x ∧ a + 1 ≤ i ∧ i ≤ a + 1 + j then ch r (i - (a + 1)) else ch n i) →
      wX_merge_95 post (nI p) (nI s) (nI x) (nI r) d pl pp sk gv pr fb (m + 1) (nI (a + e + j)) (nI j) a1 a2 a3 a4 a5 a6 a7 a8 a9 a10 a11 := by
  have hlf := (hL x hx).2
  intro m
  induction m with
  | zero =>
    intro j a5 a6 a7 hm h5 h6 h7
    have ej : j = b := by omega
    subst ej
    refine ⟨pk_in r 80 hr, ?_⟩
    rw [cs_1r hS hr, hb]
    refine pk_le j j (fun _ => ⟨pk_in x 80 hx, nm_e ⟨pk_in r 80 hr, pk_in x 80 hx, nm_e ⟨pk_in r 80 hr, nm_e ⟨sz p - (s + 1) + 1, ?_⟩⟩⟩⟩) (fun z => absurd z (by omega))
    rw [cs_Ar hA hr]
    have g2 := cs_1w (v := 0) hT hr (by omega)
    have g4 := cs_1w (v := a + e + j) hS hx (by omega)
    have g8 := cs_Aw hA hx (hA r hr).2 rfl
    have szp : (if p = x then a + e + j else sz p) = sz p := if_neg (fun z => hxp z.symm)
    refine wk_mrg232 (sz := fun m => if m = x then a + e + j else sz m) (ky := fun n i => if n = x ∧ a ≤ i ∧ i < a + e + j then wk_KR ky p s r a e i else ky n i) (ch := fun n i => if e = 1 ∧ n = x ∧ a + 1 ≤ i ∧ i ≤ a + 1 + j then ch r (i - (a + 1)) else ch n i) hp (by rw [szp]; exact hs) (by rw [szp]; exact hz) g4 (fun i hi => (h5 p i hp hi).2) (fun i hi => (h7 p i hp hi).2) (fun b4 b5 b7 q4 q5 q7 => ?_) (sz p - (s + 1)) s _ _ (Nat.le_refl s) (by rw [szp]; omega) (cs_2c h5 (fun n i hn hi => by rw [if_neg (by omega)])) (cs_2c h7 (fun n i hn hi => by rw [if_neg (by omega)]))
    refine Hp _ b4 b5 _ b7 _ g2 (cs_1c q4 (fun n hn => ?_)) (cs_2c q5 (fun n i hn hi => ?_)) (cs_Vc h6 (fun n i hn hi => ?_)) (cs_2c q7 (fun n i hn hi => ?_)) g8
    · rw [szp]
      by_cases e1 : n = p
      · rw [if_pos e1, if_pos e1]
      · rw [if_neg e1, if_neg e1]
        by_cases e2 : n = x
        · rw [if_pos e2, if_pos e2]; omega
        · rw [if_neg e2, if_neg e2]
    · rw [szp]
      by_cases e1 : n = p ∧ s ≤ i ∧ i + 1 < sz p
      · rw [if_pos e1, if_pos e1, if_neg (fun z => hxp z.1.symm)]
      · rw [if_neg e1, if_neg e1]
        by_cases e2 : n = x ∧ a ≤ i ∧ i < a + j + e
        · rw [if_pos e2, if_pos ⟨e2.1, e2.2.1, by omega⟩]
        · rw [if_neg e2, if_neg (by omega)]
    · by_cases e2 : n = x ∧ a + e ≤ i ∧ i < a + j + e
      · rw [if_pos e2, if_pos ⟨e2.1, e2.2.1, by omega⟩]
      · rw [if_neg e2, if_neg (by omega)]
    · rw [szp]
      by_cases e1 : n = p ∧ s < i ∧ i + 1 ≤ sz p
      · rw [if_pos e1, if_pos e1, if_neg (fun z => hxp z.2.1.symm)]
      · rw [if_neg e1, if_neg e1]
  | succ m ih =>
    intro j a5 a6 a7 hm h5 h6 h7
    refine ⟨pk_in r 80 hr, ?_⟩
    rw [cs_1r hS hr, hb]
    have i1 : j < 5 := by omega
    have i2 : a + e + j < 5 := by omega
    have e1 := ix_5 r j
    have e2 := ix_5 x (a + e + j)
    have i3 : j + 1 < 6 := by omega
    have e3 := ix_6p r j
    have e4 := ix_6p x (a + e + j)
    have i4 : a + e + j + 1 < 6 := by omega
    have hKR : wk_KR ky p s r a e (a + e + j) = ky r j := by
      unfold wk_KR
      rw [if_neg (by omega)]
      congr 1
      omega
    have h5' : cs_2 5 65536 (upd a5 (5 * nI x + nI (a + e + j)).toNatClampNeg (nI (ky r j))) (fun n i => if n = x ∧ a ≤ i ∧ i < a + e + (j + 1) then wk_KR ky p s r a e i else ky n i) := cs_2c (cs_2w h5 hx i2 e2 (hK r j hr i1)) (fun n i hn hi => by
      by_cases f : n = x ∧ i = a + e + j
      · rw [if_pos f]
        obtain ⟨rfl, rfl⟩ := f
        rw [if_pos ⟨rfl, by omega, by omega⟩]
        exact hKR
      · rw [if_neg f]
        by_cases g : n = x ∧ a ≤ i ∧ i < a + e + (j + 1)
        · rw [if_pos g, if_pos ⟨g.1, g.2.1, by omega⟩]
        · rw [if_neg g, if_neg (by omega)])
    have h6' : cs_V (vp_updL a6 (5 * nI x + nI (a + e + j)).toNatClampNeg (vl r j)) (fun n i => if n = x ∧ a + e ≤ i ∧ i < a + e + (j + 1) then vl r (i - (a + e)) else vl n i) := cs_Vc (cs_Vw h6 hx i2 e2) (fun n i hn hi => by
      by_cases f : n = x ∧ i = a + e + j
      · rw [if_pos f]
        obtain ⟨rfl, rfl⟩ := f
        rw [if_pos ⟨rfl, by omega, by omega⟩]
        congr 1
        omega
      · rw [if_neg f]
        by_cases g : n = x ∧ a + e ≤ i ∧ i < a + e + (j + 1)
        · rw [if_pos g, if_pos ⟨g.1, g.2.1, by omega⟩]
        · rw [if_neg g, if_neg (by omega)])
    refine pk_le b j (fun z => absurd z (by omega)) (fun _ => ⟨in_5 hr i1 e1, in_5 hx i2 e2, nm_e ⟨in_5 hr i1 e1, in_5 hx i2 e2, nm_e ⟨pk_in x 80 hx, ?_⟩⟩⟩)
    rw [cs_2r h5 hr i1 e1, cs_Vr h6 hr i1 e1, cs_1r hL hx]
    simp only [show ¬ r = x from fun z => hxr z.symm, false_and, if_false]
    refine pk_eq (lf x) 0 (fun z => ?_) (fun z => ?_)
    · have he1 : e = 1 := by omega
      refine ⟨in_6 hr i3 e3, in_6 hx i4 e4, nm_e (nm_r (nI_1 _) (nm_r (nI_1 j) ?_))⟩
      rw [cs_2r h7 hr i3 e3]
      simp only [show ¬ r = x from fun z => hxr z.symm, false_and, and_false, if_false]
      refine ih (j + 1) _ _ _ (by omega) h5' h6' (cs_2c (cs_2w h7 hx i4 e4 (hC r (j + 1) hr i3)) (fun n i hn hi => ?_))
      by_cases f : n = x ∧ i = a + e + j + 1
      · rw [if_pos f]
        obtain ⟨rfl, rfl⟩ := f
        rw [if_pos ⟨he1, rfl, by omega, by omega⟩]
        congr 1
        omega
      · rw [if_neg f]
        by_cases g : e = 1 ∧ n = x ∧ a + 1 ≤ i ∧ i ≤ a + 1 + (j + 1)
        · rw [if_pos g, if_pos ⟨g.1, g.2.1, g.2.2.1, by omega⟩]
        · rw [if_neg g, if_neg (by omega)]
    · refine nm_r (nI_1 _) (nm_r (nI_1 j) (ih (j + 1) _ _ _ (by omega) h5' h6' (cs_2c h7 (fun n i hn hi => ?_))))
      rw [if_neg (by omega), if_neg (by omega)]
theorem wk_mrg {post : St1 → Prop} {p s x r a b e : Nat} (hp : p < 80) (hx : x < 80) (hr : r < 80) (hxp : x ≠ p) (hxr : x ≠ r) (hrp : r ≠ p) (hs : s + 1 ≤ sz p) (hz : sz p ≤ 4) (hcx : ch p s = x) (hcr : ch p (s + 1) = r) (ha : sz x = a) (hb : sz r = b) (he : (lf x ≠ 0 ∧ e = 0) ∨ (lf x = 0 ∧ e = 1)) (hab : a + b + e ≤ 4)
    (hT : cs_1 80 2 a2 tk) (hL : cs_1 80 2 a3 lf) (hS : cs_1 80 6 a4 sz) (hK : cs_2 5 65536 a5 ky) (hV : cs_V a6 vl) (hC : cs_2 6 80 a7 ch) (hA : cs_A a8 af)
    (Hp : ∀ b2 b4 b5 b6 b7 b8, cs_1 80 2 b2 (fun n => if n = r then 0 else tk n) → cs_1 80 6 b4 (fun n => if n = p then sz p - 1 else if n = x then a + b + e else sz n) →
      cs_2 5 65536 b5 (fun n i => if n = p ∧ s ≤ i ∧ i + 1 < sz p then ky p (i + 1) else if n = x ∧ a ≤ i ∧ i < a + b + e then wk_KR ky p s r a e i else ky n i) →
      cs_V b6 (fun n i => if n = x ∧ a + e ≤ i ∧ i < a + b + e then vl r (i - (a + e)) else vl n i) →
      cs_2 6 80 b7 (fun n i => if n = p ∧ s < i ∧ i + 1 ≤ sz p then ch p (i + 1) else if e = 1 ∧ n = x ∧ a + 1 ≤ i ∧ i ≤ a + 1 + b then ch r (i - (a + 1)) else ch n i) →
      cs_A b8 (fun n => if n = x then af r else af n) → post (d, pl, pp, sk, gv, pr, fb, a1, b2, a3, b4, b5, b6, b7, b8, a9, a10, a11)) :
    wpX_merge post (d, pl, pp, sk, gv, pr, fb, a1, a2, a3, a4, a5, a6, a7, a8, a9, a10, a11) (nI p) (nI s) := by
  have hlf := (hL x hx).2
  have j1 : s < 6 := by omega
  have j2 : s + 1 < 6 := by omega
  have j3 : s < 5 := by omega
  refine ⟨in_6 hp j1 (ix_6 p s), nm_r ((cs_2r hC hp j1 (ix_6 p s)).trans (by rw [hcx])) ⟨in_6 hp j2 (ix_6p p s), nm_r ((cs_2r hC hp j2 (ix_6p p s)).trans (by rw [hcr])) ⟨pk_in x 80 hx, nm_r ((cs_1r hS hx).trans (by rw [ha])) ⟨pk_in x 80 hx, ?_⟩⟩⟩⟩
  rw [cs_1r hL hx]
  have hKb : ∀ n i, n < 80 → i < 5 → ky n i < 65536 := fun n i hn hi => (hK n i hn hi).2
  have hCb : ∀ n i, n < 80 → i < 6 → ch n i < 80 := fun n i hn hi => (hC n i hn hi).2
  refine pk_eq (lf x) 0 (fun z => ?_) (fun z => ⟨b + 1, ?_⟩)
  · have he1 : e = 1 := by omega
    subst he1
    have k1 : a < 5 := by omega
    have k2 : a + 1 < 6 := by omega
    refine ⟨in_5 hp j3 (ix_5 p s), in_5 hx k1 (ix_5 x a), nm_e ⟨in_6 hr (show 0 < 6 by omega) (ix_60 r), in_6 hx k2 (ix_6p x a), nm_e (nm_r (nI_1 a) ⟨b + 1, ?_⟩)⟩⟩
    rw [cs_2r hK hp j3 (ix_5 p s), cs_2r hC hr (show 0 < 6 by omega) (ix_60 r)]
    refine wk_mrg95 (e := 1) hp hx hr hxp hxr hrp hs hz ha hb he hab hT hL hS hA hKb hCb Hp b 0 _ _ _ (by omega) (cs_2c (cs_2w hK hx k1 (ix_5 x a) (hKb p s hp j3)) (fun n i hn hi => ?_)) (cs_Vc hV (fun n i hn hi => by rw [if_neg (by omega)])) (cs_2c (cs_2w hC hx k2 (ix_6p x a) (hCb r 0 hr (by omega))) (fun n i hn hi => ?_))
    · by_cases f : n = x ∧ i = a
      · rw [if_pos f, if_pos ⟨f.1, by omega, by omega⟩]
        unfold wk_KR
        rw [if_pos (by omega)]
      · rw [if_neg f, if_neg (by omega)]
    · by_cases f : n = x ∧ i = a + 1
      · rw [if_pos f, if_pos ⟨rfl, f.1, by omega, by omega⟩, show i - (a + 1) = 0 by omega]
      · rw [if_neg f, if_neg (by omega)]
  · have he0 : e = 0 := by omega
    subst he0
    exact wk_mrg95 (e := 0) hp hx hr hxp hxr hrp hs hz ha hb he hab hT hL hS hA hKb hCb Hp b 0 _ _ _ (by omega) (cs_2c hK (fun n i hn hi => by rw [if_neg (by omega)])) (cs_Vc hV (fun n i hn hi => by rw [if_neg (by omega)])) (cs_2c hC (fun n i hn hi => by rw [if_neg (by omega)]))
end
end
section
/-! the walks: borrowFromRight, borrowFromLeft, a record taken out of its leaf -/
section
variable {d pl pp sk gv pr fb : Int32} {a1 a2 a3 a4 a5 : Nat → Int32} {a6 : Nat → Int64} {a7 a8 a9 a10 a11 : Nat → Int32} {tk lf sz af rt : Nat → Nat} {ky ch : Nat → Nat → Nat} {vl : Nat → Nat → Int64}
theorem wk_br234 {post : St1 → Prop} {r : Nat} (hr : r < 80) (hb : 1 ≤ sz r) (hS : cs_1 80 6 a4 sz) (hK : ∀ i, i < 5 → ky r i < 65536)
    (Hp : ∀ b4 b5 b6, cs_1 80 6 b4 (fun n => if n = r then sz r - 1 else sz n) → cs_2 5 65536 b5 (fun n i => if n = r ∧ i + 1 < sz r then ky r (i + 1) else ky n i) → cs_V b6 (fun n i => if n = r ∧ i + 1 < sz r then vl r (i + 1) else vl n i) → post (d, pl, pp, sk, gv, pr, fb, a1, a2, a3, b4, b5, b6, a7, a8, a9, a10, a11)) :
    ∀ m j a5 a6, j + 1 + m = sz r → cs_2 5 65536 a5 (fun n i => if n = r ∧ i < j then ky r (i + 1) else ky n i) → cs_V a6 (fun n i => if n = r ∧ i < j then vl r (i + 1) else vl n i) → wX_borrowFromRight_234 post (nI r) d pl pp sk gv pr fb (m + 1) (nI j) a1 a2 a3 a4 a5 a6 a7 a8 a9 a10 a11 := by
  have hz := (hS r hr).2
  intro m
  induction m with
  | zero =>
    intro j a5 a6 hm h5 h6
    refine ⟨pk_in r 80 hr, ?_⟩
    rw [cs_1r hS hr]
    refine pk_le (sz r) (j + 1) (fun _ => ⟨pk_in r 80 hr, pk_in r 80 hr, nm_e ?_⟩) (fun z => absurd z (by omega)) rfl (nI_1 j)
    rw [ix_m1 _ hb]
    exact Hp _ _ _ (cs_1w hS hr (by omega)) (cs_2c h5 (fun n i hn hi => by
      by_cases e : n = r ∧ i + 1 < sz r
      · rw [if_pos e, if_pos ⟨e.1, by omega⟩]
      · rw [if_neg e, if_neg (by omega)])) (cs_Vc h6 (fun n i hn hi => by
      by_cases e : n = r ∧ i + 1 < sz r
      · rw [if_pos e, if_pos ⟨e.1, by omega⟩]
      · rw [if_neg e, if_neg (by omega)]))
  | succ m ih =>
    intro j a5 a6 hm h5 h6
    refine ⟨pk_in r 80 hr, ?_⟩
    rw [cs_1r hS hr]
    have e1 := ix_5 r j
    have e2 := ix_5p r j
    have i1 : j < 5 := by omega
    have i2 : j + 1 < 5 := by omega
    refine pk_le (sz r) (j + 1) (fun z => absurd z (by omega)) (fun _ => ⟨in_5 hr i2 e2, in_5 hr i1 e1, nm_e ⟨in_5 hr i2 e2, in_5 hr i1 e1, nm_e (nm_r (nI_1 j) ?_)⟩⟩) rfl (nI_1 j)
    rw [cs_2r h5 hr i2 e2, cs_Vr h6 hr i2 e2]
    simp only [show ¬ (j + 1 < j) by omega, and_false, if_false]
    refine ih (j + 1) _ _ (by omega) (cs_2c (cs_2w h5 hr i1 e1 (hK _ i2)) (fun n i hn hi => ?_)) (cs_Vc (cs_Vw h6 hr i1 e1) (fun n i hn hi => ?_))
    · by_cases e : n = r ∧ i = j
      · obtain ⟨rfl, rfl⟩ := e
        rw [if_pos ⟨rfl, by omega⟩, if_pos ⟨rfl, rfl⟩]
      · rw [if_neg e]
        by_cases f : n = r ∧ i < j + 1
        · rw [if_pos f, if_pos ⟨f.1, by omega⟩]
        · rw [if_neg f, if_neg (by omega)]
    · by_cases e : n = r ∧ i = j
      · obtain ⟨rfl, rfl⟩ := e
        rw [if_pos ⟨rfl, by omega⟩, if_pos ⟨rfl, rfl⟩]
      · rw [if_neg e]
        by_cases f : n = r ∧ i < j + 1
        · rw [if_pos f, if_pos ⟨f.1, by omega⟩]
        · rw [if_neg f, if_neg (by omega)]
theorem wk_br221 {post : St1 → Prop} {x r a : Nat} (hx : x < 80) (hr : r < 80) (hxr : x ≠ r) (ha : a ≤ 4) (hb : 1 ≤ sz r) (hS : cs_1 80 6 a4 sz) (hK : cs_2 5 65536 a5 ky) (hV : cs_V a6 vl)
    (Hp : ∀ b4 b5 b6, cs_1 80 6 b4 (fun n => if n = r then sz r - 1 else if n = x then a + 1 else sz n) → cs_2 5 65536 b5 (fun n i => if n = r ∧ i + 1 < sz r then ky r (i + 1) else ky n i) → cs_V b6 (fun n i => if n = r ∧ i + 1 < sz r then vl r (i + 1) else vl n i) → post (d, pl, pp, sk, gv, pr, fb, a1, a2, a3, b4, b5, b6, a7, a8, a9, a10, a11)) :
    wX_borrowFromRight_221 post (nI x) (nI r) (nI a) d pl pp sk gv pr fb a1 a2 a3 a4 a5 a6 a7 a8 a9 a10 a11 := by
  refine ⟨pk_in x 80 hx, nm_e ⟨sz r - 1 + 1, ?_⟩⟩
  rw [nI_1]
  have szr : (if r = x then a + 1 else sz r) = sz r := if_neg (fun z => hxr z.symm)
  have g4 := cs_1w (v := a + 1) hS hx (by omega)
  refine wk_br234 (sz := fun m => if m = x then a + 1 else sz m) (ky := ky) (vl := vl) hr (by rw [szr]; exact hb) g4 (fun i hi => (hK r i hr hi).2) (fun b4 b5 b6 q4 q5 q6 => ?_) (sz r - 1) 0 a5 a6 (by rw [szr]; omega) (cs_2c hK (fun n i hn hi => by rw [if_neg (by omega)])) (cs_Vc hV (fun n i hn hi => by rw [if_neg (by omega)]))
  rw [szr] at q4 q5 q6
  exact Hp b4 b5 b6 q4 q5 q6
theorem wk_br175 {post : St1 → Prop} {x r a : Nat} (hx : x < 80) (hr : r < 80) (hxr : x ≠ r) (ha : a ≤ 4) (hb : 1 ≤ sz r) (hS : cs_1 80 6 a4 sz) (hK : cs_2 5 65536 a5 ky) (hV : cs_V a6 vl) (hC : ∀ i, i < 6 → ch r i < 80)
    (Hp : ∀ b4 b5 b6 b7, cs_1 80 6 b4 (fun n => if n = r then sz r - 1 else if n = x then a + 1 else sz n) → cs_2 5 65536 b5 (fun n i => if n = r ∧ i + 1 < sz r then ky r (i + 1) else ky n i) → cs_V b6 (fun n i => if n = r ∧ i + 1 < sz r then vl r (i + 1) else vl n i) → cs_2 6 80 b7 (fun n i => if n = r ∧ i < sz r then ch r (i + 1) else ch n i) → post (d, pl, pp, sk, gv, pr, fb, a1, a2, a3, b4, b5, b6, b7, a8, a9, a10, a11)) :
    ∀ m j a7, j + m = sz r → cs_2 6 80 a7 (fun n i => if n = r ∧ i < j then ch r (i + 1) else ch n i) → wX_borrowFromRight_175 post (nI x) (nI r) (nI a) d pl pp sk gv pr fb (m + 1) (nI j) a1 a2 a3 a4 a5 a6 a7 a8 a9 a10 a11 := by
  have hz := (hS r hr).2
  intro m
  induction m with
  | zero =>
    intro j a7 hm h7
    refine ⟨pk_in r 80 hr, ?_⟩
    rw [cs_1r hS hr]
    have ej : j = sz r := by omega
    subst ej
    exact pk_le (sz r) (sz r) (fun _ => wk_br221 hx hr hxr ha hb hS hK hV (fun b4 b5 b6 q4 q5 q6 => Hp b4 b5 b6 a7 q4 q5 q6 h7)) (fun z => absurd z (by omega))
  | succ m ih =>
    intro j a7 hm h7
    refine ⟨pk_in r 80 hr, ?_⟩
    rw [cs_1r hS hr]
    have e1 := ix_6 r j
    have e2 := ix_6p r j
    have i1 : j < 6 := by omega
    have i2 : j + 1 < 6 := by omega
    refine pk_le (sz r) j (fun z => absurd z (by omega)) (fun _ => ⟨in_6 hr i2 e2, in_6 hr i1 e1, nm_e (nm_r (nI_1 j) ?_)⟩)
    rw [cs_2r h7 hr i2 e2]
    simp only [show ¬ (j + 1 < j) by omega, and_false, if_false]
    refine ih (j + 1) _ (by omega) (cs_2c (cs_2w h7 hr i1 e1 (hC _ i2)) (fun n i hn hi => ?_))
    by_cases e : n = r ∧ i = j
    · obtain ⟨rfl, rfl⟩ := e
      rw [if_pos ⟨rfl, by omega⟩, if_pos ⟨rfl, rfl⟩]
    · rw [if_neg e]
      by_cases f : n = r ∧ i < j + 1
      · rw [if_pos f, if_pos ⟨f.1, by omega⟩]
      · rw [if_neg f, if_neg (by omega)]
theorem wk_br {post : St1 → Prop} {p s x r a b : Nat} (hp : p < 80) (hx : x < 80) (hr : r < 80) (hxp : x ≠ p) (hxr : x ≠ r) (hrp : r ≠ p) (hs : s + 1 ≤ sz p) (hz : sz p ≤ 4) (hcx : ch p s = x) (hcr : ch p (s + 1) = r) (ha : sz x = a) (ha4 : a ≤ 3) (hb : sz r = b) (hb2 : 2 ≤ b)
    (hL : cs_1 80 2 a3 lf) (hS : cs_1 80 6 a4 sz) (hK : cs_2 5 65536 a5 ky) (hV : cs_V a6 vl) (hC : cs_2 6 80 a7 ch)
    (Hp0 : lf x ≠ 0 → ∀ b4 b5 b6, cs_1 80 6 b4 (fun n => if n = r then b - 1 else if n = x then a + 1 else sz n) →
      cs_2 5 65536 b5 (fun n i => if n = r ∧ i + 1 < b then ky r (i + 1) else if n = p ∧ i = s then ky r 1 else if n = x ∧ i = a then ky r 0 else ky n i) →
      cs_V b6 (fun n i => if n = r ∧ i + 1 < b then vl r (i + 1) else if n = x ∧ i = a then vl r 0 else vl n i) → post (d, pl, pp, sk, gv, pr, fb, a1, a2, a3, b4, b5, b6, a7, a8, a9, a10, a11))
    (Hp1 : lf x = 0 → ∀ b4 b5 b6 b7, cs_1 80 6 b4 (fun n => if n = r then b - 1 else if n = x then a + 1 else sz n) →
      cs_2 5 65536 b5 (fun n i => if n = r ∧ i + 1 < b then ky r (i + 1) else if n = p ∧ i = s then ky r 0 else if n = x ∧ i = a then ky p s else ky n i) →
      cs_V b6 (fun n i => if n = r ∧ i + 1 < b then vl r (i + 1) else vl n i) →
      cs_2 6 80 b7 (fun n i => if n = r ∧ i < b then ch r (i + 1) else if n = x ∧ i = a + 1 then ch r 0 else ch n i) → post (d, pl, pp, sk, gv, pr, fb, a1, a2, a3, b4, b5, b6, b7, a8, a9, a10, a11)) :
    wpX_borrowFromRight post (d, pl, pp, sk, gv, pr, fb, a1, a2, a3, a4, a5, a6, a7, a8, a9, a10, a11) (nI p) (nI s) := by
  have hlf := (hL x hx).2
  have hrx : ¬ r = x := fun z => hxr z.symm
  have j1 : s < 6 := by omega
  have j2 : s + 1 < 6 := by omega
  have j3 : s < 5 := by omega
  have k0 : 0 < 5 := by omega
  have k1 : 1 < 5 := by omega
  have k2 : a < 5 := by omega
  have k3 : a + 1 < 6 := by omega
  have k4 : 0 < 6 := by omega
  refine ⟨in_6 hp j1 (ix_6 p s), nm_r ((cs_2r hC hp j1 (ix_6 p s)).trans (by rw [hcx])) ⟨in_6 hp j2 (ix_6p p s), nm_r ((cs_2r hC hp j2 (ix_6p p s)).trans (by rw [hcr])) ⟨pk_in x 80 hx, nm_r ((cs_1r hS hx).trans (by rw [ha])) ⟨pk_in x 80 hx, ?_⟩⟩⟩⟩
  rw [cs_1r hL hx]
  refine pk_eq (lf x) 0 (fun z => ?_) (fun z => ?_)
  · refine ⟨in_5 hp j3 (ix_5 p s), in_5 hx k2 (ix_5 x a), nm_e ⟨in_6 hr k4 (ix_60 r), in_6 hx k3 (ix_6p x a), nm_e ⟨in_5 hr k0 (ix_50 r), in_5 hp j3 (ix_5 p s), nm_e ⟨b + 1, ?_⟩⟩⟩⟩
    have u1 := cs_2w hK hx k2 (ix_5 x a) (hK p s hp j3).2
    rw [cs_2r hK hp j3 (ix_5 p s), cs_2r hC hr k4 (ix_60 r), cs_2r u1 hr k0 (ix_50 r)]
    simp only [hrx, false_and, if_false]
    have u2 := cs_2w u1 hp j3 (ix_5 p s) (hK r 0 hr k0).2
    have w1 := cs_2w hC hx k3 (ix_6p x a) (hC r 0 hr k4).2
    refine wk_br175 (ky := fun n i => if n = p ∧ i = s then ky r 0 else if n = x ∧ i = a then ky p s else ky n i) (vl := vl) (ch := fun n i => if n = x ∧ i = a + 1 then ch r 0 else ch n i) hx hr hxr (by omega) (by omega) hS u2 hV (fun i hi => (w1 r i hr hi).2) (fun b4 b5 b6 b7 q4 q5 q6 q7 => ?_) b 0 _ (by omega) (cs_2c w1 (fun n i hn hi => by rw [if_neg (by omega)]))
    rw [hb] at q4 q5 q6 q7
    refine Hp1 z b4 b5 b6 b7 q4 (cs_2c q5 (fun n i hn hi => ?_)) q6 (cs_2c q7 (fun n i hn hi => ?_))
    · by_cases f : n = r ∧ i + 1 < b
      · rw [if_pos f, if_pos f, if_neg (fun y => hrp y.1), if_neg (fun y => hrx y.1)]
      · rw [if_neg f, if_neg f]
    · by_cases f : n = r ∧ i < b
      · rw [if_pos f, if_pos f, if_neg (fun y => hrx y.1)]
      · rw [if_neg f, if_neg f]
  · refine ⟨in_5 hr k0 (ix_50 r), in_5 hx k2 (ix_5 x a), nm_e ⟨in_5 hr k0 (ix_50 r), in_5 hx k2 (ix_5 x a), nm_e ⟨in_5 hr k1 (ix_51 r), in_5 hp j3 (ix_5 p s), nm_e ?_⟩⟩⟩
    have u1 := cs_2w hK hx k2 (ix_5 x a) (hK r 0 hr k0).2
    rw [cs_2r hK hr k0 (ix_50 r), cs_Vr hV hr k0 (ix_50 r), cs_2r u1 hr k1 (ix_51 r)]
    simp only [hrx, false_and, if_false]
    have u2 := cs_2w u1 hp j3 (ix_5 p s) (hK r 1 hr k1).2
    have w1 := cs_Vw (v := vl r 0) hV hx k2 (ix_5 x a)
    refine wk_br221 (ky := fun n i => if n = p ∧ i = s then ky r 1 else if n = x ∧ i = a then ky r 0 else ky n i) (vl := fun n i => if n = x ∧ i = a then vl r 0 else vl n i) hx hr hxr (by omega) (by omega) hS u2 w1 (fun b4 b5 b6 q4 q5 q6 => ?_)
    rw [hb] at q4 q5 q6
    refine Hp0 z b4 b5 b6 q4 (cs_2c q5 (fun n i hn hi => ?_)) (cs_Vc q6 (fun n i hn hi => ?_))
    · by_cases f : n = r ∧ i + 1 < b
      · rw [if_pos f, if_pos f, if_neg (fun y => hrp y.1), if_neg (fun y => hrx y.1)]
      · rw [if_neg f, if_neg f]
    · by_cases f : n = r ∧ i + 1 < b
      · rw [if_pos f, if_pos f, if_neg (fun y => hrx y.1)]
      · rw [if_neg f, if_neg f]
theorem wk_bl124 {post : St1 → Prop} {p s x r a b : Nat} (hp : p < 80) (hx : x < 80) (hr : r < 80) (hxp : x ≠ p) (hxr : x ≠ r) (hrp : r ≠ p) (hs : s < 5) (ha : 1 ≤ a) (ha4 : a ≤ 5) (hb : b ≤ 4)
    (hS : cs_1 80 6 a4 sz) (hK : cs_2 5 65536 a5 ky) (hC : ∀ n i, n < 80 → i < 6 → ch n i < 80)
    (Hp : ∀ b4 b5 b7, cs_1 80 6 b4 (fun n => if n = x then a - 1 else sz n) → cs_2 5 65536 b5 (fun n i => if n = p ∧ i = s then ky x (a - 1) else if n = r ∧ i = 0 then ky p s else ky n i) → cs_2 6 80 b7 (fun n i => if n = r ∧ i = 0 then ch x a else if n = r ∧ 0 < i ∧ i ≤ b + 1 then ch r (i - 1) else ch n i) → post (d, pl, pp, sk, gv, pr, fb, a1, a2, a3, b4, b5, a6, b7, a8, a9, a10, a11)) :
    ∀ j a7, j ≤ b + 1 → cs_2 6 80 a7 (fun n i => if n = r ∧ j < i ∧ i ≤ b + 1 then ch r (i - 1) else ch n i) → wX_borrowFromLeft_124 post (nI p) (nI (s + 1)) (nI r) (nI x) (nI (a - 1)) d pl pp sk gv pr fb (j + 1) (nI j) a1 a2 a3 a4 a5 a6 a7 a8 a9 a10 a11 := by
  have hrx : ¬ r = x := fun z => hxr z.symm
  have hpr : ¬ p = r := fun z => hrp z.symm
  intro j
  induction j with
  | zero =>
    intro a7 hj h7
    have k1 : a - 1 + 1 < 6 := by omega
    have k2 : a - 1 < 5 := by omega
    have k0 : 0 < 5 := by omega
    have k4 : 0 < 6 := by omega
    refine pk_le 0 0 (fun _ => ⟨in_6 hx k1 (ix_6p x (a - 1)), in_6 hr k4 (ix_60 r), nm_e ⟨in_5 hp hs (ix_5m p (s + 1) (by omega)), in_5 hr k0 (ix_50 r), nm_e ⟨in_5 hx k2 (ix_5 x (a - 1)), in_5 hp hs (ix_5m p (s + 1) (by omega)), nm_e ⟨pk_in x 80 hx, nm_e ?_⟩⟩⟩⟩) (fun z => absurd z (by omega))
    have u1 := cs_2w hK hr k0 (ix_50 r) (hK p s hp hs).2
    rw [cs_2r h7 hx k1 (ix_6p x (a - 1)), cs_2r hK hp hs (ix_5m p (s + 1) (by omega)), cs_2r u1 hx k2 (ix_5 x (a - 1))]
    simp only [show ¬ x = r from hxr, false_and, if_false]
    rw [show a - 1 + 1 = a by omega]
    exact Hp _ _ _ (cs_1w hS hx (by omega)) (cs_2w u1 hp hs (ix_5m p (s + 1) (by omega)) (hK x (a - 1) hx k2).2) (cs_2w h7 hr k4 (ix_60 r) (hC x a hx (by omega)))
  | succ j ih =>
    intro a7 hj h7
    have e1 := ix_6 r (j + 1)
    have e2 := ix_6m r (j + 1) (by omega)
    have i1 : j + 1 < 6 := by omega
    have i2 : j + 1 - 1 < 6 := by omega
    refine pk_le (j + 1) 0 (fun z => absurd z (by omega)) (fun _ => ⟨in_6 hr i2 e2, in_6 hr i1 e1, nm_e (nm_r (pk_m1 j) ?_)⟩)
    rw [cs_2r h7 hr i2 e2]
    simp only [show ¬ (j + 1 < j + 1 - 1) by omega, and_false, false_and, if_false]
    refine ih _ (by omega) (cs_2c (cs_2w h7 hr i1 e1 (hC r _ hr i2)) (fun n i hn hi => ?_))
    by_cases e : n = r ∧ i = j + 1
    · obtain ⟨rfl, rfl⟩ := e
      rw [if_pos ⟨rfl, by omega, by omega⟩, if_pos ⟨rfl, rfl⟩]
    · rw [if_neg e]
      by_cases f : n = r ∧ j < i ∧ i ≤ b + 1
      · rw [if_pos f, if_pos ⟨f.1, by omega, f.2.2⟩]
      · rw [if_neg f, if_neg (by omega)]
theorem wk_bl {post : St1 → Prop} {p s x r a b : Nat} (hp : p < 80) (hx : x < 80) (hr : r < 80) (hxp : x ≠ p) (hxr : x ≠ r) (hrp : r ≠ p) (hs : s + 1 ≤ sz p) (hz : sz p ≤ 4) (hcx : ch p s = x) (hcr : ch p (s + 1) = r) (ha : sz x = a) (ha1 : 1 ≤ a) (hb : sz r = b) (hb4 : b ≤ 3)
    (hL : cs_1 80 2 a3 lf) (hS : cs_1 80 6 a4 sz) (hK : cs_2 5 65536 a5 ky) (hV : cs_V a6 vl) (hC : cs_2 6 80 a7 ch)
    (Hp0 : lf r ≠ 0 → ∀ b4 b5 b6, cs_1 80 6 b4 (fun n => if n = x then a - 1 else if n = r then b + 1 else sz n) →
      cs_2 5 65536 b5 (fun n i => if n = p ∧ i = s then ky x (a - 1) else if n = r ∧ i = 0 then ky x (a - 1) else if n = r ∧ 0 < i ∧ i ≤ b then ky r (i - 1) else ky n i) →
      cs_V b6 (fun n i => if n = r ∧ i = 0 then vl x (a - 1) else if n = r ∧ 0 < i ∧ i ≤ b then vl r (i - 1) else vl n i) → post (d, pl, pp, sk, gv, pr, fb, a1, a2, a3, b4, b5, b6, a7, a8, a9, a10, a11))
    (Hp1 : lf r = 0 → ∀ b4 b5 b6 b7, cs_1 80 6 b4 (fun n => if n = x then a - 1 else if n = r then b + 1 else sz n) →
      cs_2 5 65536 b5 (fun n i => if n = p ∧ i = s then ky x (a - 1) else if n = r ∧ i = 0 then ky p s else if n = r ∧ 0 < i ∧ i ≤ b then ky r (i - 1) else ky n i) →
      cs_V b6 (fun n i => if n = r ∧ 0 < i ∧ i ≤ b then vl r (i - 1) else vl n i) →
      cs_2 6 80 b7 (fun n i => if n = r ∧ i = 0 then ch x a else if n = r ∧ 0 < i ∧ i ≤ b + 1 then ch r (i - 1) else ch n i) → post (d, pl, pp, sk, gv, pr, fb, a1, a2, a3, b4, b5, b6, b7, a8, a9, a10, a11)) :
    wpX_borrowFromLeft post (d, pl, pp, sk, gv, pr, fb, a1, a2, a3, a4, a5, a6, a7, a8, a9, a10, a11) (nI p) (nI (s + 1)) := by
  have hlf := (hL r hr).2
  have hrx : ¬ r = x := fun z => hxr z.symm
  have hpr : ¬ p = r := fun z => hrp z.symm
  have haz := (hS x hx).2
  rw [ha] at haz
  have j1 : s < 6 := by omega
  have j2 : s + 1 < 6 := by omega
  have j3 : s < 5 := by omega
  have k0 : 0 < 5 := by omega
  have k2 : a - 1 < 5 := by omega
  refine ⟨in_6 hp j2 (ix_6 p (s + 1)), nm_r ((cs_2r hC hp j2 (ix_6 p (s + 1))).trans (by rw [hcr])) ⟨in_6 hp j1 (ix_6m p (s + 1) (by omega)), nm_r ((cs_2r hC hp j1 (ix_6m p (s + 1) (by omega))).trans (by rw [hcx])) ⟨pk_in x 80 hx, nm_r (show a4 (nI x).toNatClampNeg - 1 = nI (a - 1) by rw [cs_1r hS hx, ha, ix_m1 _ ha1]) ?_⟩⟩⟩
  refine wk_open (c := 0) hr (by omega) (by omega) hS hK hV (fun b4 b5 b6 q4 q5 q6 => ?_)
  refine ⟨pk_in r 80 hr, ?_⟩
  rw [cs_1r hL hr]
  rw [hb] at q4 q5 q6
  refine pk_eq (lf r) 0 (fun z => ⟨pk_in r 80 hr, nm_r ((cs_1r q4 hr).trans (by rw [if_pos rfl])) ⟨b + 1 + 1, ?_⟩⟩) (fun z => ?_)
  · refine wk_bl124 (sz := fun n => if n = r then b + 1 else sz n) (ky := fun n i => if n = r ∧ 0 < i ∧ i ≤ b then ky r (i - 1) else ky n i) (ch := ch) (b := b) hp hx hr hxp hxr hrp j3 ha1 (by omega) (by omega) q4 q5 (fun n i hn hi => (hC n i hn hi).2) (fun c4 c5 c7 u4 u5 u7 => ?_) (b + 1) a7 (Nat.le_refl _) (cs_2c hC (fun n i hn hi => by rw [if_neg (by omega)]))
    refine Hp1 z c4 c5 b6 c7 u4 (cs_2c u5 (fun n i hn hi => ?_)) q6 u7
    rw [if_neg (show ¬ (x = r ∧ 0 < a - 1 ∧ a - 1 ≤ b) from fun y => hxr y.1), if_neg (show ¬ (p = r ∧ 0 < s ∧ s ≤ b) from fun y => hpr y.1)]
  · have u1 := cs_2w q5 hr k0 (ix_50 r) (hK x (a - 1) hx k2).2
    have w1 := cs_Vw (v := vl x (a - 1)) q6 hr k0 (ix_50 r)
    refine ⟨in_5 hx k2 (ix_5 x (a - 1)), in_5 hr k0 (ix_50 r), nm_e ⟨in_5 hx k2 (ix_5 x (a - 1)), in_5 hr k0 (ix_50 r), nm_e ⟨in_5 hr k0 (ix_50 r), in_5 hp j3 (ix_5m p (s + 1) (by omega)), nm_e ⟨pk_in x 80 hx, nm_e ?_⟩⟩⟩⟩
    rw [cs_2r q5 hx k2 (ix_5 x (a - 1)), cs_Vr q6 hx k2 (ix_5 x (a - 1))]
    simp only [show ¬ x = r from hxr, false_and, if_false]
    rw [cs_2r u1 hr k0 (ix_50 r)]
    simp only [and_self, if_true]
    exact Hp0 z _ _ _ (cs_1w q4 hx (by omega)) (cs_2w u1 hp j3 (ix_5m p (s + 1) (by omega)) (hK x (a - 1) hx k2).2) w1
/-- a record taken out of its leaf; behind it the loop upwards -/
theorem wk_del46 {post : St1 → Prop} {x1 : Int32} {x c : Nat} (hx : x < 80) (hc : c < sz x) (hS : cs_1 80 6 a4 sz) (hK : ∀ i, i < 5 → ky x i < 65536)
    (Hp : ∀ b4 b5 b6, cs_1 80 6 b4 (fun n => if n = x then sz x - 1 else sz n) → cs_2 5 65536 b5 (fun n i => if n = x ∧ c ≤ i ∧ i + 1 < sz x then ky x (i + 1) else ky n i) → cs_V b6 (fun n i => if n = x ∧ c ≤ i ∧ i + 1 < sz x then vl x (i + 1) else vl n i) → ∃ fu, wX_dropRecord_129 post x1 fu (nI x) d d pl pp sk gv pr fb a1 a2 a3 b4 b5 b6 a7 a8 a9 a10 a11) :
    ∀ m j a5 a6, c ≤ j → j + 1 + m = sz x → cs_2 5 65536 a5 (fun n i => if n = x ∧ c ≤ i ∧ i < j then ky x (i + 1) else ky n i) → cs_V a6 (fun n i => if n = x ∧ c ≤ i ∧ i < j then vl x (i + 1) else vl n i) → wX_dropRecord_46 post x1 (nI x) d pl pp sk gv pr fb (m + 1) (nI j) a1 a2 a3 a4 a5 a6 a7 a8 a9 a10 a11 := by
  have hz := (hS x hx).2
  intro m
  induction m with
  | zero =>
    intro j a5 a6 hj hm h5 h6
    refine ⟨pk_in x 80 hx, ?_⟩
    rw [cs_1r hS hx]
    refine pk_le (sz x) (j + 1) (fun _ => ⟨pk_in x 80 hx, pk_in x 80 hx, nm_e ?_⟩) (fun z => absurd z (by omega)) rfl (nI_1 j)
    rw [ix_m1 _ (by omega)]
    exact Hp _ _ _ (cs_1w hS hx (by omega)) (cs_2c h5 (fun n i hn hi => by
      by_cases e : n = x ∧ c ≤ i ∧ i + 1 < sz x
      · rw [if_pos e, if_pos ⟨e.1, e.2.1, by omega⟩]
      · rw [if_neg e, if_neg (by omega)])) (cs_Vc h6 (fun n i hn hi => by
      by_cases e : n = x ∧ c ≤ i ∧ i + 1 < sz x
      · rw [if_pos e, if_pos ⟨e.1, e.2.1, by omega⟩]
      · rw [if_neg e, if_neg (by omega)]))
  | succ m ih =>
    intro j a5 a6 hj hm h5 h6
    refine ⟨pk_in x 80 hx, ?_⟩
    rw [cs_1r hS hx]
    have e1 := ix_5 x j
    have e2 := ix_5p x j
    have i1 : j < 5 := by omega
    have i2 : j + 1 < 5 := by omega
    refine pk_le (sz x) (j + 1) (fun z => absurd z (by omega)) (fun _ => ⟨in_5 hx i2 e2, in_5 hx i1 e1, nm_e ⟨in_5 hx i2 e2, in_5 hx i1 e1, nm_e (nm_r (nI_1 j) ?_)⟩⟩) rfl (nI_1 j)
    rw [cs_2r h5 hx i2 e2, cs_Vr h6 hx i2 e2]
    simp only [show ¬ (j + 1 < j) by omega, and_false, if_false]
    refine ih (j + 1) _ _ (by omega) (by omega) (cs_2c (cs_2w h5 hx i1 e1 (hK _ i2)) (fun n i hn hi => ?_)) (cs_Vc (cs_Vw h6 hx i1 e1) (fun n i hn hi => ?_))
    · by_cases e : n = x ∧ i = j
      · obtain ⟨rfl, rfl⟩ := e
        rw [if_pos ⟨rfl, by omega, by omega⟩, if_pos ⟨rfl, rfl⟩]
      · rw [if_neg e]
        by_cases f : n = x ∧ c ≤ i ∧ i < j + 1
        · rw [if_pos f, if_pos ⟨f.1, f.2.1, by omega⟩]
        · rw [if_neg f, if_neg (by omega)]
    · by_cases e : n = x ∧ i = j
      · obtain ⟨rfl, rfl⟩ := e
        rw [if_pos ⟨rfl, by omega, by omega⟩, if_pos ⟨rfl, rfl⟩]
      · rw [if_neg e]
        by_cases f : n = x ∧ c ≤ i ∧ i < j + 1
        · rw [if_pos f, if_pos ⟨f.1, f.2.1, by omega⟩]
        · rw [if_neg f, if_neg (by omega)]
end
end
section
/-! putting a record in: the tree behind it -/
def cs_M (a1 a2 a3 a4 a5 : Nat → Int32) (a6 : Nat → Int64) (a7 a8 : Nat → Int32) (tk lf sz : Nat → Nat) (ky : Nat → Nat → Nat) (vl : Nat → Nat → Int64) (ch : Nat → Nat → Nat) (af rt : Nat → Nat) : Prop :=
  cs_1 2 80 a1 rt ∧ cs_1 80 2 a2 tk ∧ cs_1 80 2 a3 lf ∧ cs_1 80 6 a4 sz ∧ cs_2 5 65536 a5 ky ∧ cs_V a6 vl ∧ cs_2 6 80 a7 ch ∧ cs_A a8 af
/-- the arrays hold the two maps mp 0 and mp 1 -/
def cs_R (a1 a2 a3 a4 a5 : Nat → Int32) (a6 : Nat → Int64) (a7 a8 : Nat → Int32) (mp : Nat → Nat → Option Int64) : Prop :=
  ∃ (tk lf sz : Nat → Nat) (ky : Nat → Nat → Nat) (vl : Nat → Nat → Int64) (ch : Nat → Nat → Nat) (af ow lv lo hi pa ps rt H : Nat → Nat), cs_M a1 a2 a3 a4 a5 a6 a7 a8 tk lf sz ky vl ch af rt ∧ pt_I tk lf sz ky vl ch af ow lv lo hi pa ps rt H mp ∧ pt_S sz ow lv rt 80
/-- the loop upwards: node x at step L of the way may be too full -/
def cs_U (a1 a2 a3 a4 a5 : Nat → Int32) (a6 : Nat → Int64) (a7 a8 a9 a10 : Nat → Int32) (mp : Nat → Nat → Option Int64) (t x L : Nat) : Prop :=
  ∃ (tk lf sz : Nat → Nat) (ky : Nat → Nat → Nat) (vl : Nat → Nat → Int64) (ch : Nat → Nat → Nat) (af ow lv lo hi pa ps rt H : Nat → Nat), cs_M a1 a2 a3 a4 a5 a6 a7 a8 tk lf sz ky vl ch af rt ∧ pt_I tk lf sz ky vl ch af ow lv lo hi pa ps rt H mp ∧ pt_S sz ow lv rt x ∧ (x ≠ rt t → 2 ≤ sz x) ∧ (lv x ≠ 0 → 1 ≤ sz x) ∧ cs_W a9 a10 ow lv pa ps t (rt t) (H t) L x
/-- x is split, r not yet hung in -/
def pt_mid (l : Nat) (tk lf sz : Nat → Nat) (ky : Nat → Nat → Nat) (vl : Nat → Nat → Int64) (ch : Nat → Nat → Nat) (af : Nat → Nat) (tk1 lf1 sz1 : Nat → Nat) (ky1 : Nat → Nat → Nat) (vl1 : Nat → Nat → Int64) (ch1 : Nat → Nat → Nat) (af1 : Nat → Nat) (x r q : Nat) : Prop :=
  ((l = 0 ∧ q = 2) ∨ (l ≠ 0 ∧ q = 3)) ∧ tk1 r ≠ 0 ∧ (∀ n, n ≠ r → tk1 n = tk n) ∧ (lf1 r = 0 ↔ l ≠ 0) ∧ (∀ n, n ≠ r → lf1 n = lf n) ∧ sz1 x = 2 ∧ sz1 r = 5 - q ∧ (∀ n, n ≠ x → n ≠ r → sz1 n = sz n) ∧
  (∀ i, i + q < 5 → ky1 r i = ky x (i + q)) ∧ (∀ n i, n ≠ r → ky1 n i = ky n i) ∧ (l = 0 → ∀ i, i + 2 < 5 → vl1 r i = vl x (i + 2)) ∧ (∀ n i, n ≠ r → vl1 n i = vl n i) ∧
  (l ≠ 0 → ∀ i, i ≤ 2 → ch1 r i = ch x (i + 3)) ∧ (∀ n i, n ≠ r → ch1 n i = ch n i) ∧ (l = 0 → af1 r = af x ∧ af1 x = r) ∧ (∀ n, n ≠ r → (n = x → l ≠ 0) → af1 n = af n)
section
variable {d pl pp sk gv pr fb : Int32} {a1 a2 a3 a4 a5 : Nat → Int32} {a6 : Nat → Int64} {a7 a8 a9 a10 a11 : Nat → Int32} {tk lf sz : Nat → Nat} {ky : Nat → Nat → Nat} {vl : Nat → Nat → Int64} {ch : Nat → Nat → Nat} {af ow lv lo hi pa ps rt H : Nat → Nat} {mp : Nat → Nat → Option Int64} {tk1 lf1 sz1 : Nat → Nat} {ky1 : Nat → Nat → Nat} {vl1 : Nat → Nat → Int64} {ch1 : Nat → Nat → Nat} {af1 : Nat → Nat}
theorem tr_140s {post : St1 → Prop} {J : Int32 → Int32 → Int32 → Int32 → Int32 → Int32 → Int32 → Int32 → Int32 → (Nat → Int32) → (Nat → Int32) → (Nat → Int32) → (Nat → Int32) → (Nat → Int32) → (Nat → Int64) → (Nat → Int32) → (Nat → Int32) → (Nat → Int32) → (Nat → Int32) → (Nat → Int32) → Prop} {t x r q L : Nat}
    (I : pt_I tk lf sz ky vl ch af ow lv lo hi pa ps rt H mp) (S : pt_S sz ow lv rt x) (ht : t < 2) (hL : L < 8) (W : cs_W a9 a10 ow lv pa ps t (rt t) (H t) (L + 1) x) (hsx : sz x = 5) (hr : r < 80) (hor : ow r = 2) (kb : ky x 2 < 65536)
    (mid : pt_mid (lv x) tk lf sz ky vl ch af tk1 lf1 sz1 ky1 vl1 ch1 af1 x r q) (M : cs_M a1 a2 a3 a4 a5 a6 a7 a8 tk1 lf1 sz1 ky1 vl1 ch1 af1 rt)
    (Hp : ∀ p b4 b5 b7, cs_U a1 a2 a3 b4 b5 a6 b7 a8 a9 a10 mp t p L → J (nI p) (nI L) d pl pp (nI (ky x 2)) gv pr fb a1 a2 a3 b4 b5 a6 b7 a8 a9 a10 a11) :
    wX_putRecord_140 post J (nI t) (nI x) (nI (L + 1)) (nI r) d pl pp (nI (ky x 2)) gv pr fb a1 a2 a3 a4 a5 a6 a7 a8 a9 a10 a11 := by
  have I' := I
  obtain ⟨J1, J2, J3, J4, J5, J6, J7, J8, J9, J10⟩ := I'
  obtain ⟨x8, ox, lx⟩ := cs_Wn W
  obtain ⟨g1, g2, W'⟩ := cs_Wup W
  obtain ⟨p8, op, lp⟩ := cs_Wn W'
  have hxr : x ≠ rt t := fun e => by
    have := (J8 t ht).2.2.1
    rw [← e] at this
    omega
  obtain ⟨p, hp⟩ : ∃ p, p = pa x := ⟨_, rfl⟩
  obtain ⟨s, hs⟩ : ∃ s, s = ps x := ⟨_, rfl⟩
  obtain ⟨q1, q2, q3, q4, q5⟩ := J6 x x8 (by omega) (by rw [ox]; exact hxr)
  rw [← hp] at g1 W' p8 op lp q1 q2 q3 q4 q5
  rw [← hs] at g2 q4 q5
  obtain ⟨M1, M2, M3, M4, M5, M6, M7, M8⟩ := M
  obtain ⟨mq, t1, t0, l1, l0, z1, z2, z0, k1, k0, v1, v0, c1, c0, f1, f0⟩ := mid
  have hpx : p ≠ x := fun e => by rw [e] at lp; omega
  have hpr : p ≠ r := fun e => by rw [e] at op; omega
  have hxr' : x ≠ r := fun e => by rw [e] at ox; omega
  obtain ⟨S1, S2, S3⟩ := S p p8 (by omega) hpx
  have zp : sz1 p = sz p := z0 p hpx hpr
  refine br_f (nI_ne0 (by omega) (by omega)) ⟨?_, ?_⟩
  · rw [nI_pred]; exact pk_in L 8 hL
  rw [nI_pred, nI_clamp (by omega)]
  refine nm_r g1 ⟨pk_in L 8 hL, ?_⟩
  rw [g2]
  refine wk_ins p8 hr (by omega) (by omega) M4 M5 M7 kb (fun b4 b5 b7 h4 h5 h7 => nm_r (pk_m1 L) (Hp p b4 b5 b7 ?_))
  obtain ⟨ow', lv', lo', hi', pa', ps', I2, ⟨o1, e1, oe⟩, gp⟩ := pt_split (tk' := tk1) (lf' := lf1) (sz' := fun n => if n = p then sz1 p + 1 else sz1 n) (ky' := fun n i => if n = p ∧ i = s then ky x 2 else if n = p ∧ s < i ∧ i ≤ sz1 p then ky1 p (i - 1) else ky1 n i) (vl' := vl1) (ch' := fun n i => if n = p ∧ i = s + 1 then r else if n = p ∧ s + 1 < i ∧ i ≤ sz1 p + 1 then ch1 p (i - 1) else ch1 n i) (af' := af1)
    I ht x8 ox hxr hsx hp.symm hs.symm hr hor mq t1 t0 l1 l0
    (by rw [if_neg (fun e => hpx e.symm)]; exact z1) (by rw [if_neg (fun e => hpr e.symm)]; exact z2) (by rw [if_pos rfl, zp]) (fun n a b c => by rw [if_neg c]; exact z0 n a b)
    (fun i hi' => by rw [if_neg (fun e => hpr e.1.symm), if_neg (fun e => hpr e.1.symm)]; exact k1 i hi') (fun i hi' => by rw [if_neg (by omega), if_neg (by omega)]; exact k0 p i hpr) (by rw [if_pos ⟨rfl, rfl⟩]) (fun i a b => by rw [if_neg (by omega), if_pos ⟨rfl, a, by omega⟩]; exact k0 p _ hpr) (fun n i a b => by rw [if_neg (fun e => b e.1), if_neg (fun e => b e.1)]; exact k0 n i a)
    v1 v0
    (fun h i hi' => by rw [if_neg (fun e => hpr e.1.symm), if_neg (fun e => hpr e.1.symm)]; exact c1 h i hi') (fun i hi' => by rw [if_neg (by omega), if_neg (by omega)]; exact c0 p i hpr) (by rw [if_pos ⟨rfl, rfl⟩]) (fun i a b => by rw [if_neg (by omega), if_pos ⟨rfl, a, by omega⟩]; exact c0 p _ hpr) (fun n i a b => by rw [if_neg (fun e => b e.1), if_neg (fun e => b e.1)]; exact c0 n i a)
    f1 f0
  refine ⟨_, _, _, _, _, _, _, ow', lv', lo', hi', pa', ps', rt, H, ⟨M1, M2, M3, h4, h5, M6, h7, M8⟩, I2, ?_, ?_, ?_, ?_⟩
  · intro n hn hon hnp
    try dsimp only
    rw [if_neg hnp]
    by_cases er : n = r
    · subst er
      rw [z2]
      omega
    · rw [(oe n er).1] at hon ⊢
      rw [(oe n er).2]
      by_cases ex : n = x
      · subst ex
        rw [z1]
        omega
      · rw [z0 n ex er]
        exact S n hn hon ex
  · intro h
    try dsimp only
    rw [if_pos rfl, zp]
    rw [op] at S2
    have := S2 h
    omega
  · intro h
    try dsimp only
    rw [if_pos rfl]
    omega
  · refine cs_Wg W' (fun m hm hom hlm => ?_)
    have hmr : m ≠ r := fun e => by rw [e] at hom; omega
    obtain ⟨y1, y2⟩ := gp m hm hom (by omega)
    exact ⟨(oe m hmr).1, (oe m hmr).2, y1, y2⟩
theorem tr_140z {post : St1 → Prop} {J : Int32 → Int32 → Int32 → Int32 → Int32 → Int32 → Int32 → Int32 → Int32 → (Nat → Int32) → (Nat → Int32) → (Nat → Int32) → (Nat → Int32) → (Nat → Int32) → (Nat → Int64) → (Nat → Int32) → (Nat → Int32) → (Nat → Int32) → (Nat → Int32) → (Nat → Int32) → Prop} {t x r q : Nat}
    (I : pt_I tk lf sz ky vl ch af ow lv lo hi pa ps rt H mp) (S : pt_S sz ow lv rt x) (ht : t < 2) (hx : x = rt t) (hsx : sz x = 5) (hr : r < 80) (hor : ow r = 2) (kb : ky x 2 < 65536)
    (mid : pt_mid (lv x) tk lf sz ky vl ch af tk1 lf1 sz1 ky1 vl1 ch1 af1 x r q) (M : cs_M a1 a2 a3 a4 a5 a6 a7 a8 tk1 lf1 sz1 ky1 vl1 ch1 af1 rt) (hf : ∃ w, w < 80 ∧ tk1 w = 0)
    (Hp : ∀ b1 b2 b3 b4 b5 b7 b8, cs_R b1 b2 b3 b4 b5 a6 b7 b8 mp → J (nI x) (-1) d pl pp (nI (ky x 2)) gv pr fb b1 b2 b3 b4 b5 a6 b7 b8 a9 a10 a11) :
    wX_putRecord_140 post J (nI t) (nI x) (nI 0) (nI r) d pl pp (nI (ky x 2)) gv pr fb a1 a2 a3 a4 a5 a6 a7 a8 a9 a10 a11 := by
  have I' := I
  obtain ⟨J1, J2, J3, J4, J5, J6, J7, J8, J9, J10⟩ := I'
  obtain ⟨x8, ox, lx, -⟩ := J8 t ht
  rw [← hx] at x8 ox lx
  obtain ⟨M1, M2, M3, M4, M5, M6, M7, M8⟩ := M
  obtain ⟨mq, t1, t0, l1, l0, z1, z2, z0, k1, k0, v1, v0, c1, c0, f1, f0⟩ := mid
  have hxr' : x ≠ r := fun e => by rw [e] at ox; omega
  refine br_t nI_0 (wk_grow ht hr kb M1 M2 M3 M4 M5 M7 M8 hf (fun w b1 b2 b3 b4 b5 b7 b8 hw hw0 h1 h2 h3 h4 h5 h7 h8 => nm_r (show nI 0 + (-1) = -1 from rfl) (Hp b1 b2 b3 b4 b5 b7 b8 ?_)))
  have hwr : w ≠ r := fun e => t1 (by rw [← e]; exact hw0)
  have how : ow w = 2 := by
    rw [t0 w hwr] at hw0
    exact (J1 w hw).2.1.mp hw0
  have hwx : w ≠ x := fun e => by rw [e] at how; omega
  obtain ⟨ow', lv', lo', hi', pa', ps', H', I2, ⟨o1, e1, oe⟩, gx, gy⟩ := pt_raise (tk' := fun n => if n = w then 1 else tk n) (lf' := fun n => if n = w then 0 else lf n) (sz' := fun n => if n = w then 0 else sz n) (ky' := ky) (vl' := vl) (ch' := fun n i => if n = w ∧ i = 0 then rt t else ch n i) (af' := fun n => if n = w then 80 else af n) (rt' := fun n => if n = t then w else rt n)
    I ht hw how (by rw [if_pos rfl]; omega) (fun n h => by rw [if_neg h]) (by rw [if_pos rfl]) (fun n h => by rw [if_neg h]) (by rw [if_pos rfl]) (fun n h => by rw [if_neg h]) (fun n i h => rfl) (fun n i h => rfl) (by rw [if_pos ⟨rfl, rfl⟩]) (fun n i h => by rw [if_neg (fun e => h e.1)]) (fun n h => by rw [if_neg h]) (by rw [if_pos rfl]) (fun n h => by rw [if_neg h])
  rw [← hx] at gx gy
  have lx' : lv' x = lv x := (oe x (fun e => hwx e.symm)).2
  obtain ⟨ow2, lv2, lo2, hi2, pa2, ps2, I3, ⟨p1, p2, pe⟩, -⟩ := pt_split (tk' := fun n => if n = w then 1 else tk1 n) (lf' := fun n => if n = w then 0 else lf1 n) (sz' := fun n => if n = w then 1 else sz1 n) (ky' := fun n i => if n = w ∧ i = 0 then ky x 2 else ky1 n i) (vl' := vl1) (ch' := fun n i => if n = w ∧ i = 1 then r else if n = w ∧ i = 0 then rt t else ch1 n i) (af' := fun n => if n = w then 80 else af1 n) (q := q)
    I2 ht x8 (by rw [(oe x (fun e => hwx e.symm)).1]; exact ox) (by (try dsimp only); rw [if_pos rfl]; exact fun e => hwx e.symm) (by (try dsimp only); rw [if_neg (fun e => hwx e.symm)]; exact hsx) gx gy hr (by rw [(oe r (fun e => hwr e.symm)).1]; exact hor) (by rw [lx']; exact mq)
    (by (try dsimp only); rw [if_neg (fun e => hwr e.symm)]; exact t1) (fun n h => by
      try dsimp only
      by_cases e : n = w
      · rw [if_pos e, if_pos e]
      · rw [if_neg e, if_neg e]; exact t0 n h) (by (try dsimp only); rw [if_neg (fun e => hwr e.symm), lx']; exact l1) (fun n h => by
      try dsimp only
      by_cases e : n = w
      · rw [if_pos e, if_pos e]
      · rw [if_neg e, if_neg e]; exact l0 n h)
    (by (try dsimp only); rw [if_neg (fun e => hwx e.symm)]; exact z1) (by (try dsimp only); rw [if_neg (fun e => hwr e.symm)]; exact z2) (by (try dsimp only); rw [if_pos rfl, if_pos rfl]) (fun n a b c => by (try dsimp only); rw [if_neg c, if_neg c]; exact z0 n a b)
    (fun i hi' => by (try dsimp only); rw [if_neg (fun e => hwr e.1.symm)]; exact k1 i hi') (fun i hi' => absurd hi' (by omega)) (by (try dsimp only); rw [if_pos ⟨rfl, rfl⟩]) (fun i a b => by (try dsimp only at b); rw [if_pos rfl] at b; omega) (fun n i a b => by (try dsimp only); rw [if_neg (fun e => b e.1)]; exact k0 n i a)
    (by rw [lx']; exact v1) v0
    (fun h i hi' => by (try dsimp only); rw [if_neg (fun e => hwr e.1.symm), if_neg (fun e => hwr e.1.symm), if_neg (fun e => hwx e.1.symm)]; exact c1 (by rw [← lx']; exact h) i hi') (fun i hi' => by
      have : i = 0 := by omega
      subst this
      try dsimp only
      rw [if_neg (by omega), if_pos ⟨rfl, rfl⟩, if_pos ⟨rfl, rfl⟩]) (by (try dsimp only); rw [if_pos ⟨rfl, rfl⟩]) (fun i a b => by (try dsimp only at b); rw [if_pos rfl] at b; omega) (fun n i a b => by (try dsimp only); rw [if_neg (fun e => b e.1), if_neg (fun e => b e.1), if_neg (fun e => b e.1)]; exact c0 n i a)
    (fun h => by (try dsimp only); rw [if_neg (fun e => hwr e.symm), if_neg (fun e => hwx e.symm), if_neg (fun e => hwx e.symm)]; exact f1 (by rw [← lx']; exact h)) (fun n a b => by
      try dsimp only
      by_cases e : n = w
      · rw [if_pos e, if_pos e]
      · rw [if_neg e, if_neg e]; exact f0 n a (by rw [← lx']; exact b))
  refine ⟨_, _, _, _, _, _, _, ow2, lv2, lo2, hi2, pa2, ps2, _, H', ⟨h1, h2, h3, h4, h5, M6, h7, h8⟩, I3, ?_⟩
  intro n hn hon _
  try dsimp only
  by_cases ew : n = w
  · subst ew
    rw [if_pos rfl, (pe n hwr).1, o1, if_pos rfl]
    exact ⟨by omega, fun h => absurd rfl h, fun _ => by omega⟩
  · rw [if_neg ew]
    by_cases er : n = r
    · subst er
      rw [z2]
      omega
    · by_cases ex : n = x
      · subst ex
        rw [z1]
        omega
      · rw [z0 n ex er]
        rw [(pe n er).1, (oe n ew).1] at hon ⊢
        rw [(pe n er).2, (oe n ew).2]
        obtain ⟨s1, s2, s3⟩ := S n hn hon ex
        refine ⟨s1, fun h => s2 (fun e => ?_), s3⟩
        by_cases y : ow n = t
        · exact ex (by rw [e, y, hx])
        · rw [if_neg y] at h
          exact h e
theorem tr_low {x : Nat} (I : pt_I tk lf sz ky vl ch af ow lv lo hi pa ps rt H mp) (S : pt_S sz ow lv rt x) {t : Nat} (ht : t < 2) (ox : ow x = t) (h1 : x ≠ rt t → 2 ≤ sz x) (h2 : lv x ≠ 0 → 1 ≤ sz x) : pt_L sz ow lv rt := by
  intro n hn hon
  by_cases e : n = x
  · subst e
    rw [ox]
    exact ⟨h1, h2⟩
  · exact (S n hn hon e).2
theorem tr_put99 {post : St1 → Prop} {t : Nat} (ht : t < 2) (hc : cn_k (mp 0) 65536 + cn_k (mp 1) 65536 ≤ 95)
    (Hp : ∀ sk b1 b2 b3 b4 b5 b6 b7 b8, cs_R b1 b2 b3 b4 b5 b6 b7 b8 mp → post (d, pl, pp, sk, gv, pr, fb, b1, b2, b3, b4, b5, b6, b7, b8, a9, a10, a11)) :
    ∀ L x sk a1 a2 a3 a4 a5 a6 a7 a8, L ≤ 6 → cs_U a1 a2 a3 a4 a5 a6 a7 a8 a9 a10 mp t x L → wX_putRecord_99 post (nI t) (L + 2) (nI x) (nI L) d pl pp sk gv pr fb a1 a2 a3 a4 a5 a6 a7 a8 a9 a10 a11 := by
  intro L
  induction L with
  | zero =>
    intro x sk a1 a2 a3 a4 a5 a6 a7 a8 hL U
    obtain ⟨tk, lf, sz, ky, vl, ch, af, ow, lv, lo, hi, pa, ps, rt, H, M, I, S, u1, u2, W⟩ := U
    obtain ⟨x8, ox, lx⟩ := cs_Wn W
    have I' := I
    obtain ⟨J1, J2, J3, J4, J5, J6, J7, J8, J9, J10⟩ := I'
    have M' := M
    obtain ⟨M1, M2, M3, M4, M5, M6, M7, M8⟩ := M'
    have hz := (M4 x x8).2
    have hlf := (M3 x x8).2
    have hl := (J2 x x8 (by omega)).2.1
    have htk : tk x ≠ 0 := fun e => by have := (J1 x x8).2.1.mp e; omega
    have low := tr_low I S ht ox u1 u2
    have room := pt_free I low hc
    obtain ⟨r0, hr0, hf0⟩ := cn_free (show cn_c (fun n => decide (tk n ≠ 0)) 80 < 80 by omega)
    have hfree : ∃ r, r < 80 ∧ tk r = 0 := ⟨r0, hr0, by have := of_decide_eq_false hf0; omega⟩
    have more : ∀ r, r < 80 → tk r = 0 → ∀ tk1 : Nat → Nat, tk1 r ≠ 0 → (∀ n, n ≠ r → tk1 n = tk n) → ∃ w, w < 80 ∧ tk1 w = 0 := fun r hr h0 tk1 q1 q0 => by
      have e : cn_c (fun n => decide (tk1 n ≠ 0)) 80 = cn_c (fun n => decide (tk n ≠ 0)) 80 + 1 := cn_add hr (decide_eq_false (fun z => z h0)) (decide_eq_true q1) (fun i hi' hne => by
        show decide (tk1 i ≠ 0) = decide (tk i ≠ 0)
        rw [q0 i hne])
      obtain ⟨r1, hr1, hf1⟩ := cn_free (show cn_c (fun n => decide (tk1 n ≠ 0)) 80 < 80 by omega)
      exact ⟨r1, hr1, by have := of_decide_eq_false hf1; omega⟩
    refine pk_lt 0 0 (fun z => absurd z (by omega)) (fun _ => ⟨pk_in x 80 x8, ?_⟩)
    rw [cs_1r M4 x8]
    refine pk_le (sz x) 4 (fun z => Hp _ _ _ _ _ _ _ _ _ ⟨tk, lf, sz, ky, vl, ch, af, ow, lv, lo, hi, pa, ps, rt, H, M, I, ?_⟩) (fun z => ⟨pk_in x 80 x8, ?_⟩)
    · intro n hn hon _
      by_cases e : n = x
      · subst e
        rw [ox]
        exact ⟨z, u1, u2⟩
      · exact S n hn hon e
    have hsx : sz x = 5 := by omega
    have kb := (M5 x 2 x8 (by omega)).2
    rw [cs_1r M3 x8]
    refine pk_eq (lf x) 0 (fun y => ?_) (fun y => ?_)
    · refine wk_sin x8 htk M2 M3 M4 M5 M7 M8 hfree (fun r b2 b3 b4 b5 b7 b8 hr h0 g2 g3 g4 g5 g7 g8 => ?_)
      have hor : ow r = 2 := (J1 r hr).2.1.mp h0
      have hxr : x ≠ r := fun e => by rw [e] at ox; omega
      refine tr_140z (q := 3) I S ht (cs_Wr W) hsx hr hor kb ⟨Or.inr ⟨by omega, rfl⟩, by rw [if_pos rfl]; omega, fun n h => by rw [if_neg h], by rw [if_pos rfl]; omega, fun n h => by rw [if_neg h], by rw [if_pos rfl], by rw [if_neg (fun e => hxr e.symm), if_pos rfl], fun n a b => by rw [if_neg a, if_neg b], fun i a => by rw [if_pos ⟨rfl, by omega⟩], fun n i a => by rw [if_neg (fun e => a e.1)], fun a => by omega, fun n i a => rfl, fun _ i a => by rw [if_pos ⟨rfl, by omega⟩], fun n i a => by rw [if_neg (fun e => a e.1)], fun a => by omega, fun n a b => by rw [if_neg a]⟩ ⟨M1, g2, g3, g4, g5, M6, g7, g8⟩ (more r hr h0 _ (by (try dsimp only); rw [if_pos rfl]; omega) (fun n h => by rw [if_neg h])) (fun b1 b2 b3 b4 b5 b7 b8 R => ?_)
      exact br_t (by decide) (Hp _ _ _ _ _ _ _ _ _ R)
    · refine wk_sleaf x8 htk M2 M3 M4 M5 M6 M8 hfree (fun r b2 b3 b4 b5 b6 b8 hr h0 g2 g3 g4 g5 g6 g8 => ?_)
      have hor : ow r = 2 := (J1 r hr).2.1.mp h0
      have hxr : x ≠ r := fun e => by rw [e] at ox; omega
      refine tr_140z (q := 2) I S ht (cs_Wr W) hsx hr hor kb ⟨Or.inl ⟨by omega, rfl⟩, by rw [if_pos rfl]; omega, fun n h => by rw [if_neg h], by rw [if_pos rfl]; omega, fun n h => by rw [if_neg h], by rw [if_pos rfl], by rw [if_neg (fun e => hxr e.symm), if_pos rfl], fun n a b => by rw [if_neg a, if_neg b], fun i a => by rw [if_pos ⟨rfl, by omega⟩], fun n i a => by rw [if_neg (fun e => a e.1)], fun _ i a => by rw [if_pos ⟨rfl, by omega⟩], fun n i a => by rw [if_neg (fun e => a e.1)], fun a => by omega, fun n i a => rfl, fun _ => ⟨by rw [if_neg (fun e => hxr e.symm), if_pos rfl], by rw [if_pos rfl]⟩, fun n a b => by rw [if_neg (fun e => b e (by omega)), if_neg a]⟩ ⟨M1, g2, g3, g4, g5, g6, M7, g8⟩ (more r hr h0 _ (by (try dsimp only); rw [if_pos rfl]; omega) (fun n h => by rw [if_neg h])) (fun b1 b2 b3 b4 b5 b7 b8 R => ?_)
      exact br_t (by decide) (Hp _ _ _ _ _ _ _ _ _ R)
  | succ L ih =>
    intro x sk a1 a2 a3 a4 a5 a6 a7 a8 hL U
    obtain ⟨tk, lf, sz, ky, vl, ch, af, ow, lv, lo, hi, pa, ps, rt, H, M, I, S, u1, u2, W⟩ := U
    obtain ⟨x8, ox, lx⟩ := cs_Wn W
    have I' := I
    obtain ⟨J1, J2, J3, J4, J5, J6, J7, J8, J9, J10⟩ := I'
    have M' := M
    obtain ⟨M1, M2, M3, M4, M5, M6, M7, M8⟩ := M'
    have hz := (M4 x x8).2
    have hlf := (M3 x x8).2
    have hl := (J2 x x8 (by omega)).2.1
    have htk : tk x ≠ 0 := fun e => by have := (J1 x x8).2.1.mp e; omega
    have low := tr_low I S ht ox u1 u2
    have room := pt_free I low hc
    obtain ⟨r0, hr0, hf0⟩ := cn_free (show cn_c (fun n => decide (tk n ≠ 0)) 80 < 80 by omega)
    have hfree : ∃ r, r < 80 ∧ tk r = 0 := ⟨r0, hr0, by have := of_decide_eq_false hf0; omega⟩
    refine pk_lt (L + 1) 0 (fun z => absurd z (by omega)) (fun _ => ⟨pk_in x 80 x8, ?_⟩)
    rw [cs_1r M4 x8]
    refine pk_le (sz x) 4 (fun z => Hp _ _ _ _ _ _ _ _ _ ⟨tk, lf, sz, ky, vl, ch, af, ow, lv, lo, hi, pa, ps, rt, H, M, I, ?_⟩) (fun z => ⟨pk_in x 80 x8, ?_⟩)
    · intro n hn hon _
      by_cases e : n = x
      · subst e
        rw [ox]
        exact ⟨z, u1, u2⟩
      · exact S n hn hon e
    have hsx : sz x = 5 := by omega
    have kb := (M5 x 2 x8 (by omega)).2
    rw [cs_1r M3 x8]
    refine pk_eq (lf x) 0 (fun y => ?_) (fun y => ?_)
    · refine wk_sin x8 htk M2 M3 M4 M5 M7 M8 hfree (fun r b2 b3 b4 b5 b7 b8 hr h0 g2 g3 g4 g5 g7 g8 => ?_)
      have hor : ow r = 2 := (J1 r hr).2.1.mp h0
      have hxr : x ≠ r := fun e => by rw [e] at ox; omega
      exact tr_140s (q := 3) I S ht (by omega) W hsx hr hor kb ⟨Or.inr ⟨by omega, rfl⟩, by rw [if_pos rfl]; omega, fun n h => by rw [if_neg h], by rw [if_pos rfl]; omega, fun n h => by rw [if_neg h], by rw [if_pos rfl], by rw [if_neg (fun e => hxr e.symm), if_pos rfl], fun n a b => by rw [if_neg a, if_neg b], fun i a => by rw [if_pos ⟨rfl, by omega⟩], fun n i a => by rw [if_neg (fun e => a e.1)], fun a => by omega, fun n i a => rfl, fun _ i a => by rw [if_pos ⟨rfl, by omega⟩], fun n i a => by rw [if_neg (fun e => a e.1)], fun a => by omega, fun n a b => by rw [if_neg a]⟩ ⟨M1, g2, g3, g4, g5, M6, g7, g8⟩ (fun p b4 b5 b7 U' => ih p _ _ _ _ _ _ _ _ _ (by omega) U')
    · refine wk_sleaf x8 htk M2 M3 M4 M5 M6 M8 hfree (fun r b2 b3 b4 b5 b6 b8 hr h0 g2 g3 g4 g5 g6 g8 => ?_)
      have hor : ow r = 2 := (J1 r hr).2.1.mp h0
      have hxr : x ≠ r := fun e => by rw [e] at ox; omega
      exact tr_140s (q := 2) I S ht (by omega) W hsx hr hor kb ⟨Or.inl ⟨by omega, rfl⟩, by rw [if_pos rfl]; omega, fun n h => by rw [if_neg h], by rw [if_pos rfl]; omega, fun n h => by rw [if_neg h], by rw [if_pos rfl], by rw [if_neg (fun e => hxr e.symm), if_pos rfl], fun n a b => by rw [if_neg a, if_neg b], fun i a => by rw [if_pos ⟨rfl, by omega⟩], fun n i a => by rw [if_neg (fun e => a e.1)], fun _ i a => by rw [if_pos ⟨rfl, by omega⟩], fun n i a => by rw [if_neg (fun e => a e.1)], fun a => by omega, fun n i a => rfl, fun _ => ⟨by rw [if_neg (fun e => hxr e.symm), if_pos rfl], by rw [if_pos rfl]⟩, fun n a b => by rw [if_neg (fun e => b e (by omega)), if_neg a]⟩ ⟨M1, g2, g3, g4, g5, g6, M7, g8⟩ (fun p b4 b5 b7 U' => ih p _ _ _ _ _ _ _ _ _ (by omega) U')
end
end
section
/-! putRecord; seek, locate, stepOn over the maps -/
theorem pt_S80 {sz ow lv rt : Nat → Nat} (S : pt_S sz ow lv rt 80) : pt_L sz ow lv rt := fun n hn hon => (S n hn hon (by omega)).2
/-- the map with one record put in -/
def mp_put (mp : Nat → Nat → Option Int64) (t k : Nat) (v : Int64) : Nat → Nat → Option Int64 := fun a b => if a = t ∧ b = k then some v else mp a b
/-- the map with one record taken out -/
def mp_del (mp : Nat → Nat → Option Int64) (t k : Nat) : Nat → Nat → Option Int64 := fun a b => if a = t ∧ b = k then none else mp a b
section
variable {d pl pp sk gv pr fb : Int32} {a1 a2 a3 a4 a5 : Nat → Int32} {a6 : Nat → Int64} {a7 a8 a9 a10 a11 : Nat → Int32} {tk lf sz : Nat → Nat} {ky : Nat → Nat → Nat} {vl : Nat → Nat → Int64} {ch : Nat → Nat → Nat} {af ow lv lo hi pa ps rt H : Nat → Nat} {mp : Nat → Nat → Option Int64}
theorem tr_59 {post : St1 → Prop} {t x c k : Nat} {v : Int64} (M : cs_M a1 a2 a3 a4 a5 a6 a7 a8 tk lf sz ky vl ch af rt) (I : pt_I tk lf sz ky vl ch af ow lv lo hi pa ps rt H mp) (S : pt_S sz ow lv rt 80) (ht : t < 2) (hk : k < 65536) (hH : H t ≤ 6) (W : cs_W a9 a10 ow lv pa ps t (rt t) (H t) (H t) x) (hl : lv x = 0) (hc : c ≤ sz x) (b1 : lo x ≤ k) (b2 : k < hi x)
    (h1 : ∀ i, i < c → ky x i < k) (h2 : ∀ i, c ≤ i → i < sz x → k < ky x i) (cnt : cn_k (mp_put mp t k v 0) 65536 + cn_k (mp_put mp t k v 1) 65536 ≤ 95)
    (Hp : ∀ sk b1 b2 b3 b4 b5 b6 b7 b8, cs_R b1 b2 b3 b4 b5 b6 b7 b8 (mp_put mp t k v) → post ((nI (H t)), pl, pp, sk, gv, pr, fb, b1, b2, b3, b4, b5, b6, b7, b8, a9, a10, a11)) :
    wX_putRecord_59 post (nI t) (nI k) v (nI x) (nI c) (nI (H t)) pl pp sk gv pr fb a1 a2 a3 a4 a5 a6 a7 a8 a9 a10 a11 := by
  obtain ⟨x8, ox, lx⟩ := cs_Wn W
  obtain ⟨M1, M2, M3, M4, M5, M6, M7, M8⟩ := M
  obtain ⟨S1, S2, S3⟩ := S x x8 (by omega) (by omega)
  have hno : mp t k = none := pt_no I ht x8 ox hl b1 b2 (fun i hi' => by
    by_cases e : i < c
    · have := h1 i e; omega
    · have := h2 i (by omega) hi'; omega)
  refine wk_open x8 hc S1 M4 M5 M6 (fun b4 b5 b6 g4 g5 g6 => ?_)
  have i1 : c < 5 := by omega
  refine ⟨in_5 x8 i1 (ix_5 x c), nm_e ⟨in_5 x8 i1 (ix_5 x c), nm_e ⟨H t + 2, ?_⟩⟩⟩
  have g5' := cs_2w g5 x8 i1 (ix_5 x c) hk
  have g6' := cs_Vw (v := v) g6 x8 i1 (ix_5 x c)
  refine tr_put99 (mp := mp_put mp t k v) ht cnt Hp (H t) x _ _ _ _ _ _ _ _ _ hH ?_
  have I2 := pt_put I (sz' := fun n => if n = x then sz x + 1 else sz n) (ky' := fun n i => if n = x ∧ i = c then k else if n = x ∧ c < i ∧ i ≤ sz x then ky x (i - 1) else ky n i) (vl' := fun n i => if n = x ∧ i = c then v else if n = x ∧ c < i ∧ i ≤ sz x then vl x (i - 1) else vl n i) (v := v) ht x8 ox hl hc b1 b2 h1 h2 hno (by rw [if_pos rfl]) (fun n h => by rw [if_neg h])
    (fun i a => by rw [if_neg (by omega), if_neg (by omega)]) (by rw [if_pos ⟨rfl, rfl⟩]) (fun i a b => by rw [if_neg (by omega), if_pos ⟨rfl, a, b⟩]) (fun n i h => by rw [if_neg (fun e => h e.1), if_neg (fun e => h e.1)])
    (fun i a => by rw [if_neg (by omega), if_neg (by omega)]) (by rw [if_pos ⟨rfl, rfl⟩]) (fun i a b => by rw [if_neg (by omega), if_pos ⟨rfl, a, b⟩]) (fun n i h => by rw [if_neg (fun e => h e.1), if_neg (fun e => h e.1)])
  refine ⟨_, _, _, _, _, _, _, ow, lv, lo, hi, pa, ps, rt, H, ⟨M1, M2, M3, g4, g5', g6', M7, M8⟩, I2, ?_, ?_, ?_, W⟩
  · intro n hn hon hne
    (try dsimp only)
    rw [if_neg hne]
    exact S n hn hon (by omega)
  · intro h
    (try dsimp only)
    rw [if_pos rfl]
    rw [ox] at S2
    have := S2 h
    omega
  · intro h
    exact absurd hl h
theorem tr_put {post : St1 → Prop} {t k : Nat} {v : Int64} (R : cs_R a1 a2 a3 a4 a5 a6 a7 a8 mp) (ht : t < 2) (hk : k < 65536) (cnt : cn_k (mp_put mp t k v 0) 65536 + cn_k (mp_put mp t k v 1) 65536 ≤ 95)
    (Hp : ∀ d sk b1 b2 b3 b4 b5 b6 b7 b8 b9 b10, cs_R b1 b2 b3 b4 b5 b6 b7 b8 (mp_put mp t k v) → post (d, pl, pp, sk, gv, pr, fb, b1, b2, b3, b4, b5, b6, b7, b8, b9, b10, a11)) :
    wpX_putRecord post (d, pl, pp, sk, gv, pr, fb, a1, a2, a3, a4, a5, a6, a7, a8, a9, a10, a11) (nI t) (nI k) v := by
  obtain ⟨tk, lf, sz, ky, vl, ch, af, ow, lv, lo, hi, pa, ps, rt, H, M, I, S⟩ := R
  have M' := M
  obtain ⟨M1, M2, M3, M4, M5, M6, M7, M8⟩ := M'
  have I' := I
  obtain ⟨J1, J2, J3, J4, J5, J6, J7, J8, J9, J10⟩ := I'
  have hH := pt_high I (pt_S80 S) ht
  unfold wpX_putRecord
  dsimp only
  refine wk_desc I ht hH M1 M3 M4 M5 M7 hk (fun x b9 b10 x8 ox lx q1 q2 W => ?_)
  dsimp only
  have hz := (M4 x x8).2
  refine wk_pos M4 M5 x8 (by omega) (fun i j => J4 x i j x8 (by omega)) (fun c c1 c2 c3 => ⟨pk_in x 80 x8, ?_⟩)
  rw [cs_1r M4 x8]
  refine pk_le (sz x) c (fun z => ?_) (fun z => ⟨in_5 x8 (show c < 5 by omega) (ix_5 x c), ?_⟩)
  · exact tr_59 M I S ht hk hH W lx c1 q1 q2 c2 (fun i a b => absurd b (by omega)) cnt (fun sk b1 b2 b3 b4 b5 b6 b7 b8 R' => Hp _ _ _ _ _ _ _ _ _ _ _ _ R')
  · rw [cs_2r M5 x8 (show c < 5 by omega) (ix_5 x c)]
    have hkc := (M5 x c x8 (by omega)).2
    refine pk_eq (ky x c) k (fun y => ⟨in_5 x8 (show c < 5 by omega) (ix_5 x c), nm_e ?_⟩) (fun y => ?_)
    · have g6 := cs_Vw (v := v) M6 x8 (show c < 5 by omega) (ix_5 x c)
      refine Hp _ _ _ _ _ _ _ _ _ _ _ _ ⟨tk, lf, sz, ky, _, ch, af, ow, lv, lo, hi, pa, ps, rt, H, ⟨M1, M2, M3, M4, M5, g6, M7, M8⟩, ?_, S⟩
      have := pt_over I (vl' := fun n i => if n = x ∧ i = c then v else vl n i) (v := v) ht x8 ox lx z (by rw [if_pos ⟨rfl, rfl⟩]) (fun i a => by rw [if_neg (fun e => a e.2)]) (fun n i a => by rw [if_neg (fun e => a e.1)])
      rw [y] at this
      exact this
    · have hkc' := c3 c (Nat.le_refl c) z
      refine tr_59 M I S ht hk hH W lx c1 q1 q2 c2 (fun i a b => ?_) cnt (fun sk b1 b2 b3 b4 b5 b6 b7 b8 R' => Hp _ _ _ _ _ _ _ _ _ _ _ _ R')
      by_cases e : i = c
      · rw [e]; omega
      · have := J4 x c i x8 (by omega) (by omega) b
        omega
/-- the arrays hold the maps, and (pl, pp) is the first place of tree t from key b on -/
def cs_Q (a1 a2 a3 a4 a5 : Nat → Int32) (a6 : Nat → Int64) (a7 a8 : Nat → Int32) (mp : Nat → Nat → Option Int64) (t b : Nat) (pl pp : Int32) : Prop :=
  ∃ (tk lf sz : Nat → Nat) (ky : Nat → Nat → Nat) (vl : Nat → Nat → Int64) (ch : Nat → Nat → Nat) (af ow lv lo hi pa ps rt H : Nat → Nat), cs_M a1 a2 a3 a4 a5 a6 a7 a8 tk lf sz ky vl ch af rt ∧ pt_I tk lf sz ky vl ch af ow lv lo hi pa ps rt H mp ∧ pt_S sz ow lv rt 80 ∧ pt_P sz ky ow lv mp t b pl pp
theorem cs_QR {t b : Nat} (Q : cs_Q a1 a2 a3 a4 a5 a6 a7 a8 mp t b pl pp) : cs_R a1 a2 a3 a4 a5 a6 a7 a8 mp := by
  obtain ⟨tk, lf, sz, ky, vl, ch, af, ow, lv, lo, hi, pa, ps, rt, H, M, I, S, P⟩ := Q
  exact ⟨tk, lf, sz, ky, vl, ch, af, ow, lv, lo, hi, pa, ps, rt, H, M, I, S⟩
theorem tr_settle {post : St1 → Prop} {t b x c : Nat} (M : cs_M a1 a2 a3 a4 a5 a6 a7 a8 tk lf sz ky vl ch af rt) (I : pt_I tk lf sz ky vl ch af ow lv lo hi pa ps rt H mp) (S : pt_S sz ow lv rt 80) (ht : t < 2) (x8 : x < 80) (ox : ow x = t) (lx : lv x = 0) (hc : c ≤ sz x) (q1 : lo x ≤ b) (q2 : b ≤ hi x) (h1 : ∀ i, i < c → ky x i < b) (h2 : ∀ i, c ≤ i → i < sz x → b ≤ ky x i)
    (Hp : ∀ pl pp, cs_Q a1 a2 a3 a4 a5 a6 a7 a8 mp t b pl pp → post (d, pl, pp, sk, gv, pr, fb, a1, a2, a3, a4, a5, a6, a7, a8, a9, a10, a11)) : wpX_settle post (d, (nI x), (nI c), sk, gv, pr, fb, a1, a2, a3, a4, a5, a6, a7, a8, a9, a10, a11) := by
  have M' := M
  obtain ⟨M1, M2, M3, M4, M5, M6, M7, M8⟩ := M'
  have hz := (M4 x x8).2
  refine ⟨pk_in x 80 x8, ?_⟩
  rw [cs_1r M4 x8]
  refine pk_lt c (sz x) (fun z => Hp _ _ ⟨tk, lf, sz, ky, vl, ch, af, ow, lv, lo, hi, pa, ps, rt, H, M, I, S, pt_pl I ht x8 ox lx q1 z h1 (h2 c (Nat.le_refl c) z)⟩) (fun z => ⟨pk_in x 80 x8, ?_⟩)
  have ec : c = sz x := by omega
  subst ec
  rcases pt_pn I (pt_S80 S) ht x8 ox lx q1 q2 h1 with ⟨g1, g2⟩ | ⟨g1, g2⟩
  · exact nm_r ((cs_Ar M8 x8).trans (by rw [if_pos g1])) (Hp _ _ ⟨tk, lf, sz, ky, vl, ch, af, ow, lv, lo, hi, pa, ps, rt, H, M, I, S, g2⟩)
  · exact nm_r ((cs_Ar M8 x8).trans (by rw [if_neg (show ¬ af x = 80 by omega)])) (Hp _ _ ⟨tk, lf, sz, ky, vl, ch, af, ow, lv, lo, hi, pa, ps, rt, H, M, I, S, g2⟩)
theorem tr_seek {post : St1 → Prop} {t b : Nat} (R : cs_R a1 a2 a3 a4 a5 a6 a7 a8 mp) (ht : t < 2) (hk : b < 65536) (Hp : ∀ d pl pp a9 a10, cs_Q a1 a2 a3 a4 a5 a6 a7 a8 mp t b pl pp → post (d, pl, pp, sk, gv, pr, fb, a1, a2, a3, a4, a5, a6, a7, a8, a9, a10, a11)) : wpX_seek post (d, pl, pp, sk, gv, pr, fb, a1, a2, a3, a4, a5, a6, a7, a8, a9, a10, a11) (nI t) (nI b) := by
  obtain ⟨tk, lf, sz, ky, vl, ch, af, ow, lv, lo, hi, pa, ps, rt, H, M, I, S⟩ := R
  have M' := M
  obtain ⟨M1, M2, M3, M4, M5, M6, M7, M8⟩ := M'
  have I' := I
  obtain ⟨J1, J2, J3, J4, J5, J6, J7, J8, J9, J10⟩ := I'
  have hH := pt_high I (pt_S80 S) ht
  unfold wpX_seek
  dsimp only
  refine wk_desc I ht hH M1 M3 M4 M5 M7 hk (fun x b9 b10 x8 ox lx q1 q2 W => ?_)
  dsimp only
  refine wk_pos M4 M5 x8 (by omega) (fun i j => J4 x i j x8 (by omega)) (fun c c1 c2 c3 => ?_)
  exact tr_settle M I S ht x8 ox lx c1 q1 (by omega) c2 c3 (fun pl pp Q => Hp _ _ _ _ _ Q)
/-- what stands at a place -/
theorem cs_Qc {t b : Nat} (ht : t < 2) (Q : cs_Q a1 a2 a3 a4 a5 a6 a7 a8 mp t b pl pp) : (pl = -1 ∧ ∀ k v, mp t k = some v → k < b) ∨ (∃ k v, ¬ pl < 0 ∧ vp_in (5 * pl + pp) 400 ∧ a5 (5 * pl + pp).toNatClampNeg = nI k ∧ a6 (5 * pl + pp).toNatClampNeg = v ∧ mp t k = some v ∧ b ≤ k ∧ k < 65536 ∧ ∀ k' v', mp t k' = some v' → b ≤ k' → k ≤ k') := by
  obtain ⟨tk, lf, sz, ky, vl, ch, af, ow, lv, lo, hi, pa, ps, rt, H, ⟨M1, M2, M3, M4, M5, M6, M7, M8⟩, ⟨J1, J2, J3, J4, J5, J6, J7, J8, J9, J10⟩, S, P⟩ := Q
  rcases P with P | ⟨n, i, rfl, rfl, n8, on, ln, hi', hb, hm⟩
  · exact Or.inl P
  · have i5 : i < 5 := by have := (S n n8 (by omega) (by omega)).1; omega
    have h9 := J9 n i n8 (by omega) ln hi'
    rw [on] at h9
    exact Or.inr ⟨ky n i, vl n i, nI_pos (by omega), in_5 n8 i5 (ix_5 n i), cs_2r M5 n8 i5 (ix_5 n i), cs_Vr M6 n8 i5 (ix_5 n i), h9, hb, (M5 n i n8 i5).2, hm⟩
theorem tr_step {post : St1 → Prop} {t b k : Nat} (ht : t < 2) (Q : cs_Q a1 a2 a3 a4 a5 a6 a7 a8 mp t b pl pp) (hpl : ¬ pl < 0) (hk : k < 65536) (key : a5 (5 * pl + pp).toNatClampNeg = nI k) (Hp : ∀ pl pp, cs_Q a1 a2 a3 a4 a5 a6 a7 a8 mp t (k + 1) pl pp → post (d, pl, pp, sk, gv, pr, fb, a1, a2, a3, a4, a5, a6, a7, a8, a9, a10, a11)) : wpX_stepOn post (d, pl, pp, sk, gv, pr, fb, a1, a2, a3, a4, a5, a6, a7, a8, a9, a10, a11) := by
  obtain ⟨tk, lf, sz, ky, vl, ch, af, ow, lv, lo, hi, pa, ps, rt, H, M, I, S, P⟩ := Q
  have M' := M
  obtain ⟨M1, M2, M3, M4, M5, M6, M7, M8⟩ := M'
  have I' := I
  obtain ⟨J1, J2, J3, J4, J5, J6, J7, J8, J9, J10⟩ := I'
  rcases P with P | ⟨n, i, rfl, rfl, n8, on, ln, hi', hb, hm⟩
  · exact absurd (show pl < 0 by rw [P.1]; decide) hpl
  · have i5 : i < 5 := by have := (S n n8 (by omega) (by omega)).1; omega
    have hkn := (M5 n i n8 i5).2
    rw [cs_2r M5 n8 i5 (ix_5 n i), nI_eq (by omega) (by omega)] at key
    subst key
    have h3 := J3 n i n8 (by omega) hi'
    refine nm_r (nI_1 i) (tr_settle (c := i + 1) M I S ht n8 on ln (by omega) (by omega) (by omega) (fun j hj => ?_) (fun j a c => ?_) (fun pl pp Q => Hp _ _ Q))
    · by_cases e : j = i
      · rw [e]; omega
      · have := J4 n j i n8 (by omega) (by omega) hi'
        omega
    · have := J4 n i j n8 (by omega) (by omega) c
      omega
theorem tr_locate {post : Int32 → St1 → Prop} {t k : Nat} (R : cs_R a1 a2 a3 a4 a5 a6 a7 a8 mp) (ht : t < 2) (hk : k < 65536)
    (Hs : ∀ v d pl pp a9 a10, mp t k = some v → vp_in (5 * pl + pp) 400 → a6 (5 * pl + pp).toNatClampNeg = v → post 1 (d, pl, pp, sk, gv, pr, fb, a1, a2, a3, a4, a5, a6, a7, a8, a9, a10, a11))
    (Hn : mp t k = none → ∀ d pl pp a9 a10, post 0 (d, pl, pp, sk, gv, pr, fb, a1, a2, a3, a4, a5, a6, a7, a8, a9, a10, a11)) : wpX_locate post (d, pl, pp, sk, gv, pr, fb, a1, a2, a3, a4, a5, a6, a7, a8, a9, a10, a11) (nI t) (nI k) := by
  unfold wpX_locate
  dsimp only
  refine tr_seek R ht hk (fun d pl pp a9 a10 Q => ?_)
  dsimp only
  rcases cs_Qc ht Q with ⟨e, h⟩ | ⟨k', v, g1, g2, g3, g4, g5, g6, g7, g8⟩
  · refine br_t (show pl < 0 by rw [e]; decide) (Hn ?_ _ _ _ _ _)
    rcases hm : mp t k with _ | v
    · rfl
    · have := h k v hm; omega
  · refine br_f g1 ⟨g2, ?_⟩
    rw [g3]
    refine pk_eq k' k (fun z => ?_) (fun z => Hn ?_ _ _ _ _ _)
    · subst z
      exact Hs v _ _ _ _ _ g5 g2 g4
    · rcases hm : mp t k with _ | v'
      · rfl
      · have := g8 k v' hm (Nat.le_refl k); omega
end
end
section
/-! taking a record out: borrowing, merging, repair -/
/-- the loop upwards: node x at step L of the way may have too few -/
def cs_D (a1 a2 a3 a4 a5 : Nat → Int32) (a6 : Nat → Int64) (a7 a8 a9 a10 : Nat → Int32) (mp : Nat → Nat → Option Int64) (t x L : Nat) : Prop :=
  ∃ (tk lf sz : Nat → Nat) (ky : Nat → Nat → Nat) (vl : Nat → Nat → Int64) (ch : Nat → Nat → Nat) (af ow lv lo hi pa ps rt H : Nat → Nat), cs_M a1 a2 a3 a4 a5 a6 a7 a8 tk lf sz ky vl ch af rt ∧ pt_I tk lf sz ky vl ch af ow lv lo hi pa ps rt H mp ∧ pt_S sz ow lv rt x ∧ sz x ≤ 4 ∧ (x ≠ rt t → 1 ≤ sz x) ∧ cs_W a9 a10 ow lv pa ps t (rt t) (H t) L x
/-! the rows of two neighbours -/
def pt_RK (ky : Nat → Nat → Nat) (p s x r a e : Nat) (i : Nat) : Nat := if i < a then ky x i else if i < a + e then ky p s else ky r (i - (a + e))
def pt_RV (vl : Nat → Nat → Int64) (x r a : Nat) (i : Nat) : Int64 := if i < a then vl x i else vl r (i - a)
def pt_RC (ch : Nat → Nat → Nat) (x r a : Nat) (i : Nat) : Nat := if i ≤ a then ch x i else ch r (i - (a + 1))
theorem pt_RK1 {ky : Nat → Nat → Nat} {p s x r a e i : Nat} (h : i < a) : pt_RK ky p s x r a e i = ky x i := if_pos h
theorem pt_RK2 {ky : Nat → Nat → Nat} {p s x r a e i : Nat} (h : i = a) (he : e = 1) : pt_RK ky p s x r a e i = ky p s := by
  unfold pt_RK; rw [if_neg (by omega), if_pos (by omega)]
theorem pt_RK3 {ky : Nat → Nat → Nat} {p s x r a e i j : Nat} (h : i = a + e + j) : pt_RK ky p s x r a e i = ky r j := by
  unfold pt_RK; rw [if_neg (by omega), if_neg (by omega)]; congr 1; omega
theorem pt_RV1 {vl : Nat → Nat → Int64} {x r a i : Nat} (h : i < a) : pt_RV vl x r a i = vl x i := if_pos h
theorem pt_RV3 {vl : Nat → Nat → Int64} {x r a i j : Nat} (h : i = a + j) : pt_RV vl x r a i = vl r j := by
  unfold pt_RV; rw [if_neg (by omega)]; congr 1; omega
theorem pt_RC1 {ch : Nat → Nat → Nat} {x r a i : Nat} (h : i ≤ a) : pt_RC ch x r a i = ch x i := if_pos h
theorem pt_RC3 {ch : Nat → Nat → Nat} {x r a i j : Nat} (h : i = a + 1 + j) : pt_RC ch x r a i = ch r j := by
  unfold pt_RC; rw [if_neg (by omega)]; congr 1; omega
section
variable {d pl pp sk gv pr fb : Int32} {a1 a2 a3 a4 a5 : Nat → Int32} {a6 : Nat → Int64} {a7 a8 a9 a10 a11 : Nat → Int32} {tk lf sz : Nat → Nat} {ky : Nat → Nat → Nat} {vl : Nat → Nat → Int64} {ch : Nat → Nat → Nat} {af ow lv lo hi pa ps rt H : Nat → Nat} {mp : Nat → Nat → Option Int64}
theorem pt_sib (I : pt_I tk lf sz ky vl ch af ow lv lo hi pa ps rt H mp) {t x r p s : Nat} (ht : t < 2) (hp : p < 80) (hop : ow p = t) (hlp : lv p ≠ 0) (hs : s + 1 ≤ sz p) (hx : ch p s = x) (hr : ch p (s + 1) = r) :
    x < 80 ∧ r < 80 ∧ ow x = t ∧ ow r = t ∧ lv x + 1 = lv p ∧ lv r + 1 = lv p ∧ x ≠ p ∧ x ≠ r ∧ r ≠ p ∧ x ≠ rt t ∧ r ≠ rt t ∧ (lf x = 0 ↔ lv p ≠ 1) ∧ (lf r = 0 ↔ lv p ≠ 1) := by
  obtain ⟨J1, J2, J3, J4, J5, J6, J7, J8, J9, J10⟩ := I
  have A := J5 p s hp (by omega) hlp (by omega)
  have B := J5 p (s + 1) hp (by omega) hlp hs
  rw [hx] at A
  rw [hr] at B
  obtain ⟨a1, a2, a3, a4, a5, -, -⟩ := A
  obtain ⟨b1, b2, b3, b4, b5, -, -⟩ := B
  have h8 := (J8 t ht).2.2.2.2.2
  have A2 := (J2 x a1 (by omega)).2.1
  have B2 := (J2 r b1 (by omega)).2.1
  refine ⟨a1, b1, by omega, by omega, a3, b3, ?_, ?_, ?_, ?_, ?_, ?_, ?_⟩
  · intro e; rw [e] at a3; omega
  · intro e; rw [e] at a5; omega
  · intro e; rw [e] at b3; omega
  · intro e; rw [← e] at h8; omega
  · intro e; rw [← e] at h8; omega
  · rw [A2]; omega
  · rw [B2]; omega
theorem tr_bl {post : St1 → Prop} {t p s x r L : Nat} (M : cs_M a1 a2 a3 a4 a5 a6 a7 a8 tk lf sz ky vl ch af rt) (I : pt_I tk lf sz ky vl ch af ow lv lo hi pa ps rt H mp) (ht : t < 2) (W : cs_W a9 a10 ow lv pa ps t (rt t) (H t) L p) (hlp : lv p ≠ 0) (hs : s + 1 ≤ sz p) (hx : ch p s = x) (hr : ch p (s + 1) = r) (S : pt_S sz ow lv rt r) (ha : 3 ≤ sz x) (hb : sz r = 1)
    (Hp : ∀ b4 b5 b6 b7, cs_D a1 a2 a3 b4 b5 b6 b7 a8 a9 a10 mp t p L → post (d, pl, pp, sk, gv, pr, fb, a1, a2, a3, b4, b5, b6, b7, a8, a9, a10, a11)) : wpX_borrowFromLeft post (d, pl, pp, sk, gv, pr, fb, a1, a2, a3, a4, a5, a6, a7, a8, a9, a10, a11) (nI p) (nI (s + 1)) := by
  obtain ⟨p8, op, lp⟩ := cs_Wn W
  obtain ⟨x8, r8, ox, or, lx, lr, hxp, hxr, hrp, hxt, hrt, fx, fr⟩ := pt_sib I ht p8 op hlp hs hx hr
  obtain ⟨M1, M2, M3, M4, M5, M6, M7, M8⟩ := M
  obtain ⟨a, ea⟩ : ∃ a, a = sz x := ⟨_, rfl⟩
  have Sx := S x x8 (by omega) hxr
  have Sp := S p p8 (by omega) (fun e => hrp e.symm)
  have fin : ∀ (vl' : Nat → Nat → Int64) (ky' ch' : Nat → Nat → Nat) (b4 b5 : Nat → Int32) (b6 : Nat → Int64) (b7 : Nat → Int32) (e : Nat), ((lv p = 1 ∧ e = 0) ∨ (lv p ≠ 1 ∧ e = 1)) →
      cs_1 80 6 b4 (fun n => if n = x then a - 1 else if n = r then 1 + 1 else sz n) → cs_2 5 65536 b5 ky' → cs_V b6 vl' → cs_2 6 80 b7 ch' →
      (∀ i, i < a - 1 → ky' x i = ky x i) → ky' p s = ky x (a - 1) → (∀ i, i < 1 + 1 → ky' r i = pt_RK ky p s x r a e (a - 1 + e + i)) → (∀ i, i ≠ s → ky' p i = ky p i) → (∀ n i, n ≠ x → n ≠ r → n ≠ p → ky' n i = ky n i) →
      (lv p = 1 → ∀ i, i < a - 1 → vl' x i = vl x i) → (lv p = 1 → ∀ i, i < 1 + 1 → vl' r i = pt_RV vl x r a (a - 1 + i)) → (∀ n i, n ≠ x → n ≠ r → vl' n i = vl n i) →
      (lv p ≠ 1 → ∀ i, i ≤ a - 1 → ch' x i = ch x i) → (lv p ≠ 1 → ∀ i, i ≤ 1 + 1 → ch' r i = pt_RC ch x r a (a - 1 + 1 + i)) → (∀ n i, n ≠ x → n ≠ r → ch' n i = ch n i) → post (d, pl, pp, sk, gv, pr, fb, a1, a2, a3, b4, b5, b6, b7, a8, a9, a10, a11) := by
    intro vl' ky' ch' b4 b5 b6 b7 e he g4 g5 g6 g7 k1 k2 k3 kp k0 v1 v3 v0 c1 c3 c0
    obtain ⟨lo', hi', pa', ps', I2, gp⟩ := pt_move I (sz' := fun n => if n = x then a - 1 else if n = r then 1 + 1 else sz n) (ky' := ky') (vl' := vl') (ch' := ch') (a := a) (b := 1) (a' := a - 1) (b' := 1 + 1) (K := pt_RK ky p s x r a e) (C := pt_RC ch x r a) (V := pt_RV vl x r a)
      ht p8 op hlp hs hx hr ea.symm hb he (by omega) (by omega) (by omega)
      (fun i h => pt_RK1 h) (fun h => pt_RK2 rfl h) (fun i h => pt_RK3 rfl) (fun i h => pt_RV1 h) (fun i h => pt_RV3 rfl) (fun i h => pt_RC1 h) (fun i h => pt_RC3 rfl)
      (by rw [if_pos rfl]) (by rw [if_neg (fun e => hxr e.symm), if_pos rfl]) (fun n h h' => by rw [if_neg h, if_neg h'])
      (fun i h => by rw [k1 i h, pt_RK1 (by omega)]) (by rw [k2, pt_RK1 (by omega)]) k3 kp k0
      (fun h i hi' => by rw [v1 h i hi', pt_RV1 (by omega)]) v3 v0 (fun h i hi' => by rw [c1 h i hi', pt_RC1 (by omega)]) c3 c0
    refine Hp b4 b5 b6 b7 ⟨tk, lf, _, ky', vl', ch', af, ow, lv, lo', hi', pa', ps', rt, H, ⟨M1, M2, M3, g4, g5, g6, g7, M8⟩, I2, ?_, ?_, ?_, cs_Wg W (fun m hm hom hlm => ?_)⟩
    · intro n hn hon hnp
      (try dsimp only)
      by_cases e1 : n = x
      · rw [if_pos e1]; omega
      · rw [if_neg e1]
        by_cases e2 : n = r
        · rw [if_pos e2]; omega
        · rw [if_neg e2]; exact S n hn hon e2
    · (try dsimp only)
      rw [if_neg (fun e => hxp e.symm), if_neg (fun e => hrp e.symm)]; exact Sp.1
    · intro _
      (try dsimp only)
      rw [if_neg (fun e => hxp e.symm), if_neg (fun e => hrp e.symm)]; exact Sp.2.2 hlp
    · obtain ⟨y1, y2⟩ := gp m hm hom hlm
      exact ⟨rfl, rfl, y1, y2⟩
  refine wk_bl p8 x8 r8 hxp hxr hrp hs Sp.1 hx hr ea.symm (by omega) hb (by omega) M3 M4 M5 M6 M7 (fun z b4 b5 b6 g4 g5 g6 => ?_) (fun z b4 b5 b6 b7 g4 g5 g6 g7 => ?_)
  · refine fin _ _ _ b4 b5 b6 a7 0 (Or.inl ⟨by omega, rfl⟩) g4 g5 g6 M7 ?_ ?_ ?_ ?_ ?_ ?_ ?_ ?_ (fun h => absurd h (by omega)) (fun h => absurd h (by omega)) (fun n i _ _ => rfl)
    · intro i h; rw [if_neg (fun e => hxp e.1), if_neg (fun e => hxr e.1), if_neg (fun e => hxr e.1)]
    · rw [if_pos ⟨rfl, rfl⟩]
    · intro i h
      rw [if_neg (fun e => hrp e.1)]
      by_cases e : i = 0
      · rw [if_pos ⟨rfl, e⟩, pt_RK1 (by omega)]; congr 1; omega
      · rw [if_neg (fun y => e y.2), if_pos ⟨rfl, by omega, by omega⟩, pt_RK3 (j := i - 1) (by omega)]
    · intro i h; rw [if_neg (fun e => h e.2), if_neg (fun e => hrp e.1.symm), if_neg (fun e => hrp e.1.symm)]
    · intro n i h1 h2 h3; rw [if_neg (fun e => h3 e.1), if_neg (fun e => h2 e.1), if_neg (fun e => h2 e.1)]
    · intro _ i h; rw [if_neg (fun e => hxr e.1), if_neg (fun e => hxr e.1)]
    · intro _ i h
      by_cases e : i = 0
      · rw [if_pos ⟨rfl, e⟩, pt_RV1 (by omega)]; congr 1; omega
      · rw [if_neg (fun y => e y.2), if_pos ⟨rfl, by omega, by omega⟩, pt_RV3 (j := i - 1) (by omega)]
    · intro n i h1 h2; rw [if_neg (fun e => h2 e.1), if_neg (fun e => h2 e.1)]
  · refine fin _ _ _ b4 b5 b6 b7 1 (Or.inr ⟨by omega, rfl⟩) g4 g5 g6 g7 ?_ ?_ ?_ ?_ ?_ (fun h => absurd h (by omega)) (fun h => absurd h (by omega)) ?_ ?_ ?_ ?_
    · intro i h; rw [if_neg (fun e => hxp e.1), if_neg (fun e => hxr e.1), if_neg (fun e => hxr e.1)]
    · rw [if_pos ⟨rfl, rfl⟩]
    · intro i h
      rw [if_neg (fun e => hrp e.1)]
      by_cases e : i = 0
      · rw [if_pos ⟨rfl, e⟩, pt_RK2 (by omega) rfl]
      · rw [if_neg (fun y => e y.2), if_pos ⟨rfl, by omega, by omega⟩, pt_RK3 (j := i - 1) (by omega)]
    · intro i h; rw [if_neg (fun e => h e.2), if_neg (fun e => hrp e.1.symm), if_neg (fun e => hrp e.1.symm)]
    · intro n i h1 h2 h3; rw [if_neg (fun e => h3 e.1), if_neg (fun e => h2 e.1), if_neg (fun e => h2 e.1)]
    · intro n i h1 h2; rw [if_neg (fun e => h2 e.1)]
    · intro _ i h; rw [if_neg (fun e => hxr e.1), if_neg (fun e => hxr e.1)]
    · intro _ i h
      by_cases e : i = 0
      · rw [if_pos ⟨rfl, e⟩, pt_RC1 (by omega)]; congr 1; omega
      · rw [if_neg (fun y => e y.2), if_pos ⟨rfl, by omega, by omega⟩, pt_RC3 (j := i - 1) (by omega)]
    · intro n i h1 h2; rw [if_neg (fun e => h2 e.1), if_neg (fun e => h2 e.1)]
theorem tr_br {post : St1 → Prop} {t p s x r L : Nat} (M : cs_M a1 a2 a3 a4 a5 a6 a7 a8 tk lf sz ky vl ch af rt) (I : pt_I tk lf sz ky vl ch af ow lv lo hi pa ps rt H mp) (ht : t < 2) (W : cs_W a9 a10 ow lv pa ps t (rt t) (H t) L p) (hlp : lv p ≠ 0) (hs : s + 1 ≤ sz p) (hx : ch p s = x) (hr : ch p (s + 1) = r) (S : pt_S sz ow lv rt x) (ha : sz x = 1) (hb : 3 ≤ sz r)
    (Hp : ∀ b4 b5 b6 b7, cs_D a1 a2 a3 b4 b5 b6 b7 a8 a9 a10 mp t p L → post (d, pl, pp, sk, gv, pr, fb, a1, a2, a3, b4, b5, b6, b7, a8, a9, a10, a11)) : wpX_borrowFromRight post (d, pl, pp, sk, gv, pr, fb, a1, a2, a3, a4, a5, a6, a7, a8, a9, a10, a11) (nI p) (nI s) := by
  obtain ⟨p8, op, lp⟩ := cs_Wn W
  obtain ⟨x8, r8, ox, or, lx, lr, hxp, hxr, hrp, hxt, hrt, fx, fr⟩ := pt_sib I ht p8 op hlp hs hx hr
  obtain ⟨M1, M2, M3, M4, M5, M6, M7, M8⟩ := M
  obtain ⟨b, eb⟩ : ∃ b, b = sz r := ⟨_, rfl⟩
  have hrx : r ≠ x := fun e => hxr e.symm
  have Sr := S r r8 (by omega) hrx
  have Sp := S p p8 (by omega) (fun e => hxp e.symm)
  have fin : ∀ (vl' : Nat → Nat → Int64) (ky' ch' : Nat → Nat → Nat) (b4 b5 : Nat → Int32) (b6 : Nat → Int64) (b7 : Nat → Int32) (e : Nat), ((lv p = 1 ∧ e = 0) ∨ (lv p ≠ 1 ∧ e = 1)) →
      cs_1 80 6 b4 (fun n => if n = r then b - 1 else if n = x then 1 + 1 else sz n) → cs_2 5 65536 b5 ky' → cs_V b6 vl' → cs_2 6 80 b7 ch' →
      (∀ i, i < 1 + 1 → ky' x i = pt_RK ky p s x r 1 e i) → ky' p s = pt_RK ky p s x r 1 e (1 + 1) → (∀ i, i < b - 1 → ky' r i = ky r (i + 1)) → (∀ i, i ≠ s → ky' p i = ky p i) → (∀ n i, n ≠ x → n ≠ r → n ≠ p → ky' n i = ky n i) →
      (lv p = 1 → ∀ i, i < 1 + 1 → vl' x i = pt_RV vl x r 1 i) → (lv p = 1 → ∀ i, i < b - 1 → vl' r i = vl r (i + 1)) → (∀ n i, n ≠ x → n ≠ r → vl' n i = vl n i) →
      (lv p ≠ 1 → ∀ i, i ≤ 1 + 1 → ch' x i = pt_RC ch x r 1 i) → (lv p ≠ 1 → ∀ i, i ≤ b - 1 → ch' r i = ch r (i + 1)) → (∀ n i, n ≠ x → n ≠ r → ch' n i = ch n i) → post (d, pl, pp, sk, gv, pr, fb, a1, a2, a3, b4, b5, b6, b7, a8, a9, a10, a11) := by
    intro vl' ky' ch' b4 b5 b6 b7 e he g4 g5 g6 g7 k1 k2 k3 kp k0 v1 v3 v0 c1 c3 c0
    obtain ⟨lo', hi', pa', ps', I2, gp⟩ := pt_move I (sz' := fun n => if n = r then b - 1 else if n = x then 1 + 1 else sz n) (ky' := ky') (vl' := vl') (ch' := ch') (a := 1) (b := b) (a' := 1 + 1) (b' := b - 1) (K := pt_RK ky p s x r 1 e) (C := pt_RC ch x r 1) (V := pt_RV vl x r 1)
      ht p8 op hlp hs hx hr ha eb.symm he (by omega) (by omega) (by omega)
      (fun i h => pt_RK1 h) (fun h => pt_RK2 rfl h) (fun i h => pt_RK3 rfl) (fun i h => pt_RV1 h) (fun i h => pt_RV3 rfl) (fun i h => pt_RC1 h) (fun i h => pt_RC3 rfl)
      (by rw [if_neg hxr, if_pos rfl]) (by rw [if_pos rfl]) (fun n h h' => by rw [if_neg h', if_neg h])
      k1 k2 (fun i h => by rw [k3 i h, pt_RK3 (j := i + 1) (by omega)]) kp k0
      v1 (fun h i hi' => by rw [v3 h i hi', pt_RV3 (j := i + 1) (by omega)]) v0 c1 (fun h i hi' => by rw [c3 h i hi', pt_RC3 (j := i + 1) (by omega)]) c0
    refine Hp b4 b5 b6 b7 ⟨tk, lf, _, ky', vl', ch', af, ow, lv, lo', hi', pa', ps', rt, H, ⟨M1, M2, M3, g4, g5, g6, g7, M8⟩, I2, ?_, ?_, ?_, cs_Wg W (fun m hm hom hlm => ?_)⟩
    · intro n hn hon hnp
      (try dsimp only)
      by_cases e2 : n = r
      · rw [if_pos e2]; omega
      · rw [if_neg e2]
        by_cases e1 : n = x
        · rw [if_pos e1]; omega
        · rw [if_neg e1]; exact S n hn hon e1
    · (try dsimp only)
      rw [if_neg (fun e => hrp e.symm), if_neg (fun e => hxp e.symm)]; exact Sp.1
    · intro _
      (try dsimp only)
      rw [if_neg (fun e => hrp e.symm), if_neg (fun e => hxp e.symm)]; exact Sp.2.2 hlp
    · obtain ⟨y1, y2⟩ := gp m hm hom hlm
      exact ⟨rfl, rfl, y1, y2⟩
  refine wk_br p8 x8 r8 hxp hxr hrp hs Sp.1 hx hr ha (by omega) eb.symm (by omega) M3 M4 M5 M6 M7 (fun z b4 b5 b6 g4 g5 g6 => ?_) (fun z b4 b5 b6 b7 g4 g5 g6 g7 => ?_)
  · refine fin _ _ _ b4 b5 b6 a7 0 (Or.inl ⟨by omega, rfl⟩) g4 g5 g6 M7 ?_ ?_ ?_ ?_ ?_ ?_ ?_ ?_ (fun h => absurd h (by omega)) (fun h => absurd h (by omega)) (fun n i _ _ => rfl)
    · intro i h
      rw [if_neg (fun e => hxr e.1), if_neg (fun e => hxp e.1)]
      by_cases e : i = 1
      · rw [if_pos ⟨rfl, e⟩, pt_RK3 (j := 0) (by omega)]
      · rw [if_neg (fun y => e y.2), pt_RK1 (by omega)]
    · rw [if_neg (fun e => hrp e.1.symm), if_pos ⟨rfl, rfl⟩, pt_RK3 (j := 1) (by omega)]
    · intro i h; rw [if_pos ⟨rfl, by omega⟩]
    · intro i h; rw [if_neg (fun e => hrp e.1.symm), if_neg (fun e => h e.2), if_neg (fun e => hxp e.1.symm)]
    · intro n i h1 h2 h3; rw [if_neg (fun e => h2 e.1), if_neg (fun e => h3 e.1), if_neg (fun e => h1 e.1)]
    · intro _ i h
      rw [if_neg (fun e => hxr e.1)]
      by_cases e : i = 1
      · rw [if_pos ⟨rfl, e⟩, pt_RV3 (j := 0) (by omega)]
      · rw [if_neg (fun y => e y.2), pt_RV1 (by omega)]
    · intro _ i h; rw [if_pos ⟨rfl, by omega⟩]
    · intro n i h1 h2; rw [if_neg (fun e => h2 e.1), if_neg (fun e => h1 e.1)]
  · refine fin _ _ _ b4 b5 b6 b7 1 (Or.inr ⟨by omega, rfl⟩) g4 g5 g6 g7 ?_ ?_ ?_ ?_ ?_ (fun h => absurd h (by omega)) (fun h => absurd h (by omega)) ?_ ?_ ?_ ?_
    · intro i h
      rw [if_neg (fun e => hxr e.1), if_neg (fun e => hxp e.1)]
      by_cases e : i = 1
      · rw [if_pos ⟨rfl, e⟩, pt_RK2 e rfl]
      · rw [if_neg (fun y => e y.2), pt_RK1 (by omega)]
    · rw [if_neg (fun e => hrp e.1.symm), if_pos ⟨rfl, rfl⟩, pt_RK3 (j := 0) (by omega)]
    · intro i h; rw [if_pos ⟨rfl, by omega⟩]
    · intro i h; rw [if_neg (fun e => hrp e.1.symm), if_neg (fun e => h e.2), if_neg (fun e => hxp e.1.symm)]
    · intro n i h1 h2 h3; rw [if_neg (fun e => h2 e.1), if_neg (fun e => h3 e.1), if_neg (fun e => h1 e.1)]
    · intro n i h1 h2; rw [if_neg (fun e => h2 e.1)]
    · intro _ i h
      rw [if_neg (fun e => hxr e.1)]
      by_cases e : i = 1 + 1
      · rw [if_pos ⟨rfl, e⟩, pt_RC3 (j := 0) (by omega)]
      · rw [if_neg (fun y => e y.2), pt_RC1 (by omega)]
    · intro _ i h; rw [if_pos ⟨rfl, by omega⟩]
    · intro n i h1 h2; rw [if_neg (fun e => h2 e.1), if_neg (fun e => h1 e.1)]
theorem tr_mg {post : St1 → Prop} {t p s x r y L : Nat} (M : cs_M a1 a2 a3 a4 a5 a6 a7 a8 tk lf sz ky vl ch af rt) (I : pt_I tk lf sz ky vl ch af ow lv lo hi pa ps rt H mp) (ht : t < 2) (W : cs_W a9 a10 ow lv pa ps t (rt t) (H t) L p) (hlp : lv p ≠ 0) (hs : s + 1 ≤ sz p) (hx : ch p s = x) (hr : ch p (s + 1) = r) (S : pt_S sz ow lv rt y) (hy : y = x ∨ y = r) (hab : sz x + sz r = 3)
    (Hp : ∀ b2 b4 b5 b6 b7 b8, cs_D a1 b2 a3 b4 b5 b6 b7 b8 a9 a10 mp t p L → post (d, pl, pp, sk, gv, pr, fb, a1, b2, a3, b4, b5, b6, b7, b8, a9, a10, a11)) : wpX_merge post (d, pl, pp, sk, gv, pr, fb, a1, a2, a3, a4, a5, a6, a7, a8, a9, a10, a11) (nI p) (nI s) := by
  obtain ⟨p8, op, lp⟩ := cs_Wn W
  obtain ⟨x8, r8, ox, or, lx, lr, hxp, hxr, hrp, hxt, hrt, fx, fr⟩ := pt_sib I ht p8 op hlp hs hx hr
  obtain ⟨M1, M2, M3, M4, M5, M6, M7, M8⟩ := M
  obtain ⟨a, ea⟩ : ∃ a, a = sz x := ⟨_, rfl⟩
  obtain ⟨b, eb⟩ : ∃ b, b = sz r := ⟨_, rfl⟩
  obtain ⟨e, he⟩ : ∃ e, (lv p = 1 ∧ e = 0) ∨ (lv p ≠ 1 ∧ e = 1) := by
    by_cases z : lv p = 1
    · exact ⟨0, Or.inl ⟨z, rfl⟩⟩
    · exact ⟨1, Or.inr ⟨z, rfl⟩⟩
  have hrx : r ≠ x := fun e => hxr e.symm
  have hpx : p ≠ x := fun e => hxp e.symm
  have hpr : p ≠ r := fun e => hrp e.symm
  have hyp : p ≠ y := fun z => hy.elim (fun h => hpx (z.trans h)) (fun h => hpr (z.trans h))
  have Sp := S p p8 (by omega) hyp
  have he2 : (lf x ≠ 0 ∧ e = 0) ∨ (lf x = 0 ∧ e = 1) := by omega
  refine wk_mrg p8 x8 r8 hxp hxr hrp hs Sp.1 hx hr ea.symm eb.symm he2 (by omega) M2 M3 M4 M5 M6 M7 M8 (fun b2 b4 b5 b6 b7 b8 g2 g4 g5 g6 g7 g8 => ?_)
  obtain ⟨ow', hi', pa', ps', I2, ⟨o1, o0⟩, gp⟩ := pt_merge I (tk' := fun n => if n = r then 0 else tk n) (sz' := fun n => if n = p then sz p - 1 else if n = x then a + b + e else sz n) (ky' := fun n i => if n = p ∧ s ≤ i ∧ i + 1 < sz p then ky p (i + 1) else if n = x ∧ a ≤ i ∧ i < a + b + e then wk_KR ky p s r a e i else ky n i) (vl' := fun n i => if n = x ∧ a + e ≤ i ∧ i < a + b + e then vl r (i - (a + e)) else vl n i) (ch' := fun n i => if n = p ∧ s < i ∧ i + 1 ≤ sz p then ch p (i + 1) else if e = 1 ∧ n = x ∧ a + 1 ≤ i ∧ i ≤ a + 1 + b then ch r (i - (a + 1)) else ch n i) (af' := fun n => if n = x then af r else af n) (a := a) (b := b) (K := pt_RK ky p s x r a e) (C := pt_RC ch x r a) (V := pt_RV vl x r a)
    ht p8 op hlp hs hx hr ea.symm eb.symm he
    (fun i h => pt_RK1 h) (fun h => pt_RK2 rfl h) (fun i h => pt_RK3 rfl) (fun i h => pt_RV1 h) (fun i h => pt_RV3 rfl) (fun i h => pt_RC1 h) (fun i h => pt_RC3 rfl)
    (by rw [if_pos rfl]) (fun n h => by rw [if_neg h]) (by rw [if_neg hxp, if_pos rfl]) (by rw [if_pos rfl]) (fun n h1 h2 h3 => by rw [if_neg h3, if_neg h1])
    (fun i h => by
      rw [if_neg (fun z => hxp z.1)]
      by_cases z : a ≤ i
      · rw [if_pos ⟨rfl, z, h⟩]
        unfold wk_KR pt_RK
        rw [if_neg (show ¬ i < a by omega)]
      · rw [if_neg (fun w => z w.2.1), pt_RK1 (by omega)])
    (fun i h => by rw [if_neg (by omega), if_neg (fun z => hpx z.1)]) (fun i h1 h2 => by rw [if_pos ⟨rfl, h1, h2⟩]) (fun n i h1 h2 h3 => by rw [if_neg (fun z => h3 z.1), if_neg (fun z => h1 z.1)])
    (fun h i hi' => by
      have e0 : e = 0 := by omega
      subst e0
      by_cases z : a ≤ i
      · rw [if_pos ⟨rfl, by omega, by omega⟩, pt_RV3 (j := i - (a + 0)) (by omega)]
      · rw [if_neg (fun w => z (by omega)), pt_RV1 (by omega)])
    (fun n i h1 h2 => by rw [if_neg (fun z => h1 z.1)])
    (fun h i hi' => by
      have e1 : e = 1 := by omega
      rw [if_neg (fun z => hxp z.1)]
      by_cases z : a + 1 ≤ i
      · rw [if_pos ⟨e1, rfl, z, by omega⟩, pt_RC3 (j := i - (a + 1)) (by omega)]
      · rw [if_neg (fun w => z w.2.2.1), pt_RC1 (by omega)])
    (fun i h => by rw [if_neg (by omega), if_neg (fun z => hpx z.2.1)]) (fun i h1 h2 => by rw [if_pos ⟨rfl, h1, h2⟩]) (fun n i h1 h2 h3 => by rw [if_neg (fun z => h3 z.1), if_neg (fun z => h1 z.2.1)])
    (fun h => by rw [if_pos rfl]) (fun n h1 h2 => by rw [if_neg h1])
  refine Hp b2 b4 b5 b6 b7 b8 ⟨_, lf, _, _, _, _, _, ow', lv, lo, hi', pa', ps', rt, H, ⟨M1, g2, M3, g4, g5, g6, g7, g8⟩, I2, ?_, ?_, ?_, cs_Wg W (fun m hm hom hlm => ?_)⟩
  · intro n hn hon hnp
    have hnr : n ≠ r := fun z => by rw [z] at hon; omega
    rw [o0 n hnr] at hon ⊢
    (try dsimp only)
    rw [if_neg hnp]
    by_cases e1 : n = x
    · rw [if_pos e1]; omega
    · rw [if_neg e1]
      exact S n hn hon (fun z => hy.elim (fun h => e1 (z.trans h)) (fun h => hnr (z.trans h)))
  · (try dsimp only)
    rw [if_pos rfl]
    have := Sp.1
    omega
  · intro h
    (try dsimp only)
    rw [if_pos rfl]
    have := Sp.2.1 (by rw [op]; exact h)
    omega
  · have hmr : m ≠ r := fun z => by rw [z] at hlm; omega
    obtain ⟨y1, y2⟩ := gp m hm hom hlm
    exact ⟨o0 m hmr, rfl, y1, y2⟩
end
end
section
/-! repair, dropRecord -/
theorem ix_6s (x i : Nat) : 6 * nI x + nI (i + 1) - 1 = nI (6 * x + i) := ix_6m x (i + 1) (by omega)
section
variable {d pl pp sk gv pr fb : Int32} {a1 a2 a3 a4 a5 : Nat → Int32} {a6 : Nat → Int64} {a7 a8 a9 a10 a11 : Nat → Int32} {tk lf sz : Nat → Nat} {ky : Nat → Nat → Nat} {vl : Nat → Nat → Int64} {ch : Nat → Nat → Nat} {af ow lv lo hi pa ps rt H : Nat → Nat} {mp : Nat → Nat → Option Int64}
theorem tr_repair {post : St1 → Prop} {t x L : Nat} (M : cs_M a1 a2 a3 a4 a5 a6 a7 a8 tk lf sz ky vl ch af rt) (I : pt_I tk lf sz ky vl ch af ow lv lo hi pa ps rt H mp) (ht : t < 2) (W : cs_W a9 a10 ow lv pa ps t (rt t) (H t) (L + 1) x) (S : pt_S sz ow lv rt x) (hsx : sz x = 1)
    (Hp : ∀ b2 b4 b5 b6 b7 b8, cs_D a1 b2 a3 b4 b5 b6 b7 b8 a9 a10 mp t (pa x) L → post (d, pl, pp, sk, gv, pr, fb, a1, b2, a3, b4, b5, b6, b7, b8, a9, a10, a11)) : wpX_repair post (d, pl, pp, sk, gv, pr, fb, a1, a2, a3, a4, a5, a6, a7, a8, a9, a10, a11) (nI (pa x)) (nI (ps x)) := by
  have I' := I
  obtain ⟨J1, J2, J3, J4, J5, J6, J7, J8, J9, J10⟩ := I'
  obtain ⟨x8, ox, lx⟩ := cs_Wn W
  obtain ⟨g1, g2, W'⟩ := cs_Wup W
  have hxr : x ≠ rt t := fun e => by
    have := (J8 t ht).2.2.1
    rw [← e] at this
    omega
  obtain ⟨q1, q2, q3, q4, q5⟩ := J6 x x8 (by omega) (by rw [ox]; exact hxr)
  obtain ⟨p, hp⟩ : ∃ p, p = pa x := ⟨_, rfl⟩
  obtain ⟨s, hs⟩ : ∃ s, s = ps x := ⟨_, rfl⟩
  rw [← hp] at W' q1 q2 q3 q4 q5 Hp ⊢
  rw [← hs] at q4 q5 ⊢
  have hpx : p ≠ x := fun e => by rw [e] at q3; omega
  have hlp : lv p ≠ 0 := by omega
  have M' := M
  obtain ⟨M1, M2, M3, M4, M5, M6, M7, M8⟩ := M'
  have Sp := S p q1 (by omega) hpx
  have Sp3 := Sp.2.2 hlp
  have hop : ow p = t := by omega
  have hD : ∀ b4 b5 b6 b7, cs_D a1 a2 a3 b4 b5 b6 b7 a8 a9 a10 mp t p L → post (d, pl, pp, sk, gv, pr, fb, a1, a2, a3, b4, b5, b6, b7, a8, a9, a10, a11) := fun b4 b5 b6 b7 h => Hp a2 b4 b5 b6 b7 a8 h
  -- the size of a neighbour
  have nb : ∀ j, j ≤ sz p → j ≠ s → ch p j < 80 ∧ sz (ch p j) ≤ 4 ∧ 2 ≤ sz (ch p j) := fun j hj hne => by
    obtain ⟨h1, h2, h3, h4, h5, -, -⟩ := J5 p j q1 (by omega) hlp hj
    have hne' : ch p j ≠ x := fun e => by rw [e] at h5; omega
    obtain ⟨y1, y2, y3⟩ := S (ch p j) h1 (by omega) hne'
    refine ⟨h1, y1, y2 (fun e => ?_)⟩
    have := (J8 (ow (ch p j)) (by omega)).2.2.2.2.2
    rw [← e] at this
    omega
  -- no neighbour to the left: merge with the right one
  have m0 : s = 0 → sz (ch p 1) ≤ 2 → wX_repair_98 post (nI p) (nI s) 0 d pl pp sk gv pr fb a1 a2 a3 a4 a5 a6 a7 a8 a9 a10 a11 := fun e hz => by
    subst e
    have := nb 1 (by omega) (by omega)
    refine br_t rfl ?_
    exact tr_mg (r := ch p 1) M I ht W' hlp (by omega) q5 rfl S (Or.inl rfl) (by omega) (fun b2 b4 b5 b6 b7 b8 h => Hp b2 b4 b5 b6 b7 b8 h)
  have m1 : ∀ s', s = s' + 1 → sz (ch p s') ≤ 2 → wX_repair_98 post (nI p) (nI s) 1 d pl pp sk gv pr fb a1 a2 a3 a4 a5 a6 a7 a8 a9 a10 a11 := fun s' e hz => by
    have := nb s' (by omega) (by omega)
    refine br_f (by decide) ?_
    rw [e, show nI (s' + 1) - 1 = nI s' from nI_pred s']
    rw [e] at q5 q4
    exact tr_mg (x := ch p s') (r := x) (y := x) M I ht W' hlp (by omega) rfl q5 S (Or.inr rfl) (by omega) (fun b2 b4 b5 b6 b7 b8 h => Hp b2 b4 b5 b6 b7 b8 h)
  have r62 : ∀ (z : Int32), wX_repair_98 post (nI p) (nI s) z d pl pp sk gv pr fb a1 a2 a3 a4 a5 a6 a7 a8 a9 a10 a11 ∨ (s < sz p ∧ 2 < sz (ch p (s + 1))) → wX_repair_62 post (nI p) (nI s) z (if s < sz p then 1 else 0) d pl pp sk gv pr fb a1 a2 a3 a4 a5 a6 a7 a8 a9 a10 a11 := fun z hz => by
    by_cases e : s < sz p
    · rw [if_pos e]
      have i1 : s + 1 < 6 := by omega
      obtain ⟨n1, n2, n3⟩ := nb (s + 1) (by omega) (by omega)
      refine br_f (by decide) ⟨in_6 q1 i1 (ix_6p p s), ?_⟩
      rw [cs_2r M7 q1 i1 (ix_6p p s)]
      refine ⟨pk_in _ 80 n1, ?_⟩
      rw [cs_1r M4 n1]
      refine pk_le (sz (ch p (s + 1))) 2 (fun y => ?_) (fun y => ?_)
      · rcases hz with h | h
        · exact h
        · omega
      · exact tr_br M I ht W' hlp (by omega) q5 rfl S hsx (by omega) (fun b4 b5 b6 b7 h => hD b4 b5 b6 b7 h)
    · rw [if_neg e]
      refine br_t rfl ?_
      rcases hz with h | h
      · exact h
      · omega
  have r9 : ∀ (z : Int32), wX_repair_25 post (nI p) (nI s) z (if s < sz p then 1 else 0) d pl pp sk gv pr fb a1 a2 a3 a4 a5 a6 a7 a8 a9 a10 a11 → wX_repair_9 post (nI p) (nI s) z d pl pp sk gv pr fb a1 a2 a3 a4 a5 a6 a7 a8 a9 a10 a11 := fun z h => by
    refine ⟨pk_in p 80 q1, ?_⟩
    rw [cs_1r M4 q1]
    refine pk_le (sz p) s (fun y => ?_) (fun y => ?_)
    · rw [if_neg (by omega)] at h; exact h
    · rw [if_pos y] at h; exact h
  refine pk_le s 0 (fun e => r9 0 (br_t rfl (r62 0 ?_))) (fun e => r9 1 ?_)
  · have e0 : s = 0 := by omega
    by_cases y : sz (ch p 1) ≤ 2
    · exact Or.inl (m0 e0 y)
    · refine Or.inr ⟨by omega, ?_⟩
      rw [e0, Nat.zero_add]
      omega
  · obtain ⟨s', hs'⟩ : ∃ s', s = s' + 1 := ⟨s - 1, by omega⟩
    have i1 : s' < 6 := by omega
    obtain ⟨n1, n2, n3⟩ := nb s' (by omega) (by omega)
    have e1 : 6 * nI p + nI s - 1 = nI (6 * p + s') := by rw [hs']; exact ix_6s p s'
    refine br_f (by decide) ⟨in_6 q1 i1 e1, ?_⟩
    rw [cs_2r M7 q1 i1 e1]
    refine ⟨pk_in _ 80 n1, ?_⟩
    rw [cs_1r M4 n1]
    refine pk_le (sz (ch p s')) 2 (fun y => r62 1 (Or.inl (m1 s' hs' y))) (fun y => ?_)
    rw [hs']
    rw [hs'] at q4 q5
    exact tr_bl M I ht W' hlp (by omega) rfl q5 S (by omega) hsx (fun b4 b5 b6 b7 h => hD b4 b5 b6 b7 h)
theorem tr_179 {post : St1 → Prop} {t x : Nat} (M : cs_M a1 a2 a3 a4 a5 a6 a7 a8 tk lf sz ky vl ch af rt) (I : pt_I tk lf sz ky vl ch af ow lv lo hi pa ps rt H mp) (ht : t < 2) (ox : ow x = t) (S : pt_S sz ow lv rt x) (h4 : sz x ≤ 4) (h2 : x ≠ rt t → 2 ≤ sz x)
    (Hp : ∀ b1 b2, cs_R b1 b2 a3 a4 a5 a6 a7 a8 mp → post (d, pl, pp, sk, gv, pr, fb, b1, b2, a3, a4, a5, a6, a7, a8, a9, a10, a11)) : wX_dropRecord_179 post (nI t) d pl pp sk gv pr fb a1 a2 a3 a4 a5 a6 a7 a8 a9 a10 a11 := by
  have I' := I
  obtain ⟨J1, J2, J3, J4, J5, J6, J7, J8, J9, J10⟩ := I'
  obtain ⟨r8, or, lr, -⟩ := J8 t ht
  have M' := M
  obtain ⟨M1, M2, M3, M4, M5, M6, M7, M8⟩ := M'
  have hlf := (M3 (rt t) r8).2
  have hl := (J2 (rt t) r8 (by omega)).2.1
  have hz := (M4 (rt t) r8).2
  have keep : ¬ (lf (rt t) = 0 ∧ sz (rt t) = 0) → cs_R a1 a2 a3 a4 a5 a6 a7 a8 mp := fun h => ⟨tk, lf, sz, ky, vl, ch, af, ow, lv, lo, hi, pa, ps, rt, H, M, I, fun n hn hon _ => by
    by_cases e : n = x
    · subst e
      rw [ox]
      refine ⟨h4, h2, fun hln => ?_⟩
      by_cases y : n = rt t
      · rw [← y] at h hl; omega
      · have := h2 y; omega
    · exact S n hn hon e⟩
  refine ⟨pk_in t 2 ht, nm_r (cs_1r M1 ht) ⟨pk_in _ 80 r8, ?_⟩⟩
  rw [cs_1r M3 r8]
  refine pk_eq (lf (rt t)) 0 (fun y => ⟨pk_in _ 80 r8, ?_⟩) (fun y => Hp _ _ (keep (fun h => y h.1)))
  rw [cs_1r M4 r8]
  refine pk_eq (sz (rt t)) 0 (fun w => ?_) (fun w => Hp _ _ (keep (fun h => w h.2)))
  have i0 : 0 < 6 := by omega
  refine ⟨in_6 r8 i0 (ix_60 (rt t)), pk_in t 2 ht, nm_e ⟨pk_in _ 80 r8, nm_e ?_⟩⟩
  rw [cs_2r M7 r8 i0 (ix_60 (rt t))]
  have hc := (M7 (rt t) 0 r8 i0).2
  obtain ⟨ow', pa', H', I2, o1, o0⟩ := pt_drop I (tk' := fun n => if n = rt t then 0 else tk n) (rt' := fun n => if n = t then ch (rt t) 0 else rt n) ht (by omega) w (by rw [if_pos rfl]) (fun n h => by rw [if_neg h]) (by rw [if_pos rfl]) (fun a h => by rw [if_neg h])
  refine Hp _ _ ⟨_, lf, sz, ky, vl, ch, af, ow', lv, lo, hi, pa', ps, _, H', ⟨cs_1w M1 ht hc, cs_1w (v := 0) M2 r8 (by omega), M3, M4, M5, M6, M7, M8⟩, I2, ?_⟩
  intro n hn hon _
  have hxr : x = rt t := by
    by_cases e : x = rt t
    · exact e
    · have := (S (rt t) r8 (by omega) (fun z => e z.symm)).2.2 (by omega)
      omega
  have hnr : n ≠ rt t := fun z => by rw [z] at hon; omega
  rw [o0 n hnr] at hon ⊢
  obtain ⟨s1, s2, s3⟩ := S n hn hon (by rw [hxr]; exact hnr)
  refine ⟨s1, fun h => s2 (fun z => ?_), s3⟩
  by_cases e : ow n = t
  · rw [e] at z; exact hnr z
  · (try dsimp only at h)
    rw [if_neg e] at h
    exact h z
theorem tr_drop129 {post : St1 → Prop} {t : Nat} (ht : t < 2) (Hp : ∀ b1 b2 b4 b5 b6 b7 b8, cs_R b1 b2 a3 b4 b5 b6 b7 b8 mp → post (d, pl, pp, sk, gv, pr, fb, b1, b2, a3, b4, b5, b6, b7, b8, a9, a10, a11)) :
    ∀ L x a1 a2 a4 a5 a6 a7 a8, L ≤ 6 → cs_D a1 a2 a3 a4 a5 a6 a7 a8 a9 a10 mp t x L → wX_dropRecord_129 post (nI t) (L + 1) (nI x) (nI L) d pl pp sk gv pr fb a1 a2 a3 a4 a5 a6 a7 a8 a9 a10 a11 := by
  intro L
  induction L with
  | zero =>
    intro x a1 a2 a4 a5 a6 a7 a8 hL D
    obtain ⟨tk, lf, sz, ky, vl, ch, af, ow, lv, lo, hi, pa, ps, rt, H, M, I, S, u1, u2, W⟩ := D
    obtain ⟨x8, ox, lx⟩ := cs_Wn W
    refine pk_le 0 0 (fun _ => ?_) (fun z => absurd z (by omega))
    exact tr_179 M I ht ox S u1 (fun h => absurd (cs_Wr W) h) (fun b1 b2 R => Hp _ _ _ _ _ _ _ R)
  | succ L ih =>
    intro x a1 a2 a4 a5 a6 a7 a8 hL D
    obtain ⟨tk, lf, sz, ky, vl, ch, af, ow, lv, lo, hi, pa, ps, rt, H, M, I, S, u1, u2, W⟩ := D
    obtain ⟨x8, ox, lx⟩ := cs_Wn W
    obtain ⟨g1, g2, W'⟩ := cs_Wup W
    have M' := M
    obtain ⟨M1, M2, M3, M4, M5, M6, M7, M8⟩ := M'
    refine pk_le (L + 1) 0 (fun z => absurd z (by omega)) (fun _ => ⟨pk_in x 80 x8, ?_⟩)
    rw [cs_1r M4 x8]
    refine pk_le 2 (sz x) (fun z => ?_) (fun z => ?_)
    · exact tr_179 M I ht ox S u1 (fun _ => z) (fun b1 b2 R => Hp _ _ _ _ _ _ _ R)
    · rw [nI_pred, nI_clamp (by omega)]
      refine ⟨pk_in L 8 (by omega), nm_r g1 ⟨pk_in L 8 (by omega), ?_⟩⟩
      rw [g2]
      have hxr : x ≠ rt t := fun e => by
        obtain ⟨J1, J2, J3, J4, J5, J6, J7, J8, J9, J10⟩ := I
        have := (J8 t ht).2.2.1
        rw [← e] at this
        omega
      have := u2 hxr
      refine tr_repair M I ht W S (by omega) (fun b2 b4 b5 b6 b7 b8 D' => nm_r (pk_m1 L) ?_)
      exact ih _ _ _ _ _ _ _ _ (by omega) D'
theorem tr_dropR {post : St1 → Prop} {t k : Nat} (R : cs_R a1 a2 a3 a4 a5 a6 a7 a8 mp) (ht : t < 2) (hk : k < 65536)
    (Hp : ∀ d b1 b2 b4 b5 b6 b7 b8 b9 b10, cs_R b1 b2 a3 b4 b5 b6 b7 b8 (mp_del mp t k) → post (d, pl, pp, sk, gv, pr, fb, b1, b2, a3, b4, b5, b6, b7, b8, b9, b10, a11)) :
    wpX_dropRecord post (d, pl, pp, sk, gv, pr, fb, a1, a2, a3, a4, a5, a6, a7, a8, a9, a10, a11) (nI t) (nI k) := by
  obtain ⟨tk, lf, sz, ky, vl, ch, af, ow, lv, lo, hi, pa, ps, rt, H, M, I, S⟩ := R
  have M' := M
  obtain ⟨M1, M2, M3, M4, M5, M6, M7, M8⟩ := M'
  have I' := I
  obtain ⟨J1, J2, J3, J4, J5, J6, J7, J8, J9, J10⟩ := I'
  have hH := pt_high I (pt_S80 S) ht
  have none : mp t k = none → cs_R a1 a2 a3 a4 a5 a6 a7 a8 (mp_del mp t k) := fun h => by
    have e : mp_del mp t k = mp := by
      funext a b
      unfold mp_del
      by_cases z : a = t ∧ b = k
      · rw [if_pos z, z.1, z.2, h]
      · rw [if_neg z]
    rw [e]
    exact ⟨tk, lf, sz, ky, vl, ch, af, ow, lv, lo, hi, pa, ps, rt, H, M, I, S⟩
  unfold wpX_dropRecord
  dsimp only
  refine wk_desc I ht hH M1 M3 M4 M5 M7 hk (fun x b9 b10 x8 ox lx q1 q2 W => ?_)
  dsimp only
  have hz := (M4 x x8).2
  refine wk_pos M4 M5 x8 (by omega) (fun i j => J4 x i j x8 (by omega)) (fun c c1 c2 c3 => ⟨pk_in x 80 x8, ?_⟩)
  rw [cs_1r M4 x8]
  refine pk_le (sz x) c (fun z => ?_) (fun z => ⟨in_5 x8 (show c < 5 by omega) (ix_5 x c), ?_⟩)
  · exact Hp _ _ _ _ _ _ _ _ _ _ (none (pt_no I ht x8 ox lx q1 q2 (fun i h => by have := c2 i (by omega); omega)))
  · rw [cs_2r M5 x8 (show c < 5 by omega) (ix_5 x c)]
    have hkc := (M5 x c x8 (by omega)).2
    refine pk_eq (ky x c) k (fun y => ⟨sz x - (c + 1) + 1, ?_⟩) (fun y => Hp _ _ _ _ _ _ _ _ _ _ (none (pt_no I ht x8 ox lx q1 q2 (fun i h => ?_))))
    · refine wk_del46 x8 z M4 (fun i h => (M5 x i x8 h).2) (fun b4 b5 b6 g4 g5 g6 => ⟨H t + 1, ?_⟩) (sz x - (c + 1)) c a5 a6 (Nat.le_refl c) (by omega) (cs_2c M5 (fun n i hn hi' => by rw [if_neg (by omega)])) (cs_Vc M6 (fun n i hn hi' => by rw [if_neg (by omega)]))
      have I2 := pt_del I (sz' := fun n => if n = x then sz x - 1 else sz n) (ky' := fun n i => if n = x ∧ c ≤ i ∧ i + 1 < sz x then ky x (i + 1) else ky n i) (vl' := fun n i => if n = x ∧ c ≤ i ∧ i + 1 < sz x then vl x (i + 1) else vl n i) ht x8 ox lx z (by rw [if_pos rfl]) (fun n h => by rw [if_neg h])
        (fun i h => by rw [if_neg (by omega)]) (fun i h1 h2 => by rw [if_pos ⟨rfl, h1, h2⟩]) (fun n i h => by rw [if_neg (fun e => h e.1)])
        (fun i h => by rw [if_neg (by omega)]) (fun i h1 h2 => by rw [if_pos ⟨rfl, h1, h2⟩]) (fun n i h => by rw [if_neg (fun e => h e.1)])
      rw [y] at I2
      obtain ⟨s1, s2, s3⟩ := S x x8 (by omega) (by omega)
      refine tr_drop129 (mp := mp_del mp t k) ht (fun b1 b2 b4 b5 b6 b7 b8 R' => Hp _ _ _ _ _ _ _ _ _ _ R') (H t) x _ _ _ _ _ _ _ hH ⟨tk, lf, _, _, _, ch, af, ow, lv, lo, hi, pa, ps, rt, H, ⟨M1, M2, M3, g4, g5, g6, M7, M8⟩, I2, ?_, ?_, ?_, W⟩
      · intro n hn hon hne
        (try dsimp only)
        rw [if_neg hne]
        exact S n hn hon (by omega)
      · (try dsimp only)
        rw [if_pos rfl]
        omega
      · intro h
        (try dsimp only)
        rw [if_pos rfl]
        rw [ox] at s2
        have := s2 h
        omega
    · by_cases e : i < c
      · have := c2 i e; omega
      · have h3 := c3 c (Nat.le_refl c) z
        by_cases e2 : i = c
        · rw [e2]; exact y
        · have := J4 x c i x8 (by omega) (by omega) h
          omega
end
end
section
/-! bits and masks; the first rows are pasted from the kit's BITS.to-paste, renamed -/
theorem bw_tb (n : Nat) : (lN n).toBitVec = BitVec.ofNat 64 n := rfl
theorem bw_inj {a b : Int64} (h : a.toBitVec = b.toBitVec) : a = b := Int64.toBitVec_inj.mp h
theorem bw_tn {n : Nat} (h : n < 2 ^ 64) : (lN n).toBitVec.toNat = n := by rw [bw_tb, BitVec.toNat_ofNat, Nat.mod_eq_of_lt h]
theorem bw_c : ∀ k, k < 64 → ((nI k).toInt64 &&& 63) = lN k := by decide +kernel
theorem bw_cu : ∀ k, k < 64 → ((nI k).toInt64.toUInt64 &&& Int64.toUInt64 63) = UInt64.ofNat k := by decide +kernel
theorem bw_sm : ∀ k, k < 64 → (BitVec.ofNat 64 k).smod 64 = BitVec.ofNat 64 k := by decide +kernel
theorem bw_lt2 {a b : Nat} (h : a < b) : 2 ^ a < 2 ^ b := Nat.pow_lt_pow_right (by decide) h
theorem bw_shr {n k : Nat} (hn : n < 2 ^ 64) (hk : k < 64) : ((lN n).toUInt64 >>> ((nI k).toInt64.toUInt64 &&& Int64.toUInt64 63)).toInt64 = lN (n / 2 ^ k) := by
  rw [bw_cu k hk]
  apply bw_inj
  apply BitVec.eq_of_toNat_eq
  show ((lN n).toUInt64 >>> UInt64.ofNat k).toNat = (BitVec.ofNat 64 _).toNat
  have h1 : (UInt64.ofNat k).toNat = k := by
    show (BitVec.ofNat 64 k).toNat = k
    rw [BitVec.toNat_ofNat, Nat.mod_eq_of_lt (by omega)]
  have h2 : (lN n).toUInt64.toNat = n := bw_tn hn
  rw [UInt64.toNat_shiftRight, h1, h2, Nat.mod_eq_of_lt hk, Nat.shiftRight_eq_div_pow, BitVec.toNat_ofNat, Nat.mod_eq_of_lt (Nat.lt_of_le_of_lt (Nat.div_le_self _ _) hn)]
theorem bw_shl (n : Nat) {k : Nat} (hk : k < 64) : lN n <<< ((nI k).toInt64 &&& 63) = lN (n * 2 ^ k) := by
  rw [bw_c k hk]
  apply bw_inj
  rw [Int64.toBitVec_shiftLeft, bw_tb, bw_tb, bw_tb, bw_sm k hk]
  apply BitVec.eq_of_toNat_eq
  rw [BitVec.shiftLeft_eq', BitVec.toNat_shiftLeft, BitVec.toNat_ofNat, BitVec.toNat_ofNat, BitVec.toNat_ofNat, Nat.mod_eq_of_lt (show k < 2 ^ 64 by omega), Nat.shiftLeft_eq, Nat.mul_mod, Nat.mod_mod, ← Nat.mul_mod]
theorem bw_and {a b : Nat} (ha : a < 2 ^ 64) (hb : b < 2 ^ 64) : lN a &&& lN b = lN (a &&& b) := by
  apply bw_inj
  rw [Int64.toBitVec_and, bw_tb, bw_tb, bw_tb]
  apply BitVec.eq_of_toNat_eq
  rw [BitVec.toNat_and, BitVec.toNat_ofNat, BitVec.toNat_ofNat, BitVec.toNat_ofNat, Nat.mod_eq_of_lt ha, Nat.mod_eq_of_lt hb, Nat.mod_eq_of_lt (Nat.and_lt_two_pow _ hb)]
theorem bw_or {a b : Nat} (ha : a < 2 ^ 64) (hb : b < 2 ^ 64) : lN a ||| lN b = lN (a ||| b) := by
  apply bw_inj
  rw [Int64.toBitVec_or, bw_tb, bw_tb, bw_tb]
  apply BitVec.eq_of_toNat_eq
  rw [BitVec.toNat_or, BitVec.toNat_ofNat, BitVec.toNat_ofNat, BitVec.toNat_ofNat, Nat.mod_eq_of_lt ha, Nat.mod_eq_of_lt hb, Nat.mod_eq_of_lt (Nat.or_lt_two_pow ha hb)]
theorem bw_mask {n k : Nat} (hn : n < 2 ^ 64) (hk : k < 64) : lN n &&& lN (2 ^ k - 1) = lN (n % 2 ^ k) := by
  rw [bw_and hn (by have := bw_lt2 hk; omega), Nat.and_two_pow_sub_one_eq_mod]
theorem bw_a1 {n : Nat} (hn : n < 2 ^ 64) : lN n &&& 1 = lN (n % 2) := bw_mask (k := 1) hn (by decide)
theorem bw_utn {n : Nat} (h : n < 2 ^ 64) : (UInt64.ofNat n).toNat = n := Nat.mod_eq_of_lt h
theorem bw_orp {k p a b : Nat} (hp : 2 ^ k = p) (ha : a < p) (h : b * p + a < 2 ^ 64) : lN (b * p) ||| lN a = lN (b * p + a) := by
  subst hp
  have h1 : b * 2 ^ k ||| a = b * 2 ^ k + a := by rw [← Nat.shiftLeft_eq, Nat.shiftLeft_add_eq_or_of_lt ha]
  have h3 : UInt64.ofNat (b * 2 ^ k) ||| UInt64.ofNat a = UInt64.ofNat (b * 2 ^ k + a) := UInt64.toNat_inj.mp (by rw [UInt64.toNat_or, bw_utn (by omega), bw_utn (by omega), bw_utn h, h1])
  have h2 := congrArg UInt64.toInt64 h3
  exact h2
theorem bw_ors {k p a b : Nat} (hp : 2 ^ k = p) (ha : a < p) (h : a + b * p < 2 ^ 64) : lN a ||| lN (b * p) = lN (a + b * p) := by
  rw [Int64.or_comm, bw_orp hp ha (by omega), Nat.add_comm]

theorem bw_m32 (w : Nat) : (nI w).toBitVec.toNat = w % 2 ^ 32 := BitVec.toNat_ofNat w 32
/-- a mask of k ones -/
theorem bw_an (w : Nat) {m : Int32} (k : Nat) (hk : k ≤ 32) (hm : m.toBitVec.toNat = 2 ^ k - 1) : nI w &&& m = nI (w % 2 ^ k) := by
  rw [pk_and (nI w) k hm, bw_m32, Nat.mod_mod_of_dvd w (Nat.pow_dvd_pow 2 hk)]
theorem bw_63 (w : Nat) : nI w &&& 63 = nI (w % 64) := bw_an w 6 (by omega) (by decide)
theorem bw_255 (w : Nat) : nI w &&& 255 = nI (w % 256) := bw_an w 8 (by omega) (by decide)
theorem bw_7 (w : Nat) : nI w &&& 7 = nI (w % 8) := bw_an w 3 (by omega) (by decide)
theorem bw_8191 (w : Nat) : nI w &&& 8191 = nI (w % 8192) := bw_an w 13 (by omega) (by decide)
theorem bw_127 (w : Nat) : nI w &&& 127 = nI (w % 128) := bw_an w 7 (by omega) (by decide)
/-! the packed values -/
theorem bw_par {v : Nat} (hv : v < 2 ^ 63) : ((((lN v).toUInt64 >>> ((1 : Int32).toInt64.toUInt64 &&& Int64.toUInt64 63)).toInt64).toInt32) &&& 63 = nI (v / 2 % 64) := by
  have h := bw_shr (n := v) (k := 1) (by omega) (by omega)
  show ((((lN v).toUInt64 >>> ((nI 1).toInt64.toUInt64 &&& Int64.toUInt64 63)).toInt64).toInt32) &&& 63 = nI (v / 2 % 64)
  rw [h, lN_i, bw_63]
theorem bw_nam {v : Nat} (hv : v < 2 ^ 63) : ((((lN v).toUInt64 >>> ((8 : Int32).toInt64.toUInt64 &&& Int64.toUInt64 63)).toInt64).toInt32) &&& 255 = nI (v / 256 % 256) := by
  have h := bw_shr (n := v) (k := 8) (by omega) (by omega)
  show ((((lN v).toUInt64 >>> ((nI 8).toInt64.toUInt64 &&& Int64.toUInt64 63)).toInt64).toInt32) &&& 255 = nI (v / 256 % 256)
  rw [h, lN_i, bw_255]
theorem bw_ext {v : Nat} (hv : v < 2 ^ 63) : ((((lN v).toUInt64 >>> ((6 : Int32).toInt64.toUInt64 &&& Int64.toUInt64 63)).toInt64).toInt32) &&& 7 = nI (v / 64 % 8) := by
  have h := bw_shr (n := v) (k := 6) (by omega) (by omega)
  show ((((lN v).toUInt64 >>> ((nI 6).toInt64.toUInt64 &&& Int64.toUInt64 63)).toInt64).toInt32) &&& 7 = nI (v / 64 % 8)
  rw [h, lN_i, bw_7]
theorem bw_id (v : Nat) : (lN v).toInt32 &&& 63 = nI (v % 64) := by
  rw [lN_i, bw_63]
theorem bw_s9 (k : Nat) : 9 + 13 * nI k = nI (9 + 13 * k) := by
  rw [show (13 : Int32) = nI 13 from rfl, pk_mul, show (9 : Int32) = nI 9 from rfl, nI_add]
theorem bw_inl {v k : Nat} (hv : v < 2 ^ 63) (hk : k < 3) : ((((lN v).toUInt64 >>> ((9 + (13 * nI k)).toInt64.toUInt64 &&& Int64.toUInt64 63)).toInt64).toInt32) &&& 8191 = nI (v / 2 ^ (9 + 13 * k) % 8192) := by
  rw [bw_s9, bw_shr (by omega) (by omega), lN_i, bw_8191]
theorem bw_st (x : Nat) : nI x &&& 127 = nI (x % 128) := bw_127 x
theorem bw_len {x : Nat} (hx : x < 2 ^ 31) : ((nI x).toUInt32 >>> ((7 : Int32).toUInt32 &&& Int32.toUInt32 31)).toInt32 = nI (x / 128) := pk_ushrN (by omega) 7 7 (by decide)
theorem bw_odd {v : Nat} (hv : v < 2 ^ 63) : (lN v &&& 1) = 0 ↔ v % 2 = 0 := by
  rw [bw_a1 (by omega), show (0 : Int64) = lN 0 from rfl, pk_lEQ (by omega) (by omega)]
theorem bw_or32 {a b : Nat} (ha : a < 128) (hb : b < 2 ^ 20) : nI a ||| (nI b <<< ((7 : Int32) &&& 31)) = nI (a + 128 * b) := by
  rw [pk_shlN (n := b) ((7 : Int32) &&& 31) 7 (by decide) (by omega)]
  apply Int32.toBitVec_inj.mp
  rw [Int32.toBitVec_or]
  apply BitVec.eq_of_toNat_eq
  rw [BitVec.toNat_or, bw_m32, bw_m32, bw_m32, Nat.mod_eq_of_lt (by omega), Nat.mod_eq_of_lt (by omega), Nat.mod_eq_of_lt (by omega), Nat.or_comm, ← Nat.shiftLeft_eq, ← Nat.shiftLeft_add_eq_or_of_lt (show a < 2 ^ 7 by omega), Nat.shiftLeft_eq]
  omega
theorem bw_put {a b k : Nat} (hk : k < 50) (ha : a < 2 ^ k) (hb : a + b * 2 ^ k < 2 ^ 63) (hb2 : b < 2 ^ 31) : lN a ||| ((nI b).toInt64 <<< ((nI k).toInt64 &&& 63)) = lN (a + b * 2 ^ k) := by
  rw [nI_l hb2, bw_shl b (by omega), bw_ors rfl ha (by omega)]
/-- thirteen bits cleared -/
theorem bw_tb9 : ∀ i, i < 64 → (18446744073709551615 - 8191 * 2 ^ 9).testBit i = (decide (i < 9) || decide (22 ≤ i)) := by decide +kernel
theorem bw_tb22 : ∀ i, i < 64 → (18446744073709551615 - 8191 * 2 ^ 22).testBit i = (decide (i < 22) || decide (35 ≤ i)) := by decide +kernel
theorem bw_tb35 : ∀ i, i < 64 → (18446744073709551615 - 8191 * 2 ^ 35).testBit i = (decide (i < 35) || decide (48 ≤ i)) := by decide +kernel
theorem bw_clr {a s m : Nat} (hs : s + 13 < 64) (ha : a < 2 ^ (s + 13)) (hm : ∀ i, i < 64 → m.testBit i = (decide (i < s) || decide (s + 13 ≤ i))) (hm2 : m < 2 ^ 64) : a &&& m = a % 2 ^ s := by
  apply Nat.eq_of_testBit_eq
  intro i
  rw [Nat.testBit_and, Nat.testBit_mod_two_pow]
  by_cases h : i < s + 13
  · rw [hm i (by omega)]
    by_cases h2 : i < s
    · simp [h2]
    · simp [h2, show ¬ s + 13 ≤ i by omega]
  · rw [Nat.testBit_lt_two_pow (Nat.lt_of_lt_of_le ha (Nat.pow_le_pow_right (by omega) (show s + 13 ≤ i by omega)))]
    simp
theorem bw_del {a k : Nat} (hk : k < 3) (ha : a < 2 ^ (9 + 13 * k + 13)) : lN a &&& (((8191 : Int64) <<< ((9 + (13 * nI k)).toInt64 &&& 63)) ^^^ (-1)) = lN (a % 2 ^ (9 + 13 * k)) := by
  have ha' : a < 2 ^ 64 := Nat.lt_of_lt_of_le ha (Nat.pow_le_pow_right (by omega) (by omega))
  have h3 : k = 0 ∨ k = 1 ∨ k = 2 := by omega
  rcases h3 with e | e | e
  · subst e
    rw [show (((8191 : Int64) <<< ((9 + (13 * nI 0)).toInt64 &&& 63)) ^^^ (-1)) = lN (18446744073709551615 - 8191 * 2 ^ 9) by decide +kernel, bw_and ha' (by decide), bw_clr (s := 9) (by omega) ha bw_tb9 (by decide)]
  · subst e
    rw [show (((8191 : Int64) <<< ((9 + (13 * nI 1)).toInt64 &&& 63)) ^^^ (-1)) = lN (18446744073709551615 - 8191 * 2 ^ 22) by decide +kernel, bw_and ha' (by decide), bw_clr (s := 22) (by omega) ha bw_tb22 (by decide)]
  · subst e
    rw [show (((8191 : Int64) <<< ((9 + (13 * nI 2)).toInt64 &&& 63)) ^^^ (-1)) = lN (18446744073709551615 - 8191 * 2 ^ 35) by decide +kernel, bw_and ha' (by decide), bw_clr (s := 35) (by omega) ha bw_tb35 (by decide)]
end
section
/-! the catalog's table over the maps; the questions -/
def hl_R (u : St1) (mp : Nat → Nat → Option Int64) (g p f : Int32) : Prop := match u with
  | (_, _, _, _, gv, pr, fb, a1, a2, a3, a4, a5, a6, a7, a8, _, _, _) => gv = g ∧ pr = p ∧ fb = f ∧ cs_R a1 a2 a3 a4 a5 a6 a7 a8 mp
def sm_c (f : Nat → Nat) : Nat → Nat
  | 0 => 0
  | n + 1 => sm_c f n + f n
/-- the thread's value -/
def hl_tv (fo par nm : Nat → Nat) (i : Nat) : Nat := fo i + 2 * par i + 256 * nm i
/-- an extent, nothing behind the last one -/
def hl_E (ne : Nat → Nat) (ex : Nat → Nat → Nat) (i k : Nat) : Nat := if k < ne i then ex i k else 0
/-- the item's record -/
def hl_rc (ne : Nat → Nat) (ex : Nat → Nat → Nat) (i : Nat) : Nat := i + 64 * ne i + 512 * hl_E ne ex i 0 + 4194304 * hl_E ne ex i 1 + 34359738368 * hl_E ne ex i 2
/-- a file's blocks -/
def hl_bl (ne : Nat → Nat) (ex : Nat → Nat → Nat) (i : Nat) : Nat := sm_c (fun k => ex i k / 128) (ne i)
def hl_H (mp : Nat → Nat → Option Int64) (G P C : Nat) (f : Int32) (al : Nat → Bool) (fo par nm ne : Nat → Nat) (ex : Nat → Nat → Nat) : Prop :=
  (al 1 = true ∧ fo 1 = 1 ∧ par 1 = 0 ∧ nm 1 = 0) ∧
  (∀ i, al i = true → 1 ≤ i ∧ i ≤ 61 ∧ i ≤ G + 1 ∧ fo i ≤ 1 ∧ par i ≤ 61 ∧ nm i ≤ 255 ∧ mp 0 (512 * i) = some (lN (hl_tv fo par nm i))) ∧
  (∀ i, al i = true → i ≠ 1 → al (par i) = true ∧ fo (par i) = 1 ∧ mp 0 (512 * par i + nm i + 1) = some (lN (hl_rc ne ex i))) ∧
  (∀ i, al i = true → ne i ≤ 6 ∧ (fo i = 1 → ne i = 0)) ∧
  (∀ i k, al i = true → k < ne i → ex i k % 128 + ex i k / 128 ≤ 96 ∧ ex i k < 8192 ∧ (3 ≤ k → mp 1 (8 * i + k) = some (lN (ex i k)))) ∧
  (∀ k v, mp 0 k = some v → ∃ i, al i = true ∧ (k = 512 * i ∨ (i ≠ 1 ∧ k = 512 * par i + nm i + 1))) ∧
  (cn_c al 62 = P + 1 ∧ P ≤ 24 ∧ G ≤ 60) ∧
  (cn_k (mp 0) 65536 = 1 + 2 * P ∧ cn_k (mp 1) 65536 + P ≤ C ∧ C ≤ 65) ∧
  f + nI (sm_c (fun i => if al i = true then hl_bl ne ex i else 0) 62) = 96
theorem lN_nn {v : Nat} (h : v < 2 ^ 63) : (0 : Int64) ≤ lN v := (pk_lLE (a := 0) (by omega) h).mpr (Nat.zero_le v)
theorem ix_512 (i : Nat) : 512 * nI i = nI (512 * i) := by
  rw [show (512 : Int32) = nI 512 from rfl, pk_mul]
theorem ix_item (a b : Nat) : 512 * nI a + nI b + 1 = nI (512 * a + b + 1) := by
  rw [ix_512, nI_add, nI_1]
theorem ix_8 (a b : Nat) : 8 * nI a + nI b = nI (8 * a + b) := by
  rw [show (8 : Int32) = nI 8 from rfl, pk_mul, nI_add]
section
variable {mp : Nat → Nat → Option Int64} {g p f f0 : Int32} {G P C : Nat} {al : Nat → Bool} {fo par nm ne : Nat → Nat} {ex : Nat → Nat → Nat} {u : St1}
theorem hl_tvb (A : hl_H mp G P C f0 al fo par nm ne ex) {i : Nat} (ha : al i = true) : hl_tv fo par nm i < 2 ^ 20 ∧ hl_tv fo par nm i / 2 % 64 = par i ∧ hl_tv fo par nm i / 256 % 256 = nm i ∧ hl_tv fo par nm i % 2 = fo i := by
  obtain ⟨-, A2, -⟩ := A
  obtain ⟨h1, h2, h3, h4, h5, h6, -⟩ := A2 i ha
  unfold hl_tv
  omega
theorem hl_Eb (A : hl_H mp G P C f0 al fo par nm ne ex) {i : Nat} (ha : al i = true) (k : Nat) : hl_E ne ex i k < 8192 := by
  obtain ⟨-, -, -, -, A5, -⟩ := A
  unfold hl_E
  by_cases h : k < ne i
  · rw [if_pos h]; exact (A5 i k ha h).2.1
  · rw [if_neg h]; omega
theorem hl_rcb (A : hl_H mp G P C f0 al fo par nm ne ex) {i : Nat} (ha : al i = true) : hl_rc ne ex i < 2 ^ 48 ∧ hl_rc ne ex i % 64 = i ∧ hl_rc ne ex i / 64 % 8 = ne i ∧ hl_rc ne ex i / 512 % 8192 = hl_E ne ex i 0 ∧ hl_rc ne ex i / 4194304 % 8192 = hl_E ne ex i 1 ∧ hl_rc ne ex i / 34359738368 % 8192 = hl_E ne ex i 2 := by
  have e0 := hl_Eb A ha 0
  have e1 := hl_Eb A ha 1
  have e2 := hl_Eb A ha 2
  obtain ⟨-, A2, -, A4, -⟩ := A
  obtain ⟨h1, h2, h3, h4, h5, h6, -⟩ := A2 i ha
  obtain ⟨h7, -⟩ := A4 i ha
  unfold hl_rc
  omega
/-- who isn't there has no thread -/
theorem hl_none (A : hl_H mp G P C f0 al fo par nm ne ex) {i : Nat} (ha : al i = false) : mp 0 (512 * i) = none := by
  rcases h : mp 0 (512 * i) with _ | v
  · rfl
  · obtain ⟨-, A2, -, -, -, A6, -⟩ := A
    obtain ⟨j, hj, e⟩ := A6 _ v h
    obtain ⟨h1, h2, h3, h4, h5, h6, -⟩ := A2 j hj
    rcases e with e | ⟨-, e⟩
    · have : j = i := by omega
      rw [this, ha] at hj
      exact absurd hj (by decide)
    · omega
theorem hl_thread {post : Int64 → St1 → Prop} {i : Nat} (h : hl_R u mp g p f) (hi : i < 2 ^ 31) (Hs : ∀ v, 1 ≤ i → i ≤ 61 → mp 0 (512 * i) = some v → ∀ u', hl_R u' mp g p f → post v u') (Hn : (1 ≤ i → i ≤ 61 → mp 0 (512 * i) = none) → ∀ u', hl_R u' mp g p f → post (-1) u') : wpX_threadOf post u (nI i) := by
  obtain ⟨d, pl, pp, sk, gv, pr, fb, a1_, a2_, a3_, a4_, a5_, a6_, a7_, a8_, a9_, a10_, a11_⟩ := u
  obtain ⟨rfl, rfl, rfl, R⟩ := h
  refine pk_lt i 1 (fun z => Hn (fun h => by omega) _ ⟨rfl, rfl, rfl, R⟩) (fun z => pk_le i 61 (fun y => ?_) (fun y => Hn (fun _ h => by omega) _ ⟨rfl, rfl, rfl, R⟩))
  unfold wpX_threadKey
  rw [ix_512]
  refine tr_locate (t := 0) R (by omega) (by omega) (fun v d pl pp a9 a10 hm hin hv => ?_) (fun hm d pl pp a9 a10 => ?_)
  · refine br_f (by decide) ⟨hin, ?_⟩
    rw [hv]
    exact Hs v z y hm _ ⟨rfl, rfl, rfl, R⟩
  · exact br_t rfl (Hn (fun _ _ => hm) _ ⟨rfl, rfl, rfl, R⟩)
theorem hl_T {post : Int64 → St1 → Prop} {i : Nat} (h : hl_R u mp g p f) (A : hl_H mp G P C f0 al fo par nm ne ex) (hi : i < 2 ^ 31) (H1 : al i = true → ∀ u', hl_R u' mp g p f → post (lN (hl_tv fo par nm i)) u') (H0 : al i = false → ∀ u', hl_R u' mp g p f → post (-1) u') : wpX_threadOf post u (nI i) := by
  refine hl_thread h hi (fun v h1 h2 hv u' h' => ?_) (fun hn u' h' => ?_)
  · rcases e : al i with _ | _
    · rw [hl_none A e] at hv
      exact absurd hv (by simp)
    · have := (A.2.1 i e).2.2.2.2.2.2
      rw [hv] at this
      rw [Option.some.inj this]
      exact H1 e u' h'
  · rcases e : al i with _ | _
    · exact H0 e u' h'
    · obtain ⟨h1, h2, -, -, -, -, h7⟩ := A.2.1 i e
      rw [hn h1 h2] at h7
      exact absurd h7 (by simp)
theorem hl_fold {post : Int32 → Prop} {v : Nat} (hv : v < 2 ^ 63) (h0 : v % 2 = 0 → post 0) (h1 : v % 2 ≠ 0 → post 1) : wpX_threadFolder post () (lN v) := ek_if (bw_odd hv) h0 h1
theorem hl_refFo {post : Int32 → St1 → Prop} {i : Nat} (h : hl_R u mp g p f) (A : hl_H mp G P C f0 al fo par nm ne ex) (hi : i < 2 ^ 31) (H1 : al i = true → fo i = 1 → ∀ u', hl_R u' mp g p f → post 0 u') (H0 : ¬ (al i = true ∧ fo i = 1) → ∀ r u', r ≠ 0 → hl_R u' mp g p f → post r u') : wpX_refuseFolder post u (nI i) := by
  obtain ⟨d, pl, pp, sk, gv, pr, fb, a1_, a2_, a3_, a4_, a5_, a6_, a7_, a8_, a9_, a10_, a11_⟩ := u
  unfold wpX_refuseFolder
  dsimp only
  refine hl_T h A hi (fun ha u1 h1 => ?_) (fun ha u1 h1 => ?_)
  · obtain ⟨d1, pl1, pp1, sk1, gv1, pr1, fb1, a1_1, a2_1, a3_1, a4_1, a5_1, a6_1, a7_1, a8_1, a9_1, a10_1, a11_1⟩ := u1
    dsimp only
    obtain ⟨b1, -, -, b4⟩ := hl_tvb A ha
    refine br_t (lN_nn (by omega)) (hl_fold (by omega) (fun z => ?_) (fun z => ?_))
    · exact br_t rfl (H0 (fun y => by omega) _ _ (by decide) h1)
    · exact br_f (by decide) (H1 ha (by have := (A.2.1 i ha).2.2.2.1; omega) _ h1)
  · obtain ⟨d1, pl1, pp1, sk1, gv1, pr1, fb1, a1_1, a2_1, a3_1, a4_1, a5_1, a6_1, a7_1, a8_1, a9_1, a10_1, a11_1⟩ := u1
    dsimp only
    exact br_f (by decide) (H0 (fun y => by rw [ha] at y; exact absurd y.1 (by decide)) _ _ (by decide) h1)
theorem hl_refFi {post : Int32 → St1 → Prop} {i : Nat} (h : hl_R u mp g p f) (A : hl_H mp G P C f0 al fo par nm ne ex) (hi : i < 2 ^ 31) (H1 : al i = true → fo i = 0 → ∀ u', hl_R u' mp g p f → post 0 u') (H0 : ¬ (al i = true ∧ fo i = 0) → ∀ r u', r ≠ 0 → hl_R u' mp g p f → post r u') : wpX_refuseFile post u (nI i) := by
  obtain ⟨d, pl, pp, sk, gv, pr, fb, a1_, a2_, a3_, a4_, a5_, a6_, a7_, a8_, a9_, a10_, a11_⟩ := u
  unfold wpX_refuseFile
  dsimp only
  refine hl_T h A hi (fun ha u1 h1 => ?_) (fun ha u1 h1 => ?_)
  · obtain ⟨d1, pl1, pp1, sk1, gv1, pr1, fb1, a1_1, a2_1, a3_1, a4_1, a5_1, a6_1, a7_1, a8_1, a9_1, a10_1, a11_1⟩ := u1
    dsimp only
    obtain ⟨b1, -, -, b4⟩ := hl_tvb A ha
    refine br_t (lN_nn (by omega)) (hl_fold (by omega) (fun z => ?_) (fun z => ?_))
    · exact br_t rfl (H1 ha (by omega) _ h1)
    · exact br_f (by decide) (H0 (fun y => by omega) _ _ (by decide) h1)
  · obtain ⟨d1, pl1, pp1, sk1, gv1, pr1, fb1, a1_1, a2_1, a3_1, a4_1, a5_1, a6_1, a7_1, a8_1, a9_1, a10_1, a11_1⟩ := u1
    dsimp only
    exact br_f (by decide) (H0 (fun y => by rw [ha] at y; exact absurd y.1 (by decide)) _ _ (by decide) h1)
theorem hl_par {post : Int32 → Prop} (A : hl_H mp G P C f0 al fo par nm ne ex) {i : Nat} (ha : al i = true) (h : post (nI (par i))) : wpX_threadParent post () (lN (hl_tv fo par nm i)) := by
  obtain ⟨b1, b2, b3, b4⟩ := hl_tvb A ha
  unfold wpX_threadParent
  rw [bw_par (by omega), b2]
  exact h
theorem hl_nam {post : Int32 → Prop} (A : hl_H mp G P C f0 al fo par nm ne ex) {i : Nat} (ha : al i = true) (h : post (nI (nm i))) : wpX_threadName post () (lN (hl_tv fo par nm i)) := by
  obtain ⟨b1, b2, b3, b4⟩ := hl_tvb A ha
  unfold wpX_threadName
  rw [bw_nam (by omega), b3]
  exact h
theorem hl_key {post : Int32 → Prop} (A : hl_H mp G P C f0 al fo par nm ne ex) {i : Nat} (ha : al i = true) (h : post (nI (512 * par i + nm i + 1))) : wpX_keyOfThread post () (lN (hl_tv fo par nm i)) := by
  refine hl_par A ha (hl_nam A ha ?_)
  unfold wpX_itemKey
  rw [ix_item]
  exact h
theorem hl_rec {post : Int64 → St1 → Prop} (h : hl_R u mp g p f) (A : hl_H mp G P C f0 al fo par nm ne ex) {i : Nat} (ha : al i = true) (hi : i ≠ 1) (Hp : ∀ u', hl_R u' mp g p f → post (lN (hl_rc ne ex i)) u') : wpX_recordOf post u (lN (hl_tv fo par nm i)) := by
  obtain ⟨d, pl, pp, sk, gv, pr, fb, a1_, a2_, a3_, a4_, a5_, a6_, a7_, a8_, a9_, a10_, a11_⟩ := u
  obtain ⟨rfl, rfl, rfl, R⟩ := h
  refine hl_key A ha ?_
  obtain ⟨h1, h2, h3, h4, h5, h6, -⟩ := A.2.1 i ha
  obtain ⟨-, -, hm⟩ := A.2.2.1 i ha hi
  refine tr_locate (t := 0) R (by omega) (by omega) (fun v d pl pp a9 a10 hm' hin hv => ?_) (fun hm' d pl pp a9 a10 => ?_)
  · refine br_f (by decide) ⟨hin, ?_⟩
    rw [hv]
    rw [hm] at hm'
    rw [← Option.some.inj hm']
    exact Hp _ ⟨rfl, rfl, rfl, R⟩
  · rw [hm] at hm'
    exact absurd hm' (by simp)
/-- an extent of a packed record -/
theorem hl_ext3 {post : Int32 → St1 → Prop} {v k w : Nat} (h : hl_R u mp g p f) (hv : v < 2 ^ 63) (hk : k < 8) (h1 : k < 3 → v / 2 ^ (9 + 13 * k) % 8192 = w) (h2 : 3 ≤ k → mp 1 (8 * (v % 64) + k) = some (lN w)) (Hp : ∀ u', hl_R u' mp g p f → post (nI w) u') : wpX_extentOf post u (lN v) (nI k) := by
  obtain ⟨d, pl, pp, sk, gv, pr, fb, a1_, a2_, a3_, a4_, a5_, a6_, a7_, a8_, a9_, a10_, a11_⟩ := u
  have h' := h
  obtain ⟨rfl, rfl, rfl, R⟩ := h'
  refine pk_le 3 k (fun z => ?_) (fun z => ?_)
  · unfold wpX_recordId
    rw [bw_id]
    dsimp only
    rw [ix_8]
    refine tr_locate (t := 1) R (by omega) (by omega) (fun v' d pl pp a9 a10 hm' hin hv' => ?_) (fun hm' d pl pp a9 a10 => ?_)
    · dsimp only
      refine br_f (by decide) ⟨hin, ?_⟩
      rw [hv']
      rw [h2 z] at hm'
      rw [← Option.some.inj hm', lN_i]
      exact Hp _ ⟨rfl, rfl, rfl, R⟩
    · rw [h2 z] at hm'
      exact absurd hm' (by simp)
  · unfold wpX_inlineExtent
    rw [bw_inl hv z, h1 z]
    exact Hp _ ⟨rfl, rfl, rfl, R⟩
theorem hl_inl (A : hl_H mp G P C f0 al fo par nm ne ex) {i k : Nat} (ha : al i = true) (hk : k < ne i) (h3 : k < 3) : hl_rc ne ex i / 2 ^ (9 + 13 * k) % 8192 = ex i k := by
  obtain ⟨b1, b2, b3, c0, c1, c2⟩ := hl_rcb A ha
  have e : hl_E ne ex i k = ex i k := if_pos hk
  have h : k = 0 ∨ k = 1 ∨ k = 2 := by omega
  rcases h with z | z | z <;> subst z
  · rw [← e]; exact c0
  · rw [← e]; exact c1
  · rw [← e]; exact c2
theorem hl_ext {post : Int32 → St1 → Prop} {i k : Nat} (h : hl_R u mp g p f) (A : hl_H mp G P C f0 al fo par nm ne ex) (ha : al i = true) (hk : k < ne i) (Hp : ∀ u', hl_R u' mp g p f → post (nI (ex i k)) u') : wpX_extentOf post u (lN (hl_rc ne ex i)) (nI k) := by
  obtain ⟨b1, b2, b3, -⟩ := hl_rcb A ha
  have h6 := (A.2.2.2.1 i ha).1
  refine hl_ext3 h (by omega) (by omega) (fun z => hl_inl A ha hk z) (fun z => ?_) Hp
  rw [b2]
  exact (A.2.2.2.2.1 i k ha hk).2.2 z
/-! parentOf, nameOf, kindOf, find -/
theorem hl_parentOf {post : Int32 → St1 → Prop} {i : Nat} (h : hl_R u mp g p f) (A : hl_H mp G P C f0 al fo par nm ne ex) (ha : al i = true) (hi : i ≠ 1) (Hp : ∀ u', hl_R u' mp g p f → post (nI (par i)) u') : wpX_parentOf post u (nI i) := by
  obtain ⟨d, pl, pp, sk, gv, pr, fb, a1_, a2_, a3_, a4_, a5_, a6_, a7_, a8_, a9_, a10_, a11_⟩ := u
  have hb := A.2.1 i ha
  unfold wpX_parentOf
  dsimp only
  refine hl_T h A (by omega) (fun _ u1 h1 => ?_) (fun z => absurd z (by rw [ha]; decide))
  obtain ⟨d1, pl1, pp1, sk1, gv1, pr1, fb1, a1_1, a2_1, a3_1, a4_1, a5_1, a6_1, a7_1, a8_1, a9_1, a10_1, a11_1⟩ := u1
  dsimp only
  have b1 := (hl_tvb A ha).1
  exact br_t (lN_nn (by omega)) (pk_eq i 1 (fun z => absurd z hi) (fun z => hl_par A ha (Hp _ h1)))
theorem hl_nameOf {post : Int32 → St1 → Prop} {i : Nat} (h : hl_R u mp g p f) (A : hl_H mp G P C f0 al fo par nm ne ex) (ha : al i = true) (hi : i ≠ 1) (Hp : ∀ u', hl_R u' mp g p f → post (nI (nm i)) u') : wpX_nameOf post u (nI i) := by
  obtain ⟨d, pl, pp, sk, gv, pr, fb, a1_, a2_, a3_, a4_, a5_, a6_, a7_, a8_, a9_, a10_, a11_⟩ := u
  have hb := A.2.1 i ha
  unfold wpX_nameOf
  dsimp only
  refine hl_T h A (by omega) (fun _ u1 h1 => ?_) (fun z => absurd z (by rw [ha]; decide))
  obtain ⟨d1, pl1, pp1, sk1, gv1, pr1, fb1, a1_1, a2_1, a3_1, a4_1, a5_1, a6_1, a7_1, a8_1, a9_1, a10_1, a11_1⟩ := u1
  dsimp only
  have b1 := (hl_tvb A ha).1
  exact br_t (lN_nn (by omega)) (pk_eq i 1 (fun z => absurd z hi) (fun z => hl_nam A ha (Hp _ h1)))
theorem hl_kindOf {post : Int32 → St1 → Prop} {i : Nat} (h : hl_R u mp g p f) (A : hl_H mp G P C f0 al fo par nm ne ex) (hi : i < 2 ^ 31) (H0 : al i = false → ∀ u', hl_R u' mp g p f → post 0 u') (H1 : al i = true → fo i = 0 → ∀ u', hl_R u' mp g p f → post 1 u') (H2 : al i = true → fo i = 1 → ∀ u', hl_R u' mp g p f → post 2 u') : wpX_kindOf post u (nI i) := by
  obtain ⟨d, pl, pp, sk, gv, pr, fb, a1_, a2_, a3_, a4_, a5_, a6_, a7_, a8_, a9_, a10_, a11_⟩ := u
  unfold wpX_kindOf
  dsimp only
  refine hl_T h A hi (fun ha u1 h1 => ?_) (fun ha u1 h1 => ?_)
  · obtain ⟨d1, pl1, pp1, sk1, gv1, pr1, fb1, a1_1, a2_1, a3_1, a4_1, a5_1, a6_1, a7_1, a8_1, a9_1, a10_1, a11_1⟩ := u1
    dsimp only
    obtain ⟨b1, -, -, b4⟩ := hl_tvb A ha
    refine br_t (lN_nn (by omega)) (hl_fold (by omega) (fun z => ?_) (fun z => ?_))
    · exact br_t rfl (H1 ha (by omega) _ h1)
    · exact br_f (by decide) (H2 ha (by have := (A.2.1 i ha).2.2.2.1; omega) _ h1)
  · obtain ⟨d1, pl1, pp1, sk1, gv1, pr1, fb1, a1_1, a2_1, a3_1, a4_1, a5_1, a6_1, a7_1, a8_1, a9_1, a10_1, a11_1⟩ := u1
    dsimp only
    exact br_f (by decide) (H0 ha _ h1)
theorem hl_find {post : Int32 → St1 → Prop} {i : Nat} (h : hl_R u mp g p f) (A : hl_H mp G P C f0 al fo par nm ne ex) (ha : al i = true) (hi : i ≠ 1) (Hp : ∀ u', hl_R u' mp g p f → post (nI i) u') : wpX_find post u (nI (par i)) (nI (nm i)) := by
  obtain ⟨d, pl, pp, sk, gv, pr, fb, a1_, a2_, a3_, a4_, a5_, a6_, a7_, a8_, a9_, a10_, a11_⟩ := u
  obtain ⟨h1, h2, h3, h4, h5, h6, -⟩ := A.2.1 i ha
  obtain ⟨a1, a2, hm⟩ := A.2.2.1 i ha hi
  unfold wpX_find
  dsimp only
  refine hl_refFo h A (by omega) (fun _ _ u1 q1 => ?_) (fun z => absurd ⟨a1, a2⟩ z)
  obtain ⟨d1, pl1, pp1, sk1, gv1, pr1, fb1, a1_1, a2_1, a3_1, a4_1, a5_1, a6_1, a7_1, a8_1, a9_1, a10_1, a11_1⟩ := u1
  dsimp only
  obtain ⟨rfl, rfl, rfl, R⟩ := q1
  refine br_t rfl (pk_lt (nm i) 0 (fun z => absurd z (by omega)) (fun _ => pk_le (nm i) 255 (fun _ => ?_) (fun z => absurd z (by omega))))
  unfold wpX_itemKey
  rw [ix_item]
  refine tr_locate (t := 0) R (by omega) (by omega) (fun v d pl pp a9 a10 hm' hin hv => ?_) (fun hm' d pl pp a9 a10 => ?_)
  · dsimp only
    refine br_f (by decide) ⟨hin, ?_⟩
    unfold wpX_recordId
    rw [hv]
    rw [hm] at hm'
    rw [← Option.some.inj hm', bw_id, (hl_rcb A ha).2.1]
    exact Hp _ ⟨rfl, rfl, rfl, R⟩
  · rw [hm] at hm'
    exact absurd hm' (by simp)
end
end
section
/-! entries, entry, blocks: the questions that loop -/
theorem cn_kgap {f : Nat → Option Int64} {a b : Nat} (hab : a ≤ b) (h : ∀ k v, f k = some v → a ≤ k → b ≤ k) : cn_k f b = cn_k f a :=
  cn_gap hab (fun i h1 h2 => by
    rcases e : f i with _ | v
    · rfl
    · have := h i v e h1; omega)
theorem cn_kkey {f : Nat → Option Int64} {b k : Nat} {v : Int64} (hb : b ≤ k) (hk : f k = some v) (h : ∀ k' v', f k' = some v' → b ≤ k' → k ≤ k') : cn_k f (k + 1) = cn_k f b + 1 ∧ cn_k f k = cn_k f b := by
  have e := cn_kgap hb h
  refine ⟨?_, e⟩
  rw [← e]
  show cn_c (fun k => (f k).isSome) k + (if (f k).isSome = true then 1 else 0) = _
  rw [hk]
  rfl
theorem cn_ks {f : Nat → Option Int64} {k : Nat} {v : Int64} (hk : f k = some v) : cn_k f (k + 1) = cn_k f k + 1 := by
  show cn_c (fun k => (f k).isSome) k + (if (f k).isSome = true then 1 else 0) = _
  rw [hk]
  rfl
theorem cn_kmono (f : Nat → Option Int64) {a b : Nat} (h : a ≤ b) : cn_k f a ≤ cn_k f b := cn_mono _ h
/-- how many entries folder q holds -/
def hl_n (mp : Nat → Nat → Option Int64) (q : Nat) : Nat := cn_k (mp 0) (512 * (q + 1)) - cn_k (mp 0) (512 * q + 1)
theorem sm_s (f : Nat → Nat) (n : Nat) : sm_c f (n + 1) = sm_c f n + f n := rfl
theorem sm_le (f : Nat → Nat) {i n : Nat} (h : i < n) : f i ≤ sm_c f n := by
  induction n with
  | zero => omega
  | succ n ih =>
    rw [sm_s]
    by_cases e : i = n
    · rw [e]; omega
    · have := ih (by omega); omega
theorem sm_ext {f f' : Nat → Nat} {n : Nat} (h : ∀ i, i < n → f i = f' i) : sm_c f n = sm_c f' n := by
  induction n with
  | zero => rfl
  | succ n ih => rw [sm_s, sm_s, ih (fun i hi => h i (by omega)), h n (by omega)]
section
variable {d pl pp sk gv pr fb : Int32} {a1 a2 a3 a4 a5 : Nat → Int32} {a6 : Nat → Int64} {a7 a8 a9 a10 a11 : Nat → Int32} {mp : Nat → Nat → Option Int64}
theorem hl_ent36 {post : Int32 → St1 → Prop} {e c0 : Nat} (he : e < 65536) (T : cn_k (mp 0) e ≤ c0 + 24) (Hp : ∀ j u', cn_k (mp 0) e = c0 + j → hl_R u' mp gv pr fb → post (nI j) u') :
    ∀ m j b pl pp, j + m = 25 → b ≤ e → cn_k (mp 0) b = c0 + j → cs_Q a1 a2 a3 a4 a5 a6 a7 a8 mp 0 b pl pp → wX_entries_36 post (nI e) (m + 1) (nI j) (nI j) d pl pp sk gv pr fb a1 a2 a3 a4 a5 a6 a7 a8 a9 a10 a11 := by
  intro m
  induction m with
  | zero =>
    intro j b pl pp hj hb hc Q
    have := cn_kmono (mp 0) hb
    omega
  | succ m ih =>
    intro j b pl pp hj hb hc Q
    refine pk_le 25 j (fun z => absurd z (by omega)) (fun _ => ?_)
    rcases cs_Qc (by omega) Q with ⟨ep, h⟩ | ⟨k, v, g1, g2, g3, g4, g5, g6, g7, g8⟩
    · refine br_t (show pl < 0 by rw [ep]; decide) (Hp j _ ?_ ⟨rfl, rfl, rfl, cs_QR Q⟩)
      rw [← hc]
      exact cn_kgap hb (fun k v hk hbk => by have := h k v hk; omega)
    · refine br_f g1 ⟨g2, ?_⟩
      rw [g3]
      refine pk_lt k e (fun z => nm_r (nI_1 j) ?_) (fun z => Hp j _ ?_ ⟨rfl, rfl, rfl, cs_QR Q⟩)
      · refine tr_step (by omega) Q g1 g7 g3 (fun pl pp Q' => nm_r (nI_1 j) (ih (j + 1) (k + 1) pl pp (by omega) (by omega) ?_ Q'))
        rw [(cn_kkey g6 g5 g8).1]
        omega
      · rw [← hc]
        exact cn_kgap hb (fun k' v' hk' hbk' => by have := g8 k' v' hk' hbk'; omega)
theorem hl_ent41 {post : Int32 → St1 → Prop} {e c0 s q : Nat} (he : e < 65536) (hs : s < 2 ^ 31) (T : cn_k (mp 0) e ≤ c0 + 24)
    (Hs : ∀ k v, q ≤ k → k < e → mp 0 k = some v → cn_k (mp 0) k = c0 + s → ∀ u', hl_R u' mp gv pr fb → post (v.toInt32 &&& 63) u') (Hn : cn_k (mp 0) e ≤ c0 + s → ∀ u', hl_R u' mp gv pr fb → post (-12) u') :
    ∀ m j b pl pp, j + m = 25 → j ≤ s → q ≤ b → b ≤ e → cn_k (mp 0) b = c0 + j → cs_Q a1 a2 a3 a4 a5 a6 a7 a8 mp 0 b pl pp → wX_entry_41 post (nI s) (nI e) (m + 1) (nI j) d pl pp sk gv pr fb a1 a2 a3 a4 a5 a6 a7 a8 a9 a10 a11 := by
  intro m
  induction m with
  | zero =>
    intro j b pl pp hj hjs hqb hb hc Q
    have := cn_kmono (mp 0) hb
    omega
  | succ m ih =>
    intro j b pl pp hj hjs hqb hb hc Q
    refine pk_le 25 j (fun z => absurd z (by omega)) (fun _ => ?_)
    rcases cs_Qc (by omega) Q with ⟨ep, h⟩ | ⟨k, v, g1, g2, g3, g4, g5, g6, g7, g8⟩
    · refine br_t (show pl < 0 by rw [ep]; decide) (Hn ?_ _ ⟨rfl, rfl, rfl, cs_QR Q⟩)
      have : cn_k (mp 0) e = cn_k (mp 0) b := cn_kgap hb (fun k v hk hbk => by have := h k v hk; omega)
      omega
    · refine br_f g1 ⟨g2, ?_⟩
      rw [g3]
      refine pk_lt k e (fun z => ?_) (fun z => Hn ?_ _ ⟨rfl, rfl, rfl, cs_QR Q⟩)
      · refine pk_eq j s (fun y => ⟨g2, ?_⟩) (fun y => ?_)
        · unfold wpX_recordId
          rw [g4]
          exact Hs k v (by omega) z g5 (by rw [(cn_kkey g6 g5 g8).2]; omega) _ ⟨rfl, rfl, rfl, cs_QR Q⟩
        · refine tr_step (by omega) Q g1 g7 g3 (fun pl pp Q' => nm_r (nI_1 j) (ih (j + 1) (k + 1) pl pp (by omega) (by omega) (by omega) (by omega) ?_ Q'))
          rw [(cn_kkey g6 g5 g8).1]
          omega
      · have : cn_k (mp 0) e = cn_k (mp 0) b := cn_kgap hb (fun k' v' hk' hbk' => by have := g8 k' v' hk' hbk'; omega)
        omega
end
section
variable {mp : Nat → Nat → Option Int64} {g p f f0 : Int32} {G P C : Nat} {al : Nat → Bool} {fo par nm ne : Nat → Nat} {ex : Nat → Nat → Nat} {u : St1}
theorem hl_blk (A : hl_H mp G P C f0 al fo par nm ne ex) : ∀ m, m ≤ 62 → cn_k (mp 0) (512 * m) = cn_c al m + sm_c (hl_n mp) m := by
  intro m
  induction m with
  | zero => intro _; rfl
  | succ m ih =>
    intro hm
    have e := ih (by omega)
    rw [cn_s, sm_s]
    have h1 : cn_k (mp 0) (512 * m + 1) = cn_k (mp 0) (512 * m) + (if al m = true then 1 else 0) := by
      by_cases z : al m = true
      · rw [if_pos z]
        exact cn_ks (A.2.1 m z).2.2.2.2.2.2
      · rw [if_neg z]
        exact cn_kgap (by omega) (fun k v hk hbk => by
          by_cases y : k = 512 * m
          · subst y
            rw [hl_none A (by simpa using z)] at hk
            exact absurd hk (by simp)
          · omega)
    have h2 := cn_kmono (mp 0) (show 512 * m + 1 ≤ 512 * (m + 1) by omega)
    have h3 : hl_n mp m = cn_k (mp 0) (512 * (m + 1)) - cn_k (mp 0) (512 * m + 1) := rfl
    omega
theorem hl_all (A : hl_H mp G P C f0 al fo par nm ne ex) : sm_c (hl_n mp) 62 = P := by
  have e := hl_blk A 62 (by omega)
  have h7 := A.2.2.2.2.2.2.1
  have h8 := A.2.2.2.2.2.2.2.1
  have : cn_k (mp 0) 65536 = cn_k (mp 0) (512 * 62) := cn_kgap (by omega) (fun k v hk hbk => by
    obtain ⟨i, hi, h⟩ := A.2.2.2.2.2.1 k v hk
    obtain ⟨b1, b2, b3, b4, b5, b6, -⟩ := A.2.1 i hi
    omega)
  omega
theorem hl_24 (A : hl_H mp G P C f0 al fo par nm ne ex) {q : Nat} (hq : q < 62) : cn_k (mp 0) (512 * (q + 1)) ≤ cn_k (mp 0) (512 * q + 1) + 24 := by
  have h1 := hl_all A
  have h2 := sm_le (hl_n mp) hq
  have h7 := A.2.2.2.2.2.2.1
  have h3 : hl_n mp q = cn_k (mp 0) (512 * (q + 1)) - cn_k (mp 0) (512 * q + 1) := rfl
  omega
/-- a key between the threads is an item's -/
theorem hl_itm (A : hl_H mp G P C f0 al fo par nm ne ex) {q k : Nat} {v : Int64} (h1 : 512 * q + 1 ≤ k) (h2 : k < 512 * (q + 1)) (hk : mp 0 k = some v) : ∃ i, al i = true ∧ i ≠ 1 ∧ par i = q ∧ k = 512 * q + 1 + nm i ∧ v = lN (hl_rc ne ex i) := by
  obtain ⟨i, hi, h⟩ := A.2.2.2.2.2.1 k v hk
  obtain ⟨b1, b2, b3, b4, b5, b6, -⟩ := A.2.1 i hi
  rcases h with h | ⟨h, h'⟩
  · omega
  · refine ⟨i, hi, h, by omega, by omega, ?_⟩
    have := (A.2.2.1 i hi h).2.2
    rw [← h', hk] at this
    exact Option.some.inj this
theorem hl_n0 (A : hl_H mp G P C f0 al fo par nm ne ex) {q : Nat} (h : ¬ (al q = true ∧ fo q = 1)) : hl_n mp q = 0 := by
  have : cn_k (mp 0) (512 * (q + 1)) = cn_k (mp 0) (512 * q + 1) := cn_kgap (by omega) (fun k v hk hbk => by
    by_cases z : k < 512 * (q + 1)
    · obtain ⟨i, i1, i2, i3, -⟩ := hl_itm A hbk z hk
      obtain ⟨j1, j2, -⟩ := A.2.2.1 i i1 i2
      rw [i3] at j1 j2
      exact absurd ⟨j1, j2⟩ h
    · omega)
  unfold hl_n
  omega
theorem hl_entries {post : Int32 → St1 → Prop} {q : Nat} (h : hl_R u mp g p f) (A : hl_H mp G P C f0 al fo par nm ne ex) (ha : al q = true) (hf : fo q = 1) (Hp : ∀ u', hl_R u' mp g p f → post (nI (hl_n mp q)) u') : wpX_entries post u (nI q) := by
  obtain ⟨d, pl, pp, sk, gv, pr, fb, a1_, a2_, a3_, a4_, a5_, a6_, a7_, a8_, a9_, a10_, a11_⟩ := u
  have hb := A.2.1 q ha
  unfold wpX_entries
  dsimp only
  refine hl_refFo h A (by omega) (fun _ _ u1 q1 => ?_) (fun z => absurd ⟨ha, hf⟩ z)
  obtain ⟨d1, pl1, pp1, sk1, gv1, pr1, fb1, a1_1, a2_1, a3_1, a4_1, a5_1, a6_1, a7_1, a8_1, a9_1, a10_1, a11_1⟩ := u1
  dsimp only
  obtain ⟨rfl, rfl, rfl, R⟩ := q1
  refine br_t rfl ?_
  unfold wpX_threadKey
  rw [nI_1, ix_512, ix_512]
  dsimp only
  rw [nI_1]
  refine tr_seek (t := 0) R (by omega) (by omega) (fun d pl pp a9 a10 Q => ?_)
  dsimp only
  refine ⟨26, hl_ent36 (mp := mp) (c0 := cn_k (mp 0) (512 * q + 1)) (by omega) (hl_24 A (by omega)) (fun j u' hj h' => ?_) 25 0 (512 * q + 1) pl pp (by omega) (by omega) rfl Q⟩
  have : j = hl_n mp q := by unfold hl_n; omega
  rw [this]
  exact Hp u' h'
theorem hl_entry {post : Int32 → St1 → Prop} {q s : Nat} (h : hl_R u mp g p f) (A : hl_H mp G P C f0 al fo par nm ne ex) (ha : al q = true) (hf : fo q = 1) (hs : s < 2 ^ 31)
    (Hs : ∀ i, al i = true → i ≠ 1 → par i = q → cn_k (mp 0) (512 * q + 1 + nm i) = cn_k (mp 0) (512 * q + 1) + s → cn_k (mp 0) (512 * q + 1 + nm i + 1) = cn_k (mp 0) (512 * q + 1) + s + 1 → ∀ u', hl_R u' mp g p f → post (nI i) u') (Hn : hl_n mp q ≤ s → ∀ u', hl_R u' mp g p f → post (-12) u') : wpX_entry post u (nI q) (nI s) := by
  obtain ⟨d, pl, pp, sk, gv, pr, fb, a1_, a2_, a3_, a4_, a5_, a6_, a7_, a8_, a9_, a10_, a11_⟩ := u
  have hb := A.2.1 q ha
  unfold wpX_entry
  dsimp only
  refine hl_refFo h A (by omega) (fun _ _ u1 q1 => ?_) (fun z => absurd ⟨ha, hf⟩ z)
  obtain ⟨d1, pl1, pp1, sk1, gv1, pr1, fb1, a1_1, a2_1, a3_1, a4_1, a5_1, a6_1, a7_1, a8_1, a9_1, a10_1, a11_1⟩ := u1
  dsimp only
  obtain ⟨rfl, rfl, rfl, R⟩ := q1
  refine br_t rfl (br_t (nI_pos' hs) ?_)
  unfold wpX_threadKey
  rw [nI_1, ix_512, ix_512]
  dsimp only
  rw [nI_1]
  refine tr_seek (t := 0) R (by omega) (by omega) (fun d pl pp a9 a10 Q => ?_)
  dsimp only
  refine ⟨26, hl_ent41 (mp := mp) (c0 := cn_k (mp 0) (512 * q + 1)) (q := 512 * q + 1) (by omega) hs (hl_24 A (by omega)) (fun k v k1 k2 k3 k4 u' h' => ?_) (fun j u' h' => ?_) 25 0 (512 * q + 1) pl pp (by omega) (by omega) (by omega) (by omega) rfl Q⟩
  · obtain ⟨i, i1, i2, i3, i4, i5⟩ := hl_itm A k1 k2 k3
    rw [i5, bw_id, (hl_rcb A i1).2.1]
    refine Hs i i1 i2 i3 (by rw [← i4]; exact k4) ?_ u' h'
    rw [← i4, cn_ks k3, k4]
  · exact Hn (by unfold hl_n; omega) u' h'
end
end
section
/-! blocks, listed, holds -/
section
variable {mp : Nat → Nat → Option Int64} {g p f f0 : Int32} {G P C : Nat} {al : Nat → Bool} {fo par nm ne : Nat → Nat} {ex : Nat → Nat → Nat} {u : St1}
theorem hl_b38 {post : Int32 → St1 → Prop} {i : Nat} (A : hl_H mp G P C f0 al fo par nm ne ex) (ha : al i = true) (Hp : ∀ u', hl_R u' mp g p f → post (nI (hl_bl ne ex i)) u') :
    ∀ m k (d pl pp sk gv pr fb : Int32) (a1 a2 a3 a4 a5 : Nat → Int32) (a6 : Nat → Int64) (a7 a8 a9 a10 a11 : Nat → Int32), k + m = ne i → hl_R (d, pl, pp, sk, gv, pr, fb, a1, a2, a3, a4, a5, a6, a7, a8, a9, a10, a11) mp g p f → wX_blocks_38 post (lN (hl_rc ne ex i)) (nI (ne i)) (m + 1) (nI (sm_c (fun k => ex i k / 128) k)) (nI k) d pl pp sk gv pr fb a1 a2 a3 a4 a5 a6 a7 a8 a9 a10 a11 := by
  have h6 := (A.2.2.2.1 i ha).1
  intro m
  induction m with
  | zero =>
    intro k d pl pp sk gv pr fb a1 a2 a3 a4 a5 a6 a7 a8 a9 a10 a11 hk h
    have e : k = ne i := by omega
    subst e
    exact pk_le (ne i) (ne i) (fun _ => Hp _ h) (fun z => absurd z (by omega))
  | succ m ih =>
    intro k d pl pp sk gv pr fb a1 a2 a3 a4 a5 a6 a7 a8 a9 a10 a11 hk h
    refine pk_le (ne i) k (fun z => absurd z (by omega)) (fun _ => ?_)
    refine hl_ext h A ha (show k < ne i by omega) (fun u1 h1 => ?_)
    obtain ⟨d1, pl1, pp1, sk1, gv1, pr1, fb1, a1_1, a2_1, a3_1, a4_1, a5_1, a6_1, a7_1, a8_1, a9_1, a10_1, a11_1⟩ := u1
    dsimp only
    unfold wpX_extentLength
    rw [bw_len (by have := (A.2.2.2.2.1 i k ha (by omega)).2.1; omega)]
    refine nm_r (nI_add _ _) (nm_r (nI_1 k) ?_)
    exact ih (k + 1) _ _ _ _ _ _ _ _ _ _ _ _ _ _ _ _ _ _ (by omega) h1
theorem hl_blocks {post : Int32 → St1 → Prop} {i : Nat} (h : hl_R u mp g p f) (A : hl_H mp G P C f0 al fo par nm ne ex) (ha : al i = true) (hf : fo i = 0) (Hp : ∀ u', hl_R u' mp g p f → post (nI (hl_bl ne ex i)) u') : wpX_blocks post u (nI i) := by
  obtain ⟨d, pl, pp, sk, gv, pr, fb, a1_, a2_, a3_, a4_, a5_, a6_, a7_, a8_, a9_, a10_, a11_⟩ := u
  have hb := A.2.1 i ha
  have hi : i ≠ 1 := fun e => by
    have := A.1.2.1
    rw [e] at hf
    omega
  obtain ⟨r1, r2, r3, -⟩ := hl_rcb A ha
  unfold wpX_blocks
  dsimp only
  refine hl_refFi h A (by omega) (fun _ _ u1 h1 => ?_) (fun z => absurd ⟨ha, hf⟩ z)
  obtain ⟨d1, pl1, pp1, sk1, gv1, pr1, fb1, a1_1, a2_1, a3_1, a4_1, a5_1, a6_1, a7_1, a8_1, a9_1, a10_1, a11_1⟩ := u1
  dsimp only
  refine br_t rfl (hl_T h1 A (by omega) (fun _ u2 h2 => ?_) (fun z => absurd z (by rw [ha]; decide)))
  obtain ⟨d2, pl2, pp2, sk2, gv2, pr2, fb2, a1_2, a2_2, a3_2, a4_2, a5_2, a6_2, a7_2, a8_2, a9_2, a10_2, a11_2⟩ := u2
  dsimp only
  refine hl_rec h2 A ha hi (fun u3 h3 => ?_)
  obtain ⟨d3, pl3, pp3, sk3, gv3, pr3, fb3, a1_3, a2_3, a3_3, a4_3, a5_3, a6_3, a7_3, a8_3, a9_3, a10_3, a11_3⟩ := u3
  dsimp only
  unfold wpX_recordExtents
  rw [bw_ext (by omega), r3]
  exact ⟨ne i + 1, hl_b38 A ha Hp (ne i) 0 _ _ _ _ _ _ _ _ _ _ _ _ _ _ _ _ _ _ (by omega) h3⟩
/-- the last name seen, s - 1; nothing yet: s = 0 -/
def hl_last (s : Nat) : Int32 := if s = 0 then -1 else nI (s - 1)
theorem hl_lastN {a s : Nat} (ha : a < 256) (hs : s ≤ 256) (h : s ≤ a) : ¬ nI a ≤ hl_last s := by
  unfold hl_last
  by_cases e : s = 0
  · rw [if_pos e, Int32.le_iff_toInt_le, nI_toInt (by omega)]
    have : (-1 : Int32).toInt = -1 := by decide
    omega
  · rw [if_neg e]
    exact nI_ge (by omega) (by omega)
theorem hl_l11 {post : Int32 → St1 → Prop} {q : Nat} (A : hl_H mp G P C f0 al fo par nm ne ex) (ha : al q = true) (hf : fo q = 1) (Hp : ∀ u', hl_R u' mp g p f → post (nI (hl_n mp q)) u') :
    ∀ m j s (d pl pp sk gv pr fb : Int32) (a1 a2 a3 a4 a5 : Nat → Int32) (a6 : Nat → Int64) (a7 a8 a9 a10 a11 : Nat → Int32), j + m = hl_n mp q → s ≤ 256 → cn_k (mp 0) (512 * q + 1 + s) = cn_k (mp 0) (512 * q + 1) + j → hl_R (d, pl, pp, sk, gv, pr, fb, a1, a2, a3, a4, a5, a6, a7, a8, a9, a10, a11) mp g p f → wL_listed_11 post (nI q) (nI (hl_n mp q)) (m + 1) (hl_last s) (nI j) d pl pp sk gv pr fb a1 a2 a3 a4 a5 a6 a7 a8 a9 a10 a11 := by
  have hb := A.2.1 q ha
  have h24 := hl_24 A (show q < 62 by omega)
  have hn24 : hl_n mp q ≤ 24 := by unfold hl_n; omega
  have hmono := cn_kmono (mp 0) (show 512 * q + 1 ≤ 512 * (q + 1) by omega)
  have hn : hl_n mp q = cn_k (mp 0) (512 * (q + 1)) - cn_k (mp 0) (512 * q + 1) := rfl
  intro m
  induction m with
  | zero =>
    intro j s d pl pp sk gv pr fb a1 a2 a3 a4 a5 a6 a7 a8 a9 a10 a11 hj hs hc h
    have e : j = hl_n mp q := by omega
    subst e
    refine pk_le (hl_n mp q) (hl_n mp q) (fun _ => ?_) (fun z => absurd z (by omega))
    refine hl_entry h A ha hf (by omega) (fun i i1 i2 i3 i4 i5 u1 h1 => ?_) (fun _ u1 h1 => ?_)
    · have b6 := (A.2.1 i i1).2.2.2.2.2.1
      have := cn_kmono (mp 0) (show 512 * q + 1 + nm i + 1 ≤ 512 * (q + 1) by omega)
      omega
    · obtain ⟨d1, pl1, pp1, sk1, gv1, pr1, fb1, a1_1, a2_1, a3_1, a4_1, a5_1, a6_1, a7_1, a8_1, a9_1, a10_1, a11_1⟩ := u1
      exact br_t rfl (Hp _ h1)
  | succ m ih =>
    intro j s d pl pp sk gv pr fb a1 a2 a3 a4 a5 a6 a7 a8 a9 a10 a11 hj hs hc h
    refine pk_le (hl_n mp q) j (fun z => absurd z (by omega)) (fun _ => ?_)
    refine hl_entry h A ha hf (by omega) (fun i i1 i2 i3 i4 i5 u1 h1 => ?_) (fun z => absurd z (by omega))
    obtain ⟨d1, pl1, pp1, sk1, gv1, pr1, fb1, a1_1, a2_1, a3_1, a4_1, a5_1, a6_1, a7_1, a8_1, a9_1, a10_1, a11_1⟩ := u1
    dsimp only
    have b6 := (A.2.1 i i1).2.2.2.2.2.1
    have hsn : s ≤ nm i := by
      by_cases z : s ≤ nm i
      · exact z
      · have := cn_kmono (mp 0) (show 512 * q + 1 + nm i + 1 ≤ 512 * q + 1 + s by omega)
        omega
    refine hl_nameOf h1 A i1 i2 (fun u2 h2 => ?_)
    obtain ⟨d2, pl2, pp2, sk2, gv2, pr2, fb2, a1_2, a2_2, a3_2, a4_2, a5_2, a6_2, a7_2, a8_2, a9_2, a10_2, a11_2⟩ := u2
    dsimp only
    refine br_f (hl_lastN (by omega) hs hsn) ?_
    refine hl_parentOf h2 A i1 i2 (fun u3 h3 => ?_)
    obtain ⟨d3, pl3, pp3, sk3, gv3, pr3, fb3, a1_3, a2_3, a3_3, a4_3, a5_3, a6_3, a7_3, a8_3, a9_3, a10_3, a11_3⟩ := u3
    dsimp only
    refine br_t (by rw [i3]) ?_
    rw [← i3]
    refine hl_find h3 A i1 i2 (fun u4 h4 => ?_)
    obtain ⟨d4, pl4, pp4, sk4, gv4, pr4, fb4, a1_4, a2_4, a3_4, a4_4, a5_4, a6_4, a7_4, a8_4, a9_4, a10_4, a11_4⟩ := u4
    dsimp only
    refine br_t rfl (nm_r (nI_1 j) ?_)
    have := ih (j + 1) (nm i + 1) _ _ _ _ _ _ _ _ _ _ _ _ _ _ _ _ _ _ (by omega) (by omega) (by rw [show 512 * q + 1 + (nm i + 1) = 512 * q + 1 + nm i + 1 by omega]; omega) h4
    rw [i3]
    exact this
theorem hl_listed {post : Int32 → St1 → Prop} {q : Nat} (h : hl_R u mp g p f) (A : hl_H mp G P C f0 al fo par nm ne ex) (ha : al q = true) (hf : fo q = 1) (Hp : ∀ u', hl_R u' mp g p f → post (nI (hl_n mp q)) u') : wpL_listed post u (nI q) := by
  obtain ⟨d, pl, pp, sk, gv, pr, fb, a1_, a2_, a3_, a4_, a5_, a6_, a7_, a8_, a9_, a10_, a11_⟩ := u
  unfold wpL_listed
  dsimp only
  refine hl_entries h A ha hf (fun u1 h1 => ?_)
  obtain ⟨d1, pl1, pp1, sk1, gv1, pr1, fb1, a1_1, a2_1, a3_1, a4_1, a5_1, a6_1, a7_1, a8_1, a9_1, a10_1, a11_1⟩ := u1
  dsimp only
  exact ⟨hl_n mp q + 1, hl_l11 A ha hf Hp (hl_n mp q) 0 0 _ _ _ _ _ _ _ _ _ _ _ _ _ _ _ _ _ _ (by omega) (by omega) rfl h1⟩
/-- the blocks of item i, if it is there -/
def hl_b (al : Nat → Bool) (ne : Nat → Nat) (ex : Nat → Nat → Nat) (i : Nat) : Nat := if al i = true then hl_bl ne ex i else 0
theorem hl_h9 {post : Int32 → St1 → Prop} (A : hl_H mp G P C f al fo par nm ne ex) (Hp : ∀ u', hl_R u' mp g (nI P) f → post 1 u') :
    ∀ m i (d pl pp sk gv pr fb : Int32) (a1 a2 a3 a4 a5 : Nat → Int32) (a6 : Nat → Int64) (a7 a8 a9 a10 a11 : Nat → Int32), 1 ≤ i → i + m = 62 → hl_R (d, pl, pp, sk, gv, pr, fb, a1, a2, a3, a4, a5, a6, a7, a8, a9, a10, a11) mp g (nI P) f → wL_holds_9 post (m + 1) (nI (cn_c al i - 1)) (nI (sm_c (hl_n mp) i)) (nI (sm_c (hl_b al ne ex) i)) (nI i) d pl pp sk gv pr fb a1 a2 a3 a4 a5 a6 a7 a8 a9 a10 a11 := by
  intro m
  induction m with
  | zero =>
    intro i d pl pp sk gv pr fb a1 a2 a3 a4 a5 a6 a7 a8 a9 a10 a11 h1 hi h
    have e : i = 62 := by omega
    subst e
    have a7 := A.2.2.2.2.2.2.1
    have a9 := A.2.2.2.2.2.2.2.2
    have hal := hl_all A
    have h' := h
    obtain ⟨rfl, rfl, rfl, R⟩ := h'
    refine pk_le 62 62 (fun _ => ?_) (fun z => absurd z (by omega))
    refine br_t (show nI (cn_c al 62 - 1) = nI P by congr 1; omega) (br_t (by rw [hal]; congr 1; omega) (br_t a9 (Hp _ h)))
  | succ m ih =>
    intro i d pl pp sk gv pr fb a1 a2 a3 a4 a5 a6 a7 a8 a9 a10 a11 h1 hi h
    refine pk_le 62 i (fun z => absurd z (by omega)) (fun _ => ?_)
    have cs : cn_c al (i + 1) = cn_c al i + (if al i = true then 1 else 0) := cn_s al i
    have c1 : 2 ≤ i → 1 ≤ cn_c al i := fun z => cn_pos (show 1 < i by omega) A.1.1
    -- the end of a step
    have fin : ∀ (d pl pp sk gv pr fb : Int32) (a1 a2 a3 a4 a5 : Nat → Int32) (a6 : Nat → Int64) (a7 a8 a9 a10 a11 : Nat → Int32), hl_R (d, pl, pp, sk, gv, pr, fb, a1, a2, a3, a4, a5, a6, a7, a8, a9, a10, a11) mp g (nI P) f → ∀ t z : Nat, t = cn_c al (i + 1) - 1 → z = sm_c (hl_n mp) (i + 1) → ∀ b : Nat, b = sm_c (hl_b al ne ex) (i + 1) → wL_holds_9 post (m + 1) (nI t) (nI z) (nI b) (nI (i + 1)) d pl pp sk gv pr fb a1 a2 a3 a4 a5 a6 a7 a8 a9 a10 a11 := by
      intro d pl pp sk gv pr fb a1 a2 a3 a4 a5 a6 a7 a8 a9 a10 a11 h t z e1 e2 b e3
      rw [e1, e2, e3]
      exact ih (i + 1) _ _ _ _ _ _ _ _ _ _ _ _ _ _ _ _ _ _ (by omega) (by omega) h
    have s95 : ∀ (r : Int32) (d pl pp sk gv pr fb : Int32) (a1 a2 a3 a4 a5 : Nat → Int32) (a6 : Nat → Int64) (a7 a8 a9 a10 a11 : Nat → Int32), hl_R (d, pl, pp, sk, gv, pr, fb, a1, a2, a3, a4, a5, a6, a7, a8, a9, a10, a11) mp g (nI P) f → ∀ t z : Nat, t = cn_c al (i + 1) - 1 → z = sm_c (hl_n mp) (i + 1) → (r = 1 ∧ al i = true ∧ fo i = 0) ∨ (r ≠ 1 ∧ ¬ (al i = true ∧ fo i = 0)) → wL_holds_95 post (wL_holds_9 post (m + 1)) (nI t) (nI z) (nI (sm_c (hl_b al ne ex) i)) (nI i) r d pl pp sk gv pr fb a1 a2 a3 a4 a5 a6 a7 a8 a9 a10 a11 := by
      intro r d pl pp sk gv pr fb a1 a2 a3 a4 a5 a6 a7 a8 a9 a10 a11 h t z e1 e2 hr
      rcases hr with ⟨r1, r2, r3⟩ | ⟨r1, r2⟩
      · refine br_t r1 (hl_blocks h A r2 r3 (fun u1 q1 => ?_))
        obtain ⟨d1, pl1, pp1, sk1, gv1, pr1, fb1, a1_1, a2_1, a3_1, a4_1, a5_1, a6_1, a7_1, a8_1, a9_1, a10_1, a11_1⟩ := u1
        refine nm_r (nI_add _ _) (nm_r (nI_1 i) (fin _ _ _ _ _ _ _ _ _ _ _ _ _ _ _ _ _ _ q1 t z e1 e2 _ ?_))
        rw [sm_s]
        unfold hl_b
        rw [if_pos r2]
      · refine br_f r1 (nm_r (nI_1 i) (fin _ _ _ _ _ _ _ _ _ _ _ _ _ _ _ _ _ _ h t z e1 e2 _ ?_))
        rw [sm_s]
        unfold hl_b
        by_cases y : al i = true
        · rw [if_pos y]
          have := A.2.1 i y
          have hne : ne i = 0 := (A.2.2.2.1 i y).2 (by
            by_cases w : fo i = 0
            · exact absurd ⟨y, w⟩ r2
            · omega)
          unfold hl_bl
          rw [hne]
          rfl
        · rw [if_neg y]; rfl
    have s69 : ∀ (r : Int32) (d pl pp sk gv pr fb : Int32) (a1 a2 a3 a4 a5 : Nat → Int32) (a6 : Nat → Int64) (a7 a8 a9 a10 a11 : Nat → Int32), hl_R (d, pl, pp, sk, gv, pr, fb, a1, a2, a3, a4, a5, a6, a7, a8, a9, a10, a11) mp g (nI P) f → ∀ t : Nat, t = cn_c al (i + 1) - 1 → (r = 2 ∧ al i = true ∧ fo i = 1) ∨ (r = 1 ∧ al i = true ∧ fo i = 0) ∨ (r = 0 ∧ al i = false) → wL_holds_69 post (wL_holds_9 post (m + 1)) (nI t) (nI (sm_c (hl_n mp) i)) (nI (sm_c (hl_b al ne ex) i)) (nI i) r d pl pp sk gv pr fb a1 a2 a3 a4 a5 a6 a7 a8 a9 a10 a11 := by
      intro r d pl pp sk gv pr fb a1 a2 a3 a4 a5 a6 a7 a8 a9 a10 a11 h t e1 hr
      rcases hr with ⟨r1, r2, r3⟩ | ⟨r1, r2, r3⟩ | ⟨r1, r2⟩
      · refine br_t r1 (hl_listed h A r2 r3 (fun u1 q1 => ?_))
        obtain ⟨d1, pl1, pp1, sk1, gv1, pr1, fb1, a1_1, a2_1, a3_1, a4_1, a5_1, a6_1, a7_1, a8_1, a9_1, a10_1, a11_1⟩ := u1
        have hn24 : hl_n mp i ≤ 24 := by have := hl_24 A (show i < 62 by omega); unfold hl_n; omega
        refine br_t (nI_pos' (by omega)) (nm_r (nI_add _ _) ?_)
        exact s95 r _ _ _ _ _ _ _ _ _ _ _ _ _ _ _ _ _ _ q1 t _ e1 rfl (Or.inr ⟨by rw [r1]; decide, fun y => by omega⟩)
      · refine br_f (by rw [r1]; decide) (s95 r _ _ _ _ _ _ _ _ _ _ _ _ _ _ _ _ _ _ h t _ e1 ?_ (Or.inl ⟨r1, r2, r3⟩))
        rw [sm_s, hl_n0 A (fun y => by omega), Nat.add_zero]
      · refine br_f (by rw [r1]; decide) (s95 r _ _ _ _ _ _ _ _ _ _ _ _ _ _ _ _ _ _ h t _ e1 ?_ (Or.inr ⟨by rw [r1]; decide, fun y => by rw [r2] at y; exact absurd y.1 (by decide)⟩))
        rw [sm_s, hl_n0 A (fun y => by rw [r2] at y; exact absurd y.1 (by decide)), Nat.add_zero]
    have mid : ∀ (r : Int32) (d pl pp sk gv pr fb : Int32) (a1 a2 a3 a4 a5 : Nat → Int32) (a6 : Nat → Int64) (a7 a8 a9 a10 a11 : Nat → Int32), hl_R (d, pl, pp, sk, gv, pr, fb, a1, a2, a3, a4, a5, a6, a7, a8, a9, a10, a11) mp g (nI P) f → al i = true → (r = 2 ∧ al i = true ∧ fo i = 1) ∨ (r = 1 ∧ al i = true ∧ fo i = 0) → (nI i ≤ 1 → wL_holds_69 post (wL_holds_9 post (m + 1)) (nI (cn_c al i - 1)) (nI (sm_c (hl_n mp) i)) (nI (sm_c (hl_b al ne ex) i)) (nI i) r d pl pp sk gv pr fb a1 a2 a3 a4 a5 a6 a7 a8 a9 a10 a11) ∧ (¬ nI i ≤ 1 → (r = 0 → wL_holds_69 post (wL_holds_9 post (m + 1)) (nI (cn_c al i - 1)) (nI (sm_c (hl_n mp) i)) (nI (sm_c (hl_b al ne ex) i)) (nI i) r d pl pp sk gv pr fb a1 a2 a3 a4 a5 a6 a7 a8 a9 a10 a11) ∧ (¬ r = 0 → ∀ x1 : Int32, x1 = nI (cn_c al i - 1) + 1 → wpX_parentOf (fun r_140 u => match u with | (d5, pl5, pp5, sk5, gv5, pr5, fb5, a1_5, a2_5, a3_5, a4_5, a5_5, a6_5, a7_5, a8_5, a9_5, a10_5, a11_5) => (wpX_nameOf (fun r_181 u => match u with | (d6, pl6, pp6, sk6, gv6, pr6, fb6, a1_6, a2_6, a3_6, a4_6, a5_6, a6_6, a7_6, a8_6, a9_6, a10_6, a11_6) => (wpX_find (fun r_222 u => match u with | (d7, pl7, pp7, sk7, gv7, pr7, fb7, a1_7, a2_7, a3_7, a4_7, a5_7, a6_7, a7_7, a8_7, a9_7, a10_7, a11_7) => ((r_222 = nI i → wL_holds_69 post (wL_holds_9 post (m + 1)) x1 (nI (sm_c (hl_n mp) i)) (nI (sm_c (hl_b al ne ex) i)) (nI i) r d7 pl7 pp7 sk7 gv7 pr7 fb7 a1_7 a2_7 a3_7 a4_7 a5_7 a6_7 a7_7 a8_7 a9_7 a10_7 a11_7) ∧ (¬ r_222 = nI i → post 0 (d7, pl7, pp7, sk7, gv7, pr7, fb7, a1_7, a2_7, a3_7, a4_7, a5_7, a6_7, a7_7, a8_7, a9_7, a10_7, a11_7)))) (d6, pl6, pp6, sk6, gv6, pr6, fb6, a1_6, a2_6, a3_6, a4_6, a5_6, a6_6, a7_6, a8_6, a9_6, a10_6, a11_6) r_140 r_181)) (d5, pl5, pp5, sk5, gv5, pr5, fb5, a1_5, a2_5, a3_5, a4_5, a5_5, a6_5, a7_5, a8_5, a9_5, a10_5, a11_5) (nI i))) (d, pl, pp, sk, gv, pr, fb, a1, a2, a3, a4, a5, a6, a7, a8, a9, a10, a11) (nI i))) := by
      intro r d pl pp sk gv pr fb a1 a2 a3 a4 a5 a6 a7 a8 a9 a10 a11 h y hr
      refine pk_le i 1 (fun z => ?_) (fun z => br_f (by rcases hr with hr | hr <;> rw [hr.1] <;> decide) (nm_r (nI_1 _) ?_))
      · have e : i = 1 := by omega
        refine s69 r _ _ _ _ _ _ _ _ _ _ _ _ _ _ _ _ _ _ h _ ?_ (hr.elim Or.inl (fun w => Or.inr (Or.inl w)))
        rw [cs, if_pos y, e]
        have a0 : cn_c al 1 = 0 := by
          rw [cn_s]
          have : ¬ al 0 = true := fun w => by have := (A.2.1 0 w).1; omega
          rw [if_neg this]
          rfl
        omega
      · refine hl_parentOf h A y (by omega) (fun u1 q1 => ?_)
        obtain ⟨d1, pl1, pp1, sk1, gv1, pr1, fb1, a1_1, a2_1, a3_1, a4_1, a5_1, a6_1, a7_1, a8_1, a9_1, a10_1, a11_1⟩ := u1
        dsimp only
        refine hl_nameOf q1 A y (by omega) (fun u2 q2 => ?_)
        obtain ⟨d2, pl2, pp2, sk2, gv2, pr2, fb2, a1_2, a2_2, a3_2, a4_2, a5_2, a6_2, a7_2, a8_2, a9_2, a10_2, a11_2⟩ := u2
        dsimp only
        refine hl_find q2 A y (by omega) (fun u3 q3 => ?_)
        obtain ⟨d3, pl3, pp3, sk3, gv3, pr3, fb3, a1_3, a2_3, a3_3, a4_3, a5_3, a6_3, a7_3, a8_3, a9_3, a10_3, a11_3⟩ := u3
        dsimp only
        refine br_t rfl (s69 r _ _ _ _ _ _ _ _ _ _ _ _ _ _ _ _ _ _ q3 _ ?_ (hr.elim Or.inl (fun w => Or.inr (Or.inl w))))
        rw [cs, if_pos y]
        have := c1 (by omega)
        omega
    refine hl_kindOf h A (by omega) (fun y u1 q1 => ?_) (fun y w u1 q1 => ?_) (fun y w u1 q1 => ?_)
    · obtain ⟨d1, pl1, pp1, sk1, gv1, pr1, fb1, a1_1, a2_1, a3_1, a4_1, a5_1, a6_1, a7_1, a8_1, a9_1, a10_1, a11_1⟩ := u1
      dsimp only
      have hi1 : i ≠ 1 := fun e => by
        have := A.1.1
        rw [← e, y] at this
        exact absurd this (by decide)
      refine pk_le i 1 (fun z => absurd z (by omega)) (fun _ => br_t rfl (s69 0 _ _ _ _ _ _ _ _ _ _ _ _ _ _ _ _ _ _ q1 _ ?_ (Or.inr (Or.inr ⟨rfl, y⟩))))
      rw [cs, y]
      rfl
    · obtain ⟨d1, pl1, pp1, sk1, gv1, pr1, fb1, a1_1, a2_1, a3_1, a4_1, a5_1, a6_1, a7_1, a8_1, a9_1, a10_1, a11_1⟩ := u1
      exact mid 1 _ _ _ _ _ _ _ _ _ _ _ _ _ _ _ _ _ _ q1 y (Or.inr ⟨rfl, y, w⟩)
    · obtain ⟨d1, pl1, pp1, sk1, gv1, pr1, fb1, a1_1, a2_1, a3_1, a4_1, a5_1, a6_1, a7_1, a8_1, a9_1, a10_1, a11_1⟩ := u1
      exact mid 2 _ _ _ _ _ _ _ _ _ _ _ _ _ _ _ _ _ _ q1 y (Or.inl ⟨rfl, y, w⟩)
theorem hl_holds {post : Int32 → St1 → Prop} (A : hl_H mp G P C f al fo par nm ne ex) (h : hl_R u mp g (nI P) f) (Hp : ∀ u', hl_R u' mp g (nI P) f → post 1 u') : wpL_holds post u := by
  obtain ⟨d, pl, pp, sk, gv, pr, fb, a1_, a2_, a3_, a4_, a5_, a6_, a7_, a8_, a9_, a10_, a11_⟩ := u
  have a0 : ¬ al 0 = true := fun w => by have := (A.2.1 0 w).1; omega
  have h0 : cn_c al 1 = 0 := by
    rw [cn_s, if_neg a0]
    rfl
  have h1 : sm_c (hl_n mp) 1 = 0 := by
    rw [sm_s, hl_n0 A (fun y => a0 y.1)]
    rfl
  have h2 : sm_c (hl_b al ne ex) 1 = 0 := by
    rw [sm_s]
    unfold hl_b
    rw [if_neg a0]
    rfl
  have := hl_h9 A Hp 61 1 _ _ _ _ _ _ _ _ _ _ _ _ _ _ _ _ _ _ (by omega) (by omega) h
  rw [h0, h1, h2] at this
  exact ⟨62, this⟩
end
end
section
/-! the table under the catalog's changes: plain laws -/
theorem mp_p1 {mp : Nat → Nat → Option Int64} {t k : Nat} {v : Int64} : mp_put mp t k v t k = some v := if_pos ⟨rfl, rfl⟩
theorem mp_p0 {mp : Nat → Nat → Option Int64} {t k a b : Nat} {v : Int64} (h : ¬ (a = t ∧ b = k)) : mp_put mp t k v a b = mp a b := if_neg h
theorem mp_d1 {mp : Nat → Nat → Option Int64} {t k : Nat} : mp_del mp t k t k = none := if_pos ⟨rfl, rfl⟩
theorem mp_d0 {mp : Nat → Nat → Option Int64} {t k a b : Nat} (h : ¬ (a = t ∧ b = k)) : mp_del mp t k a b = mp a b := if_neg h
theorem mp_po {mp : Nat → Nat → Option Int64} {t k a : Nat} {v : Int64} (h : a ≠ t) : mp_put mp t k v a = mp a := by
  funext b; exact mp_p0 (fun z => h z.1)
theorem mp_do {mp : Nat → Nat → Option Int64} {t k a : Nat} (h : a ≠ t) : mp_del mp t k a = mp a := by
  funext b; exact mp_d0 (fun z => h z.1)
theorem cn_kext {f f' : Nat → Option Int64} {n : Nat} (h : ∀ k, k < n → (f' k).isSome = (f k).isSome) : cn_k f' n = cn_k f n := cn_ext h
theorem cn_kput {mp : Nat → Nat → Option Int64} {t k : Nat} {v : Int64} {n : Nat} (hk : k < n) (h : mp t k = none) : cn_k (mp_put mp t k v t) n = cn_k (mp t) n + 1 :=
  cn_add (P := fun k => (mp t k).isSome) (Q := fun k' => (mp_put mp t k v t k').isSome) hk (by rw [h]; rfl) (by rw [mp_p1]; rfl) (fun i _ hne => by rw [mp_p0 (fun z => hne z.2)])
theorem cn_kover {mp : Nat → Nat → Option Int64} {t k : Nat} {v w : Int64} {n : Nat} (h : mp t k = some w) : cn_k (mp_put mp t k v t) n = cn_k (mp t) n :=
  cn_kext (fun i _ => by
    by_cases e : i = k
    · rw [e, mp_p1, h]; rfl
    · rw [mp_p0 (fun z => e z.2)])
theorem cn_kdel {mp : Nat → Nat → Option Int64} {t k : Nat} {w : Int64} {n : Nat} (hk : k < n) (h : mp t k = some w) : cn_k (mp t) n = cn_k (mp_del mp t k t) n + 1 :=
  cn_add (P := fun k' => (mp_del mp t k t k').isSome) (Q := fun k => (mp t k).isSome) hk (by rw [mp_d1]; rfl) (by rw [h]; rfl) (fun i _ hne => by rw [mp_d0 (fun z => hne z.2)])
theorem cn_kle {f f' : Nat → Option Int64} {n : Nat} (h : ∀ k v, f' k = some v → (f k).isSome = true) : cn_k f' n ≤ cn_k f n := cn_imp (fun i _ hp => by
  rcases e : f' i with _ | v
  · rw [e] at hp; exact absurd hp (by decide)
  · exact h i v e)
theorem cn_kput1 {mp : Nat → Nat → Option Int64} {t k : Nat} {v : Int64} {n : Nat} (hk : k < n) : cn_k (mp_put mp t k v t) n ≤ cn_k (mp t) n + 1 := by
  rcases h : mp t k with _ | w
  · rw [cn_kput hk h]; omega
  · rw [cn_kover h]; omega
theorem cn_kdel1 {mp : Nat → Nat → Option Int64} {t k : Nat} {n : Nat} : cn_k (mp_del mp t k t) n ≤ cn_k (mp t) n := cn_kle (fun k' v h => by
  by_cases e : k' = k
  · rw [e, mp_d1] at h; exact absurd h (by simp)
  · rw [mp_d0 (fun z => e z.2)] at h; rw [h]; rfl)
/-- one summand changed -/
theorem sm_one {f f' : Nat → Nat} {x n : Nat} (hx : x < n) (h : ∀ i, i < n → i ≠ x → f' i = f i) : sm_c f' n + f x = sm_c f n + f' x := by
  induction n with
  | zero => omega
  | succ n ih =>
    rw [sm_s, sm_s]
    by_cases e : x = n
    · subst e
      rw [sm_ext (f := f') (f' := f) (fun i hi => h i (by omega) (by omega))]
      omega
    · have := ih (by omega) (fun i hi hne => h i (by omega) hne)
      rw [h n (by omega) (by omega)]
      omega
theorem hl_rce {ne ne' : Nat → Nat} {ex ex' : Nat → Nat → Nat} {i : Nat} (h : ne' i = ne i) (h2 : ∀ k, ex' i k = ex i k) : hl_rc ne' ex' i = hl_rc ne ex i := by
  unfold hl_rc hl_E
  rw [h, h2, h2, h2]
section
variable {mp mp' : Nat → Nat → Option Int64} {f f' : Int32} {G P C C' : Nat} {al : Nat → Bool} {fo par nm ne ne' : Nat → Nat} {ex ex' : Nat → Nat → Nat}
theorem hl_Hc (A : hl_H mp G P C f al fo par nm ne ex) (h : C ≤ C') (h2 : C' ≤ 65) : hl_H mp G P C' f al fo par nm ne ex := by
  obtain ⟨A1, A2, A3, A4, A5, A6, A7, A8, A9⟩ := A
  exact ⟨A1, A2, A3, A4, A5, A6, A7, ⟨A8.1, by omega, h2⟩, A9⟩
/-- two items never share a record -/
theorem hl_inj (A : hl_H mp G P C f al fo par nm ne ex) {i j : Nat} (hi : al i = true) (hi1 : i ≠ 1) (hj : al j = true) (hj1 : j ≠ 1) (h : 512 * par i + nm i + 1 = 512 * par j + nm j + 1) : i = j := by
  have a := (A.2.2.1 i hi hi1).2.2
  have b := (A.2.2.1 j hj hj1).2.2
  rw [h, b] at a
  have r1 := hl_rcb A hi
  have r2 := hl_rcb A hj
  have e := (pk_lEQ (by omega) (by omega)).mp (Option.some.inj a)
  rw [e] at r2
  omega
/-- the extents of one file changed -/
theorem hl_upd (A : hl_H mp G P C f al fo par nm ne ex) {i : Nat} (hi : al i = true) (hi1 : i ≠ 1) (hfo : fo i = 0) (hn : ∀ j, j ≠ i → ne' j = ne j) (hx : ∀ j k, j ≠ i → ex' j k = ex j k)
    (h6 : ne' i ≤ 6) (hok : ∀ k, k < ne' i → ex' i k % 128 + ex' i k / 128 ≤ 96 ∧ ex' i k < 8192 ∧ (3 ≤ k → mp' 1 (8 * i + k) = some (lN (ex' i k))))
    (m1 : mp' 0 (512 * par i + nm i + 1) = some (lN (hl_rc ne' ex' i))) (m0 : ∀ k, k ≠ 512 * par i + nm i + 1 → mp' 0 k = mp 0 k) (m2 : ∀ j k, j ≠ i → k < 8 → mp' 1 (8 * j + k) = mp 1 (8 * j + k))
    (hc : cn_k (mp' 1) 65536 + P ≤ C') (hC : C' ≤ 65) (hf : f' + nI (hl_bl ne' ex' i) = f + nI (hl_bl ne ex i)) : hl_H mp' G P C' f' al fo par nm ne' ex' := by
  have A' := A
  obtain ⟨A1, A2, A3, A4, A5, A6, A7, A8, A9⟩ := A'
  have hib := A2 i hi
  refine ⟨A1, ?_, ?_, ?_, ?_, ?_, A7, ⟨?_, hc, hC⟩, ?_⟩
  · intro j hj
    obtain ⟨b1, b2, b3, b4, b5, b6, b7⟩ := A2 j hj
    exact ⟨b1, b2, b3, b4, b5, b6, by rw [m0 _ (by omega)]; exact b7⟩
  · intro j hj hj1
    obtain ⟨b1, b2, b3⟩ := A3 j hj hj1
    refine ⟨b1, b2, ?_⟩
    by_cases e : j = i
    · rw [e]; exact m1
    · rw [m0 _ (fun z => e (hl_inj A hj hj1 hi hi1 z)), b3, hl_rce (hn j e) (fun k => hx j k e)]
  · intro j hj
    by_cases e : j = i
    · rw [e]; exact ⟨h6, fun z => by omega⟩
    · rw [hn j e]; exact A4 j hj
  · intro j k hj hk
    by_cases e : j = i
    · rw [e] at hk ⊢; exact hok k hk
    · rw [hn j e] at hk
      rw [hx j k e]
      have := (A4 j hj).1
      rw [m2 j k e (by omega)]
      exact A5 j k hj hk
  · intro k v hk
    by_cases e : k = 512 * par i + nm i + 1
    · exact ⟨i, hi, Or.inr ⟨hi1, e⟩⟩
    · rw [m0 k e] at hk; exact A6 k v hk
  · rw [← A8.1]
    refine cn_kext (fun k _ => ?_)
    by_cases e : k = 512 * par i + nm i + 1
    · rw [e, m1, (A3 i hi hi1).2.2]; rfl
    · rw [m0 k e]
  · have h := sm_one (f := fun j => if al j = true then hl_bl ne ex j else 0) (f' := fun j => if al j = true then hl_bl ne' ex' j else 0) (show i < 62 by omega) (fun j _ hne => by
      unfold hl_bl
      rw [hn j hne, sm_ext (fun k _ => by rw [hx j k hne])])
    simp only [hi, if_true] at h
    have e1 : nI (sm_c (fun j => if al j = true then hl_bl ne' ex' j else 0) 62) + nI (hl_bl ne ex i) = nI (sm_c (fun j => if al j = true then hl_bl ne ex j else 0) 62) + nI (hl_bl ne' ex' i) := by
      rw [nI_add, nI_add, h]
    generalize nI (sm_c (fun j => if al j = true then hl_bl ne' ex' j else 0) 62) = X at *
    generalize nI (sm_c (fun j => if al j = true then hl_bl ne ex j else 0) 62) = Y at *
    generalize nI (hl_bl ne ex i) = Z at *
    generalize nI (hl_bl ne' ex' i) = U at *
    grind
/-- an item made -/
theorem hl_mk (A : hl_H mp G P C f al fo par nm ne ex) {q m b : Nat} (hq : al q = true) (hfq : fo q = 1) (hm : m ≤ 255) (hb : b ≤ 1) (hno : mp 0 (512 * q + m + 1) = none) (hP : P < 24) (hG : G < 60) (hC : C + 1 ≤ 65) :
    hl_H (mp_put (mp_put mp 0 (512 * q + m + 1) (lN (G + 2))) 0 (512 * (G + 2)) (lN (b + 2 * q + 256 * m))) (G + 1) (P + 1) (C + 1) f (fun j => if j = G + 2 then true else al j) (fun j => if j = G + 2 then b else fo j) (fun j => if j = G + 2 then q else par j) (fun j => if j = G + 2 then m else nm j) (fun j => if j = G + 2 then 0 else ne j) ex ∧ mp_put mp 0 (512 * q + m + 1) (lN (G + 2)) 0 (512 * (G + 2)) = none := by
  have A' := A
  obtain ⟨A1, A2, A3, A4, A5, A6, A7, A8, A9⟩ := A'
  have hqb := A2 q hq
  have hal : ∀ j, al j = true → j ≠ G + 2 := fun j hj => by have := A2 j hj; omega
  have hal0 : al (G + 2) = false := by
    rcases e : al (G + 2) with _ | _
    · rfl
    · exact absurd rfl (hal _ e)
  have hqi : q ≠ G + 2 := hal q hq
  have n2 : mp_put mp 0 (512 * q + m + 1) (lN (G + 2)) 0 (512 * (G + 2)) = none := by
    rw [mp_p0 (by omega)]; exact hl_none A hal0
  have rd : ∀ k, k ≠ 512 * q + m + 1 → k ≠ 512 * (G + 2) → mp_put (mp_put mp 0 (512 * q + m + 1) (lN (G + 2))) 0 (512 * (G + 2)) (lN (b + 2 * q + 256 * m)) 0 k = mp 0 k := fun k h1 h2 => by
    rw [mp_p0 (fun z => h2 z.2), mp_p0 (fun z => h1 z.2)]
  refine ⟨⟨?_, ?_, ?_, ?_, ?_, ?_, ?_, ?_, ?_⟩, n2⟩
  · dsimp only
    rw [if_neg (by omega), if_neg (by omega), if_neg (by omega), if_neg (by omega)]
    exact A1
  · intro j hj
    dsimp only at hj ⊢
    by_cases e : j = G + 2
    · subst e
      unfold hl_tv
      simp only [if_true]
      rw [mp_p1]
      exact ⟨by omega, by omega, by omega, hb, by omega, hm, rfl⟩
    · rw [if_neg e] at hj
      obtain ⟨b1, b2, b3, b4, b5, b6, b7⟩ := A2 j hj
      unfold hl_tv at b7 ⊢
      simp only [if_neg e]
      rw [rd _ (by omega) (by omega)]
      exact ⟨b1, b2, by omega, b4, b5, b6, b7⟩
  · intro j hj hj1
    dsimp only at hj ⊢
    by_cases e : j = G + 2
    · subst e
      simp only [if_true]
      rw [if_neg hqi, if_neg hqi]
      refine ⟨hq, hfq, ?_⟩
      rw [mp_p0 (by omega), mp_p1]
      unfold hl_rc hl_E
      simp only [if_true, Nat.not_lt_zero, if_false]
    · rw [if_neg e] at hj
      obtain ⟨b1, b2, b3⟩ := A3 j hj hj1
      rw [if_neg e, if_neg e, if_neg (hal _ b1), if_neg (hal _ b1)]
      refine ⟨b1, b2, ?_⟩
      have hjb := A2 j hj
      rw [rd _ (fun z => by rw [z, hno] at b3; exact absurd b3 (by simp)) (by omega), b3, hl_rce (ne := ne) (ne' := fun j => if j = G + 2 then 0 else ne j) (ex := ex) (ex' := ex) (by rw [if_neg e]) (fun k => rfl)]
  · intro j hj
    dsimp only at hj ⊢
    by_cases e : j = G + 2
    · rw [if_pos e]; exact ⟨by omega, fun _ => rfl⟩
    · rw [if_neg e] at hj
      rw [if_neg e, if_neg e]
      exact A4 j hj
  · intro j k hj hk
    dsimp only at hj hk ⊢
    by_cases e : j = G + 2
    · rw [if_pos e] at hk; omega
    · rw [if_neg e] at hj hk
      rw [mp_po (by omega), mp_po (by omega)]
      exact A5 j k hj hk
  · intro k v hk
    by_cases e1 : k = 512 * (G + 2)
    · exact ⟨G + 2, by dsimp only; rw [if_pos rfl], Or.inl e1⟩
    · by_cases e2 : k = 512 * q + m + 1
      · refine ⟨G + 2, by dsimp only; rw [if_pos rfl], Or.inr ⟨by omega, ?_⟩⟩
        dsimp only
        rw [if_pos rfl, if_pos rfl]
        exact e2
      · rw [rd k e2 e1] at hk
        obtain ⟨j, hj, h⟩ := A6 k v hk
        refine ⟨j, ?_, ?_⟩
        · dsimp only; rw [if_neg (hal j hj)]; exact hj
        · dsimp only; rw [if_neg (hal j hj), if_neg (hal j hj)]; exact h
  · have := cn_add (P := al) (Q := fun j => if j = G + 2 then true else al j) (show G + 2 < 62 by omega) hal0 (by rw [if_pos rfl]) (fun j _ hne => by rw [if_neg hne])
    omega
  · have c1 := cn_kput (v := lN (G + 2)) (n := 65536) (show 512 * q + m + 1 < 65536 by omega) hno
    have c2 := cn_kput (v := lN (b + 2 * q + 256 * m)) (n := 65536) (show 512 * (G + 2) < 65536 by omega) n2
    rw [mp_po (a := 1) (by omega), mp_po (a := 1) (by omega)]
    omega
  · rw [← A9]
    congr 2
    refine sm_ext (fun j _ => ?_)
    dsimp only
    by_cases e : j = G + 2
    · subst e
      simp only [if_true, hal0, Bool.false_eq_true, if_false]
      unfold hl_bl
      simp only [if_true]
      rfl
    · simp only [if_neg e]
      unfold hl_bl
      simp only [if_neg e]
/-- an item moved -/
theorem hl_mv (A : hl_H mp G P C f al fo par nm ne ex) {i q m : Nat} (hi : al i = true) (hi1 : i ≠ 1) (hq : al q = true) (hfq : fo q = 1) (hm : m ≤ 255) (hno : mp 0 (512 * q + m + 1) = none) :
    hl_H (mp_put (mp_put (mp_del mp 0 (512 * par i + nm i + 1)) 0 (512 * q + m + 1) (lN (hl_rc ne ex i))) 0 (512 * i) (lN (fo i + 2 * q + 256 * m))) G P C f al fo (fun j => if j = i then q else par j) (fun j => if j = i then m else nm j) ne ex := by
  have A' := A
  obtain ⟨A1, A2, A3, A4, A5, A6, A7, A8, A9⟩ := A'
  have hqb := A2 q hq
  have hib := A2 i hi
  have hi3 := A3 i hi hi1
  have hne : 512 * q + m + 1 ≠ 512 * par i + nm i + 1 := fun z => by rw [z, hi3.2.2] at hno; exact absurd hno (by simp)
  have rd : ∀ k, k ≠ 512 * q + m + 1 → k ≠ 512 * i → k ≠ 512 * par i + nm i + 1 → mp_put (mp_put (mp_del mp 0 (512 * par i + nm i + 1)) 0 (512 * q + m + 1) (lN (hl_rc ne ex i))) 0 (512 * i) (lN (fo i + 2 * q + 256 * m)) 0 k = mp 0 k := fun k h1 h2 h3 => by
    rw [mp_p0 (fun z => h2 z.2), mp_p0 (fun z => h1 z.2), mp_d0 (fun z => h3 z.2)]
  refine ⟨?_, ?_, ?_, A4, ?_, ?_, A7, ?_, A9⟩
  · dsimp only
    rw [if_neg (fun e => hi1 e.symm), if_neg (fun e => hi1 e.symm)]
    exact A1
  · intro j hj
    obtain ⟨b1, b2, b3, b4, b5, b6, b7⟩ := A2 j hj
    dsimp only
    by_cases e : j = i
    · subst e
      unfold hl_tv
      simp only [if_true]
      rw [mp_p1]
      exact ⟨b1, b2, b3, b4, by omega, hm, rfl⟩
    · unfold hl_tv at b7 ⊢
      simp only [if_neg e]
      rw [rd _ (by omega) (by omega) (by omega)]
      exact ⟨b1, b2, b3, b4, b5, b6, b7⟩
  · intro j hj hj1
    obtain ⟨b1, b2, b3⟩ := A3 j hj hj1
    have hjb := A2 j hj
    dsimp only
    by_cases e : j = i
    · subst e
      rw [if_pos rfl, if_pos rfl]
      refine ⟨hq, hfq, ?_⟩
      rw [mp_p0 (by omega), mp_p1]
    · rw [if_neg e, if_neg e]
      refine ⟨b1, b2, ?_⟩
      rw [rd _ (fun z => by rw [z, hno] at b3; exact absurd b3 (by simp)) (by omega) (fun z => e (hl_inj A hj hj1 hi hi1 z))]
      exact b3
  · intro j k hj hk
    rw [mp_po (by omega), mp_po (by omega), mp_do (by omega)]
    exact A5 j k hj hk
  · intro k v hk
    by_cases e1 : k = 512 * i
    · exact ⟨i, hi, Or.inl e1⟩
    · by_cases e2 : k = 512 * q + m + 1
      · refine ⟨i, hi, Or.inr ⟨hi1, ?_⟩⟩
        dsimp only
        rw [if_pos rfl, if_pos rfl]
        exact e2
      · by_cases e3 : k = 512 * par i + nm i + 1
        · rw [mp_p0 (fun z => e1 z.2), mp_p0 (fun z => e2 z.2), e3, mp_d1] at hk
          exact absurd hk (by simp)
        · rw [rd k e2 e1 e3] at hk
          obtain ⟨j, hj, h⟩ := A6 k v hk
          refine ⟨j, hj, ?_⟩
          dsimp only
          by_cases e : j = i
          · subst e
            rcases h with h | h
            · exact absurd h e1
            · exact absurd h.2 e3
          · rw [if_neg e, if_neg e]; exact h
  · have c1 := cn_kdel (n := 65536) (show 512 * par i + nm i + 1 < 65536 by omega) hi3.2.2
    have c2 := cn_kput (mp := mp_del mp 0 (512 * par i + nm i + 1)) (v := lN (hl_rc ne ex i)) (n := 65536) (show 512 * q + m + 1 < 65536 by omega) (by rw [mp_d0 (fun z => hne z.2)]; exact hno)
    have c3 := cn_kover (mp := mp_put (mp_del mp 0 (512 * par i + nm i + 1)) 0 (512 * q + m + 1) (lN (hl_rc ne ex i))) (v := lN (fo i + 2 * q + 256 * m)) (n := 65536) (show mp_put (mp_del mp 0 (512 * par i + nm i + 1)) 0 (512 * q + m + 1) (lN (hl_rc ne ex i)) 0 (512 * i) = some (lN (hl_tv fo par nm i)) by rw [mp_p0 (by omega), mp_d0 (by omega)]; exact hib.2.2.2.2.2.2)
    rw [mp_po (a := 1) (by omega), mp_po (a := 1) (by omega), mp_do (a := 1) (by omega)]
    omega
/-- an item taken out -/
theorem hl_er (A : hl_H mp G P C f al fo par nm ne ex) {i : Nat} (hi : al i = true) (hi1 : i ≠ 1) (hch : ∀ j, al j = true → j ≠ 1 → par j ≠ i) (m0 : mp' 0 = mp 0) (m2 : ∀ j k, j ≠ i → k < 8 → mp' 1 (8 * j + k) = mp 1 (8 * j + k)) (hc : cn_k (mp' 1) 65536 ≤ cn_k (mp 1) 65536) (hf : f' = f + nI (hl_bl ne ex i)) :
    1 ≤ P ∧ hl_H (mp_del (mp_del mp' 0 (512 * par i + nm i + 1)) 0 (512 * i)) G (P - 1) C f' (fun j => if j = i then false else al j) fo par nm ne ex := by
  have A' := A
  obtain ⟨A1, A2, A3, A4, A5, A6, A7, A8, A9⟩ := A'
  have hib := A2 i hi
  have hi3 := A3 i hi hi1
  have c7 := cn_add (P := fun j => if j = i then false else al j) (Q := al) (show i < 62 by omega) (by rw [if_pos rfl]) hi (fun j _ hne => by rw [if_neg hne])
  have c7' : 1 ≤ cn_c (fun j => if j = i then false else al j) 62 := cn_pos (show 1 < 62 by omega) (by rw [if_neg (fun e => hi1 e.symm)]; exact A1.1)
  have hP : 1 ≤ P := by omega
  have rd : ∀ k, k ≠ 512 * i → k ≠ 512 * par i + nm i + 1 → mp_del (mp_del mp' 0 (512 * par i + nm i + 1)) 0 (512 * i) 0 k = mp 0 k := fun k h1 h2 => by
    rw [mp_d0 (fun z => h1 z.2), mp_d0 (fun z => h2 z.2), m0]
  have alt : ∀ j, (if j = i then false else al j) = true → j ≠ i ∧ al j = true := fun j h => by
    by_cases e : j = i
    · rw [if_pos e] at h; exact absurd h (by decide)
    · rw [if_neg e] at h; exact ⟨e, h⟩
  refine ⟨hP, ?_, ?_, ?_, ?_, ?_, ?_, ?_, ?_, ?_⟩
  · dsimp only
    rw [if_neg (fun e => hi1 e.symm)]
    exact A1
  · intro j hj
    obtain ⟨e, hj⟩ := alt j hj
    obtain ⟨b1, b2, b3, b4, b5, b6, b7⟩ := A2 j hj
    exact ⟨b1, b2, b3, b4, b5, b6, by rw [rd _ (by omega) (by omega)]; exact b7⟩
  · intro j hj hj1
    obtain ⟨e, hj⟩ := alt j hj
    obtain ⟨b1, b2, b3⟩ := A3 j hj hj1
    have hjb := A2 j hj
    dsimp only
    rw [if_neg (hch j hj hj1)]
    exact ⟨b1, b2, by rw [rd _ (by omega) (fun z => e (hl_inj A hj hj1 hi hi1 z))]; exact b3⟩
  · intro j hj
    exact A4 j (alt j hj).2
  · intro j k hj hk
    obtain ⟨e, hj⟩ := alt j hj
    have := (A4 j hj).1
    rw [mp_do (by omega), mp_do (by omega), m2 j k e (by omega)]
    exact A5 j k hj hk
  · intro k v hk
    by_cases e1 : k = 512 * i
    · rw [e1, mp_d1] at hk; exact absurd hk (by simp)
    · by_cases e2 : k = 512 * par i + nm i + 1
      · rw [mp_d0 (fun z => e1 z.2), e2, mp_d1] at hk; exact absurd hk (by simp)
      · rw [rd k e1 e2] at hk
        obtain ⟨j, hj, h⟩ := A6 k v hk
        have hne : j ≠ i := fun z => by
          subst z
          rcases h with h | h
          · exact e1 h
          · exact e2 h.2
        exact ⟨j, by dsimp only; rw [if_neg hne]; exact hj, h⟩
  · omega
  · have c1 := cn_kdel (mp := mp') (n := 65536) (show 512 * par i + nm i + 1 < 65536 by omega) (by rw [m0]; exact hi3.2.2)
    have c2 := cn_kdel (mp := mp_del mp' 0 (512 * par i + nm i + 1)) (n := 65536) (show 512 * i < 65536 by omega) (by rw [mp_d0 (by omega), m0]; exact hib.2.2.2.2.2.2)
    rw [m0] at c1
    rw [mp_do (a := 1) (by omega), mp_do (a := 1) (by omega)]
    omega
  · have h := sm_one (f := fun j => if al j = true then hl_bl ne ex j else 0) (f' := fun j => if (if j = i then false else al j) = true then hl_bl ne ex j else 0) (show i < 62 by omega) (fun j _ hne => by
      simp only [if_neg hne])
    simp only [hi, if_true, Bool.false_eq_true, if_false, Nat.add_zero] at h
    rw [← A9, ← h, hf, ← nI_add]
    grind
end
end
section
/-! the steps that the changes are made of -/
theorem cn_ksum {mp : Nat → Nat → Option Int64} {t k : Nat} {v : Int64} {n : Nat} (ht : t < 2) (hk : k < n) : cn_k (mp_put mp t k v 0) n + cn_k (mp_put mp t k v 1) n ≤ cn_k (mp 0) n + cn_k (mp 1) n + 1 := by
  have h : t = 0 ∨ t = 1 := by omega
  rcases h with e | e <;> subst e
  · rw [mp_po (a := 1) (by omega)]
    have := cn_kput1 (mp := mp) (t := 0) (v := v) hk
    omega
  · rw [mp_po (a := 0) (by omega)]
    have := cn_kput1 (mp := mp) (t := 1) (v := v) hk
    omega
section
variable {mp : Nat → Nat → Option Int64} {g p f f0 : Int32} {G P C : Nat} {al : Nat → Bool} {fo par nm ne : Nat → Nat} {ex : Nat → Nat → Nat} {u : St1}
theorem hl_90 (A : hl_H mp G P C f0 al fo par nm ne ex) : cn_k (mp 0) 65536 + cn_k (mp 1) 65536 ≤ 90 := by
  have a7 := A.2.2.2.2.2.2.1
  have a8 := A.2.2.2.2.2.2.2.1
  omega
theorem hl_put {post : St1 → Prop} {t k : Nat} {v : Int64} (h : hl_R u mp g p f) (ht : t < 2) (hk : k < 65536) (hc : cn_k (mp 0) 65536 + cn_k (mp 1) 65536 ≤ 94) (Hp : ∀ u', hl_R u' (mp_put mp t k v) g p f → post u') : wpX_putRecord post u (nI t) (nI k) v := by
  obtain ⟨d, pl, pp, sk, gv, pr, fb, a1_, a2_, a3_, a4_, a5_, a6_, a7_, a8_, a9_, a10_, a11_⟩ := u
  obtain ⟨rfl, rfl, rfl, R⟩ := h
  have := cn_ksum (mp := mp) (v := v) (n := 65536) ht hk
  exact tr_put R ht hk (by omega) (fun d sk b1 b2 b3 b4 b5 b6 b7 b8 b9 b10 R' => Hp _ ⟨rfl, rfl, rfl, R'⟩)
theorem hl_drop {post : St1 → Prop} {t k : Nat} (h : hl_R u mp g p f) (ht : t < 2) (hk : k < 65536) (Hp : ∀ u', hl_R u' (mp_del mp t k) g p f → post u') : wpX_dropRecord post u (nI t) (nI k) := by
  obtain ⟨d, pl, pp, sk, gv, pr, fb, a1_, a2_, a3_, a4_, a5_, a6_, a7_, a8_, a9_, a10_, a11_⟩ := u
  obtain ⟨rfl, rfl, rfl, R⟩ := h
  exact tr_dropR R ht hk (fun d b1 b2 b4 b5 b6 b7 b8 b9 b10 R' => Hp _ ⟨rfl, rfl, rfl, R'⟩)
end
section
variable {d pl pp sk gv pr fb : Int32} {a1 a2 a3 a4 a5 : Nat → Int32} {a6 : Nat → Int64} {a7 a8 a9 a10 a11 : Nat → Int32} {mp : Nat → Nat → Option Int64}
theorem hl_mark14 {post : St1 → Prop} {x2 : Int32} {s l : Nat} (hsl : s + l ≤ 96) (R : cs_R a1 a2 a3 a4 a5 a6 a7 a8 mp) (H0 : x2 = 0 → ∀ u', hl_R u' mp gv pr (fb + nI l) → post u') (H1 : x2 ≠ 0 → ∀ u', hl_R u' mp gv pr (fb + -nI l) → post u') :
    ∀ m b a11, b + m = s + l → wX_mark_14 post x2 (nI s) (nI l) d pl pp sk gv pr fb (m + 1) (nI b) a1 a2 a3 a4 a5 a6 a7 a8 a9 a10 a11 := by
  intro m
  induction m with
  | zero =>
    intro b a11 hb
    refine pk_le (s + l) b (fun _ => ?_) (fun z => absurd z (by omega)) (nI_add s l) rfl
    exact br_c (fun z => nm_e (H0 z _ ⟨rfl, rfl, rfl, R⟩)) (fun z => nm_e (H1 z _ ⟨rfl, rfl, rfl, R⟩))
  | succ m ih =>
    intro b a11 hb
    refine pk_le (s + l) b (fun z => absurd z (by omega)) (fun _ => ⟨pk_in b 96 (by omega), nm_e (nm_r (nI_1 b) (ih (b + 1) _ (by omega)))⟩) (nI_add s l) rfl
theorem hl_fit4 {post : Int32 → Prop} {l : Nat} (hl : 1 ≤ l) (hl2 : l ≤ 96) (Hs : ∀ s, s + l ≤ 96 → post (nI s)) (Hn : post (-1)) : ∀ m b r, b + m = 96 → r ≤ b → wX_firstFit_4 post (nI l) d pl pp sk gv pr fb a1 a2 a3 a4 a5 a6 a7 a8 a9 a10 a11 (m + 1) (nI r) (nI b) := by
  intro m
  induction m with
  | zero =>
    intro b r hb hr
    exact pk_le 96 b (fun _ => Hn) (fun z => absurd z (by omega))
  | succ m ih =>
    intro b r hb hr
    refine pk_le 96 b (fun z => absurd z (by omega)) (fun _ => ⟨pk_in b 96 (by omega), br_c (fun _ => ?_) (fun _ => ?_)⟩)
    · refine pk_eq (r + 1) l (fun e => ?_) (fun e => nm_r (nI_1 b) ?_) (nI_1 r) rfl
      · have : nI b - nI l + 1 = nI (b + 1 - l) := by
          rw [← pk_sub (show l ≤ b + 1 by omega), ← nI_1]
          grind
        rw [this]
        exact Hs _ (by omega)
      · rw [nI_1]
        exact ih (b + 1) (r + 1) (by omega) (by omega)
    · refine pk_eq 0 l (fun e => absurd e (by omega)) (fun e => nm_r (nI_1 b) ?_)
      exact ih (b + 1) 0 (by omega) (by omega)
end
section
variable {mp : Nat → Nat → Option Int64} {g p f f0 : Int32} {G P C : Nat} {al : Nat → Bool} {fo par nm ne : Nat → Nat} {ex : Nat → Nat → Nat} {u : St1}
theorem hl_mark {post : St1 → Prop} {x : Nat} {x2 : Int32} (h : hl_R u mp g p f) (hx : x < 2 ^ 31) (ok : x % 128 + x / 128 ≤ 96) (H0 : x2 = 0 → ∀ u', hl_R u' mp g p (f + nI (x / 128)) → post u') (H1 : x2 ≠ 0 → ∀ u', hl_R u' mp g p (f + -nI (x / 128)) → post u') : wpX_mark post u (nI x) x2 := by
  obtain ⟨d, pl, pp, sk, gv, pr, fb, a1_, a2_, a3_, a4_, a5_, a6_, a7_, a8_, a9_, a10_, a11_⟩ := u
  obtain ⟨rfl, rfl, rfl, R⟩ := h
  unfold wpX_mark
  dsimp only
  unfold wpX_extentStart wpX_extentLength
  rw [bw_st, bw_len hx]
  exact ⟨x / 128 + 1, hl_mark14 ok R H0 H1 (x / 128) (x % 128) _ rfl⟩
theorem hl_fit {post : Int32 → Prop} {l : Nat} (hl : 1 ≤ l) (hl2 : l ≤ 96) (Hs : ∀ s, s + l ≤ 96 → post (nI s)) (Hn : post (-1)) : wpX_firstFit post u (nI l) := by
  obtain ⟨d, pl, pp, sk, gv, pr, fb, a1_, a2_, a3_, a4_, a5_, a6_, a7_, a8_, a9_, a10_, a11_⟩ := u
  exact ⟨97, hl_fit4 hl hl2 Hs Hn 96 0 0 (by omega) (by omega)⟩
theorem hl_w5 {post : Int32 → St1 → Prop} {x2 : Int32} (Hp : ∀ r u', hl_R u' mp g p f → post r u') : ∀ m s a (d pl pp sk gv pr fb : Int32) (a1 a2 a3 a4 a5 : Nat → Int32) (a6 : Nat → Int64) (a7 a8 a9 a10 a11 : Nat → Int32), s + m = 30 → a < 2 ^ 31 → hl_R (d, pl, pp, sk, gv, pr, fb, a1, a2, a3, a4, a5, a6, a7, a8, a9, a10, a11) mp g p f → wX_within_5 post x2 (m + 1) (nI a) (nI s) d pl pp sk gv pr fb a1 a2 a3 a4 a5 a6 a7 a8 a9 a10 a11 := by
  intro m
  induction m with
  | zero =>
    intro s a d pl pp sk gv pr fb a1 a2 a3 a4 a5 a6 a7 a8 a9 a10 a11 hs ha h
    exact pk_le 30 s (fun _ => Hp _ _ h) (fun z => absurd z (by omega))
  | succ m ih =>
    intro s a d pl pp sk gv pr fb a1 a2 a3 a4 a5 a6 a7 a8 a9 a10 a11 hs ha h
    have go : ∀ (v : Int64) (u1 : St1), hl_R u1 mp g p f → (match u1 with | (d1, pl1, pp1, sk1, gv1, pr1, fb1, a1_1, a2_1, a3_1, a4_1, a5_1, a6_1, a7_1, a8_1, a9_1, a10_1, a11_1) => wpX_threadParent (fun r => ∀ x4 : Int32, x4 = nI s + 1 → wX_within_5 post x2 (m + 1) r x4 d1 pl1 pp1 sk1 gv1 pr1 fb1 a1_1 a2_1 a3_1 a4_1 a5_1 a6_1 a7_1 a8_1 a9_1 a10_1 a11_1) () v) := by
      intro v u1 h1
      obtain ⟨d1, pl1, pp1, sk1, gv1, pr1, fb1, a1_1, a2_1, a3_1, a4_1, a5_1, a6_1, a7_1, a8_1, a9_1, a10_1, a11_1⟩ := u1
      dsimp only
      unfold wpX_threadParent
      obtain ⟨j, hj, e⟩ := pk_andE ((v.toUInt64 >>> ((1 : Int32).toInt64.toUInt64 &&& Int64.toUInt64 63)).toInt64.toInt32) (m := 63) 6 (by decide)
      rw [e]
      exact nm_r (nI_1 s) (ih (s + 1) j _ _ _ _ _ _ _ _ _ _ _ _ _ _ _ _ _ _ (by omega) (by omega) h1)
    refine pk_le 30 s (fun z => absurd z (by omega)) (fun _ => br_c (fun _ => Hp _ _ h) (fun _ => br_c (fun _ => Hp _ _ h) (fun _ => ?_)))
    exact hl_thread h ha (fun v _ _ _ u1 h1 => go v u1 h1) (fun _ u1 h1 => go (-1) u1 h1)
theorem hl_within {post : Int32 → St1 → Prop} {a : Nat} {x2 : Int32} (h : hl_R u mp g p f) (ha : a < 2 ^ 31) (Hp : ∀ r u', hl_R u' mp g p f → post r u') : wpX_within post u (nI a) x2 := by
  obtain ⟨d, pl, pp, sk, gv, pr, fb, a1_, a2_, a3_, a4_, a5_, a6_, a7_, a8_, a9_, a10_, a11_⟩ := u
  exact ⟨31, hl_w5 Hp 30 0 a _ _ _ _ _ _ _ _ _ _ _ _ _ _ _ _ _ _ (by omega) ha h⟩
theorem hl_child {post : Int32 → St1 → Prop} {i : Nat} (h : hl_R u mp g p f) (A : hl_H mp G P C f0 al fo par nm ne ex) (ha : al i = true) (Hc : ∀ j, al j = true → j ≠ 1 → par j = i → ∀ u', hl_R u' mp g p f → post (nI j) u') (Hn : (∀ j, al j = true → j ≠ 1 → par j ≠ i) → ∀ u', hl_R u' mp g p f → post (-1) u') : wpX_firstChild post u (nI i) := by
  obtain ⟨d, pl, pp, sk, gv, pr, fb, a1_, a2_, a3_, a4_, a5_, a6_, a7_, a8_, a9_, a10_, a11_⟩ := u
  obtain ⟨rfl, rfl, rfl, R⟩ := h
  have hb := A.2.1 i ha
  unfold wpX_firstChild
  dsimp only
  unfold wpX_threadKey
  rw [ix_512 i]
  dsimp only
  rw [nI_1 (512 * i)]
  refine tr_seek (t := 0) R (by omega) (by omega) (fun d pl pp a9 a10 Q => ?_)
  dsimp only
  -- a child's key
  have ck : ∀ j, al j = true → j ≠ 1 → par j = i → ∃ v, mp 0 (512 * i + nm j + 1) = some v ∧ 512 * i + nm j + 1 < 512 * (i + 1) := fun j j1 j2 j3 => by
    have := (A.2.2.1 j j1 j2).2.2
    have b6 := A.2.1 j j1
    rw [j3] at this
    exact ⟨_, this, by omega⟩
  rcases cs_Qc (by omega) Q with ⟨ep, hq⟩ | ⟨k, v, g1, g2, g3, g4, g5, g6, g7, g8⟩
  · refine br_t (show pl < 0 by rw [ep]; decide) (Hn (fun j j1 j2 j3 => ?_) _ ⟨rfl, rfl, rfl, cs_QR Q⟩)
    obtain ⟨v, hv, _⟩ := ck j j1 j2 j3
    have := hq _ v hv
    omega
  · refine br_f g1 ⟨g2, ?_⟩
    rw [nI_1 i, ix_512 (i + 1), g3]
    refine pk_lt k (512 * (i + 1)) (fun z => ⟨g2, ?_⟩) (fun z => Hn (fun j j1 j2 j3 => ?_) _ ⟨rfl, rfl, rfl, cs_QR Q⟩)
    · obtain ⟨j, j1, j2, j3, j4, j5⟩ := hl_itm A g6 z g5
      unfold wpX_recordId
      rw [g4, j5, bw_id, (hl_rcb A j1).2.1]
      exact Hc j j1 j2 j3 _ ⟨rfl, rfl, rfl, cs_QR Q⟩
    · obtain ⟨v', hv, hlt⟩ := ck j j1 j2 j3
      have := g8 _ v' hv (by omega)
      omega
end
end
section
/-! make, move, extend, shrink -/
def hl_I (u : St1) (C : Nat) : Prop := ∃ (mp : Nat → Nat → Option Int64) (G P : Nat) (f : Int32) (al : Nat → Bool) (fo par nm ne : Nat → Nat) (ex : Nat → Nat → Nat), hl_R u mp (nI G) (nI P) f ∧ hl_H mp G P C f al fo par nm ne ex
theorem nI_nm {x : Int32} (h : ¬ x < 0) (h2 : x ≤ 255) : ∃ m, m ≤ 255 ∧ x = nI m := nI_of2 (by decide) h h2
theorem nI_len {x : Int32} (h : ¬ x < 1) (h2 : x ≤ 32) : ∃ l, 1 ≤ l ∧ l ≤ 32 ∧ x = nI l := by
  have h0 : ¬ x < 0 := fun z => h (by
    rw [Int32.lt_iff_toInt_lt] at z ⊢
    have a : (0 : Int32).toInt = 0 := by decide
    have b : (1 : Int32).toInt = 1 := by decide
    omega)
  obtain ⟨l, hl, e⟩ := nI_of2 (n := 32) (by decide) h0 h2
  subst e
  refine ⟨l, ?_, hl, rfl⟩
  by_cases z : l = 0
  · subst z; exact absurd (by decide) h
  · omega
section
variable {mp : Nat → Nat → Option Int64} {f g p : Int32} {G P C : Nat} {al : Nat → Bool} {fo par nm ne : Nat → Nat} {ex : Nat → Nat → Nat} {u : St1}
theorem hl_I1 (h : hl_R u mp (nI G) (nI P) f) (A : hl_H mp G P C f al fo par nm ne ex) (hC : C + 1 ≤ 65) : hl_I u (C + 1) := ⟨mp, G, P, f, al, fo, par, nm, ne, ex, h, hl_Hc A (by omega) hC⟩
theorem hl_loc {post : Int32 → St1 → Prop} {t k : Nat} (h : hl_R u mp g p f) (ht : t < 2) (hk : k < 65536) (Hs : ∀ v u', mp t k = some v → hl_R u' mp g p f → post 1 u') (Hn : mp t k = none → ∀ u', hl_R u' mp g p f → post 0 u') : wpX_locate post u (nI t) (nI k) := by
  obtain ⟨d, pl, pp, sk, gv, pr, fb, a1_, a2_, a3_, a4_, a5_, a6_, a7_, a8_, a9_, a10_, a11_⟩ := u
  obtain ⟨rfl, rfl, rfl, R⟩ := h
  exact tr_locate R ht hk (fun v d pl pp a9 a10 hm _ _ => Hs v _ hm ⟨rfl, rfl, rfl, R⟩) (fun hm d pl pp a9 a10 => Hn hm _ ⟨rfl, rfl, rfl, R⟩)
theorem hl_pack {post : Int64 → Prop} {x : Int32} {q m : Nat} (hq : q < 2 ^ 31) (hm : m < 2 ^ 31) (h0 : x = 0 → post (lN (0 + 2 * q + 256 * m))) (h1 : x ≠ 0 → post (lN (1 + 2 * q + 256 * m))) : wpX_packThread post () x (nI q) (nI m) := by
  have e : ∀ b : Nat, lN b + 2 * (nI q).toInt64 + 256 * (nI m).toInt64 = lN (b + 2 * q + 256 * m) := fun b => by
    rw [nI_l hq, nI_l hm, show (2 : Int64) = lN 2 from rfl, show (256 : Int64) = lN 256 from rfl, lN_mul, lN_mul, lN_add, lN_add]
  refine br_c (fun z => ?_) (fun z => ?_)
  · have := h0 z
    rw [← e 0] at this
    exact this
  · have := h1 z
    rw [← e 1] at this
    exact this
theorem hl_make {post : Int32 → St1 → Prop} {q : Nat} {x2 x3 : Int32} (h : hl_I u C) (hC : C + 1 ≤ 65) (hq : q < 2 ^ 31) (Hp : ∀ r u', hl_I u' (C + 1) → post r u') : wpX_make post u (nI q) x2 x3 := by
  obtain ⟨mp, G, P, f, al, fo, par, nm, ne, ex, h, A⟩ := h
  obtain ⟨d, pl, pp, sk, gv, pr, fb, a1_, a2_, a3_, a4_, a5_, a6_, a7_, a8_, a9_, a10_, a11_⟩ := u
  unfold wpX_make
  dsimp only
  refine hl_refFo h A hq (fun qa qf u1 h1 => ?_) (fun _ r u1 hr h1 => ?_)
  · obtain ⟨d1, pl1, pp1, sk1, gv1, pr1, fb1, a1_1, a2_1, a3_1, a4_1, a5_1, a6_1, a7_1, a8_1, a9_1, a10_1, a11_1⟩ := u1
    dsimp only
    have hqb := A.2.1 q qa
    refine br_t rfl (br_c (fun _ => Hp _ _ (hl_I1 h1 A hC)) (fun z1 => br_c (fun z2 => ?_) (fun _ => Hp _ _ (hl_I1 h1 A hC))))
    obtain ⟨m, hm, e⟩ := nI_nm z1 z2
    subst e
    unfold wpX_itemKey
    dsimp only
    rw [ix_item]
    refine hl_loc (t := 0) h1 (by omega) (by omega) (fun v u2 hv h2 => ?_) (fun hno u2 h2 => ?_)
    · obtain ⟨d2, pl2, pp2, sk2, gv2, pr2, fb2, a1_2, a2_2, a3_2, a4_2, a5_2, a6_2, a7_2, a8_2, a9_2, a10_2, a11_2⟩ := u2
      exact br_f (by decide) (Hp _ _ (hl_I1 h2 A hC))
    · obtain ⟨d2, pl2, pp2, sk2, gv2, pr2, fb2, a1_2, a2_2, a3_2, a4_2, a5_2, a6_2, a7_2, a8_2, a9_2, a10_2, a11_2⟩ := u2
      dsimp only
      have a7 := A.2.2.2.2.2.2.1
      have c90 := hl_90 A
      have h2' := h2
      obtain ⟨rfl, rfl, rfl, R⟩ := h2'
      refine br_t rfl (pk_le 24 P (fun _ => Hp _ _ (hl_I1 h2 A hC)) (fun hP => pk_lt G 60 (fun hG => ?_) (fun _ => Hp _ _ (hl_I1 h2 A hC))))
      refine nm_r (nI_1 G) (nm_r (nI_1 P) (nm_r (nI_1 (G + 1)) ?_))
      rw [nI_l (show G + 1 + 1 < 2 ^ 31 by omega)]
      have s2 := cn_ksum (mp := mp) (v := lN (G + 1 + 1)) (n := 65536) (t := 0) (by omega) (show 512 * q + m + 1 < 65536 by omega)
      refine hl_put (mp := mp) (g := nI (G + 1)) (p := nI (P + 1)) (t := 0) ⟨rfl, rfl, rfl, R⟩ (by omega) (show 512 * q + m + 1 < 65536 by omega) (by omega) (fun u3 h3 => ?_)
      obtain ⟨d3, pl3, pp3, sk3, gv3, pr3, fb3, a1_3, a2_3, a3_3, a4_3, a5_3, a6_3, a7_3, a8_3, a9_3, a10_3, a11_3⟩ := u3
      dsimp only
      unfold wpX_threadKey
      rw [ix_512]
      have fin : ∀ b : Nat, b ≤ 1 → wpX_putRecord (fun u => match u with | (d5, pl5, pp5, sk5, gv5, pr5, fb5, a1_5, a2_5, a3_5, a4_5, a5_5, a6_5, a7_5, a8_5, a9_5, a10_5, a11_5) => post (nI (G + 1 + 1)) (d5, pl5, pp5, sk5, gv5, pr5, fb5, a1_5, a2_5, a3_5, a4_5, a5_5, a6_5, a7_5, a8_5, a9_5, a10_5, a11_5)) (d3, pl3, pp3, sk3, gv3, pr3, fb3, a1_3, a2_3, a3_3, a4_3, a5_3, a6_3, a7_3, a8_3, a9_3, a10_3, a11_3) 0 (nI (512 * (G + 2))) (lN (b + 2 * q + 256 * m)) := by
        intro b hb
        obtain ⟨B, B2⟩ := hl_mk A qa qf hm hb hno hP hG hC
        refine hl_put (t := 0) h3 (by omega) (by omega) (by omega) (fun u4 h4 => ?_)
        obtain ⟨d4, pl4, pp4, sk4, gv4, pr4, fb4, a1_4, a2_4, a3_4, a4_4, a5_4, a6_4, a7_4, a8_4, a9_4, a10_4, a11_4⟩ := u4
        exact Hp _ _ ⟨_, G + 1, P + 1, _, _, _, _, _, _, _, h4, B⟩
      exact hl_pack (by omega) (by omega) (fun _ => fin 0 (by omega)) (fun _ => fin 1 (by omega))
  · obtain ⟨d1, pl1, pp1, sk1, gv1, pr1, fb1, a1_1, a2_1, a3_1, a4_1, a5_1, a6_1, a7_1, a8_1, a9_1, a10_1, a11_1⟩ := u1
    exact br_f hr (Hp _ _ (hl_I1 h1 A hC))
theorem hl_move {post : Int32 → St1 → Prop} {i q : Nat} {x2 : Int32} (h : hl_I u C) (hC : C + 1 ≤ 65) (hi : i < 2 ^ 31) (hi1 : i ≠ 1) (hq : q < 2 ^ 31) (Hp : ∀ r u', hl_I u' (C + 1) → post r u') : wpX_move post u (nI i) (nI q) x2 := by
  obtain ⟨mp, G, P, f, al, fo, par, nm, ne, ex, h, A⟩ := h
  obtain ⟨d, pl, pp, sk, gv, pr, fb, a1_, a2_, a3_, a4_, a5_, a6_, a7_, a8_, a9_, a10_, a11_⟩ := u
  unfold wpX_move
  dsimp only
  refine hl_T h A hi (fun ia u1 h1 => ?_) (fun _ u1 h1 => ?_)
  · obtain ⟨d1, pl1, pp1, sk1, gv1, pr1, fb1, a1_1, a2_1, a3_1, a4_1, a5_1, a6_1, a7_1, a8_1, a9_1, a10_1, a11_1⟩ := u1
    dsimp only
    have hib := A.2.1 i ia
    obtain ⟨t1, t2, t3, t4⟩ := hl_tvb A ia
    refine br_t (lN_nn (by omega)) (pk_eq i 1 (fun z => absurd z hi1) (fun _ => ?_))
    refine hl_refFo h1 A hq (fun qa qf u2 h2 => ?_) (fun _ r u2 hr h2 => ?_)
    · obtain ⟨d2, pl2, pp2, sk2, gv2, pr2, fb2, a1_2, a2_2, a3_2, a4_2, a5_2, a6_2, a7_2, a8_2, a9_2, a10_2, a11_2⟩ := u2
      dsimp only
      have hqb := A.2.1 q qa
      refine br_t rfl (br_c (fun _ => Hp _ _ (hl_I1 h2 A hC)) (fun z1 => br_c (fun z2 => ?_) (fun _ => Hp _ _ (hl_I1 h2 A hC))))
      obtain ⟨m, hm, e⟩ := nI_nm z1 z2
      subst e
      refine hl_within h2 hq (fun r u3 h3 => ?_)
      obtain ⟨d3, pl3, pp3, sk3, gv3, pr3, fb3, a1_3, a2_3, a3_3, a4_3, a5_3, a6_3, a7_3, a8_3, a9_3, a10_3, a11_3⟩ := u3
      dsimp only
      refine br_c (fun _ => hl_key A ia ?_) (fun _ => Hp _ _ (hl_I1 h3 A hC))
      unfold wpX_itemKey
      rw [ix_item]
      refine br_c (fun _ => Hp _ _ (hl_I1 h3 A hC)) (fun _ => ?_)
      refine hl_loc (t := 0) h3 (by omega) (by omega) (fun v u4 hv h4 => ?_) (fun hno u4 h4 => ?_)
      · obtain ⟨d4, pl4, pp4, sk4, gv4, pr4, fb4, a1_4, a2_4, a3_4, a4_4, a5_4, a6_4, a7_4, a8_4, a9_4, a10_4, a11_4⟩ := u4
        exact br_f (by decide) (Hp _ _ (hl_I1 h4 A hC))
      · obtain ⟨d4, pl4, pp4, sk4, gv4, pr4, fb4, a1_4, a2_4, a3_4, a4_4, a5_4, a6_4, a7_4, a8_4, a9_4, a10_4, a11_4⟩ := u4
        dsimp only
        have c90 := hl_90 A
        refine br_t rfl (hl_rec h4 A ia hi1 (fun u5 h5 => ?_))
        obtain ⟨d5, pl5, pp5, sk5, gv5, pr5, fb5, a1_5, a2_5, a3_5, a4_5, a5_5, a6_5, a7_5, a8_5, a9_5, a10_5, a11_5⟩ := u5
        dsimp only
        refine hl_drop (t := 0) h5 (by omega) (by omega) (fun u6 h6 => ?_)
        obtain ⟨d6, pl6, pp6, sk6, gv6, pr6, fb6, a1_6, a2_6, a3_6, a4_6, a5_6, a6_6, a7_6, a8_6, a9_6, a10_6, a11_6⟩ := u6
        dsimp only
        have d1 := cn_kdel1 (mp := mp) (t := 0) (k := 512 * par i + nm i + 1) (n := 65536)
        have d2 : cn_k (mp_del mp 0 (512 * par i + nm i + 1) 1) 65536 = cn_k (mp 1) 65536 := by rw [mp_do (by omega)]
        have s2 := cn_ksum (mp := mp_del mp 0 (512 * par i + nm i + 1)) (v := lN (hl_rc ne ex i)) (n := 65536) (t := 0) (by omega) (show 512 * q + m + 1 < 65536 by omega)
        refine hl_put (t := 0) h6 (by omega) (show 512 * q + m + 1 < 65536 by omega) (by omega) (fun u7 h7 => ?_)
        obtain ⟨d7, pl7, pp7, sk7, gv7, pr7, fb7, a1_7, a2_7, a3_7, a4_7, a5_7, a6_7, a7_7, a8_7, a9_7, a10_7, a11_7⟩ := u7
        dsimp only
        have B := hl_mv A ia hi1 qa qf hm hno
        have fin : ∀ x : Int32, (x = 0 → fo i = 0) → (x ≠ 0 → fo i = 1) → wpX_threadKey (fun r_299 => (wpX_packThread (fun r_300 => (wpX_putRecord (fun u => match u with | (d9, pl9, pp9, sk9, gv9, pr9, fb9, a1_9, a2_9, a3_9, a4_9, a5_9, a6_9, a7_9, a8_9, a9_9, a10_9, a11_9) => (post 0 (d9, pl9, pp9, sk9, gv9, pr9, fb9, a1_9, a2_9, a3_9, a4_9, a5_9, a6_9, a7_9, a8_9, a9_9, a10_9, a11_9))) (d7, pl7, pp7, sk7, gv7, pr7, fb7, a1_7, a2_7, a3_7, a4_7, a5_7, a6_7, a7_7, a8_7, a9_7, a10_7, a11_7) 0 r_299 r_300)) () x (nI q) (nI m))) () (nI i) := by
          intro x x0 x1
          unfold wpX_threadKey
          rw [ix_512]
          have fin2 : ∀ b : Nat, b = fo i → wpX_putRecord (fun u => match u with | (d9, pl9, pp9, sk9, gv9, pr9, fb9, a1_9, a2_9, a3_9, a4_9, a5_9, a6_9, a7_9, a8_9, a9_9, a10_9, a11_9) => (post 0 (d9, pl9, pp9, sk9, gv9, pr9, fb9, a1_9, a2_9, a3_9, a4_9, a5_9, a6_9, a7_9, a8_9, a9_9, a10_9, a11_9))) (d7, pl7, pp7, sk7, gv7, pr7, fb7, a1_7, a2_7, a3_7, a4_7, a5_7, a6_7, a7_7, a8_7, a9_7, a10_7, a11_7) 0 (nI (512 * i)) (lN (b + 2 * q + 256 * m)) := by
            intro b hb
            rw [hb]
            refine hl_put (t := 0) h7 (by omega) (by omega) (by omega) (fun u8 h8 => ?_)
            obtain ⟨d8, pl8, pp8, sk8, gv8, pr8, fb8, a1_8, a2_8, a3_8, a4_8, a5_8, a6_8, a7_8, a8_8, a9_8, a10_8, a11_8⟩ := u8
            exact Hp _ _ ⟨_, G, P, _, _, _, _, _, _, _, h8, hl_Hc B (by omega) hC⟩
          exact hl_pack (by omega) (by omega) (fun z => fin2 0 (x0 z).symm) (fun z => fin2 1 (x1 z).symm)
        refine hl_fold (by omega) (fun z => fin 0 (fun _ => by omega) (fun y => absurd rfl y)) (fun z => fin 1 (fun y => absurd y (by decide)) (fun _ => by omega))
    · obtain ⟨d2, pl2, pp2, sk2, gv2, pr2, fb2, a1_2, a2_2, a3_2, a4_2, a5_2, a6_2, a7_2, a8_2, a9_2, a10_2, a11_2⟩ := u2
      exact br_f hr (Hp _ _ (hl_I1 h2 A hC))
  · obtain ⟨d1, pl1, pp1, sk1, gv1, pr1, fb1, a1_1, a2_1, a3_1, a4_1, a5_1, a6_1, a7_1, a8_1, a9_1, a10_1, a11_1⟩ := u1
    exact br_f (by decide) (Hp _ _ (hl_I1 h1 A hC))
end
end
section
/-! extend, shrink -/
section
variable {mp : Nat → Nat → Option Int64} {f g p : Int32} {G P C : Nat} {al : Nat → Bool} {fo par nm ne : Nat → Nat} {ex : Nat → Nat → Nat} {u : St1}
/-- the record with one more extent -/
theorem hl_rcup (A : hl_H mp G P C f al fo par nm ne ex) {i x : Nat} (ia : al i = true) (hn : ne i < 6) (hx : x < 8192) :
    (3 ≤ ne i → hl_rc (fun j => if j = i then ne i + 1 else ne j) (fun j k => if j = i ∧ k = ne i then x else ex j k) i = hl_rc ne ex i + 64) ∧
    (ne i < 3 → hl_rc ne ex i + 64 < 2 ^ (9 + 13 * ne i) ∧ hl_rc ne ex i + 64 + x * 2 ^ (9 + 13 * ne i) < 2 ^ 63 ∧ hl_rc (fun j => if j = i then ne i + 1 else ne j) (fun j k => if j = i ∧ k = ne i then x else ex j k) i = hl_rc ne ex i + 64 + x * 2 ^ (9 + 13 * ne i)) := by
  have hib := A.2.1 i ia
  have e0 := hl_Eb A ia 0
  have e1 := hl_Eb A ia 1
  have e2 := hl_Eb A ia 2
  have E : ∀ k, hl_E (fun j => if j = i then ne i + 1 else ne j) (fun j k => if j = i ∧ k = ne i then x else ex j k) i k = if k = ne i then x else hl_E ne ex i k := by
    intro k
    unfold hl_E
    simp only [if_true, true_and]
    by_cases z : k = ne i
    · rw [if_pos z, if_pos z, if_pos (by omega)]
    · rw [if_neg z, if_neg z]
      by_cases y : k < ne i
      · rw [if_pos y, if_pos (by omega)]
      · rw [if_neg y, if_neg (by omega)]
  have N : ∀ k, ne i ≤ k → hl_E ne ex i k = 0 := fun k hk => by
    unfold hl_E
    rw [if_neg (by omega)]
  refine ⟨fun h3 => ?_, fun h3 => ?_⟩
  · unfold hl_rc
    rw [E, E, E]
    simp only [if_true]
    rw [if_neg (by omega), if_neg (by omega), if_neg (by omega)]
    omega
  · have hc : ne i = 0 ∨ ne i = 1 ∨ ne i = 2 := by omega
    unfold hl_rc
    rw [E, E, E]
    simp only [if_true]
    rcases hc with z | z | z
    · have n0 := N 0 (by omega)
      have n1 := N 1 (by omega)
      have n2 := N 2 (by omega)
      rw [z] at *
      simp only [if_true]
      rw [if_neg (by omega), if_neg (by omega), n0, n1, n2]
      omega
    · have n1 := N 1 (by omega)
      have n2 := N 2 (by omega)
      rw [z] at *
      simp only [if_true]
      rw [if_neg (by omega), if_neg (by omega), n1, n2]
      omega
    · have n2 := N 2 (by omega)
      rw [z] at *
      simp only [if_true]
      rw [if_neg (by omega), if_neg (by omega), n2]
      omega
/-- the record with one extent less -/
theorem hl_rcdn (A : hl_H mp G P C f al fo par nm ne ex) {i : Nat} (ia : al i = true) (hn : 1 ≤ ne i) :
    64 ≤ hl_rc ne ex i ∧ (3 < ne i → hl_rc (fun j => if j = i then ne i - 1 else ne j) ex i = hl_rc ne ex i - 64) ∧
    (¬ 3 < ne i → hl_rc ne ex i - 64 < 2 ^ (9 + 13 * (ne i - 1) + 13) ∧ hl_rc (fun j => if j = i then ne i - 1 else ne j) ex i = (hl_rc ne ex i - 64) % 2 ^ (9 + 13 * (ne i - 1))) := by
  have hib := A.2.1 i ia
  have h6 := (A.2.2.2.1 i ia).1
  have e0 := hl_Eb A ia 0
  have e1 := hl_Eb A ia 1
  have e2 := hl_Eb A ia 2
  have E : ∀ k, hl_E (fun j => if j = i then ne i - 1 else ne j) ex i k = if k = ne i - 1 then 0 else hl_E ne ex i k := by
    intro k
    unfold hl_E
    simp only [if_true]
    by_cases z : k = ne i - 1
    · rw [if_pos z, if_neg (by omega)]
    · rw [if_neg z]
      by_cases y : k < ne i
      · rw [if_pos y, if_pos (by omega)]
      · rw [if_neg y, if_neg (by omega)]
  have N : ∀ k, ne i ≤ k → hl_E ne ex i k = 0 := fun k hk => by
    unfold hl_E
    rw [if_neg (by omega)]
  refine ⟨by unfold hl_rc; omega, fun h3 => ?_, fun h3 => ?_⟩
  · unfold hl_rc
    rw [E, E, E]
    simp only [if_true]
    rw [if_neg (by omega), if_neg (by omega), if_neg (by omega)]
    omega
  · have hc : ne i = 1 ∨ ne i = 2 ∨ ne i = 3 := by omega
    unfold hl_rc
    rw [E, E, E]
    simp only [if_true]
    rcases hc with z | z | z
    · have n1 := N 1 (by omega)
      have n2 := N 2 (by omega)
      rw [z] at *
      rw [if_pos (by omega), if_neg (by omega), if_neg (by omega), n1, n2]
      simp only [Nat.sub_self, Nat.mul_zero]
      omega
    · have n2 := N 2 (by omega)
      rw [z] at *
      rw [if_neg (by omega), if_pos (by omega), if_neg (by omega), n2]
      simp only [show 2 - 1 = 1 from rfl, Nat.mul_one]
      omega
    · rw [z] at *
      rw [if_neg (by omega), if_neg (by omega), if_pos (by omega)]
      simp only [show 3 - 1 = 2 from rfl, show 13 * 2 = 26 from rfl]
      omega
theorem hl_blup {i x : Nat} : hl_bl (fun j => if j = i then ne i + 1 else ne j) (fun j k => if j = i ∧ k = ne i then x else ex j k) i = hl_bl ne ex i + x / 128 := by
  unfold hl_bl
  simp only [if_true, true_and]
  rw [sm_s]
  simp only [if_true]
  congr 1
  refine sm_ext (fun k hk => ?_)
  rw [if_neg (by omega)]
theorem hl_bldn {i : Nat} (hn : 1 ≤ ne i) : hl_bl ne ex i = hl_bl (fun j => if j = i then ne i - 1 else ne j) ex i + ex i (ne i - 1) / 128 := by
  unfold hl_bl
  simp only [if_true]
  obtain ⟨n, hn⟩ : ∃ n, ne i = n + 1 := ⟨ne i - 1, by omega⟩
  rw [hn, sm_s]
  rfl
theorem hl_extend {post : Int32 → St1 → Prop} {i : Nat} {x2 : Int32} (h : hl_I u C) (hC : C + 1 ≤ 65) (hi : i < 2 ^ 31) (Hp : ∀ r u', hl_I u' (C + 1) → post r u') : wpX_extend post u (nI i) x2 := by
  obtain ⟨mp, G, P, f, al, fo, par, nm, ne, ex, h, A⟩ := h
  obtain ⟨d, pl, pp, sk, gv, pr, fb, a1_, a2_, a3_, a4_, a5_, a6_, a7_, a8_, a9_, a10_, a11_⟩ := u
  unfold wpX_extend
  dsimp only
  refine hl_refFi h A hi (fun ia hfo u1 h1 => ?_) (fun _ r u1 hr h1 => ?_)
  · obtain ⟨d1, pl1, pp1, sk1, gv1, pr1, fb1, a1_1, a2_1, a3_1, a4_1, a5_1, a6_1, a7_1, a8_1, a9_1, a10_1, a11_1⟩ := u1
    dsimp only
    have hib := A.2.1 i ia
    have hi1 : i ≠ 1 := fun e => by
      have := A.1.2.1
      rw [e] at hfo
      omega
    obtain ⟨r1, r2, r3, -⟩ := hl_rcb A ia
    have c90 := hl_90 A
    have a8 := A.2.2.2.2.2.2.2.1
    refine br_t rfl (br_c (fun _ => Hp _ _ (hl_I1 h1 A hC)) (fun z1 => br_c (fun z2 => ?_) (fun _ => Hp _ _ (hl_I1 h1 A hC))))
    obtain ⟨l, l1, l2, e⟩ := nI_len z1 z2
    subst e
    refine hl_T h1 A hi (fun _ u2 h2 => ?_) (fun z => absurd z (by rw [ia]; decide))
    obtain ⟨d2, pl2, pp2, sk2, gv2, pr2, fb2, a1_2, a2_2, a3_2, a4_2, a5_2, a6_2, a7_2, a8_2, a9_2, a10_2, a11_2⟩ := u2
    dsimp only
    refine hl_rec h2 A ia hi1 (fun u3 h3 => ?_)
    obtain ⟨d3, pl3, pp3, sk3, gv3, pr3, fb3, a1_3, a2_3, a3_3, a4_3, a5_3, a6_3, a7_3, a8_3, a9_3, a10_3, a11_3⟩ := u3
    dsimp only
    unfold wpX_recordExtents
    rw [bw_ext (by omega), r3]
    refine pk_lt (ne i) 6 (fun hn => ?_) (fun _ => Hp _ _ (hl_I1 h3 A hC)) rfl rfl (by have := (A.2.2.2.1 i ia).1; omega)
    refine hl_fit l1 (by omega) (fun s hs => ?_) ?_
    · refine br_t (nI_pos' (by omega)) (nm_r (bw_or32 (by omega) (by omega)) ?_)
      have x1 : s + 128 * l < 8192 := by omega
      have x2 : (s + 128 * l) % 128 + (s + 128 * l) / 128 ≤ 96 := by omega
      have x3 : (s + 128 * l) / 128 = l := by omega
      obtain ⟨u1', u2'⟩ := hl_rcup A ia hn x1
      refine hl_mark h3 (by omega) x2 (fun z => absurd z (by decide)) (fun _ u4 h4 => ?_)
      rw [x3] at h4
      obtain ⟨d4, pl4, pp4, sk4, gv4, pr4, fb4, a1_4, a2_4, a3_4, a4_4, a5_4, a6_4, a7_4, a8_4, a9_4, a10_4, a11_4⟩ := u4
      dsimp only
      refine nm_r (show lN (hl_rc ne ex i) + 64 = lN (hl_rc ne ex i + 64) from lN_add _ 64) ?_
      -- the end: the record is written
      have fin : ∀ (mp1 : Nat → Nat → Option Int64) (v : Nat) (d pl pp sk gv pr fb : Int32) (a1 a2 a3 a4 a5 : Nat → Int32) (a6 : Nat → Int64) (a7 a8 a9 a10 a11 : Nat → Int32), hl_R (d, pl, pp, sk, gv, pr, fb, a1, a2, a3, a4, a5, a6, a7, a8, a9, a10, a11) mp1 (nI G) (nI P) (f + -nI l) → mp1 0 = mp 0 → (∀ j k, j ≠ i → k < 8 → mp1 1 (8 * j + k) = mp 1 (8 * j + k)) → (∀ k, k < ne i + 1 → 3 ≤ k → mp1 1 (8 * i + k) = some (lN (if k = ne i then s + 128 * l else ex i k))) → cn_k (mp1 1) 65536 ≤ cn_k (mp 1) 65536 + 1 → v = hl_rc (fun j => if j = i then ne i + 1 else ne j) (fun j k => if j = i ∧ k = ne i then s + 128 * l else ex j k) i → wX_extend_138 post (lN (hl_tv fo par nm i)) (nI s) (lN v) d pl pp sk gv pr fb a1 a2 a3 a4 a5 a6 a7 a8 a9 a10 a11 := by
        intro mp1 v d pl pp sk gv pr fb a1 a2 a3 a4 a5 a6 a7 a8 a9 a10 a11 q0 q1 q2 q3 q4 q5
        refine hl_key A ia ?_
        have q1' : cn_k (mp1 0) 65536 = cn_k (mp 0) 65536 := by rw [q1]
        refine hl_put (t := 0) q0 (by omega) (by omega) (by omega) (fun u5 h5 => ?_)
        obtain ⟨d5, pl5, pp5, sk5, gv5, pr5, fb5, a1_5, a2_5, a3_5, a4_5, a5_5, a6_5, a7_5, a8_5, a9_5, a10_5, a11_5⟩ := u5
        refine Hp _ _ ⟨_, G, P, _, al, fo, par, nm, _, _, h5, hl_upd (mp' := mp_put mp1 0 (512 * par i + nm i + 1) (lN v)) (ne' := fun j => if j = i then ne i + 1 else ne j) (ex' := fun j k => if j = i ∧ k = ne i then s + 128 * l else ex j k) (C' := C + 1) (f' := f + -nI l) A ia hi1 hfo (fun j hj => by rw [if_neg hj]) (fun j k hj => by rw [if_neg (fun y => hj y.1)]) (by rw [if_pos rfl]; omega) (fun k hk => ?_) ?_ (fun k hk => ?_) (fun j k hj hk => ?_) ?_ hC ?_⟩
        · rw [if_pos rfl] at hk
          rw [mp_po (by omega)]
          simp only [true_and]
          by_cases y : k = ne i
          · rw [if_pos y]
            refine ⟨x2, x1, fun w => ?_⟩
            rw [q3 k hk w, if_pos y]
          · rw [if_neg y]
            obtain ⟨y1, y2, -⟩ := A.2.2.2.2.1 i k ia (by omega)
            refine ⟨y1, y2, fun w => ?_⟩
            rw [q3 k hk w, if_neg y]
        · rw [mp_p1, q5]
        · rw [mp_p0 (fun y => hk y.2), q1]
        · rw [mp_po (by omega)]; exact q2 j k hj hk
        · rw [mp_po (by omega)]; omega
        · rw [hl_blup, x3, ← nI_add]
          grind
      have ov : ∀ k, k < ne i → 3 ≤ k → mp 1 (8 * i + k) = some (lN (ex i k)) := fun k hk h3 => (A.2.2.2.2.1 i k ia hk).2.2 h3
      refine pk_le 3 (ne i) (fun y => ?_) (fun y => ?_)
      · rw [ix_8, nI_l (by omega)]
        refine hl_put (t := 1) h4 (by omega) (by omega) (by omega) (fun u5 h5 => ?_)
        obtain ⟨d5, pl5, pp5, sk5, gv5, pr5, fb5, a1_5, a2_5, a3_5, a4_5, a5_5, a6_5, a7_5, a8_5, a9_5, a10_5, a11_5⟩ := u5
        refine fin _ _ _ _ _ _ _ _ _ _ _ _ _ _ _ _ _ _ _ _ h5 (mp_po (by omega)) (fun j k hj hk => mp_p0 (by omega)) (fun k hk h3 => ?_) (cn_kput1 (by omega)) (u1' y).symm
        by_cases w : k = ne i
        · rw [if_pos w, w, mp_p1]
        · rw [if_neg w, mp_p0 (by omega)]
          exact ov k (by omega) h3
      · obtain ⟨w1, w2, w3⟩ := u2' y
        refine nm_r (show _ = lN (hl_rc ne ex i + 64 + (s + 128 * l) * 2 ^ (9 + 13 * ne i)) by rw [bw_s9]; exact bw_put (by omega) w1 w2 (by omega)) ?_
        exact fin mp _ _ _ _ _ _ _ _ _ _ _ _ _ _ _ _ _ _ _ h4 rfl (fun j k _ _ => rfl) (fun k hk h3 => absurd hk (by omega)) (by omega) w3.symm
    · exact br_f (by decide) (Hp _ _ (hl_I1 h3 A hC))
  · obtain ⟨d1, pl1, pp1, sk1, gv1, pr1, fb1, a1_1, a2_1, a3_1, a4_1, a5_1, a6_1, a7_1, a8_1, a9_1, a10_1, a11_1⟩ := u1
    exact br_f hr (Hp _ _ (hl_I1 h1 A hC))
theorem hl_shrink {post : Int32 → St1 → Prop} {i : Nat} (h : hl_I u C) (hC : C + 1 ≤ 65) (hi : i < 2 ^ 31) (Hp : ∀ r u', hl_I u' (C + 1) → post r u') : wpX_shrink post u (nI i) := by
  obtain ⟨mp, G, P, f, al, fo, par, nm, ne, ex, h, A⟩ := h
  obtain ⟨d, pl, pp, sk, gv, pr, fb, a1_, a2_, a3_, a4_, a5_, a6_, a7_, a8_, a9_, a10_, a11_⟩ := u
  unfold wpX_shrink
  dsimp only
  refine hl_refFi h A hi (fun ia hfo u1 h1 => ?_) (fun _ r u1 hr h1 => ?_)
  · obtain ⟨d1, pl1, pp1, sk1, gv1, pr1, fb1, a1_1, a2_1, a3_1, a4_1, a5_1, a6_1, a7_1, a8_1, a9_1, a10_1, a11_1⟩ := u1
    dsimp only
    have hib := A.2.1 i ia
    have hi1 : i ≠ 1 := fun e => by
      have := A.1.2.1
      rw [e] at hfo
      omega
    obtain ⟨r1, r2, r3, -⟩ := hl_rcb A ia
    have c90 := hl_90 A
    have a8 := A.2.2.2.2.2.2.2.1
    have h6 := (A.2.2.2.1 i ia).1
    refine br_t rfl (hl_T h1 A hi (fun _ u2 h2 => ?_) (fun z => absurd z (by rw [ia]; decide)))
    obtain ⟨d2, pl2, pp2, sk2, gv2, pr2, fb2, a1_2, a2_2, a3_2, a4_2, a5_2, a6_2, a7_2, a8_2, a9_2, a10_2, a11_2⟩ := u2
    dsimp only
    refine hl_rec h2 A ia hi1 (fun u3 h3 => ?_)
    obtain ⟨d3, pl3, pp3, sk3, gv3, pr3, fb3, a1_3, a2_3, a3_3, a4_3, a5_3, a6_3, a7_3, a8_3, a9_3, a10_3, a11_3⟩ := u3
    dsimp only
    unfold wpX_recordExtents
    rw [bw_ext (by omega), r3]
    refine pk_eq (ne i) 0 (fun _ => Hp _ _ (hl_I1 h3 A hC)) (fun hn => ?_)
    rw [ix_m1 (ne i) (by omega)]
    refine hl_ext h3 A ia (show ne i - 1 < ne i by omega) (fun u4 h4 => ?_)
    obtain ⟨d4, pl4, pp4, sk4, gv4, pr4, fb4, a1_4, a2_4, a3_4, a4_4, a5_4, a6_4, a7_4, a8_4, a9_4, a10_4, a11_4⟩ := u4
    dsimp only
    obtain ⟨y1, y2, y3⟩ := A.2.2.2.2.1 i (ne i - 1) ia (by omega)
    refine hl_mark h4 (by omega) y1 (fun _ u5 h5 => ?_) (fun z => absurd rfl z)
    obtain ⟨d5, pl5, pp5, sk5, gv5, pr5, fb5, a1_5, a2_5, a3_5, a4_5, a5_5, a6_5, a7_5, a8_5, a9_5, a10_5, a11_5⟩ := u5
    dsimp only
    obtain ⟨d1, d2, d3⟩ := hl_rcdn A ia (show 1 ≤ ne i by omega)
    refine nm_r (show lN (hl_rc ne ex i) - 64 = lN (hl_rc ne ex i - 64) from lN_sub (b := 64) d1) ?_
    have fin : ∀ (mp1 : Nat → Nat → Option Int64) (v : Nat) (d pl pp sk gv pr fb : Int32) (a1 a2 a3 a4 a5 : Nat → Int32) (a6 : Nat → Int64) (a7 a8 a9 a10 a11 : Nat → Int32), hl_R (d, pl, pp, sk, gv, pr, fb, a1, a2, a3, a4, a5, a6, a7, a8, a9, a10, a11) mp1 (nI G) (nI P) (f + nI (ex i (ne i - 1) / 128)) → mp1 0 = mp 0 → (∀ j k, j ≠ i → k < 8 → mp1 1 (8 * j + k) = mp 1 (8 * j + k)) → (∀ k, k < ne i - 1 → 3 ≤ k → mp1 1 (8 * i + k) = some (lN (ex i k))) → cn_k (mp1 1) 65536 ≤ cn_k (mp 1) 65536 → v = hl_rc (fun j => if j = i then ne i - 1 else ne j) ex i → wX_shrink_113 post (lN (hl_tv fo par nm i)) (nI (ex i (ne i - 1))) (lN v) d pl pp sk gv pr fb a1 a2 a3 a4 a5 a6 a7 a8 a9 a10 a11 := by
      intro mp1 v d pl pp sk gv pr fb a1 a2 a3 a4 a5 a6 a7 a8 a9 a10 a11 q0 q1 q2 q3 q4 q5
      refine hl_key A ia ?_
      have q1' : cn_k (mp1 0) 65536 = cn_k (mp 0) 65536 := by rw [q1]
      refine hl_put (t := 0) q0 (by omega) (by omega) (by omega) (fun u6 h6 => ?_)
      obtain ⟨d6, pl6, pp6, sk6, gv6, pr6, fb6, a1_6, a2_6, a3_6, a4_6, a5_6, a6_6, a7_6, a8_6, a9_6, a10_6, a11_6⟩ := u6
      refine Hp _ _ ⟨_, G, P, _, al, fo, par, nm, _, _, h6, hl_upd (mp' := mp_put mp1 0 (512 * par i + nm i + 1) (lN v)) (ne' := fun j => if j = i then ne i - 1 else ne j) (ex' := ex) (C' := C + 1) (f' := f + nI (ex i (ne i - 1) / 128)) A ia hi1 hfo (fun j hj => by rw [if_neg hj]) (fun j k hj => rfl) (by rw [if_pos rfl]; omega) (fun k hk => ?_) ?_ (fun k hk => ?_) (fun j k hj hk => ?_) ?_ hC ?_⟩
      · rw [if_pos rfl] at hk
        rw [mp_po (by omega)]
        obtain ⟨w1, w2, -⟩ := A.2.2.2.2.1 i k ia (by omega)
        exact ⟨w1, w2, fun w => q3 k hk w⟩
      · rw [mp_p1, q5]
      · rw [mp_p0 (fun y => hk y.2), q1]
      · rw [mp_po (by omega)]; exact q2 j k hj hk
      · rw [mp_po (by omega)]; omega
      · rw [hl_bldn (ne := ne) (show 1 ≤ ne i by omega), ← nI_add]
        grind
    have ov : ∀ k, k < ne i → 3 ≤ k → mp 1 (8 * i + k) = some (lN (ex i k)) := fun k hk h3 => (A.2.2.2.2.1 i k ia hk).2.2 h3
    refine pk_lt 3 (ne i) (fun y => ?_) (fun y => ?_)
    · rw [ix_8, ix_m1 (8 * i + ne i) (by omega)]
      refine hl_drop (t := 1) h5 (by omega) (by omega) (fun u6 h6 => ?_)
      obtain ⟨d6, pl6, pp6, sk6, gv6, pr6, fb6, a1_6, a2_6, a3_6, a4_6, a5_6, a6_6, a7_6, a8_6, a9_6, a10_6, a11_6⟩ := u6
      exact fin _ _ _ _ _ _ _ _ _ _ _ _ _ _ _ _ _ _ _ _ h6 (mp_do (by omega)) (fun j k hj hk => mp_d0 (by omega)) (fun k hk h3 => by rw [mp_d0 (by omega)]; exact ov k (by omega) h3) cn_kdel1 (d2 y).symm
    · obtain ⟨w1, w2⟩ := d3 (by omega)
      refine nm_r (bw_del (by omega) w1) ?_
      exact fin mp _ _ _ _ _ _ _ _ _ _ _ _ _ _ _ _ _ _ _ h5 rfl (fun j k _ _ => rfl) (fun k hk h3 => absurd hk (by omega)) (Nat.le_refl _) w2.symm
  · obtain ⟨d1, pl1, pp1, sk1, gv1, pr1, fb1, a1_1, a2_1, a3_1, a4_1, a5_1, a6_1, a7_1, a8_1, a9_1, a10_1, a11_1⟩ := u1
    exact br_f hr (Hp _ _ (hl_I1 h1 A hC))
end
end
section
/-! erase, remove, removeAll -/
section
variable {mp : Nat → Nat → Option Int64} {f g p : Int32} {G P C : Nat} {al : Nat → Bool} {fo par nm ne : Nat → Nat} {ex : Nat → Nat → Nat} {u : St1}
theorem hl_er20 {post : St1 → Prop} {i : Nat} (A : hl_H mp G P C f al fo par nm ne ex) (ia : al i = true) (hi1 : i ≠ 1) (hch : ∀ j, al j = true → j ≠ 1 → par j ≠ i)
    (Hp : ∀ mp' f' u', hl_R u' mp' (nI G) (nI (P - 1)) f' → hl_H mp' G (P - 1) C f' (fun j => if j = i then false else al j) fo par nm ne ex → post u') :
    ∀ r (mp1 : Nat → Nat → Option Int64) (f1 : Int32) (d pl pp sk gv pr fb : Int32) (a1 a2 a3 a4 a5 : Nat → Int32) (a6 : Nat → Int64) (a7 a8 a9 a10 a11 : Nat → Int32), r ≤ ne i → hl_R (d, pl, pp, sk, gv, pr, fb, a1, a2, a3, a4, a5, a6, a7, a8, a9, a10, a11) mp1 (nI G) (nI P) f1 → mp1 0 = mp 0 → (∀ j k, j ≠ i → k < 8 → mp1 1 (8 * j + k) = mp 1 (8 * j + k)) → (∀ k, k < r → 3 ≤ k → mp1 1 (8 * i + k) = some (lN (ex i k))) → cn_k (mp1 1) 65536 ≤ cn_k (mp 1) 65536 → f1 + nI (sm_c (fun k => ex i k / 128) r) = f + nI (hl_bl ne ex i) →
      wX_erase_20 post (nI i) (lN (hl_tv fo par nm i)) (lN (hl_rc ne ex i)) (r + 1) (nI r - 1) d pl pp sk gv pr fb a1 a2 a3 a4 a5 a6 a7 a8 a9 a10 a11 := by
  have hib := A.2.1 i ia
  have h6 := (A.2.2.2.1 i ia).1
  obtain ⟨r1, r2, r3, -⟩ := hl_rcb A ia
  intro r
  induction r with
  | zero =>
    intro mp1 f1 d pl pp sk gv pr fb a1 a2 a3 a4 a5 a6 a7 a8 a9 a10 a11 hr h m0 m2 m3 hc hf
    refine br_t (by decide) (hl_key A ia ?_)
    have hf' : f1 = f + nI (hl_bl ne ex i) := by
      rw [← hf]
      show f1 = f1 + nI 0
      rw [nI_0]
      grind
    obtain ⟨hP, B⟩ := hl_er A ia hi1 hch m0 m2 hc hf'
    refine hl_drop (t := 0) h (by omega) (by omega) (fun u1 h1 => ?_)
    obtain ⟨d1, pl1, pp1, sk1, gv1, pr1, fb1, a1_1, a2_1, a3_1, a4_1, a5_1, a6_1, a7_1, a8_1, a9_1, a10_1, a11_1⟩ := u1
    dsimp only
    unfold wpX_threadKey
    rw [ix_512]
    refine hl_drop (t := 0) h1 (by omega) (by omega) (fun u2 h2 => ?_)
    obtain ⟨d2, pl2, pp2, sk2, gv2, pr2, fb2, a1_2, a2_2, a3_2, a4_2, a5_2, a6_2, a7_2, a8_2, a9_2, a10_2, a11_2⟩ := u2
    obtain ⟨rfl, rfl, rfl, R⟩ := h2
    refine nm_r (ix_m1 P hP) (Hp _ _ _ ⟨rfl, rfl, rfl, R⟩ B)
  | succ r ih =>
    intro mp1 f1 d pl pp sk gv pr fb a1 a2 a3 a4 a5 a6 a7 a8 a9 a10 a11 hr h m0 m2 m3 hc hf
    rw [nI_pred]
    refine br_f (nI_pos (by omega)) ?_
    obtain ⟨y1, y2, y3⟩ := A.2.2.2.2.1 i r ia (by omega)
    refine hl_ext3 h (by omega) (by omega) (fun z => hl_inl A ia (by omega) z) (fun z => by rw [r2]; exact m3 r (by omega) z) (fun u1 h1 => ?_)
    obtain ⟨d1, pl1, pp1, sk1, gv1, pr1, fb1, a1_1, a2_1, a3_1, a4_1, a5_1, a6_1, a7_1, a8_1, a9_1, a10_1, a11_1⟩ := u1
    dsimp only
    refine hl_mark h1 (by omega) y1 (fun _ u2 h2 => ?_) (fun z => absurd rfl z)
    obtain ⟨d2, pl2, pp2, sk2, gv2, pr2, fb2, a1_2, a2_2, a3_2, a4_2, a5_2, a6_2, a7_2, a8_2, a9_2, a10_2, a11_2⟩ := u2
    dsimp only
    have hf' : f1 + nI (ex i r / 128) + nI (sm_c (fun k => ex i k / 128) r) = f + nI (hl_bl ne ex i) := by
      rw [← hf, sm_s, ← nI_add]
      grind
    have em : nI r + (-1) = nI r - 1 := by grind
    refine pk_lt r 3 (fun z => nm_r em ?_) (fun z => ?_)
    · exact ih mp1 _ _ _ _ _ _ _ _ _ _ _ _ _ _ _ _ _ _ _ (by omega) h2 m0 m2 (fun k hk h3 => m3 k (by omega) h3) hc hf'
    · rw [ix_8]
      refine hl_drop (t := 1) h2 (by omega) (by omega) (fun u3 h3 => ?_)
      obtain ⟨d3, pl3, pp3, sk3, gv3, pr3, fb3, a1_3, a2_3, a3_3, a4_3, a5_3, a6_3, a7_3, a8_3, a9_3, a10_3, a11_3⟩ := u3
      refine nm_r em ?_
      exact ih _ _ _ _ _ _ _ _ _ _ _ _ _ _ _ _ _ _ _ _ (by omega) h3 (by rw [mp_do (by omega)]; exact m0) (fun j k hj hk => by rw [mp_d0 (by omega)]; exact m2 j k hj hk) (fun k hk h3 => by rw [mp_d0 (by omega)]; exact m3 k (by omega) h3) (Nat.le_trans cn_kdel1 hc) hf'
theorem hl_erase {post : St1 → Prop} {i : Nat} (h : hl_R u mp (nI G) (nI P) f) (A : hl_H mp G P C f al fo par nm ne ex) (ia : al i = true) (hi1 : i ≠ 1) (hch : ∀ j, al j = true → j ≠ 1 → par j ≠ i)
    (Hp : ∀ mp' f' u', hl_R u' mp' (nI G) (nI (P - 1)) f' → hl_H mp' G (P - 1) C f' (fun j => if j = i then false else al j) fo par nm ne ex → post u') : wpX_erase post u (nI i) (lN (hl_tv fo par nm i)) := by
  obtain ⟨d, pl, pp, sk, gv, pr, fb, a1_, a2_, a3_, a4_, a5_, a6_, a7_, a8_, a9_, a10_, a11_⟩ := u
  obtain ⟨r1, r2, r3, -⟩ := hl_rcb A ia
  unfold wpX_erase
  dsimp only
  refine hl_rec h A ia hi1 (fun u1 h1 => ?_)
  obtain ⟨d1, pl1, pp1, sk1, gv1, pr1, fb1, a1_1, a2_1, a3_1, a4_1, a5_1, a6_1, a7_1, a8_1, a9_1, a10_1, a11_1⟩ := u1
  dsimp only
  unfold wpX_recordExtents
  rw [bw_ext (by omega), r3]
  refine nm_e ⟨ne i + 1, ?_⟩
  exact hl_er20 A ia hi1 hch Hp (ne i) mp f _ _ _ _ _ _ _ _ _ _ _ _ _ _ _ _ _ _ (Nat.le_refl _) h1 rfl (fun j k _ _ => rfl) (fun k hk h3 => (A.2.2.2.2.1 i k ia hk).2.2 h3) (Nat.le_refl _) rfl
theorem hl_remove {post : Int32 → St1 → Prop} {i : Nat} (h : hl_I u C) (hC : C + 1 ≤ 65) (hi : i < 2 ^ 31) (hi1 : i ≠ 1) (Hp : ∀ r u', hl_I u' (C + 1) → post r u') : wpX_remove post u (nI i) := by
  obtain ⟨mp, G, P, f, al, fo, par, nm, ne, ex, h, A⟩ := h
  obtain ⟨d, pl, pp, sk, gv, pr, fb, a1_, a2_, a3_, a4_, a5_, a6_, a7_, a8_, a9_, a10_, a11_⟩ := u
  unfold wpX_remove
  dsimp only
  refine hl_T h A hi (fun ia u1 h1 => ?_) (fun _ u1 h1 => ?_)
  · obtain ⟨d1, pl1, pp1, sk1, gv1, pr1, fb1, a1_1, a2_1, a3_1, a4_1, a5_1, a6_1, a7_1, a8_1, a9_1, a10_1, a11_1⟩ := u1
    dsimp only
    have hib := A.2.1 i ia
    obtain ⟨t1, -⟩ := hl_tvb A ia
    refine br_t (lN_nn (by omega)) (pk_eq i 1 (fun z => absurd z hi1) (fun _ => ?_))
    refine hl_child h1 A ia (fun j j1 j2 j3 u2 h2 => ?_) (fun hch u2 h2 => ?_)
    · obtain ⟨d2, pl2, pp2, sk2, gv2, pr2, fb2, a1_2, a2_2, a3_2, a4_2, a5_2, a6_2, a7_2, a8_2, a9_2, a10_2, a11_2⟩ := u2
      have := A.2.1 j j1
      exact br_f (nI_pos (by omega)) (Hp _ _ (hl_I1 h2 A hC))
    · obtain ⟨d2, pl2, pp2, sk2, gv2, pr2, fb2, a1_2, a2_2, a3_2, a4_2, a5_2, a6_2, a7_2, a8_2, a9_2, a10_2, a11_2⟩ := u2
      dsimp only
      refine br_t (by decide) (hl_erase h2 A ia hi1 hch (fun mp' f' u3 h3 B => ?_))
      obtain ⟨d3, pl3, pp3, sk3, gv3, pr3, fb3, a1_3, a2_3, a3_3, a4_3, a5_3, a6_3, a7_3, a8_3, a9_3, a10_3, a11_3⟩ := u3
      exact Hp _ _ (hl_I1 h3 B hC)
  · obtain ⟨d1, pl1, pp1, sk1, gv1, pr1, fb1, a1_1, a2_1, a3_1, a4_1, a5_1, a6_1, a7_1, a8_1, a9_1, a10_1, a11_1⟩ := u1
    exact br_f (by decide) (Hp _ _ (hl_I1 h1 A hC))
end
/-- a leads up to i in n steps, all of them there, none the root -/
def hl_pt (al : Nat → Bool) (par : Nat → Nat) (i : Nat) : Nat → Nat → Prop
  | 0, a => a = i ∧ al a = true ∧ a ≠ 1
  | n + 1, a => al a = true ∧ a ≠ 1 ∧ hl_pt al par i n (par a)
theorem hl_pt0 {al : Nat → Bool} {par : Nat → Nat} {i n a : Nat} (h : hl_pt al par i n a) : al a = true ∧ a ≠ 1 := by
  cases n with
  | zero => exact ⟨h.2.1, h.2.2⟩
  | succ n => exact ⟨h.1, h.2.1⟩
theorem hl_ptk {al : Nat → Bool} {par : Nat → Nat} {i a : Nat} (hch : ∀ j, al j = true → j ≠ 1 → par j ≠ a) : ∀ n c, c ≠ a → hl_pt al par i n c → hl_pt (fun j => if j = a then false else al j) par i n c := by
  intro n
  induction n with
  | zero =>
    intro c hc h
    exact ⟨h.1, by dsimp only; rw [if_neg hc]; exact h.2.1, h.2.2⟩
  | succ n ih =>
    intro c hc h
    exact ⟨by dsimp only; rw [if_neg hc]; exact h.1, h.2.1, ih (par c) (hch c h.1 h.2.1) h.2.2⟩
theorem hl_ra34 {post : Int32 → St1 → Prop} {i C : Nat} (hC : C + 1 ≤ 65) (hi : i < 2 ^ 31) (Hp : ∀ r u', hl_I u' (C + 1) → post r u') :
    ∀ m s (x4 x5 x6 : Int32) (d pl pp sk gv pr fb : Int32) (a1 a2 a3 a4 a5 : Nat → Int32) (a6 : Nat → Int64) (a7 a8 a9 a10 a11 : Nat → Int32), s + m = 60 → hl_I (d, pl, pp, sk, gv, pr, fb, a1, a2, a3, a4, a5, a6, a7, a8, a9, a10, a11) C → (x6 ≠ 0 → ∃ (mp : Nat → Nat → Option Int64) (G P : Nat) (f : Int32) (al : Nat → Bool) (fo par nm ne : Nat → Nat) (ex : Nat → Nat → Nat) (n a : Nat), hl_R (d, pl, pp, sk, gv, pr, fb, a1, a2, a3, a4, a5, a6, a7, a8, a9, a10, a11) mp (nI G) (nI P) f ∧ hl_H mp G P C f al fo par nm ne ex ∧ hl_pt al par i n a ∧ x5 = nI a) → wX_removeAll_34 post (nI i) (m + 1) x4 x5 x6 (nI s) d pl pp sk gv pr fb a1 a2 a3 a4 a5 a6 a7 a8 a9 a10 a11 := by
  have up : ∀ u, hl_I u C → hl_I u (C + 1) := fun u h => by
    obtain ⟨mp, G, P, f, al, fo, par, nm, ne, ex, h, A⟩ := h
    exact hl_I1 h A hC
  intro m
  induction m with
  | zero =>
    intro s x4 x5 x6 d pl pp sk gv pr fb a1 a2 a3 a4 a5 a6 a7 a8 a9 a10 a11 hs h _
    exact pk_le 60 s (fun _ => Hp _ _ (up _ h)) (fun z => absurd z (by omega))
  | succ m ih =>
    intro s x4 x5 x6 d pl pp sk gv pr fb a1 a2 a3 a4 a5 a6 a7 a8 a9 a10 a11 hs h hx
    refine pk_le 60 s (fun z => absurd z (by omega)) (fun _ => br_c (fun _ => Hp _ _ (up _ h)) (fun hx6 => ?_))
    obtain ⟨mp, G, P, f, al, fo, par, nm, ne, ex, n, a, h', A, pt, e⟩ := hx hx6
    subst e
    obtain ⟨aa, a1⟩ := hl_pt0 pt
    have hab := A.2.1 a aa
    refine hl_child h' A aa (fun j j1 j2 j3 u1 h1 => ?_) (fun hch u1 h1 => ?_)
    · obtain ⟨d1, pl1, pp1, sk1, gv1, pr1, fb1, a1_1, a2_1, a3_1, a4_1, a5_1, a6_1, a7_1, a8_1, a9_1, a10_1, a11_1⟩ := u1
      dsimp only
      have hjb := A.2.1 j j1
      refine br_f (nI_pos (by omega)) (nm_r (nI_1 s) (ih (s + 1) _ _ _ _ _ _ _ _ _ _ _ _ _ _ _ _ _ _ _ _ _ (by omega) ⟨_, _, _, _, _, _, _, _, _, _, h1, A⟩ (fun _ => ?_)))
      exact ⟨mp, G, P, f, al, fo, par, nm, ne, ex, n + 1, j, h1, A, ⟨j1, j2, by rw [j3]; exact pt⟩, rfl⟩
    · obtain ⟨d1, pl1, pp1, sk1, gv1, pr1, fb1, a1_1, a2_1, a3_1, a4_1, a5_1, a6_1, a7_1, a8_1, a9_1, a10_1, a11_1⟩ := u1
      dsimp only
      refine br_t (by decide) (hl_T h1 A (by omega) (fun _ u2 h2 => ?_) (fun z => absurd z (by rw [aa]; decide)))
      obtain ⟨d2, pl2, pp2, sk2, gv2, pr2, fb2, a1_2, a2_2, a3_2, a4_2, a5_2, a6_2, a7_2, a8_2, a9_2, a10_2, a11_2⟩ := u2
      dsimp only
      refine hl_erase h2 A aa a1 hch (fun mp' f' u3 h3 B => ?_)
      obtain ⟨d3, pl3, pp3, sk3, gv3, pr3, fb3, a1_3, a2_3, a3_3, a4_3, a5_3, a6_3, a7_3, a8_3, a9_3, a10_3, a11_3⟩ := u3
      dsimp only
      refine nm_e (pk_eq a i (fun z => ?_) (fun z => ?_))
      · refine hl_par A aa (nm_r (nI_1 s) (ih (s + 1) _ _ _ _ _ _ _ _ _ _ _ _ _ _ _ _ _ _ _ _ _ (by omega) ⟨_, _, _, _, _, _, _, _, _, _, h3, B⟩ (fun w => absurd rfl w)))
      · refine hl_par A aa (nm_r (nI_1 s) (ih (s + 1) _ _ _ _ _ _ _ _ _ _ _ _ _ _ _ _ _ _ _ _ _ (by omega) ⟨_, _, _, _, _, _, _, _, _, _, h3, B⟩ (fun _ => ?_)))
        cases n with
        | zero => exact absurd pt.1 z
        | succ n => exact ⟨mp', G, P - 1, f', _, fo, par, nm, ne, ex, n, par a, h3, B, hl_ptk hch n (par a) (hch a aa a1) pt.2.2, rfl⟩
theorem hl_removeAll {post : Int32 → St1 → Prop} {i C : Nat} {u : St1} (h : hl_I u C) (hC : C + 1 ≤ 65) (hi : i < 2 ^ 31) (hi1 : i ≠ 1) (Hp : ∀ r u', hl_I u' (C + 1) → post r u') : wpX_removeAll post u (nI i) := by
  obtain ⟨mp, G, P, f, al, fo, par, nm, ne, ex, h, A⟩ := h
  obtain ⟨d, pl, pp, sk, gv, pr, fb, a1_, a2_, a3_, a4_, a5_, a6_, a7_, a8_, a9_, a10_, a11_⟩ := u
  unfold wpX_removeAll
  dsimp only
  refine hl_T h A hi (fun ia u1 h1 => ?_) (fun _ u1 h1 => ?_)
  · obtain ⟨d1, pl1, pp1, sk1, gv1, pr1, fb1, a1_1, a2_1, a3_1, a4_1, a5_1, a6_1, a7_1, a8_1, a9_1, a10_1, a11_1⟩ := u1
    dsimp only
    have hib := A.2.1 i ia
    obtain ⟨t1, -⟩ := hl_tvb A ia
    refine br_t (lN_nn (by omega)) (pk_eq i 1 (fun z => absurd z hi1) (fun _ => ⟨61, ?_⟩))
    exact hl_ra34 hC hi Hp 60 0 0 (nI i) 1 _ _ _ _ _ _ _ _ _ _ _ _ _ _ _ _ _ _ (by omega) ⟨_, _, _, _, _, _, _, _, _, _, h1, A⟩ (fun _ => ⟨mp, G, P, f, al, fo, par, nm, ne, ex, 0, i, h1, A, ⟨rfl, ia, hi1⟩, rfl⟩)
  · obtain ⟨d1, pl1, pp1, sk1, gv1, pr1, fb1, a1_1, a2_1, a3_1, a4_1, a5_1, a6_1, a7_1, a8_1, a9_1, a10_1, a11_1⟩ := u1
    exact br_f (by decide) (Hp _ _ (hl_I1 h1 A hC))
end
section
/-! one call of the law -/
theorem hl_up {u : St1} {C : Nat} (h : hl_I u C) (hC : C + 1 ≤ 65) : hl_I u (C + 1) := by
  obtain ⟨mp, G, P, f, al, fo, par, nm, ne, ex, h, A⟩ := h
  exact hl_I1 h A hC
/-- what is left to do of call k at stage b -/
def hl_D (u : St1) (C k b : Nat) : Prop := (b ≤ k → hl_I u C) ∧ (k < b → hl_I u (C + 1))
section
variable {d pl pp sk gv pr fb : Int32} {a1 a2 a3 a4 a5 : Nat → Int32} {a6 : Nat → Int64} {a7 a8 a9 a10 a11 : Nat → Int32} {post : St1 → Prop} {C k i : Nat} {x3 x4 : Int32}
theorem hl_c168 (hC : C + 1 ≤ 65) (hi : i < 2 ^ 31) (hk : k < 16) (Hp : ∀ u', hl_I u' (C + 1) → post u') (h : hl_D (d, pl, pp, sk, gv, pr, fb, a1, a2, a3, a4, a5, a6, a7, a8, a9, a10, a11) C k 15) : wL_call_168 post (nI k) (nI i) d pl pp sk gv pr fb a1 a2 a3 a4 a5 a6 a7 a8 a9 a10 a11 := by
  refine pk_eq k 15 (fun e => hl_shrink (h.1 (by omega)) hC hi (fun r u1 h1 => ?_)) (fun e => Hp _ (h.2 (by omega)))
  obtain ⟨d1, pl1, pp1, sk1, gv1, pr1, fb1, a1_1, a2_1, a3_1, a4_1, a5_1, a6_1, a7_1, a8_1, a9_1, a10_1, a11_1⟩ := u1
  exact Hp _ h1
theorem hl_c153 (hC : C + 1 ≤ 65) (hi : i < 2 ^ 31) (hk : k < 16) (Hp : ∀ u', hl_I u' (C + 1) → post u') (h : hl_D (d, pl, pp, sk, gv, pr, fb, a1, a2, a3, a4, a5, a6, a7, a8, a9, a10, a11) C k 14) : wL_call_153 post (nI k) x4 (nI i) d pl pp sk gv pr fb a1 a2 a3 a4 a5 a6 a7 a8 a9 a10 a11 := by
  refine pk_eq k 14 (fun e => hl_extend (h.1 (by omega)) hC hi (fun r u1 h1 => ?_)) (fun e => hl_c168 hC hi hk Hp ⟨fun z => h.1 (by omega), fun z => h.2 (by omega)⟩)
  obtain ⟨d1, pl1, pp1, sk1, gv1, pr1, fb1, a1_1, a2_1, a3_1, a4_1, a5_1, a6_1, a7_1, a8_1, a9_1, a10_1, a11_1⟩ := u1
  exact hl_c168 hC hi hk Hp ⟨fun z => by omega, fun _ => h1⟩
theorem hl_c127 (hC : C + 1 ≤ 65) (hi : i < 2 ^ 31) (hk : k < 16) (Hp : ∀ u', hl_I u' (C + 1) → post u') (h : hl_D (d, pl, pp, sk, gv, pr, fb, a1, a2, a3, a4, a5, a6, a7, a8, a9, a10, a11) C k 10) : wL_call_127 post (nI k) x4 (nI i) d pl pp sk gv pr fb a1 a2 a3 a4 a5 a6 a7 a8 a9 a10 a11 := by
  refine pk_lt k 10 (fun e => hl_c153 hC hi hk Hp ⟨fun z => by omega, fun _ => h.2 e⟩) (fun e => pk_lt 13 k (fun e2 => hl_c153 hC hi hk Hp ⟨fun _ => h.1 e, fun z => by omega⟩) (fun e2 => hl_extend (h.1 e) hC hi (fun r u1 h1 => ?_)))
  obtain ⟨d1, pl1, pp1, sk1, gv1, pr1, fb1, a1_1, a2_1, a3_1, a4_1, a5_1, a6_1, a7_1, a8_1, a9_1, a10_1, a11_1⟩ := u1
  exact hl_c153 hC hi hk Hp ⟨fun z => by omega, fun _ => h1⟩
theorem hl_c108 (hC : C + 1 ≤ 65) (hi : i < 2 ^ 31) (hi1 : i ≠ 1) (hk : k < 16) (Hp : ∀ u', hl_I u' (C + 1) → post u') (h : hl_D (d, pl, pp, sk, gv, pr, fb, a1, a2, a3, a4, a5, a6, a7, a8, a9, a10, a11) C k 9) : wL_call_108 post (nI k) x3 x4 (nI i) d pl pp sk gv pr fb a1 a2 a3 a4 a5 a6 a7 a8 a9 a10 a11 := by
  refine pk_eq k 9 (fun e => br_c (fun _ => hl_removeAll (h.1 (by omega)) hC hi hi1 (fun r u1 h1 => ?_)) (fun _ => hl_c127 hC hi hk Hp ⟨fun z => by omega, fun _ => hl_up (h.1 (by omega)) hC⟩)) (fun e => hl_c127 hC hi hk Hp ⟨fun z => h.1 (by omega), fun z => h.2 (by omega)⟩)
  obtain ⟨d1, pl1, pp1, sk1, gv1, pr1, fb1, a1_1, a2_1, a3_1, a4_1, a5_1, a6_1, a7_1, a8_1, a9_1, a10_1, a11_1⟩ := u1
  exact hl_c127 hC hi hk Hp ⟨fun z => by omega, fun _ => h1⟩
theorem hl_c95 (hC : C + 1 ≤ 65) (hi : i < 2 ^ 31) (hi1 : i ≠ 1) (hk : k < 16) (Hp : ∀ u', hl_I u' (C + 1) → post u') (h : hl_D (d, pl, pp, sk, gv, pr, fb, a1, a2, a3, a4, a5, a6, a7, a8, a9, a10, a11) C k 8) : wL_call_95 post (nI k) x3 x4 (nI i) d pl pp sk gv pr fb a1 a2 a3 a4 a5 a6 a7 a8 a9 a10 a11 := by
  refine pk_eq k 8 (fun e => hl_remove (h.1 (by omega)) hC hi hi1 (fun r u1 h1 => ?_)) (fun e => hl_c108 hC hi hi1 hk Hp ⟨fun z => h.1 (by omega), fun z => h.2 (by omega)⟩)
  obtain ⟨d1, pl1, pp1, sk1, gv1, pr1, fb1, a1_1, a2_1, a3_1, a4_1, a5_1, a6_1, a7_1, a8_1, a9_1, a10_1, a11_1⟩ := u1
  exact hl_c108 hC hi hi1 hk Hp ⟨fun z => by omega, fun _ => h1⟩
theorem hl_c73 {q : Nat} {x7 : Int32} (hC : C + 1 ≤ 65) (hi : i < 2 ^ 31) (hi1 : i ≠ 1) (hq : q < 2 ^ 31) (hk : k < 16) (Hp : ∀ u', hl_I u' (C + 1) → post u') (h : hl_D (d, pl, pp, sk, gv, pr, fb, a1, a2, a3, a4, a5, a6, a7, a8, a9, a10, a11) C k 5) : wL_call_73 post (nI k) x3 x4 (nI i) (nI q) x7 d pl pp sk gv pr fb a1 a2 a3 a4 a5 a6 a7 a8 a9 a10 a11 := by
  refine pk_lt k 5 (fun e => hl_c95 hC hi hi1 hk Hp ⟨fun z => by omega, fun _ => h.2 e⟩) (fun e => pk_lt 7 k (fun e2 => hl_c95 hC hi hi1 hk Hp ⟨fun _ => h.1 e, fun z => by omega⟩) (fun e2 => hl_move (h.1 e) hC hi hi1 hq (fun r u1 h1 => ?_)))
  obtain ⟨d1, pl1, pp1, sk1, gv1, pr1, fb1, a1_1, a2_1, a3_1, a4_1, a5_1, a6_1, a7_1, a8_1, a9_1, a10_1, a11_1⟩ := u1
  exact hl_c95 hC hi hi1 hk Hp ⟨fun z => by omega, fun _ => h1⟩
theorem hl_c69 {q : Nat} {x7 z0 z1 : Int32} (hC : C + 1 ≤ 65) (hi : i < 2 ^ 31) (hi1 : i ≠ 1) (hq : q < 2 ^ 31) (hk : k < 5) (Hp : ∀ u', hl_I u' (C + 1) → post u') (h : hl_I (d, pl, pp, sk, gv, pr, fb, a1, a2, a3, a4, a5, a6, a7, a8, a9, a10, a11) C) : wL_call_69 post (nI k) x3 x4 (nI i) (nI q) x7 z0 z1 (nI q) d pl pp sk gv pr fb a1 a2 a3 a4 a5 a6 a7 a8 a9 a10 a11 := by
  refine hl_make h hC hq (fun r u1 h1 => ?_)
  obtain ⟨d1, pl1, pp1, sk1, gv1, pr1, fb1, a1_1, a2_1, a3_1, a4_1, a5_1, a6_1, a7_1, a8_1, a9_1, a10_1, a11_1⟩ := u1
  exact hl_c73 hC hi hi1 hq (by omega) Hp ⟨fun z => by omega, fun _ => h1⟩
theorem hl_c46 {q : Nat} {x2 z0 : Int32} (hC : C + 1 ≤ 65) (hi : i < 2 ^ 31) (hi1 : i ≠ 1) (hq : q < 2 ^ 31) (hk : k < 16) (Hp : ∀ u', hl_I u' (C + 1) → post u') (h : hl_I (d, pl, pp, sk, gv, pr, fb, a1, a2, a3, a4, a5, a6, a7, a8, a9, a10, a11) C) : wL_call_46 post (nI k) x2 x3 x4 (nI i) (nI q) z0 d pl pp sk gv pr fb a1 a2 a3 a4 a5 a6 a7 a8 a9 a10 a11 :=
  pk_lt 4 k (fun e => hl_c73 hC hi hi1 hq hk Hp ⟨fun _ => h, fun z => by omega⟩) (fun e => br_c (fun _ => hl_c69 hC hi hi1 hq (by omega) Hp h) (fun _ => hl_c69 hC hi hi1 hq (by omega) Hp h))
theorem hl_c26 {q : Nat} {x2 : Int32} (hC : C + 1 ≤ 65) (hi : i < 2 ^ 31) (hi1 : i ≠ 1) (hq : q < 2 ^ 31) (hk : k < 16) (Hp : ∀ u', hl_I u' (C + 1) → post u') (h : hl_I (d, pl, pp, sk, gv, pr, fb, a1, a2, a3, a4, a5, a6, a7, a8, a9, a10, a11) C) : wL_call_26 post (nI k) x2 x3 x4 (nI i) (nI q) d pl pp sk gv pr fb a1 a2 a3 a4 a5 a6 a7 a8 a9 a10 a11 :=
  br_c (fun _ => hl_c46 hC hi hi1 hq hk Hp h) (fun _ => hl_c46 hC hi hi1 hq hk Hp h)
end
theorem hl_call {post : St1 → Prop} {u : St1} {C k : Nat} {p2 p3 p4 : Int32} (hC : C + 1 ≤ 65) (hk : k < 16) (Hp : ∀ u', hl_I u' (C + 1) → post u') (h : hl_I u C) : wpL_call post u (nI k) p2 p3 p4 := by
  obtain ⟨d, pl, pp, sk, gv, pr, fb, a1_, a2_, a3_, a4_, a5_, a6_, a7_, a8_, a9_, a10_, a11_⟩ := u
  obtain ⟨j, hj, ej⟩ := pk_andE p2 (m := 31) 5 (by decide)
  obtain ⟨q, hq, eq⟩ := pk_andE (p3 >>> ((2 : Int32) &&& 31)) (m := 15) 4 (by decide)
  have e2 : ∀ a : Nat, 2 + nI a = nI (2 + a) := fun a => by rw [show (2 : Int32) = nI 2 from rfl, nI_add]
  refine nm_r (show 2 + (p2 &&& 31) = nI (2 + j) by rw [ej, e2]) (br_c (fun _ => ?_) (fun _ => ?_))
  · exact hl_c26 (q := 1) hC (by omega) (by omega) (by omega) hk Hp h
  · rw [eq, e2]
    exact hl_c26 hC (by omega) (by omega) (by omega) hk Hp h
end
section
/-! the two empty trees, the first state -/
theorem fi_R {r r2 : Nat} {a1 a2 a3 a4 a8 : Nat → Int32} (hr : r < 80) (hr2 : r2 < 80) (hne : r2 ≠ r)
    (g1 : cs_1 2 80 a1 (fun t => if t = 1 then r2 else r)) (g2 : cs_1 80 2 a2 (fun n => if n = r2 then 1 else if n = r then 1 else 0)) (g3 : cs_1 80 2 a3 (fun n => if n = r2 then 1 else if n = r then 1 else 0)) (g4 : cs_1 80 6 a4 (fun _ => 0)) (g8 : cs_A a8 (fun n => if n = r2 then 80 else if n = r then 80 else 0)) :
    cs_R a1 a2 a3 a4 (fun _ => 0) (fun _ => 0) (fun _ => 0) a8 (fun _ _ => none) := by
  have o : ∀ n, (if n = r then 0 else if n = r2 then 1 else 2) < 2 → n = r ∨ n = r2 := fun n h => by
    by_cases e : n = r
    · exact Or.inl e
    · rw [if_neg e] at h
      by_cases e2 : n = r2
      · exact Or.inr e2
      · rw [if_neg e2] at h; omega
  have oe : ∀ n, (if n = r then 0 else if n = r2 then 1 else 2) < 2 → n = (if (if n = r then 0 else if n = r2 then 1 else 2) = 1 then r2 else r) := fun n h => by
    rcases o n h with e | e
    · rw [if_pos e, if_neg (by omega)]; exact e
    · rw [if_neg (show ¬ n = r from fun z => hne (e.symm.trans z)), if_pos e, if_pos rfl]; exact e
  refine ⟨_, _, _, (fun _ _ => 0), (fun _ _ => 0), (fun _ _ => 0), _, (fun n => if n = r then 0 else if n = r2 then 1 else 2), (fun _ => 0), (fun _ => 0), (fun _ => 65536), (fun _ => 80), (fun _ => 0), _, (fun _ => 0), ⟨g1, g2, g3, g4, fun n i _ _ => ⟨rfl, show (0 : Nat) < 65536 by omega⟩, fun n i _ _ => rfl, fun n i _ _ => ⟨rfl, show (0 : Nat) < 80 by omega⟩, g8⟩, ⟨?_, ?_, ?_, ?_, ?_, ?_, ?_, ?_, ?_, ?_⟩, ?_⟩
  · intro n hn
    dsimp only
    by_cases e : n = r
    · rw [if_pos e, if_neg (fun z => hne (z.symm.trans e)), if_pos e]; omega
    · rw [if_neg e]
      by_cases e2 : n = r2
      · rw [if_pos e2, if_pos e2]; omega
      · rw [if_neg e2, if_neg e2, if_neg e]; omega
  · intro n hn h
    dsimp only at h ⊢
    refine ⟨by omega, ?_, by omega, by omega⟩
    rcases o n h with e | e
    · by_cases e2 : n = r2
      · rw [if_pos e2]; omega
      · rw [if_neg e2, if_pos e]; omega
    · rw [if_pos e]; omega
  · intro n i hn h hi; exact absurd hi (Nat.not_lt_zero i)
  · intro n i j hn h hij hj; exact absurd hj (Nat.not_lt_zero j)
  · intro n i hn h hl; exact absurd rfl hl
  · intro n hn h hnr; exact absurd (oe n h) hnr
  · intro n hn h hl
    dsimp only at h ⊢
    refine ⟨fun _ => ?_, fun z => absurd rfl z⟩
    rcases o n h with e | e
    · by_cases e2 : n = r2
      · rw [if_pos e2]
      · rw [if_neg e2, if_pos e]
    · rw [if_pos e]
  · intro t ht
    dsimp only
    have h : t = 0 ∨ t = 1 := by omega
    rcases h with e | e
    · rw [if_neg (by omega), if_pos rfl]
      exact ⟨hr, by omega, rfl, rfl, rfl, rfl⟩
    · rw [if_pos e, if_neg hne, if_pos rfl]
      exact ⟨hr2, by omega, rfl, rfl, rfl, rfl⟩
  · intro n i hn h hl hi; exact absurd hi (Nat.not_lt_zero i)
  · intro t k v ht h; exact absurd h (by simp)
  · intro n hn h _
    exact ⟨Nat.zero_le 4, fun z => absurd (oe n h) z, fun z => absurd rfl z⟩
theorem fi_H : hl_H (mp_put (fun _ _ => none) 0 512 (lN 1)) 0 0 0 96 (fun i => decide (i = 1)) (fun _ => 1) (fun _ => 0) (fun _ => 0) (fun _ => 0) (fun _ _ => 0) := by
  have k0 : cn_k (fun _ => none) 65536 = 0 := cn_none (fun i _ => rfl)
  refine ⟨⟨rfl, rfl, rfl, rfl⟩, ?_, ?_, ?_, ?_, ?_, ?_, ?_, ?_⟩
  · intro i h
    have e : i = 1 := of_decide_eq_true h
    subst e
    exact ⟨by omega, by omega, by omega, Nat.le_refl 1, Nat.zero_le _, Nat.zero_le _, mp_p1⟩
  · intro i h h1
    exact absurd (of_decide_eq_true h) h1
  · intro i h
    exact ⟨Nat.zero_le 6, fun _ => rfl⟩
  · intro i k h hk
    exact absurd hk (Nat.not_lt_zero k)
  · intro k v h
    refine ⟨1, rfl, Or.inl ?_⟩
    by_cases e : k = 512
    · omega
    · rw [mp_p0 (fun z => e z.2)] at h
      exact absurd h (by simp)
  · exact ⟨by decide, by omega, by omega⟩
  · have := cn_kput (mp := fun _ _ => none) (t := 0) (k := 512) (v := lN 1) (n := 65536) (by omega) rfl
    rw [mp_po (a := 1) (by omega)]
    omega
  · rfl
theorem fi_init {post : St1 → Prop} (Hp : ∀ u, hl_I u 0 → post u) : wpX_init post 11 1714 (0, 0, 0, 0, 0, 0, 0) := by
  refine ⟨by omega, by omega, by omega, by omega, by omega, by omega, by omega, by omega, by omega, by omega, by omega, by omega, by omega, by omega, by omega, by omega, by omega, by omega, by omega, by omega, by omega, by omega, ?_⟩
  refine wk_take (l := 1) (tk := fun _ => 0) (lf := fun _ => 0) (sz := fun _ => 0) (af := fun _ => 0) (by omega) rfl (fun n _ => ⟨rfl, show (0 : Nat) < 2 by omega⟩) (fun n _ => ⟨rfl, show (0 : Nat) < 2 by omega⟩) (fun n _ => ⟨rfl, show (0 : Nat) < 6 by omega⟩) (fun n _ => ⟨rfl, Nat.zero_le 80⟩) ⟨0, by omega, rfl⟩ (fun r b2 b3 b4 b8 hr h0 g2 g3 g4 g8 => ?_)
  refine nm_e ?_
  obtain ⟨s, hs, hsr⟩ : ∃ s, s < 80 ∧ s ≠ r := by
    by_cases e : r = 0
    · exact ⟨1, by omega, by omega⟩
    · exact ⟨0, by omega, by omega⟩
  refine wk_take (l := 1) (by omega) rfl g2 g3 g4 g8 ⟨s, hs, by rw [if_neg hsr]⟩ (fun r2 c2 c3 c4 c8 hr2 h02 q2 q3 q4 q8 => ?_)
  have hne : r2 ≠ r := fun e => by
    rw [if_pos e] at h02
    omega
  refine nm_e ?_
  have R := fi_R (a1 := upd (upd (fun _ => 0) 0 (nI r)) 1 (nI r2)) hr hr2 hne (fun t ht => by
    have h : t = 0 ∨ t = 1 := by omega
    rcases h with e | e
    · subst e
      rw [pk_un (by omega), pk_us]
      exact ⟨rfl, hr⟩
    · subst e
      rw [pk_us]
      exact ⟨rfl, hr2⟩) q2 q3 (cs_1c q4 (fun n _ => by
        by_cases e : n = r2
        · rw [if_pos e]
        · rw [if_neg e]
          by_cases e2 : n = r
          · rw [if_pos e2]
          · rw [if_neg e2])) q8
  have k0 : cn_k (fun _ => none) 65536 = 0 := cn_none (fun i _ => rfl)
  unfold wpX_threadKey
  show wpX_putRecord _ _ (nI 0) (nI 512) (lN 1)
  refine hl_put (g := nI 0) (p := nI 0) (f := 96) (mp := fun _ _ => none) ⟨rfl, rfl, rfl, R⟩ (by omega) (by omega) (by omega) (fun u h => ?_)
  obtain ⟨d, pl, pp, sk, gv, pr, fb, a1_, a2_, a3_, a4_, a5_, a6_, a7_, a8_, a9_, a10_, a11_⟩ := u
  exact Hp _ ⟨_, 0, 0, 96, _, _, _, _, _, _, h, fi_H⟩
end
section
/-! the law's loop, what is owed -/
theorem fi_loop {L : Nat} {xs : Nat → Int32} {kc ks : Nat} (hL : L ≤ 260) : ∀ m c (d pl pp sk gv pr fb : Int32) (a1 a2 a3 a4 a5 : Nat → Int32) (a6 : Nat → Int64) (a7 a8 a9 a10 a11 : Nat → Int32), c + m = 65 → 4 * c ≤ L → hl_I (d, pl, pp, sk, gv, pr, fb, a1, a2, a3, a4, a5, a6, a7, a8, a9, a10, a11) c → wL_law_10 (fun r => r = 1) L xs kc ks (m + 1) (nI (4 * c)) d pl pp sk gv pr fb a1 a2 a3 a4 a5 a6 a7 a8 a9 a10 a11 := by
  intro m
  have e4 : ∀ c : Nat, nI (4 * c) + 4 = nI (4 * c + 4) := fun c => by rw [show (4 : Int32) = nI 4 from rfl, nI_add]
  induction m with
  | zero =>
    intro c d pl pp sk gv pr fb a1 a2 a3 a4 a5 a6 a7 a8 a9 a10 a11 hc hcL h
    exact pk_lt L (4 * c + 4) (fun _ => rfl) (fun z => absurd z (by omega)) rfl (e4 c)
  | succ m ih =>
    intro c d pl pp sk gv pr fb a1 a2 a3 a4 a5 a6 a7 a8 a9 a10 a11 hc hcL h
    refine pk_lt L (4 * c + 4) (fun _ => rfl) (fun z => ?_) rfl (e4 c)
    have i1 : nI (4 * c) + 1 = nI (4 * c + 1) := nI_1 _
    have i2 : nI (4 * c) + 2 = nI (4 * c + 2) := by rw [show (2 : Int32) = nI 2 from rfl, nI_add]
    have i3 : nI (4 * c) + 3 = nI (4 * c + 3) := by rw [show (3 : Int32) = nI 3 from rfl, nI_add]
    refine ⟨pk_in (4 * c) L (by omega), pk_in (4 * c + 1) L (by omega) i1, pk_in (4 * c + 2) L (by omega) i2, pk_in (4 * c + 3) L (by omega) i3, ?_⟩
    obtain ⟨k, hk, ek⟩ := pk_andE (xs (nI (4 * c)).toNatClampNeg) (m := 15) 4 (by decide)
    rw [ek]
    refine hl_call (C := c) (by omega) (by omega) (fun u1 h1 => ?_) h
    obtain ⟨d1, pl1, pp1, sk1, gv1, pr1, fb1, a1_1, a2_1, a3_1, a4_1, a5_1, a6_1, a7_1, a8_1, a9_1, a10_1, a11_1⟩ := u1
    dsimp only
    obtain ⟨mp, G, P, f, al, fo, par, nm, ne, ex, h2, A⟩ := h1
    refine hl_holds A h2 (fun u3 h3 => ?_)
    obtain ⟨d3, pl3, pp3, sk3, gv3, pr3, fb3, a1_3, a2_3, a3_3, a4_3, a5_3, a6_3, a7_3, a8_3, a9_3, a10_3, a11_3⟩ := u3
    refine br_f (by decide) (nm_r (e4 c) ?_)
    exact ih (c + 1) _ _ _ _ _ _ _ _ _ _ _ _ _ _ _ _ _ _ (by omega) (by omega) ⟨_, _, _, _, _, _, _, _, _, _, h3, A⟩
theorem i_vc (xs : Nat → Int32) (L : Nat) (hL : L ≤ 260) : wpL_law (fun r => r = 1) L xs := by
  refine ⟨11, 1714, by omega, by omega, fi_init (fun u h => ?_)⟩
  obtain ⟨d, pl, pp, sk, gv, pr, fb, a1_, a2_, a3_, a4_, a5_, a6_, a7_, a8_, a9_, a10_, a11_⟩ := u
  exact ⟨66, fi_loop hL 65 0 _ _ _ _ _ _ _ _ _ _ _ _ _ _ _ _ _ _ (by omega) (by omega) h⟩
end
