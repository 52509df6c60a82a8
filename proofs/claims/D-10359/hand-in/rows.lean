section
/-- an array of naturals as the machine holds it -/
def gf_I (f : Nat → Nat) : Nat → Int32 := fun i => nI (f i)
def gf_up (f : Nat → Nat) (k v : Nat) : Nat → Nat := fun j => if j = k then v else f j
theorem gf_us {f : Nat → Nat} {k v : Nat} : gf_up f k v k = v := if_pos rfl
theorem gf_un {f : Nat → Nat} {k v j : Nat} (h : j ≠ k) : gf_up f k v j = f j := if_neg h
theorem gf_updI (f : Nat → Nat) (k v : Nat) : upd (gf_I f) k (nI v) = gf_I (gf_up f k v) := by
  funext j
  unfold upd gf_I gf_up
  by_cases h : j = k
  · rw [if_pos h, if_pos h]
  · rw [if_neg h, if_neg h]
/-- a store: the place and the value known as naturals -/
theorem gf_st {f : Nat → Nat} {i x : Int32} {k v : Nat} (hi : i = nI k) (hk : k < 2 ^ 31) (hx : x = nI v) : upd (gf_I f) i.toNatClampNeg x = gf_I (gf_up f k v) := by
  rw [hi, hx, nI_clamp hk, gf_updI]
/-- a load -/
theorem gf_at (f : Nat → Nat) {i : Int32} {k : Nat} (hi : i = nI k) (hk : k < 2 ^ 31) : gf_I f i.toNatClampNeg = nI (f k) := by
  rw [hi, nI_clamp hk]
  rfl
theorem gf_4 (b k : Nat) : 4 * nI b + nI k = nI (4 * b + k) := by
  show nI 4 * nI b + nI k = _
  rw [pk_mul, nI_add]
theorem gf_4a (f : Nat → Nat) {b : Nat} (hb : b < 2 ^ 31) : 4 * nI b + gf_I f (nI b).toNatClampNeg = nI (4 * b + f b) := by
  rw [gf_at f rfl hb, gf_4]
theorem gf_40 (b : Nat) : 4 * nI b = nI (4 * b) := by
  show nI 4 * nI b = _
  rw [pk_mul]
theorem gf_32 (c r : Nat) : 32 * nI c + nI r = nI (32 * c + r) := by
  show nI 32 * nI c + nI r = _
  rw [pk_mul, nI_add]
theorem gf_pred {n : Nat} (h : 0 < n) : nI n - 1 = nI (n - 1) := by
  show nI n - nI 1 = _
  exact pk_sub h
theorem gf_shr5 {p : Nat} (h : p < 2 ^ 31) : nI p >>> ((5 : Int32) &&& 31) = nI (p / 32) := pk_shrN h _ 5 (by decide)
theorem gf_and31 {p : Nat} (h : p < 2 ^ 31) : nI p &&& 31 = nI (p % 32) := pk_andN (by omega) 5 (by decide)
/-! counting -/
def gf_cnt (S : Nat → Bool) : Nat → Nat
  | 0 => 0
  | n + 1 => gf_cnt S n + (if S n = true then 1 else 0)
def gf_ins (S : Nat → Bool) (p : Nat) : Nat → Bool := fun q => decide (q = p) || S q
def gf_del (S : Nat → Bool) (p : Nat) : Nat → Bool := fun q => !decide (q = p) && S q
theorem gf_ins_iff {S : Nat → Bool} {p q : Nat} : gf_ins S p q = true ↔ q = p ∨ S q = true := by
  unfold gf_ins
  simp
theorem gf_del_iff {S : Nat → Bool} {p q : Nat} : gf_del S p q = true ↔ q ≠ p ∧ S q = true := by
  unfold gf_del
  simp
theorem gf_bext {a b : Bool} (h : a = true ↔ b = true) : a = b := by
  cases a <;> cases b <;> simp_all
theorem gf_cnt_s (S : Nat → Bool) (n : Nat) : gf_cnt S (n + 1) = gf_cnt S n + (if S n = true then 1 else 0) := rfl
theorem gf_cnt_ext {S T : Nat → Bool} {n : Nat} (h : ∀ q, q < n → (S q = true ↔ T q = true)) : gf_cnt S n = gf_cnt T n := by
  induction n with
  | zero => rfl
  | succ n ih =>
    rw [gf_cnt_s, gf_cnt_s, ih (fun q hq => h q (by omega)), gf_bext (h n (by omega))]
theorem gf_cnt_mono (S : Nat → Bool) {a b : Nat} (h : a ≤ b) : gf_cnt S a ≤ gf_cnt S b := by
  induction b with
  | zero => rw [Nat.le_zero.mp h]; exact Nat.le_refl _
  | succ b ih =>
    rcases Nat.lt_or_ge a (b + 1) with z | z
    · have := ih (by omega)
      rw [gf_cnt_s]
      omega
    · have : a = b + 1 := by omega
      rw [this]
      exact Nat.le_refl _
theorem gf_cnt_ins {S : Nat → Bool} {p : Nat} (hS : S p = false) : ∀ n, p < n → gf_cnt (gf_ins S p) n = gf_cnt S n + 1 := by
  intro n
  induction n with
  | zero => intro h; omega
  | succ n ih =>
    intro h
    rw [gf_cnt_s, gf_cnt_s]
    by_cases e : n = p
    · have h1 : gf_ins S p n = true := gf_ins_iff.mpr (Or.inl e)
      have h2 : gf_cnt (gf_ins S p) n = gf_cnt S n := by
        refine gf_cnt_ext (fun q hq => ?_)
        rw [gf_ins_iff]
        exact ⟨fun t => t.elim (fun t => absurd t (by omega)) id, Or.inr⟩
      rw [if_pos h1, h2, e, hS]
      simp
    · have h1 : gf_ins S p n = S n := gf_bext (by rw [gf_ins_iff]; exact ⟨fun t => t.elim (fun t => absurd t e) id, Or.inr⟩)
      rw [h1, ih (by omega)]
      omega
theorem gf_cnt_del {S : Nat → Bool} {p n : Nat} (hp : p < n) (hS : S p = true) : gf_cnt S n = gf_cnt (gf_del S p) n + 1 := by
  have h0 : gf_del S p p = false := by
    cases e : gf_del S p p with
    | false => rfl
    | true => exact absurd rfl (gf_del_iff.mp e).1
  rw [← gf_cnt_ins h0 n hp]
  refine gf_cnt_ext (fun q hq => ?_)
  rw [gf_ins_iff, gf_del_iff]
  by_cases e : q = p
  · rw [e]
    exact ⟨fun _ => Or.inl rfl, fun _ => hS⟩
  · exact ⟨fun t => Or.inr ⟨e, t⟩, fun t => t.elim (fun t => absurd t e) (fun t => t.2)⟩
theorem gf_inj_le {N : Nat} {f : Nat → Nat} : ∀ (n : Nat) (S : Nat → Bool), (∀ i, i < n → f i < N ∧ S (f i) = true) → (∀ i j, i < j → j < n → f i ≠ f j) → n ≤ gf_cnt S N := by
  intro n
  induction n with
  | zero => intro S _ _; omega
  | succ n ih =>
    intro S h1 h2
    have := ih (gf_del S (f n)) (fun i hi => ⟨(h1 i (by omega)).1, gf_del_iff.mpr ⟨h2 i n hi (by omega), (h1 i (by omega)).2⟩⟩) (fun i j hij hj => h2 i j hij (by omega))
    have e := gf_cnt_del (h1 n (by omega)).1 (h1 n (by omega)).2
    omega
theorem gf_cnt_0 {S : Nat → Bool} {n : Nat} (h : ∀ q, q < n → ¬ S q = true) : gf_cnt S n = 0 := by
  induction n with
  | zero => rfl
  | succ n ih =>
    rw [gf_cnt_s, ih (fun q hq => h q (by omega)), if_neg (h n (by omega))]
theorem gf_inj_eq {N : Nat} {f : Nat → Nat} : ∀ (n : Nat) (S : Nat → Bool), (∀ i, i < n → f i < N ∧ S (f i) = true) → (∀ i j, i < j → j < n → f i ≠ f j) → (∀ p, p < N → S p = true → ∃ i, i < n ∧ f i = p) → gf_cnt S N = n := by
  intro n
  induction n with
  | zero =>
    intro S _ _ h3
    exact gf_cnt_0 (fun q hq t => by obtain ⟨i, hi, _⟩ := h3 q hq t; omega)
  | succ n ih =>
    intro S h1 h2 h3
    have := ih (gf_del S (f n)) (fun i hi => ⟨(h1 i (by omega)).1, gf_del_iff.mpr ⟨h2 i n hi (by omega), (h1 i (by omega)).2⟩⟩) (fun i j hij hj => h2 i j hij (by omega)) (fun p hp t => by
      have t' := gf_del_iff.mp t
      obtain ⟨i, hi, e⟩ := h3 p hp t'.2
      refine ⟨i, ?_, e⟩
      rcases Nat.lt_or_ge i n with z | z
      · exact z
      · have : i = n := by omega
        rw [this] at e
        exact absurd e.symm t'.1)
    have e := gf_cnt_del (h1 n (by omega)).1 (h1 n (by omega)).2
    omega
/-- hp lists C, each once, in its first h places -/
def gf_En (C : Nat → Prop) (h : Nat) (hp : Nat → Nat) : Prop := (∀ i, i < h → hp i < 1024 ∧ C (hp i)) ∧ (∀ i j, i < j → j < h → hp i ≠ hp j) ∧ (∀ p, p < 1024 → C p → ∃ i, i < h ∧ hp i = p)
theorem gf_En_le {C : Nat → Prop} {h : Nat} {hp : Nat → Nat} {S : Nat → Bool} (hE : gf_En C h hp) (hS : ∀ p, C p → S p = true) : h ≤ gf_cnt S 1024 :=
  gf_inj_le h S (fun i hi => ⟨(hE.1 i hi).1, hS _ (hE.1 i hi).2⟩) hE.2.1
theorem gf_En_eq {h : Nat} {hp : Nat → Nat} {S : Nat → Bool} (hE : gf_En (fun p => S p = true) h hp) : gf_cnt S 1024 = h :=
  gf_inj_eq h S hE.1 hE.2.1 hE.2.2
theorem gf_En_0 {C : Nat → Prop} {hp : Nat → Nat} (h : ∀ p, p < 1024 → ¬ C p) : gf_En C 0 hp :=
  ⟨fun i hi => absurd hi (by omega), fun i j _ hj => absurd hj (by omega), fun p hp t => absurd t (h p hp)⟩
theorem gf_En_iff {C C' : Nat → Prop} {h : Nat} {hp : Nat → Nat} (hE : gf_En C h hp) (e : ∀ p, p < 1024 → (C p ↔ C' p)) : gf_En C' h hp :=
  ⟨fun i hi => ⟨(hE.1 i hi).1, (e _ (hE.1 i hi).1).mp (hE.1 i hi).2⟩, hE.2.1, fun p hp t => hE.2.2 p hp ((e p hp).mpr t)⟩
theorem gf_En_add {C C' : Nat → Prop} {h p : Nat} {hp : Nat → Nat} (hE : gf_En C h hp) (hp1 : p < 1024) (hn : ¬ C p) (e : ∀ q, q < 1024 → (C' q ↔ C q ∨ q = p)) : gf_En C' (h + 1) (gf_up hp h p) := by
  obtain ⟨h1, h2, h3⟩ := hE
  refine ⟨fun i hi => ?_, fun i j hij hj => ?_, fun q hq t => ?_⟩
  · by_cases z : i = h
    · rw [z, gf_us]
      exact ⟨hp1, (e p hp1).mpr (Or.inr rfl)⟩
    · rw [gf_un z]
      have := h1 i (by omega)
      exact ⟨this.1, (e _ this.1).mpr (Or.inl this.2)⟩
  · rw [gf_un (show i ≠ h by omega)]
    by_cases z : j = h
    · rw [z, gf_us]
      intro t
      have := (h1 i (by omega)).2
      rw [t] at this
      exact hn this
    · rw [gf_un z]
      exact h2 i j hij (by omega)
  · rcases (e q hq).mp t with t | t
    · obtain ⟨i, hi, ei⟩ := h3 q hq t
      exact ⟨i, by omega, by rw [gf_un (show i ≠ h by omega)]; exact ei⟩
    · exact ⟨h, by omega, by rw [gf_us]; exact t.symm⟩
/-- the rank of a place in a rising list -/
theorem gf_rank {h : Nat} {hp : Nat → Nat} {T : Nat → Bool} (hE : gf_En (fun p => T p = true) h hp) (hs : ∀ i j, i < j → j < h → hp i < hp j) {i : Nat} (hi : i < h) : gf_cnt T (hp i) = i := by
  refine gf_inj_eq (f := hp) i T (fun j hj => ⟨hs j i hj hi, (hE.1 j (by omega)).2⟩) (fun a b hab hb => hE.2.1 a b hab (by omega)) (fun p hp1 t => ?_)
  obtain ⟨j, hj, e⟩ := hE.2.2 p (by have := (hE.1 i hi).1; omega) t
  refine ⟨j, ?_, e⟩
  rcases Nat.lt_or_ge j i with z | z
  · exact z
  · rcases Nat.lt_or_ge i j with y | y
    · have := hs i j y hj
      omega
    · have : j = i := by omega
      rw [this] at e
      omega
/-! loops -/
theorem gf_downA {σ : Type} (W : Nat → Nat → σ → Prop) (I : Nat → σ → Prop) (e : Nat) (hx : ∀ n s, I e s → W (n + 1) e s)
    (hs : ∀ n i s, e ≤ i → I (i + 1) s → (∀ s', I i s' → W n i s') → W (n + 1) (i + 1) s) : ∀ (d : Nat) (s : σ), I (e + d) s → W (d + 1) (e + d) s := by
  intro d
  induction d with
  | zero => exact fun s h => hx 0 s h
  | succ d ih => exact fun s h => hs (d + 1) (e + d) s (by omega) h (fun s' h' => ih s' h')
theorem gf_down {σ : Type} (W : Nat → Nat → σ → Prop) (I : Nat → σ → Prop) (e i : Nat) (s : σ) (hi : e ≤ i) (h0 : I i s) (hx : ∀ n s, I e s → W (n + 1) e s)
    (hs : ∀ n i s, e ≤ i → I (i + 1) s → (∀ s', I i s' → W n i s') → W (n + 1) (i + 1) s) : ∃ n, W n i s := by
  obtain ⟨d, rfl⟩ : ∃ d, i = e + d := ⟨i - e, by omega⟩
  exact ⟨d + 1, gf_downA W I e hx hs d s h0⟩
end
section
/-- a scale: from 0 to 32, rising -/
def gf_sc (cx : Nat → Nat) (co : Nat) : Prop := 1 ≤ co ∧ cx 0 = 0 ∧ cx co = 32 ∧ ∀ i, i < co → cx i < cx (i + 1)
def gf_in (cx : Nat → Nat) (co x c : Nat) : Prop := c < co ∧ cx c ≤ x ∧ x < cx (c + 1)
theorem gf_sc_mono {cx : Nat → Nat} {co : Nat} (h : gf_sc cx co) {i : Nat} : ∀ j, i < j → j ≤ co → cx i < cx j := by
  intro j
  induction j with
  | zero => intro a; omega
  | succ j ih =>
    intro a b
    have h1 := h.2.2.2 j (by omega)
    by_cases e : i = j
    · rw [e]; exact h1
    · have := ih (by omega) (by omega)
      omega
theorem gf_sc_le {cx : Nat → Nat} {co : Nat} (h : gf_sc cx co) {i j : Nat} (hij : i ≤ j) (hj : j ≤ co) : cx i ≤ cx j := by
  by_cases e : i = j
  · rw [e]; exact Nat.le_refl _
  · exact Nat.le_of_lt (gf_sc_mono h j (by omega) hj)
theorem gf_sc_32 {cx : Nat → Nat} {co : Nat} (h : gf_sc cx co) {i : Nat} (hi : i ≤ co) : cx i ≤ 32 := by
  have := gf_sc_le h hi (Nat.le_refl _)
  rw [h.2.2.1] at this
  exact this
theorem gf_sc_id {cx : Nat → Nat} {co : Nat} (h : gf_sc cx co) : ∀ i, i ≤ co → i ≤ cx i := by
  intro i
  induction i with
  | zero => intro _; omega
  | succ i ih =>
    intro hi
    have := ih (by omega)
    have := h.2.2.2 i (by omega)
    omega
theorem gf_sc_co {cx : Nat → Nat} {co : Nat} (h : gf_sc cx co) : co ≤ 32 := by
  have := gf_sc_id h co (Nat.le_refl _)
  rw [h.2.2.1] at this
  exact this
theorem gf_in_mono {cx : Nat → Nat} {co x x' c c' : Nat} (h : gf_sc cx co) (hc : gf_in cx co x c) (hc' : gf_in cx co x' c') (hx : x ≤ x') : c ≤ c' := by
  rcases Nat.lt_or_ge c' c with z | z
  · have := gf_sc_le h (show c' + 1 ≤ c by omega) (Nat.le_of_lt hc.1)
    have h1 := hc.2.1
    have h2 := hc'.2.2
    omega
  · exact z
theorem gf_in_uniq {cx : Nat → Nat} {co x c c' : Nat} (h : gf_sc cx co) (hc : gf_in cx co x c) (hc' : gf_in cx co x c') : c = c' :=
  Nat.le_antisymm (gf_in_mono h hc hc' (Nat.le_refl _)) (gf_in_mono h hc' hc (Nat.le_refl _))
theorem gf_in_self {cx : Nat → Nat} {co c : Nat} (h : gf_sc cx co) (hc : c < co) : gf_in cx co (cx c) c := ⟨hc, Nat.le_refl _, h.2.2.2 c hc⟩
theorem gf_in_ex {cx : Nat → Nat} {co x : Nat} (h : gf_sc cx co) (hx : x < 32) : ∃ c, gf_in cx co x c := by
  have A : ∀ n, n ≤ co → x < cx n → ∃ c, gf_in cx co x c := by
    intro n
    induction n with
    | zero => intro _ z; rw [h.2.1] at z; omega
    | succ n ih =>
      intro hn z
      rcases Nat.lt_or_ge x (cx n) with y | y
      · exact ih (by omega) y
      · exact ⟨n, by omega, y, z⟩
  exact A co (Nat.le_refl _) (by rw [h.2.2.1]; exact hx)
theorem gf_in_32 {cx : Nat → Nat} {co x c : Nat} (h : gf_sc cx co) (hc : gf_in cx co x c) : x < 32 := by
  have := gf_sc_32 h (show c + 1 ≤ co from hc.1)
  have := hc.2.2
  omega
/-- (x, y) lies in the rectangle of b -/
def gf_rc (lf rt lo hg : Nat → Nat) (b x y : Nat) : Prop := lf b ≤ x ∧ x ≤ rt b ∧ lo b ≤ y ∧ y ≤ hg b
/-- the directory: the cell of a point names the one bucket in whose rectangle the point lies -/
def gf_D (co ro bu : Nat) (cx cy : Nat → Nat) (d : Nat → Nat → Nat) (lf rt lo hg : Nat → Nat) : Prop :=
  ∀ x y c r, gf_in cx co x c → gf_in cy ro y r → d c r < bu ∧ ∀ b, b < bu → (d c r = b ↔ gf_rc lf rt lo hg b x y)
theorem gf_rc_sw {lf rt lo hg : Nat → Nat} {b x y : Nat} : gf_rc lf rt lo hg b x y ↔ gf_rc lo hg lf rt b y x :=
  ⟨fun ⟨a, b, c, d⟩ => ⟨c, d, a, b⟩, fun ⟨a, b, c, d⟩ => ⟨c, d, a, b⟩⟩
theorem gf_D_sw {co ro bu : Nat} {cx cy : Nat → Nat} {d : Nat → Nat → Nat} {lf rt lo hg : Nat → Nat} (h : gf_D co ro bu cx cy d lf rt lo hg) : gf_D ro co bu cy cx (fun r c => d c r) lo hg lf rt := by
  intro y x r c hr hc
  have := h x y c r hc hr
  exact ⟨this.1, fun b hb => (this.2 b hb).trans gf_rc_sw⟩
/-- a cut put into the scale at c + 1 -/
def gf_cutS (cx cx' : Nat → Nat) (co c cut : Nat) : Prop := (∀ i, i ≤ c → cx' i = cx i) ∧ cx' (c + 1) = cut ∧ (∀ i, c + 1 < i → i ≤ co + 1 → cx' i = cx (i - 1))
theorem gf_cut_sc {cx cx' : Nat → Nat} {co c cut : Nat} (h : gf_sc cx co) (hc : gf_in cx co cut c) (hn : cx c ≠ cut) (hk : gf_cutS cx cx' co c cut) : gf_sc cx' (co + 1) := by
  obtain ⟨k1, k2, k3⟩ := hk
  have hc1 := hc.1
  have hc2 := hc.2.1
  have hc3 := hc.2.2
  refine ⟨by omega, by rw [k1 0 (by omega)]; exact h.2.1, ?_, fun i hi => ?_⟩
  · rw [k3 (co + 1) (by omega) (by omega)]
    exact h.2.2.1
  · rcases Nat.lt_or_ge i c with z | z
    · rw [k1 i (by omega), k1 (i + 1) (by omega)]
      exact h.2.2.2 i (by omega)
    · by_cases e : i = c
      · rw [e, k1 c (by omega), k2]
        omega
      · by_cases e2 : i = c + 1
        · rw [e2, k2, k3 (c + 1 + 1) (by omega) (by omega)]
          exact hc3
        · rw [k3 i (by omega) (by omega), k3 (i + 1) (by omega) (by omega)]
          have := h.2.2.2 (i - 1) (by omega)
          rw [show i - 1 + 1 = i by omega] at this
          exact this
theorem gf_cut_in {cx cx' : Nat → Nat} {co c cut x c' : Nat} (h : gf_sc cx co) (hc : gf_in cx co cut c) (hk : gf_cutS cx cx' co c cut) (hx : gf_in cx' (co + 1) x c') : gf_in cx co x (if c' ≤ c then c' else c' - 1) := by
  obtain ⟨k1, k2, k3⟩ := hk
  have hc1 := hc.1
  have hc2 := hc.2.1
  have hc3 := hc.2.2
  have hx1 := hx.1
  have hx2 := hx.2.1
  have hx3 := hx.2.2
  by_cases e : c' ≤ c
  · rw [if_pos e]
    rw [k1 c' e] at hx2
    refine ⟨by omega, hx2, ?_⟩
    by_cases e2 : c' = c
    · rw [e2, k2] at hx3
      rw [e2]
      omega
    · rw [k1 (c' + 1) (by omega)] at hx3
      exact hx3
  · rw [if_neg e]
    rw [k3 (c' + 1) (by omega) (by omega)] at hx3
    refine ⟨by omega, ?_, ?_⟩
    · by_cases e2 : c' = c + 1
      · rw [e2, k2] at hx2
        rw [e2]
        exact Nat.le_trans hc2 hx2
      · rw [k3 c' (by omega) (by omega)] at hx2
        exact hx2
    · rw [show c' - 1 + 1 = c' by omega]
      exact hx3
theorem gf_cut_D {co ro bu c cut : Nat} {cx cx' cy : Nat → Nat} {d d' : Nat → Nat → Nat} {lf rt lo hg : Nat → Nat} (h : gf_sc cx co) (hc : gf_in cx co cut c) (hk : gf_cutS cx cx' co c cut) (hD : gf_D co ro bu cx cy d lf rt lo hg)
    (hd : ∀ k r, k ≤ co → r < ro → d' k r = d (if k ≤ c then k else k - 1) r) : gf_D (co + 1) ro bu cx' cy d' lf rt lo hg := by
  intro x y k r hx hy
  rw [hd k r (by have := hx.1; omega) hy.1]
  exact hD x y _ r (gf_cut_in h hc hk hx) hy
/-- the cut stands in the scale: it parts no column -/
theorem gf_cut_side {cx : Nat → Nat} {co k x c : Nat} (h : gf_sc cx co) (hk : k ≤ co) (hx : gf_in cx co x c) : cx k ≤ cx c ↔ cx k ≤ x := by
  have h1 := hx.1
  have h2 := hx.2.1
  have h3 := hx.2.2
  constructor
  · intro z; omega
  · intro z
    rcases Nat.lt_or_ge c k with y | y
    · have := gf_sc_le h (show c + 1 ≤ k by omega) hk
      omega
    · exact gf_sc_le h y (by omega)
/-- a split: bucket b keeps what lies below the cut, bucket bu gets the rest -/
theorem gf_split_D {co ro bu b k : Nat} {cx cy : Nat → Nat} {d d' : Nat → Nat → Nat} {lf rt lo hg lf' rt' lo' hg' : Nat → Nat} (hx : gf_sc cx co) (hy : gf_sc cy ro) (hb : b < bu) (hk : k < co) (hD : gf_D co ro bu cx cy d lf rt lo hg)
    (hl : lf b ≤ cx k) (hr : cx k ≤ rt b) (h0 : 0 < cx k)
    (hd : ∀ c r, c < co → r < ro → ((cx k ≤ cx c ∧ cx c ≤ rt b ∧ lo b ≤ cy r ∧ cy r ≤ hg b) → d' c r = bu) ∧ (¬ (cx k ≤ cx c ∧ cx c ≤ rt b ∧ lo b ≤ cy r ∧ cy r ≤ hg b) → d' c r = d c r))
    (f1 : lf' bu = cx k ∧ rt' bu = rt b ∧ lo' bu = lo b ∧ hg' bu = hg b) (f2 : lf' b = lf b ∧ rt' b = cx k - 1 ∧ lo' b = lo b ∧ hg' b = hg b)
    (f3 : ∀ a, a < bu → a ≠ b → lf' a = lf a ∧ rt' a = rt a ∧ lo' a = lo a ∧ hg' a = hg a) : gf_D co ro (bu + 1) cx cy d' lf' rt' lo' hg' := by
  intro x y c r hc hr'
  have D1 := hD x y c r hc hr'
  have D2 := hD (cx c) (cy r) c r (gf_in_self hx hc.1) (gf_in_self hy hr'.1)
  have Db := (D1.2 b hb).symm.trans (D2.2 b hb)
  have Sd := gf_cut_side hx (show k ≤ co by omega) hc
  have hdc := hd c r hc.1 hr'.1
  unfold gf_rc at Db
  by_cases C : cx k ≤ cx c ∧ cx c ≤ rt b ∧ lo b ≤ cy r ∧ cy r ≤ hg b
  · have e := hdc.1 C
    have inb := Db.mpr ⟨by omega, C.2.1, C.2.2.1, C.2.2.2⟩
    have kx := Sd.mp C.1
    refine ⟨by omega, fun a ha => ?_⟩
    rw [e]
    by_cases ea : a = bu
    · rw [ea]
      unfold gf_rc
      rw [f1.1, f1.2.1, f1.2.2.1, f1.2.2.2]
      exact ⟨fun _ => ⟨kx, inb.2.1, inb.2.2.1, inb.2.2.2⟩, fun _ => rfl⟩
    · refine ⟨fun t => absurd t.symm ea, fun t => ?_⟩
      by_cases eb : a = b
      · rw [eb] at t
        unfold gf_rc at t
        rw [f2.2.1] at t
        have := t.2.1
        omega
      · have f := f3 a (by omega) eb
        unfold gf_rc at t
        rw [f.1, f.2.1, f.2.2.1, f.2.2.2] at t
        have t1 := (D1.2 a (by omega)).mpr t
        have t2 := (D1.2 b hb).mpr inb
        exact absurd (t1.symm.trans t2) eb
  · have e := hdc.2 C
    refine ⟨by have := D1.1; omega, fun a ha => ?_⟩
    rw [e]
    by_cases ea : a = bu
    · rw [ea]
      refine ⟨fun t => absurd t (by have := D1.1; omega), fun t => ?_⟩
      unfold gf_rc at t
      rw [f1.1, f1.2.1, f1.2.2.1, f1.2.2.2] at t
      have i2 := Db.mp ⟨by omega, t.2.1, t.2.2.1, t.2.2.2⟩
      exact absurd ⟨Sd.mpr t.1, i2.2.1, i2.2.2.1, i2.2.2.2⟩ C
    · rw [D1.2 a (by omega)]
      by_cases eb : a = b
      · rw [eb]
        unfold gf_rc
        rw [f2.1, f2.2.1, f2.2.2.1, f2.2.2.2]
        constructor
        · intro t
          have i2 := Db.mp t
          have nk : ¬ cx k ≤ x := fun z => C ⟨Sd.mpr z, i2.2.1, i2.2.2.1, i2.2.2.2⟩
          exact ⟨t.1, by omega, t.2.2.1, t.2.2.2⟩
        · intro t
          exact ⟨t.1, by omega, t.2.2.1, t.2.2.2⟩
      · have f := f3 a (by omega) eb
        unfold gf_rc
        rw [f.1, f.2.1, f.2.2.1, f.2.2.2]
/-- the buckets' points -/
def gf_P (bu : Nat) (sz lf rt lo hg pl : Nat → Nat) : Prop := ∀ b, b < bu → sz b ≤ 4 ∧ lf b ≤ 31 ∧ rt b ≤ 31 ∧ lo b ≤ 31 ∧ hg b ≤ 31 ∧ (∀ k, k < sz b → gf_rc lf rt lo hg b (pl (4 * b + k) / 32) (pl (4 * b + k) % 32)) ∧ (∀ k k', k < k' → k' < sz b → pl (4 * b + k) ≠ pl (4 * b + k'))
def gf_M (bu : Nat) (sz pl : Nat → Nat) (p : Nat) : Prop := ∃ b k, b < bu ∧ k < sz b ∧ pl (4 * b + k) = p
/-- the whole picture -/
def gf_W (S : Nat → Bool) (co ro bu : Nat) (cx cy dr sz lf rt lo hg pl : Nat → Nat) : Prop :=
  gf_sc cx co ∧ gf_sc cy ro ∧ bu ≤ 64 ∧ gf_D co ro bu cx cy (fun c r => dr (32 * c + r)) lf rt lo hg ∧ gf_P bu sz lf rt lo hg pl ∧ (∀ p, S p = true ↔ gf_M bu sz pl p)
section
variable {S : Nat → Bool} {co ro bu : Nat} {cx cy dr sz lf rt lo hg pl : Nat → Nat}
theorem gf_W_one (h : gf_W S co ro bu cx cy dr sz lf rt lo hg pl) {a b x y : Nat} (hx : x < 32) (hy : y < 32) (ha : a < bu) (hb : b < bu) (h1 : gf_rc lf rt lo hg a x y) (h2 : gf_rc lf rt lo hg b x y) : a = b := by
  obtain ⟨sx, sy, _, hD, _, _⟩ := h
  obtain ⟨c, hc⟩ := gf_in_ex sx hx
  obtain ⟨r, hr⟩ := gf_in_ex sy hy
  have := (hD x y c r hc hr).2
  exact ((this a ha).mpr h1).symm.trans ((this b hb).mpr h2)
theorem gf_W_pl (h : gf_W S co ro bu cx cy dr sz lf rt lo hg pl) {b k : Nat} (hb : b < bu) (hk : k < sz b) : pl (4 * b + k) < 1024 := by
  obtain ⟨_, _, _, _, hP, _⟩ := h
  obtain ⟨_, _, h2, _, _, h3, _⟩ := hP b hb
  have := (h3 k hk).2.1
  omega
theorem gf_W_rc (h : gf_W S co ro bu cx cy dr sz lf rt lo hg pl) {b k : Nat} (hb : b < bu) (hk : k < sz b) : gf_rc lf rt lo hg b (pl (4 * b + k) / 32) (pl (4 * b + k) % 32) := (h.2.2.2.2.1 b hb).2.2.2.2.2.1 k hk
theorem gf_W_sz (h : gf_W S co ro bu cx cy dr sz lf rt lo hg pl) {b : Nat} (hb : b < bu) : sz b ≤ 4 := (h.2.2.2.2.1 b hb).1
theorem gf_W_S (h : gf_W S co ro bu cx cy dr sz lf rt lo hg pl) {b k : Nat} (hb : b < bu) (hk : k < sz b) : S (pl (4 * b + k)) = true := (h.2.2.2.2.2 _).mpr ⟨b, k, hb, hk, rfl⟩
theorem gf_W_lt (h : gf_W S co ro bu cx cy dr sz lf rt lo hg pl) {p : Nat} (hp : S p = true) : p < 1024 := by
  obtain ⟨b, k, hb, hk, e⟩ := (h.2.2.2.2.2 p).mp hp
  rw [← e]
  exact gf_W_pl h hb hk
/-- one point stands at one place -/
theorem gf_W_pt (h : gf_W S co ro bu cx cy dr sz lf rt lo hg pl) {a b k l : Nat} (ha : a < bu) (hb : b < bu) (hk : k < sz a) (hl : l < sz b) (e : pl (4 * a + k) = pl (4 * b + l)) : a = b ∧ k = l := by
  have e1 : a = b := by
    have h1 := gf_W_rc h ha hk
    have h2 := gf_W_rc h hb hl
    have h3 := gf_W_pl h hb hl
    rw [e] at h1
    exact gf_W_one h (by omega) (by omega) ha hb h1 h2
  subst e1
  refine ⟨rfl, ?_⟩
  have h3 := (h.2.2.2.2.1 a ha).2.2.2.2.2.2
  rcases Nat.lt_trichotomy k l with z | z | z
  · exact absurd e (h3 k l z hl)
  · exact z
  · exact absurd e.symm (h3 l k z hk)
theorem gf_W_drop (h : gf_W S co ro bu cx cy dr sz lf rt lo hg pl) {b k : Nat} (hb : b < bu) (hk : k < sz b) : gf_W (gf_del S (pl (4 * b + k))) co ro bu cx cy dr (gf_up sz b (sz b - 1)) lf rt lo hg (gf_up pl (4 * b + k) (pl (4 * b + (sz b - 1)))) := by
  have h0 := h
  obtain ⟨sx, sy, hbu, hD, hP, hS⟩ := h
  have s4 := gf_W_sz h0 hb
  have E : ∀ j, j < sz b - 1 → gf_up pl (4 * b + k) (pl (4 * b + (sz b - 1))) (4 * b + j) = pl (4 * b + (if j = k then sz b - 1 else j)) := by
    intro j hj
    by_cases e : j = k
    · rw [if_pos e, e, gf_us]
    · rw [if_neg e, gf_un (by omega)]
  have E2 : ∀ a j, a < bu → a ≠ b → j < sz a → gf_up pl (4 * b + k) (pl (4 * b + (sz b - 1))) (4 * a + j) = pl (4 * a + j) := by
    intro a j ha hn hj
    have := gf_W_sz h0 ha
    exact gf_un (by omega)
  have I : ∀ j, j < sz b - 1 → (if j = k then sz b - 1 else j) < sz b := by
    intro j hj
    by_cases e : j = k
    · rw [if_pos e]; omega
    · rw [if_neg e]; omega
  refine ⟨sx, sy, hbu, hD, fun a ha => ?_, fun p => ?_⟩
  · obtain ⟨p1, p2, p3, p4, p5, p6, p7⟩ := hP a ha
    by_cases e : a = b
    · subst e
      rw [gf_us]
      refine ⟨by omega, p2, p3, p4, p5, fun j hj => ?_, fun j j' hjj hj' => ?_⟩
      · rw [E j hj]
        exact p6 _ (I j hj)
      · rw [E j (by omega), E j' hj']
        intro t
        have := (gf_W_pt h0 ha ha (I j (by omega)) (I j' hj') t).2
        by_cases e1 : j = k
        · rw [if_pos e1, if_neg (show j' ≠ k by omega)] at this
          omega
        · rw [if_neg e1] at this
          by_cases e2 : j' = k
          · rw [if_pos e2] at this; omega
          · rw [if_neg e2] at this; omega
    · rw [gf_un e]
      refine ⟨p1, p2, p3, p4, p5, fun j hj => ?_, fun j j' hjj hj' => ?_⟩
      · rw [E2 a j ha e hj]
        exact p6 j hj
      · rw [E2 a j ha e (by omega), E2 a j' ha e hj']
        exact p7 j j' hjj hj'
  · rw [gf_del_iff, hS]
    constructor
    · rintro ⟨hn, a, j, ha, hj, e⟩
      by_cases ea : a = b
      · subst ea
        have hjk : j ≠ k := fun z => hn (by rw [← e, z])
        by_cases e1 : j = sz a - 1
        · refine ⟨a, k, ha, by rw [gf_us]; omega, ?_⟩
          rw [gf_us, ← e1]
          exact e
        · refine ⟨a, j, ha, by rw [gf_us]; omega, ?_⟩
          rw [gf_un (by omega)]
          exact e
      · exact ⟨a, j, ha, by rw [gf_un ea]; exact hj, by rw [E2 a j ha ea hj]; exact e⟩
    · rintro ⟨a, j, ha, hj, e⟩
      by_cases ea : a = b
      · subst ea
        rw [gf_us] at hj
        rw [E j hj] at e
        refine ⟨fun z => ?_, a, _, ha, I j hj, e⟩
        rw [← e] at z
        have := (gf_W_pt h0 ha ha (I j hj) hk z).2
        by_cases e1 : j = k
        · rw [if_pos e1] at this; omega
        · rw [if_neg e1] at this; omega
      · rw [gf_un ea] at hj
        rw [E2 a j ha ea hj] at e
        refine ⟨fun z => ?_, a, j, ha, hj, e⟩
        rw [← e] at z
        exact ea (gf_W_pt h0 ha hb hj hk z).1
theorem gf_W_add (h : gf_W S co ro bu cx cy dr sz lf rt lo hg pl) {b p : Nat} (hb : b < bu) (hs : sz b < 4) (hp : p < 1024) (hr : gf_rc lf rt lo hg b (p / 32) (p % 32)) (hn : S p = false) : gf_W (gf_ins S p) co ro bu cx cy dr (gf_up sz b (sz b + 1)) lf rt lo hg (gf_up pl (4 * b + sz b) p) := by
  have h0 := h
  obtain ⟨sx, sy, hbu, hD, hP, hS⟩ := h
  have E : ∀ j, j < sz b → gf_up pl (4 * b + sz b) p (4 * b + j) = pl (4 * b + j) := fun j hj => gf_un (by omega)
  have E2 : ∀ a j, a < bu → a ≠ b → j < sz a → gf_up pl (4 * b + sz b) p (4 * a + j) = pl (4 * a + j) := by
    intro a j ha hn hj
    have := gf_W_sz h0 ha
    exact gf_un (by omega)
  have N : ∀ a j, a < bu → j < sz a → pl (4 * a + j) ≠ p := by
    intro a j ha hj e
    have := (hS p).mpr ⟨a, j, ha, hj, e⟩
    rw [hn] at this
    exact Bool.noConfusion this
  refine ⟨sx, sy, hbu, hD, fun a ha => ?_, fun q => ?_⟩
  · obtain ⟨p1, p2, p3, p4, p5, p6, p7⟩ := hP a ha
    by_cases e : a = b
    · subst e
      rw [gf_us]
      refine ⟨by omega, p2, p3, p4, p5, fun j hj => ?_, fun j j' hjj hj' => ?_⟩
      · by_cases e1 : j = sz a
        · rw [e1, gf_us]; exact hr
        · rw [E j (by omega)]; exact p6 j (by omega)
      · rw [E j (by omega)]
        by_cases e1 : j' = sz a
        · rw [e1, gf_us]; exact N a j ha (by omega)
        · rw [E j' (by omega)]; exact p7 j j' hjj (by omega)
    · rw [gf_un e]
      refine ⟨p1, p2, p3, p4, p5, fun j hj => ?_, fun j j' hjj hj' => ?_⟩
      · rw [E2 a j ha e hj]
        exact p6 j hj
      · rw [E2 a j ha e (by omega), E2 a j' ha e hj']
        exact p7 j j' hjj hj'
  · rw [gf_ins_iff, hS]
    constructor
    · rintro (e | ⟨a, j, ha, hj, e⟩)
      · exact ⟨b, sz b, hb, by rw [gf_us]; omega, by rw [gf_us]; exact e.symm⟩
      · by_cases ea : a = b
        · subst ea
          exact ⟨a, j, ha, by rw [gf_us]; omega, by rw [E j hj]; exact e⟩
        · exact ⟨a, j, ha, by rw [gf_un ea]; exact hj, by rw [E2 a j ha ea hj]; exact e⟩
    · rintro ⟨a, j, ha, hj, e⟩
      by_cases ea : a = b
      · subst ea
        rw [gf_us] at hj
        by_cases e1 : j = sz a
        · rw [e1, gf_us] at e
          exact Or.inl e.symm
        · rw [E j (by omega)] at e
          exact Or.inr ⟨a, j, ha, by omega, e⟩
      · rw [gf_un ea] at hj
        rw [E2 a j ha ea hj] at e
        exact Or.inr ⟨a, j, ha, hj, e⟩
end
/-- the points of a bucket parted between b and a new bucket f -/
def gf_pt (pl pl' : Nat → Nat) (b f : Nat) (Q : Nat → Prop) (k kept m : Nat) : Prop :=
  kept + m = k ∧ (∀ q, (q < 4 * b ∨ 4 * b + 4 ≤ q) → (q < 4 * f ∨ 4 * f + 4 ≤ q) → pl' q = pl q) ∧ (∀ j, k ≤ j → j < 4 → pl' (4 * b + j) = pl (4 * b + j))
  ∧ (∀ j, j < kept → ∃ i, i < k ∧ pl' (4 * b + j) = pl (4 * b + i) ∧ ¬ Q (pl (4 * b + i))) ∧ (∀ j, j < m → ∃ i, i < k ∧ pl' (4 * f + j) = pl (4 * b + i) ∧ Q (pl (4 * b + i)))
  ∧ (∀ j j', j < j' → j' < kept → pl' (4 * b + j) ≠ pl' (4 * b + j')) ∧ (∀ j j', j < j' → j' < m → pl' (4 * f + j) ≠ pl' (4 * f + j'))
  ∧ (∀ i, i < k → (¬ Q (pl (4 * b + i)) → ∃ j, j < kept ∧ pl' (4 * b + j) = pl (4 * b + i)) ∧ (Q (pl (4 * b + i)) → ∃ j, j < m ∧ pl' (4 * f + j) = pl (4 * b + i)))
theorem gf_pt_0 {pl : Nat → Nat} {b f : Nat} {Q : Nat → Prop} : gf_pt pl pl b f Q 0 0 0 :=
  ⟨rfl, fun _ _ _ => rfl, fun _ _ _ => rfl, fun j h => absurd h (by omega), fun j h => absurd h (by omega), fun j j' _ h => absurd h (by omega), fun j j' _ h => absurd h (by omega), fun i h => absurd h (by omega)⟩
theorem gf_pt_lo {pl pl' : Nat → Nat} {b f k kept m : Nat} {Q : Nat → Prop} (hbf : b < f) (hk : k < 4) (hd : ∀ i j, i < j → j < 4 → pl (4 * b + i) ≠ pl (4 * b + j)) (h : gf_pt pl pl' b f Q k kept m) (hq : ¬ Q (pl (4 * b + k))) : gf_pt pl (gf_up pl' (4 * b + kept) (pl (4 * b + k))) b f Q (k + 1) (kept + 1) m := by
  obtain ⟨h1, h2, h3, h4, h5, h6, h7, h8⟩ := h
  have Ef : ∀ j, j < m → gf_up pl' (4 * b + kept) (pl (4 * b + k)) (4 * f + j) = pl' (4 * f + j) := fun j hj => gf_un (by omega)
  have Eb : ∀ j, j < kept → gf_up pl' (4 * b + kept) (pl (4 * b + k)) (4 * b + j) = pl' (4 * b + j) := fun j hj => gf_un (by omega)
  refine ⟨by omega, fun q a c => ?_, fun j a c => ?_, fun j a => ?_, fun j a => ?_, fun j j' a c => ?_, fun j j' a c => ?_, fun i a => ⟨fun c => ?_, fun c => ?_⟩⟩
  · rw [gf_un (by omega)]; exact h2 q a c
  · rw [gf_un (by omega)]; exact h3 j (by omega) c
  · by_cases e : j = kept
    · exact ⟨k, by omega, by rw [e, gf_us], hq⟩
    · obtain ⟨i, i1, i2, i3⟩ := h4 j (by omega)
      exact ⟨i, by omega, by rw [Eb j (by omega)]; exact i2, i3⟩
  · obtain ⟨i, i1, i2, i3⟩ := h5 j a
    exact ⟨i, by omega, by rw [Ef j a]; exact i2, i3⟩
  · rw [Eb j (by omega)]
    by_cases e : j' = kept
    · rw [e, gf_us]
      obtain ⟨i, i1, i2, i3⟩ := h4 j (by omega)
      rw [i2]
      exact hd i k i1 hk
    · rw [Eb j' (by omega)]
      exact h6 j j' a (by omega)
  · rw [Ef j (by omega), Ef j' c]
    exact h7 j j' a c
  · by_cases e : i = k
    · exact ⟨kept, by omega, by rw [e, gf_us]⟩
    · obtain ⟨j, j1, j2⟩ := (h8 i (by omega)).1 c
      exact ⟨j, by omega, by rw [Eb j j1]; exact j2⟩
  · by_cases e : i = k
    · rw [e] at c; exact absurd c hq
    · obtain ⟨j, j1, j2⟩ := (h8 i (by omega)).2 c
      exact ⟨j, by omega, by rw [Ef j j1]; exact j2⟩
theorem gf_pt_hi {pl pl' : Nat → Nat} {b f k kept m : Nat} {Q : Nat → Prop} (hbf : b < f) (hk : k < 4) (hd : ∀ i j, i < j → j < 4 → pl (4 * b + i) ≠ pl (4 * b + j)) (h : gf_pt pl pl' b f Q k kept m) (hq : Q (pl (4 * b + k))) : gf_pt pl (gf_up pl' (4 * f + m) (pl (4 * b + k))) b f Q (k + 1) kept (m + 1) := by
  obtain ⟨h1, h2, h3, h4, h5, h6, h7, h8⟩ := h
  have Ef : ∀ j, j < m → gf_up pl' (4 * f + m) (pl (4 * b + k)) (4 * f + j) = pl' (4 * f + j) := fun j hj => gf_un (by omega)
  have Eb : ∀ j, j < 4 → gf_up pl' (4 * f + m) (pl (4 * b + k)) (4 * b + j) = pl' (4 * b + j) := fun j hj => gf_un (by omega)
  refine ⟨by omega, fun q a c => ?_, fun j a c => ?_, fun j a => ?_, fun j a => ?_, fun j j' a c => ?_, fun j j' a c => ?_, fun i a => ⟨fun c => ?_, fun c => ?_⟩⟩
  · rw [gf_un (by omega)]; exact h2 q a c
  · rw [gf_un (by omega)]; exact h3 j (by omega) c
  · obtain ⟨i, i1, i2, i3⟩ := h4 j a
    exact ⟨i, by omega, by rw [Eb j (by omega)]; exact i2, i3⟩
  · by_cases e : j = m
    · exact ⟨k, by omega, by rw [e, gf_us], hq⟩
    · obtain ⟨i, i1, i2, i3⟩ := h5 j (by omega)
      exact ⟨i, by omega, by rw [Ef j (by omega)]; exact i2, i3⟩
  · rw [Eb j (by omega), Eb j' (by omega)]
    exact h6 j j' a c
  · rw [Ef j (by omega)]
    by_cases e : j' = m
    · rw [e, gf_us]
      obtain ⟨i, i1, i2, i3⟩ := h5 j (by omega)
      rw [i2]
      exact hd i k i1 hk
    · rw [Ef j' (by omega)]
      exact h7 j j' a (by omega)
  · by_cases e : i = k
    · rw [e] at c; exact absurd hq c
    · obtain ⟨j, j1, j2⟩ := (h8 i (by omega)).1 c
      exact ⟨j, by omega, by rw [Eb j (by omega)]; exact j2⟩
  · by_cases e : i = k
    · exact ⟨m, by omega, by rw [e, gf_us]⟩
    · obtain ⟨j, j1, j2⟩ := (h8 i (by omega)).2 c
      exact ⟨j, by omega, by rw [Ef j j1]; exact j2⟩
/-- what a split leaves, over any way to part the points -/
theorem gf_P_split {bu b kept m : Nat} {sz lf rt lo hg pl sz' lf' rt' lo' hg' pl' : Nat → Nat} {Q : Nat → Prop} (hP : gf_P bu sz lf rt lo hg pl) (hb : b < bu) (h4 : sz b = 4) (hpt : gf_pt pl pl' b bu Q 4 kept m)
    (s1 : sz' b = kept) (s2 : sz' bu = m) (s3 : ∀ a, a < bu → a ≠ b → sz' a = sz a)
    (hB : ∀ a, a < bu + 1 → lf' a ≤ 31 ∧ rt' a ≤ 31 ∧ lo' a ≤ 31 ∧ hg' a ≤ 31)
    (r1 : ∀ p, gf_rc lf rt lo hg b (p / 32) (p % 32) → Q p → gf_rc lf' rt' lo' hg' bu (p / 32) (p % 32))
    (r2 : ∀ p, gf_rc lf rt lo hg b (p / 32) (p % 32) → ¬ Q p → gf_rc lf' rt' lo' hg' b (p / 32) (p % 32))
    (r3 : ∀ a, a < bu → a ≠ b → lf' a = lf a ∧ rt' a = rt a ∧ lo' a = lo a ∧ hg' a = hg a) :
    gf_P (bu + 1) sz' lf' rt' lo' hg' pl' ∧ ∀ p, gf_M bu sz pl p ↔ gf_M (bu + 1) sz' pl' p := by
  obtain ⟨h1, h2, h3, h4', h5, h6, h7, h8⟩ := hpt
  have O : ∀ a j, a < bu → a ≠ b → j < sz a → pl' (4 * a + j) = pl (4 * a + j) := by
    intro a j ha hn hj
    have := (hP a ha).1
    exact h2 _ (by omega) (by omega)
  obtain ⟨b1, b2, b3, b4, b5, b6, b7⟩ := hP b hb
  refine ⟨fun a ha => ?_, fun p => ⟨?_, ?_⟩⟩
  · obtain ⟨B1, B2, B3, B4⟩ := hB a ha
    by_cases e : a = bu
    · subst e
      rw [s2]
      refine ⟨by omega, B1, B2, B3, B4, fun j hj => ?_, h7⟩
      obtain ⟨i, i1, i2, i3⟩ := h5 j hj
      rw [i2]
      exact r1 _ (b6 i (by omega)) i3
    · by_cases e2 : a = b
      · subst e2
        rw [s1]
        refine ⟨by omega, B1, B2, B3, B4, fun j hj => ?_, h6⟩
        obtain ⟨i, i1, i2, i3⟩ := h4' j hj
        rw [i2]
        exact r2 _ (b6 i (by omega)) i3
      · have ha' : a < bu := by omega
        obtain ⟨p1, p2, p3, p4, p5, p6, p7⟩ := hP a ha'
        obtain ⟨q1, q2, q3, q4⟩ := r3 a ha' e2
        rw [s3 a ha' e2]
        refine ⟨p1, B1, B2, B3, B4, fun j hj => ?_, fun j j' hjj hj' => ?_⟩
        · rw [O a j ha' e2 hj]
          unfold gf_rc
          rw [q1, q2, q3, q4]
          exact p6 j hj
        · rw [O a j ha' e2 (by omega), O a j' ha' e2 hj']
          exact p7 j j' hjj hj'
  · rintro ⟨a, j, ha, hj, e⟩
    by_cases ea : a = b
    · subst ea
      have t := h8 j (by omega)
      by_cases hq : Q (pl (4 * a + j))
      · obtain ⟨i, i1, i2⟩ := t.2 hq
        exact ⟨bu, i, by omega, by rw [s2]; exact i1, i2.trans e⟩
      · obtain ⟨i, i1, i2⟩ := t.1 hq
        exact ⟨a, i, by omega, by rw [s1]; exact i1, i2.trans e⟩
    · exact ⟨a, j, by omega, by rw [s3 a ha ea]; exact hj, by rw [O a j ha ea hj]; exact e⟩
  · rintro ⟨a, j, ha, hj, e⟩
    by_cases ea : a = bu
    · subst ea
      rw [s2] at hj
      obtain ⟨i, i1, i2, i3⟩ := h5 j hj
      exact ⟨b, i, hb, by omega, i2.symm.trans e⟩
    · by_cases eb : a = b
      · subst eb
        rw [s1] at hj
        obtain ⟨i, i1, i2, i3⟩ := h4' j hj
        exact ⟨a, i, hb, by omega, i2.symm.trans e⟩
      · have ha' : a < bu := by omega
        rw [s3 a ha' eb] at hj
        rw [O a j ha' eb hj] at e
        exact ⟨a, j, ha', hj, e⟩
/-- both sides of a split hold a point, so neither is full -/
theorem gf_pt_few {pl pl' : Nat → Nat} {b f kept m i j : Nat} {Q : Nat → Prop} (h : gf_pt pl pl' b f Q 4 kept m) (hi : i < 4) (hj : j < 4) (qi : ¬ Q (pl (4 * b + i))) (qj : Q (pl (4 * b + j))) : kept < 4 ∧ m < 4 := by
  obtain ⟨h1, h2, h3, h4, h5, h6, h7, h8⟩ := h
  obtain ⟨s, s1, _⟩ := (h8 i hi).1 qi
  obtain ⟨t, t1, _⟩ := (h8 j hj).2 qj
  omega
end
section
theorem gf_columnOf_12 {post : Int32 → Prop} {co ro bu cn hi : Nat} {cx cy dr sz lf rt lo hg pl : Nat → Nat} {vv : Nat → Int32} {hp : Nat → Nat} {hv : Nat → Int32} {se : Nat → Nat} {x : Nat} (hs : gf_sc cx co) (hx : x < 32) (H : ∀ c, gf_in cx co x c → post (nI c)) :
    ∀ (m k l h : Nat), k + m ≤ 5 → h - l + 1 ≤ 2 ^ m → l ≤ h → h < co → cx l ≤ x → x < cx (h + 1) → wX_columnOf_12 post (nI x) (nI co) (nI ro) (nI bu) (nI cn) (nI hi) (gf_I cx) (gf_I cy) (gf_I dr) (gf_I sz) (gf_I lf) (gf_I rt) (gf_I lo) (gf_I hg) (gf_I pl) vv (gf_I hp) hv (gf_I se) (m + 1) (nI l) (nI h) (nI k) := by
  have hco := gf_sc_co hs
  intro m
  induction m with
  | zero =>
    intro k l h hk hl h1 h2 h3 h4
    have e : l = h := by have : (2 : Nat) ^ 0 = 1 := rfl; omega
    subst e
    exact pk_le 6 k (fun z => absurd z (by omega)) (fun _ => pk_le l l (fun _ => H l ⟨h2, h3, h4⟩) (fun z => absurd z (by omega)))
  | succ m ih =>
    intro k l h hk hl h1 h2 h3 h4
    rw [Nat.pow_succ] at hl
    have hm : (l + h + 1) / 2 ≤ co := by omega
    have hm32 := gf_sc_32 hs hm
    refine pk_le 6 k (fun z => absurd z (by omega)) (fun _ => pk_le h l (fun z => ?_) (fun z => nm_r (e' := nI ((l + h + 1) / 2)) (by rw [nI_add, nI_1]; exact pk_shrN (by omega) _ 1 (by decide)) ⟨pk_in ((l + h + 1) / 2) 33 (by omega), pk_lt x (cx ((l + h + 1) / 2)) (fun y => ?_) (fun y => ?_) rfl (gf_at cx rfl (by omega))⟩))
    · have e : l = h := by omega
      subst e
      exact H l ⟨h2, h3, h4⟩
    · refine nm_r (gf_pred (by omega)) (nm_r (nI_1 k) (ih (k + 1) l ((l + h + 1) / 2 - 1) (by omega) (by omega) (by omega) (by omega) h3 ?_))
      rw [show (l + h + 1) / 2 - 1 + 1 = (l + h + 1) / 2 by omega]
      exact y
    · exact nm_r (nI_1 k) (ih (k + 1) ((l + h + 1) / 2) h (by omega) (by omega) (by omega) h2 y h4)
theorem gf_columnOf {post : Int32 → Prop} {co ro bu cn hi : Nat} {cx cy dr sz lf rt lo hg pl : Nat → Nat} {vv : Nat → Int32} {hp : Nat → Nat} {hv : Nat → Int32} {se : Nat → Nat} {x : Nat} (hs : gf_sc cx co) (hx : x < 32) (H : ∀ c, gf_in cx co x c → post (nI c)) : wpX_columnOf post (nI co, nI ro, nI bu, nI cn, nI hi, gf_I cx, gf_I cy, gf_I dr, gf_I sz, gf_I lf, gf_I rt, gf_I lo, gf_I hg, gf_I pl, vv, gf_I hp, hv, gf_I se) (nI x) := by
  have h1 := hs.1
  have h32 := gf_sc_co hs
  refine nm_r (gf_pred (by omega)) ⟨6, gf_columnOf_12 hs hx H 5 0 0 (co - 1) (by omega) (by have : (2 : Nat) ^ 5 = 32 := rfl; omega) (by omega) (by omega) (by rw [hs.2.1]; omega) ?_⟩
  rw [show co - 1 + 1 = co by omega, hs.2.2.1]
  exact hx
theorem gf_rowOf_12 {post : Int32 → Prop} {co ro bu cn hi : Nat} {cx cy dr sz lf rt lo hg pl : Nat → Nat} {vv : Nat → Int32} {hp : Nat → Nat} {hv : Nat → Int32} {se : Nat → Nat} {x : Nat} (hs : gf_sc cy ro) (hx : x < 32) (H : ∀ c, gf_in cy ro x c → post (nI c)) :
    ∀ (m k l h : Nat), k + m ≤ 5 → h - l + 1 ≤ 2 ^ m → l ≤ h → h < ro → cy l ≤ x → x < cy (h + 1) → wX_rowOf_12 post (nI x) (nI co) (nI ro) (nI bu) (nI cn) (nI hi) (gf_I cx) (gf_I cy) (gf_I dr) (gf_I sz) (gf_I lf) (gf_I rt) (gf_I lo) (gf_I hg) (gf_I pl) vv (gf_I hp) hv (gf_I se) (m + 1) (nI l) (nI h) (nI k) := by
  have hco := gf_sc_co hs
  intro m
  induction m with
  | zero =>
    intro k l h hk hl h1 h2 h3 h4
    have e : l = h := by have : (2 : Nat) ^ 0 = 1 := rfl; omega
    subst e
    exact pk_le 6 k (fun z => absurd z (by omega)) (fun _ => pk_le l l (fun _ => H l ⟨h2, h3, h4⟩) (fun z => absurd z (by omega)))
  | succ m ih =>
    intro k l h hk hl h1 h2 h3 h4
    rw [Nat.pow_succ] at hl
    have hm : (l + h + 1) / 2 ≤ ro := by omega
    have hm32 := gf_sc_32 hs hm
    refine pk_le 6 k (fun z => absurd z (by omega)) (fun _ => pk_le h l (fun z => ?_) (fun z => nm_r (e' := nI ((l + h + 1) / 2)) (by rw [nI_add, nI_1]; exact pk_shrN (by omega) _ 1 (by decide)) ⟨pk_in ((l + h + 1) / 2) 33 (by omega), pk_lt x (cy ((l + h + 1) / 2)) (fun y => ?_) (fun y => ?_) rfl (gf_at cy rfl (by omega))⟩))
    · have e : l = h := by omega
      subst e
      exact H l ⟨h2, h3, h4⟩
    · refine nm_r (gf_pred (by omega)) (nm_r (nI_1 k) (ih (k + 1) l ((l + h + 1) / 2 - 1) (by omega) (by omega) (by omega) (by omega) h3 ?_))
      rw [show (l + h + 1) / 2 - 1 + 1 = (l + h + 1) / 2 by omega]
      exact y
    · exact nm_r (nI_1 k) (ih (k + 1) ((l + h + 1) / 2) h (by omega) (by omega) (by omega) h2 y h4)
theorem gf_rowOf {post : Int32 → Prop} {co ro bu cn hi : Nat} {cx cy dr sz lf rt lo hg pl : Nat → Nat} {vv : Nat → Int32} {hp : Nat → Nat} {hv : Nat → Int32} {se : Nat → Nat} {x : Nat} (hs : gf_sc cy ro) (hx : x < 32) (H : ∀ c, gf_in cy ro x c → post (nI c)) : wpX_rowOf post (nI co, nI ro, nI bu, nI cn, nI hi, gf_I cx, gf_I cy, gf_I dr, gf_I sz, gf_I lf, gf_I rt, gf_I lo, gf_I hg, gf_I pl, vv, gf_I hp, hv, gf_I se) (nI x) := by
  have h1 := hs.1
  have h32 := gf_sc_co hs
  refine nm_r (gf_pred (by omega)) ⟨6, gf_rowOf_12 hs hx H 5 0 0 (ro - 1) (by omega) (by have : (2 : Nat) ^ 5 = 32 := rfl; omega) (by omega) (by omega) (by rw [hs.2.1]; omega) ?_⟩
  rw [show ro - 1 + 1 = ro by omega, hs.2.2.1]
  exact hx
theorem gf_bucketAt {post : Int32 → Prop} {S : Nat → Bool} {co ro bu cn hi : Nat} {cx cy dr sz lf rt lo hg pl : Nat → Nat} {vv : Nat → Int32} {hp : Nat → Nat} {hv : Nat → Int32} {se : Nat → Nat} {x y : Nat} (h : gf_W S co ro bu cx cy dr sz lf rt lo hg pl) (hx : x < 32) (hy : y < 32) (H : ∀ b, b < bu → gf_rc lf rt lo hg b x y → post (nI b)) : wpX_bucketAt post (nI co, nI ro, nI bu, nI cn, nI hi, gf_I cx, gf_I cy, gf_I dr, gf_I sz, gf_I lf, gf_I rt, gf_I lo, gf_I hg, gf_I pl, vv, gf_I hp, hv, gf_I se) (nI x) (nI y) := by
  obtain ⟨sx, sy, hbu, hD, hP, hS⟩ := h
  have h1 := gf_sc_co sx
  have h2 := gf_sc_co sy
  refine gf_columnOf sx hx (fun c hc => gf_rowOf sy hy (fun r hr => ?_))
  have hc1 := hc.1
  have hr1 := hr.1
  have D := hD x y c r hc hr
  refine ⟨pk_in (32 * c + r) 1024 (by omega) (gf_32 c r), ?_⟩
  rw [gf_at dr (gf_32 c r) (by omega)]
  exact H _ D.1 ((D.2 _ D.1).mp rfl)
theorem gf_find {post : Int32 → Prop} {S : Nat → Bool} {co ro bu cn hi : Nat} {cx cy dr sz lf rt lo hg pl : Nat → Nat} {vv : Nat → Int32} {hp : Nat → Nat} {hv : Nat → Int32} {se : Nat → Nat} {x y : Nat} (h : gf_W S co ro bu cx cy dr sz lf rt lo hg pl) (hx : x < 32) (hy : y < 32) (H1 : ∀ b k, b < bu → k < sz b → pl (4 * b + k) = 32 * x + y → post (nI (4 * b + k))) (H0 : S (32 * x + y) = false → post (-1)) : wpX_find post (nI co, nI ro, nI bu, nI cn, nI hi, gf_I cx, gf_I cy, gf_I dr, gf_I sz, gf_I lf, gf_I rt, gf_I lo, gf_I hg, gf_I pl, vv, gf_I hp, hv, gf_I se) (nI x) (nI y) := by
  have h0 := h
  obtain ⟨sx, sy, hbu, hD, hP, hS⟩ := h
  unfold wpX_find
  dsimp only
  refine gf_bucketAt h0 hx hy (fun b hb hr => ?_)
  refine nm_r (gf_40 b) ?_
  have s4 := gf_W_sz h0 hb
  have hpl : ∀ k, k < sz b → pl (4 * b + k) < 1024 := fun k hk => gf_W_pl h0 hb hk
  refine pk_loop (σ := Unit) (fun n i _ => wX_find_12 post (nI x) (nI y) (nI b) (nI co) (nI ro) (nI bu) (nI cn) (nI hi) (gf_I cx) (gf_I cy) (gf_I dr) (gf_I sz) (gf_I lf) (gf_I rt) (gf_I lo) (gf_I hg) (gf_I pl) vv (gf_I hp) hv (gf_I se) n (nI (4 * b + i))) (fun i _ => ∀ j, j < i → pl (4 * b + j) ≠ 32 * x + y) (sz b) 0 () (by omega) (fun j hj => absurd hj (by omega)) (fun n _ hI => ?_) (fun n i _ hi hI hw => ?_)
  · refine ⟨pk_in b 64 (by omega), pk_le (4 * b + sz b) (4 * b + sz b) (fun _ => H0 ?_) (fun z => absurd z (by omega)) (gf_4a sz (by omega)) rfl⟩
    cases e : S (32 * x + y) with
    | false => rfl
    | true =>
      obtain ⟨a, k, ha, hk, ek⟩ := (hS _).mp e
      have h3 := gf_W_rc h0 ha hk
      rw [ek, show (32 * x + y) / 32 = x by omega, show (32 * x + y) % 32 = y by omega] at h3
      have := gf_W_one h0 hx hy ha hb h3 hr
      subst this
      exact absurd ek (hI k hk)
  · have hp := hpl i hi
    refine ⟨pk_in b 64 (by omega), pk_le (4 * b + sz b) (4 * b + i) (fun z => absurd z (by omega)) (fun _ => ⟨pk_in (4 * b + i) 256 (by omega), pk_eq (pl (4 * b + i)) (32 * x + y) (fun z => H1 b i hb hi z) (fun z => nm_r (nI_1 _) (hw () (fun j hj => ?_))) (gf_at pl rfl (by omega)) (gf_32 x y)⟩) (gf_4a sz (by omega)) rfl⟩
    by_cases e : j = i
    · rw [e]; exact z
    · exact hI j (by omega)
theorem gf_drop {post : St1 → Prop} {co ro bu cn hi : Nat} {cx cy dr sz lf rt lo hg pl : Nat → Nat} {vv : Nat → Int32} {hp : Nat → Nat} {hv : Nat → Int32} {se : Nat → Nat} {b k : Nat} (hb : b < 64) (hk : k < sz b) (h4 : sz b ≤ 4) (hc : 0 < cn) (H : ∀ vv', post (nI co, nI ro, nI bu, nI (cn - 1), nI hi, gf_I cx, gf_I cy, gf_I dr, gf_I (gf_up sz b (sz b - 1)), gf_I lf, gf_I rt, gf_I lo, gf_I hg, gf_I (gf_up pl (4 * b + k) (pl (4 * b + (sz b - 1)))), vv', gf_I hp, hv, gf_I se)) : wpX_drop post (nI co, nI ro, nI bu, nI cn, nI hi, gf_I cx, gf_I cy, gf_I dr, gf_I sz, gf_I lf, gf_I rt, gf_I lo, gf_I hg, gf_I pl, vv, gf_I hp, hv, gf_I se) (nI (4 * b + k)) := by
  have e1 : (nI (4 * b + k) / 4 : Int32) = nI b := by
    show nI (4 * b + k) / nI 4 = nI b
    rw [pk_div (by omega) (by omega) (by omega), show (4 * b + k) / 4 = b by omega]
  have e2 : upd (gf_I sz) (nI b).toNatClampNeg (gf_I sz (nI b).toNatClampNeg - 1) = gf_I (gf_up sz b (sz b - 1)) := gf_st rfl (by omega) (by rw [gf_at sz rfl (by omega)]; exact gf_pred (by omega))
  have e3 : 4 * nI b + gf_I (gf_up sz b (sz b - 1)) (nI b).toNatClampNeg = nI (4 * b + (sz b - 1)) := by
    rw [gf_4a _ (by omega), gf_us]
  refine br_t (nI_pos' (by omega)) ⟨by decide, nm_r e1 ⟨pk_in b 64 hb, pk_in b 64 hb, nm_r e2 ⟨pk_in b 64 hb, pk_in (4 * b + (sz b - 1)) 256 (by omega) e3, pk_in (4 * b + k) 256 (by omega), nm_r (gf_st rfl (by omega) (gf_at pl e3 (by omega))) ⟨pk_in b 64 hb, pk_in (4 * b + (sz b - 1)) 256 (by omega) e3, pk_in (4 * b + k) 256 (by omega), nm_e (nm_r (gf_pred hc) (H _))⟩⟩⟩⟩
theorem gf_drop0 {post : St1 → Prop} {u : St1} (H : post u) : wpX_drop post u (-1) := br_f (by decide) H
end
section
def gf_bx (low high p : Nat) : Prop := low / 32 ≤ p / 32 ∧ p / 32 ≤ high / 32 ∧ low % 32 ≤ p % 32 ∧ p % 32 ≤ high % 32
def gf_T (S : Nat → Bool) (low high : Nat) : Nat → Bool := fun p => S p && decide (low / 32 ≤ p / 32 ∧ p / 32 ≤ high / 32 ∧ low % 32 ≤ p % 32 ∧ p % 32 ≤ high % 32)
theorem gf_T_iff {S : Nat → Bool} {low high p : Nat} : gf_T S low high p = true ↔ S p = true ∧ gf_bx low high p := by
  unfold gf_T gf_bx
  simp
theorem gf_gather {post : St1 → Prop} {S : Nat → Bool} {co ro bu cn hi : Nat} {cx cy dr sz lf rt lo hg pl : Nat → Nat} {vv : Nat → Int32} {hp : Nat → Nat} {hv : Nat → Int32} {se : Nat → Nat} {C : Nat → Prop} {b low high : Nat} (hb : b < 64) (h4 : sz b ≤ 4) (hl : low < 1024) (hh : high < 1024) (hpl : ∀ k, k < sz b → pl (4 * b + k) < 1024) (hd : ∀ k k', k < k' → k' < sz b → pl (4 * b + k) ≠ pl (4 * b + k')) (hS : ∀ k, k < sz b → S (pl (4 * b + k)) = true)
    (hE : gf_En C hi hp) (hCS : ∀ p, C p → S p = true) (hC : ∀ k, k < sz b → ¬ C (pl (4 * b + k))) (hcnt : gf_cnt S 1024 ≤ 40)
    (H : ∀ h' hp' hv', gf_En (fun p => C p ∨ ∃ k, k < sz b ∧ pl (4 * b + k) = p ∧ gf_bx low high p) h' hp' → post (nI co, nI ro, nI bu, nI cn, nI h', gf_I cx, gf_I cy, gf_I dr, gf_I sz, gf_I lf, gf_I rt, gf_I lo, gf_I hg, gf_I pl, vv, gf_I hp', hv', gf_I se)) : wpX_gather post (nI co, nI ro, nI bu, nI cn, nI hi, gf_I cx, gf_I cy, gf_I dr, gf_I sz, gf_I lf, gf_I rt, gf_I lo, gf_I hg, gf_I pl, vv, gf_I hp, hv, gf_I se) (nI b) (nI low) (nI high) := by
  refine nm_r (gf_40 b) (pk_loop (σ := Nat × (Nat → Nat) × (Nat → Int32)) (fun n i s => wX_gather_5 post (nI b) (nI low) (nI high) (nI co) (nI ro) (nI bu) (nI cn) n (nI (4 * b + i)) (nI s.1) (gf_I cx) (gf_I cy) (gf_I dr) (gf_I sz) (gf_I lf) (gf_I rt) (gf_I lo) (gf_I hg) (gf_I pl) vv (gf_I s.2.1) s.2.2 (gf_I se)) (fun i s => gf_En (fun p => C p ∨ ∃ k, k < i ∧ pl (4 * b + k) = p ∧ gf_bx low high p) s.1 s.2.1) (sz b) 0 (hi, hp, hv) (by omega) ?_ (fun n s hI => ?_) (fun n i s hi1 hI hw => ?_))
  · refine gf_En_iff hE (fun p _ => ⟨Or.inl, fun t => t.elim id (fun ⟨k, hk, _⟩ => absurd hk (by omega))⟩)
  · exact ⟨pk_in b 64 hb, pk_le (4 * b + sz b) (4 * b + sz b) (fun _ => H _ _ _ hI) (fun z => absurd z (by omega)) (gf_4a sz (by omega)) rfl⟩
  · obtain ⟨h, hp', hv'⟩ := s
    have hp1 := hpl i hi1
    have ep : gf_I pl (nI (4 * b + i)).toNatClampNeg = nI (pl (4 * b + i)) := gf_at pl rfl (by omega)
    have skip : ¬ gf_bx low high (pl (4 * b + i)) → gf_En (fun p => C p ∨ ∃ k, k < i + 1 ∧ pl (4 * b + k) = p ∧ gf_bx low high p) h hp' := by
      intro nb
      refine gf_En_iff hI (fun p _ => ⟨fun t => t.elim Or.inl (fun ⟨k, hk, e, x⟩ => Or.inr ⟨k, by omega, e, x⟩), fun t => t.elim Or.inl (fun ⟨k, hk, e, x⟩ => ?_)⟩)
      by_cases ek : k = i
      · rw [ek] at e
        rw [← e] at x
        exact absurd x nb
      · exact Or.inr ⟨k, by omega, e, x⟩
    have add : gf_bx low high (pl (4 * b + i)) → gf_En (fun p => C p ∨ ∃ k, k < i + 1 ∧ pl (4 * b + k) = p ∧ gf_bx low high p) (h + 1) (gf_up hp' h (pl (4 * b + i))) := by
      intro nb
      refine gf_En_add hI hp1 (fun t => t.elim (hC i hi1) (fun ⟨k, hk, e, _⟩ => hd k i hk hi1 e)) (fun q _ => ⟨fun t => t.elim (fun t => Or.inl (Or.inl t)) (fun ⟨k, hk, e, x⟩ => ?_), fun t => t.elim (fun t => t.elim Or.inl (fun ⟨k, hk, e, x⟩ => Or.inr ⟨k, by omega, e, x⟩)) (fun t => Or.inr ⟨i, by omega, t.symm, by rw [t]; exact nb⟩)⟩)
      by_cases ek : k = i
      · rw [ek] at e
        exact Or.inr e.symm
      · exact Or.inl (Or.inr ⟨k, by omega, e, x⟩)
    have room : gf_bx low high (pl (4 * b + i)) → h < 40 := by
      intro nb
      have := gf_En_le (S := S) (add nb) (fun p t => t.elim (hCS p) (fun ⟨k, hk, e, _⟩ => by rw [← e]; exact hS k (by omega)))
      omega
    refine ⟨pk_in b 64 hb, pk_le (4 * b + sz b) (4 * b + i) (fun z => absurd z (by omega)) (fun _ => ⟨pk_in (4 * b + i) 256 (by omega), nm_r (e' := nI (pl (4 * b + i) / 32)) (by rw [ep]; exact gf_shr5 (by omega)) ⟨pk_in (4 * b + i) 256 (by omega), nm_r (e' := nI (pl (4 * b + i) % 32)) (by rw [ep]; exact gf_and31 (by omega)) ?_⟩⟩) (gf_4a sz (by omega)) rfl⟩
    refine pk_lt (pl (4 * b + i) / 32) (low / 32) (fun z => br_t rfl (nm_r (nI_1 _) (hw (h, hp', hv') (skip (fun t => by unfold gf_bx at t; omega))))) (fun z1 => pk_lt (high / 32) (pl (4 * b + i) / 32) (fun z => br_t rfl (nm_r (nI_1 _) (hw (h, hp', hv') (skip (fun t => by unfold gf_bx at t; omega))))) (fun z2 => br_f (by decide) (pk_lt (pl (4 * b + i) % 32) (low % 32) (fun z => nm_r (nI_1 _) (hw (h, hp', hv') (skip (fun t => by unfold gf_bx at t; omega)))) (fun z3 => pk_lt (high % 32) (pl (4 * b + i) % 32) (fun z => nm_r (nI_1 _) (hw (h, hp', hv') (skip (fun t => by unfold gf_bx at t; omega)))) (fun z4 => ?_) (gf_and31 (by omega)) rfl) rfl (gf_and31 (by omega)))) (gf_shr5 (by omega)) rfl) rfl (gf_shr5 (by omega))
    have hx : gf_bx low high (pl (4 * b + i)) := ⟨z1, z2, z3, z4⟩
    have r40 := room hx
    exact ⟨pk_in (4 * b + i) 256 (by omega), pk_in h 40 r40, nm_r (gf_st rfl (by omega) ep) ⟨pk_in (4 * b + i) 256 (by omega), pk_in h 40 r40, nm_e (nm_r (nI_1 h) (nm_r (nI_1 _) (hw (h + 1, gf_up hp' h (pl (4 * b + i)), _) (add hx))))⟩⟩
/-- what is gathered: the points of the seen buckets that lie in the rectangle -/
def gf_Co (bu low high : Nat) (sz pl : Nat → Nat) (h : Nat) (hp se : Nat → Nat) : Prop :=
  (∀ b, b < bu → se b ≤ 1) ∧ gf_En (fun p => ∃ b k, b < bu ∧ k < sz b ∧ pl (4 * b + k) = p ∧ gf_bx low high p ∧ se b = 1) h hp
theorem gf_collect_71 {post : St1 → Prop} {J : Int32 → Int32 → Int32 → Int32 → Int32 → Int32 → (Nat → Int32) → (Nat → Int32) → (Nat → Int32) → (Nat → Int32) → (Nat → Int32) → (Nat → Int32) → (Nat → Int32) → (Nat → Int32) → (Nat → Int32) → (Nat → Int32) → (Nat → Int32) → (Nat → Int32) → (Nat → Int32) → Prop} {S : Nat → Bool} {co ro bu cn hi : Nat} {cx cy dr sz lf rt lo hg pl : Nat → Nat} {vv : Nat → Int32} {hp : Nat → Nat} {hv : Nat → Int32} {se : Nat → Nat} {low high c0 c1 r0 r1 c : Nat}
    (h : gf_W S co ro bu cx cy dr sz lf rt lo hg pl) (hl : low < 1024) (hh : high < 1024) (hcnt : gf_cnt S 1024 ≤ 40) (hc : c < co) (hr1 : r1 < ro) (hr0 : r0 ≤ r1)
    (hI0 : gf_Co bu low high sz pl hi hp se) (hV : ∀ c' r', c0 ≤ c' → r0 ≤ r' → r' ≤ r1 → c' < c → se (dr (32 * c' + r')) = 1)
    (H : ∀ h' hp' hv' se', gf_Co bu low high sz pl h' hp' se' → (∀ c' r', c0 ≤ c' → r0 ≤ r' → r' ≤ r1 → c' < c + 1 → se' (dr (32 * c' + r')) = 1) → J (nI (c + 1)) (nI co) (nI ro) (nI bu) (nI cn) (nI h') (gf_I cx) (gf_I cy) (gf_I dr) (gf_I sz) (gf_I lf) (gf_I rt) (gf_I lo) (gf_I hg) (gf_I pl) vv (gf_I hp') hv' (gf_I se')) :
    ∃ n, wX_collect_71 post J (nI low) (nI high) (nI c1) (nI r1) (nI c) n (nI r0) (nI co) (nI ro) (nI bu) (nI cn) (nI hi) (gf_I cx) (gf_I cy) (gf_I dr) (gf_I sz) (gf_I lf) (gf_I rt) (gf_I lo) (gf_I hg) (gf_I pl) vv (gf_I hp) hv (gf_I se) := by
  have h0 := h
  obtain ⟨sx, sy, hbu, hD, hP, hS⟩ := h
  have q1 := gf_sc_co sx
  have q2 := gf_sc_co sy
  refine pk_loop (σ := Nat × (Nat → Nat) × (Nat → Int32) × (Nat → Nat)) (fun n i s => wX_collect_71 post J (nI low) (nI high) (nI c1) (nI r1) (nI c) n (nI i) (nI co) (nI ro) (nI bu) (nI cn) (nI s.1) (gf_I cx) (gf_I cy) (gf_I dr) (gf_I sz) (gf_I lf) (gf_I rt) (gf_I lo) (gf_I hg) (gf_I pl) vv (gf_I s.2.1) s.2.2.1 (gf_I s.2.2.2)) (fun i s => gf_Co bu low high sz pl s.1 s.2.1 s.2.2.2 ∧ ∀ c' r', c0 ≤ c' → r0 ≤ r' → r' ≤ r1 → (c' < c ∨ (c' = c ∧ r' < i)) → s.2.2.2 (dr (32 * c' + r')) = 1) (r1 + 1) r0 (hi, hp, hv, se) (by omega) ⟨hI0, fun c' r' a1 a2 a3 a4 => hV c' r' a1 a2 a3 (by omega)⟩ (fun n s hI => ?_) (fun n i s hi1 hI hw => ?_)
  · refine pk_lt r1 (r1 + 1) (fun _ => nm_r (nI_1 c) (H _ _ _ _ hI.1 (fun c' r' a1 a2 a3 a4 => hI.2 c' r' a1 a2 a3 (by omega)))) (fun z => absurd z (by omega))
  · obtain ⟨g, hp', hv', se'⟩ := s
    obtain ⟨⟨I1, I2⟩, I3⟩ := hI
    dsimp only at I1 I2 I3
    have hir : i < ro := by omega
    have hb := (hD _ _ c i (gf_in_self sx hc) (gf_in_self sy hir)).1
    dsimp only at hb
    have hse := I1 _ hb
    refine pk_lt r1 i (fun z => absurd z (by omega)) (fun _ => ⟨pk_in (32 * c + i) 1024 (by omega) (gf_32 c i), nm_r (gf_at dr (gf_32 c i) (by omega)) ⟨pk_in _ 64 (show dr (32 * c + i) < 64 by omega), pk_eq (se' (dr (32 * c + i))) 0 (fun z => ⟨pk_in _ 64 (show dr (32 * c + i) < 64 by omega), nm_r (gf_st rfl (by omega) (show (1 : Int32) = nI 1 from rfl)) ?_⟩) (fun z => nm_r (nI_1 i) (hw (g, hp', hv', se') ⟨⟨I1, I2⟩, fun c' r' a1 a2 a3 a4 => ?_⟩)) (gf_at se' rfl (by omega)) rfl⟩⟩)
    · have P := hP _ hb
      refine gf_gather (S := S) (C := fun p => ∃ b k, b < bu ∧ k < sz b ∧ pl (4 * b + k) = p ∧ gf_bx low high p ∧ se' b = 1) (by omega) P.1 hl hh (fun k hk => gf_W_pl h0 hb hk) P.2.2.2.2.2.2 (fun k hk => gf_W_S h0 hb hk) I2 (fun p ⟨b, k, e1, e2, e3, _⟩ => by rw [← e3]; exact gf_W_S h0 e1 e2) (fun k hk ⟨b, k', e1, e2, e3, _, e5⟩ => ?_) hcnt (fun h' hp2 hv2 hE => nm_r (nI_1 i) (hw (h', hp2, hv2, gf_up se' (dr (32 * c + i)) 1) ⟨⟨fun a ha => ?_, gf_En_iff hE (fun p _ => ⟨?_, ?_⟩)⟩, fun c' r' a1 a2 a3 a4 => ?_⟩))
      · have := (gf_W_pt h0 e1 hb e2 hk e3).1
        rw [this] at e5
        omega
      · show gf_up se' (dr (32 * c + i)) 1 a ≤ 1
        by_cases e : a = dr (32 * c + i)
        · rw [e, gf_us]; exact Nat.le_refl _
        · rw [gf_un e]; exact I1 a ha
      · rintro (⟨b, k, e1, e2, e3, e4, e5⟩ | ⟨k, e2, e3, e4⟩)
        · refine ⟨b, k, e1, e2, e3, e4, ?_⟩
          show gf_up se' (dr (32 * c + i)) 1 b = 1
          by_cases e : b = dr (32 * c + i)
          · rw [e, gf_us]
          · rw [gf_un e]; exact e5
        · exact ⟨dr (32 * c + i), k, hb, e2, e3, e4, gf_us⟩
      · rintro ⟨b, k, e1, e2, e3, e4, e5⟩
        by_cases e : b = dr (32 * c + i)
        · subst e
          exact Or.inr ⟨k, e2, e3, e4⟩
        · dsimp only at e5
          rw [gf_un e] at e5
          exact Or.inl ⟨b, k, e1, e2, e3, e4, e5⟩
      · show gf_up se' (dr (32 * c + i)) 1 (dr (32 * c' + r')) = 1
        by_cases e : dr (32 * c' + r') = dr (32 * c + i)
        · rw [e, gf_us]
        · rw [gf_un e]
          refine I3 c' r' a1 a2 a3 ?_
          by_cases e2 : c' = c ∧ r' = i
          · rw [e2.1, e2.2] at e
            exact absurd rfl e
          · omega
    · show se' (dr (32 * c' + r')) = 1
      by_cases e2 : c' = c ∧ r' = i
      · rw [e2.1, e2.2]
        omega
      · exact I3 c' r' a1 a2 a3 (by omega)
theorem gf_collect {post : St1 → Prop} {S : Nat → Bool} {co ro bu cn hi : Nat} {cx cy dr sz lf rt lo hg pl : Nat → Nat} {vv : Nat → Int32} {hp : Nat → Nat} {hv : Nat → Int32} {se : Nat → Nat} {low high : Nat} (h : gf_W S co ro bu cx cy dr sz lf rt lo hg pl) (hl : low < 1024) (hh : high < 1024) (hx : low / 32 ≤ high / 32) (hy : low % 32 ≤ high % 32) (hcnt : gf_cnt S 1024 ≤ 40)
    (H : ∀ h' hp' hv' se', gf_En (fun p => gf_T S low high p = true) h' hp' → h' ≤ 40 → post (nI co, nI ro, nI bu, nI cn, nI h', gf_I cx, gf_I cy, gf_I dr, gf_I sz, gf_I lf, gf_I rt, gf_I lo, gf_I hg, gf_I pl, vv, gf_I hp', hv', gf_I se')) : wpX_collect post (nI co, nI ro, nI bu, nI cn, nI hi, gf_I cx, gf_I cy, gf_I dr, gf_I sz, gf_I lf, gf_I rt, gf_I lo, gf_I hg, gf_I pl, vv, gf_I hp, hv, gf_I se) (nI low) (nI high) := by
  have h0 := h
  obtain ⟨sx, sy, hbu, hD, hP, hS⟩ := h
  have q1 := gf_sc_co sx
  have q2 := gf_sc_co sy
  refine pk_loop (σ := Nat → Nat) (fun n i s => wX_collect_7 post (nI low) (nI high) (nI co) (nI ro) (nI bu) (nI cn) (nI 0) n (nI i) (gf_I cx) (gf_I cy) (gf_I dr) (gf_I sz) (gf_I lf) (gf_I rt) (gf_I lo) (gf_I hg) (gf_I pl) vv (gf_I hp) hv (gf_I s)) (fun i s => ∀ j, j < i → s j = 0) bu 0 se (by omega) (fun j hj => absurd hj (by omega)) (fun n s hI => pk_le bu bu (fun _ => ?_) (fun z => absurd z (by omega))) (fun n i s hi1 hI hw => pk_le bu i (fun z => absurd z (by omega)) (fun _ => ⟨pk_in i 64 (by omega), nm_r (gf_st rfl (by omega) (show (0 : Int32) = nI 0 from rfl)) (nm_r (nI_1 i) (hw _ (fun j hj => ?_)))⟩))
  · rw [gf_shr5 (show high < 2 ^ 31 by omega), gf_and31 (show high < 2 ^ 31 by omega), gf_shr5 (show low < 2 ^ 31 by omega)]
    refine gf_columnOf sx (show high / 32 < 32 by omega) (fun c1 hc1 => gf_rowOf sy (show high % 32 < 32 by omega) (fun r1 hr1 => gf_columnOf sx (show low / 32 < 32 by omega) (fun c0 hc0 => ?_)))
    obtain ⟨r0, hr0⟩ := gf_in_ex sy (show low % 32 < 32 by omega)
    have hc01 := gf_in_mono sx hc0 hc1 hx
    have hr01 := gf_in_mono sy hr0 hr1 hy
    have c1c := hc1.1
    have r1c := hr1.1
    refine pk_loop (σ := Nat × (Nat → Nat) × (Nat → Int32) × (Nat → Nat)) (fun n i s => wX_collect_55 post (nI low) (nI high) (nI c1) (nI r1) n (nI i) (nI co) (nI ro) (nI bu) (nI cn) (nI s.1) (gf_I cx) (gf_I cy) (gf_I dr) (gf_I sz) (gf_I lf) (gf_I rt) (gf_I lo) (gf_I hg) (gf_I pl) vv (gf_I s.2.1) s.2.2.1 (gf_I s.2.2.2)) (fun i s => gf_Co bu low high sz pl s.1 s.2.1 s.2.2.2 ∧ ∀ c' r', c0 ≤ c' → r0 ≤ r' → r' ≤ r1 → c' < i → s.2.2.2 (dr (32 * c' + r')) = 1) (c1 + 1) c0 (0, hp, hv, s) (by omega) ⟨⟨fun b hb => ?_, gf_En_0 (fun p _ ⟨b, k, e1, _, _, _, e5⟩ => ?_)⟩, fun c' r' a1 a2 a3 a4 => absurd a4 (by omega)⟩ (fun n s hI => pk_lt c1 (c1 + 1) (fun _ => ?_) (fun z => absurd z (by omega))) (fun n i s hi1 hI hw => pk_lt c1 i (fun z => absurd z (by omega)) (fun _ => ?_))
    · show s b ≤ 1
      rw [hI b hb]; omega
    · have e5' : s b = 1 := e5
      rw [hI b e1] at e5'
      omega
    · obtain ⟨g, hp', hv', se'⟩ := s
      obtain ⟨⟨I1, I2⟩, I3⟩ := hI
      dsimp only at I1 I2 I3
      have E : gf_En (fun p => gf_T S low high p = true) g hp' := by
        refine gf_En_iff I2 (fun p hp1 => ⟨fun ⟨b, k, e1, e2, e3, e4, e5⟩ => gf_T_iff.mpr ⟨by rw [← e3]; exact gf_W_S h0 e1 e2, e4⟩, fun t => ?_⟩)
        obtain ⟨t1, t2⟩ := gf_T_iff.mp t
        obtain ⟨b, k, e1, e2, e3⟩ := (hS p).mp t1
        have R := gf_W_rc h0 e1 e2
        rw [e3] at R
        obtain ⟨c, hc⟩ := gf_in_ex sx (show p / 32 < 32 by omega)
        obtain ⟨r, hr⟩ := gf_in_ex sy (show p % 32 < 32 by omega)
        have D := ((hD _ _ c r hc hr).2 b e1).mpr R
        dsimp only at D
        have V := I3 c r (gf_in_mono sx hc0 hc t2.1) (gf_in_mono sy hr0 hr t2.2.2.1) (gf_in_mono sy hr hr1 t2.2.2.2) (by have := gf_in_mono sx hc hc1 t2.2.1; omega)
        rw [D] at V
        exact ⟨b, k, e1, e2, e3, t2, V⟩
      have h40 := gf_En_le (S := S) E (fun p t => (gf_T_iff.mp t).1)
      exact H g hp' hv' se' E (by omega)
    · rw [gf_and31 (show low < 2 ^ 31 by omega)]
      refine gf_rowOf sy (show low % 32 < 32 by omega) (fun r hr => ?_)
      have e := gf_in_uniq sy hr hr0
      subst e
      exact gf_collect_71 h0 hl hh hcnt (show i < co by omega) hr1.1 hr01 hI.1 hI.2 (fun h' hp' hv' se' k1 k2 => hw (h', hp', hv', se') ⟨k1, k2⟩)
  · by_cases e : j = i
    · rw [e, gf_us]
    · rw [gf_un e]
      exact hI j (by omega)
end
section
/-- the array while a place is being put in: the hole stands at a -/
def gf_Ho (hp hp' : Nat → Nat) (i a : Nat) : Prop := a ≤ i ∧ (∀ j, j < a → hp' j = hp j) ∧ (∀ j, a < j → j ≤ i → hp' j = hp (j - 1)) ∧ (∀ j, i < j → hp' j = hp j) ∧ (∀ j, a ≤ j → j < i → hp i < hp j)
def gf_pi (i a j : Nat) : Nat := if j < a then j else if j = a then i else if j ≤ i then j - 1 else j
theorem gf_sort_step {C : Nat → Prop} {h i a : Nat} {hp hp' : Nat → Nat} (hE : gf_En C h hp) (hs : ∀ x y, x < y → y < i → hp x < hp y) (hi : i < h) (hH : gf_Ho hp hp' i a) (hx : a = 0 ∨ hp (a - 1) ≤ hp i) :
    gf_En C h (gf_up hp' a (hp i)) ∧ ∀ x y, x < y → y < i + 1 → gf_up hp' a (hp i) x < gf_up hp' a (hp i) y := by
  obtain ⟨h1, h2, h3, h4, h5⟩ := hH
  have E : ∀ j, gf_up hp' a (hp i) j = hp (gf_pi i a j) := by
    intro j
    unfold gf_pi
    by_cases e : j = a
    · rw [e, gf_us, if_neg (Nat.lt_irrefl _), if_pos rfl]
    · rw [gf_un e]
      by_cases e1 : j < a
      · rw [if_pos e1]; exact h2 j e1
      · rw [if_neg e1, if_neg e]
        by_cases e2 : j ≤ i
        · rw [if_pos e2]; exact h3 j (by omega) e2
        · rw [if_neg e2]; exact h4 j (by omega)
  have Pb : ∀ j, j < h → gf_pi i a j < h := by
    intro j hj
    unfold gf_pi
    split
    · omega
    · split
      · omega
      · split <;> omega
  have Pj : ∀ x y, x < y → gf_pi i a x ≠ gf_pi i a y := by
    intro x y hxy
    unfold gf_pi
    split <;> split <;> (try split) <;> (try split) <;> (try split) <;> (try split) <;> omega
  have I : ∀ x y, x < h → y < h → x ≠ y → hp x ≠ hp y := by
    intro x y a1 a2 a3
    rcases Nat.lt_or_ge x y with z | z
    · exact hE.2.1 x y z a2
    · exact fun t => hE.2.1 y x (by omega) a1 t.symm
  refine ⟨⟨fun j hj => ?_, fun x y hxy hy => ?_, fun p hp1 t => ?_⟩, fun x y hxy hy => ?_⟩
  · rw [E]
    exact hE.1 _ (Pb j hj)
  · rw [E, E]
    exact I _ _ (Pb x (by omega)) (Pb y hy) (Pj x y hxy)
  · obtain ⟨j, hj, e⟩ := hE.2.2 p hp1 t
    have K : ∀ q, q < h → gf_pi i a q = j → ∃ i', i' < h ∧ gf_up hp' a (hp i) i' = p := fun q hq eq => ⟨q, hq, by rw [E, eq]; exact e⟩
    rcases Nat.lt_or_ge j a with z | z
    · refine K j hj ?_
      unfold gf_pi
      rw [if_pos z]
    · rcases Nat.lt_or_ge j i with y | y
      · refine K (j + 1) (by omega) ?_
        unfold gf_pi
        rw [if_neg (by omega), if_neg (by omega), if_pos (by omega)]
        omega
      · by_cases ei : j = i
        · refine K a (by omega) ?_
          unfold gf_pi
          rw [if_neg (by omega), if_pos rfl]
          omega
        · refine K j hj ?_
          unfold gf_pi
          rw [if_neg (by omega), if_neg (by omega), if_neg (by omega)]
  · by_cases ex : x = a
    · rw [ex, gf_us, gf_un (by omega), h3 y (by omega) (by omega)]
      exact h5 (y - 1) (by omega) (by omega)
    · rw [gf_un ex]
      by_cases ey : y = a
      · rw [ey, gf_us, h2 x (by omega)]
        have hx' : hp (a - 1) ≤ hp i := by
          rcases hx with z | z
          · omega
          · exact z
        have ne := I (a - 1) i (by omega) hi (by omega)
        by_cases e1 : x = a - 1
        · rw [e1]; omega
        · have := hs x (a - 1) (by omega) (by omega)
          omega
      · rw [gf_un ey]
        by_cases c1 : y < a
        · rw [h2 x (by omega), h2 y c1]
          exact hs x y hxy (by omega)
        · rw [h3 y (by omega) (by omega)]
          by_cases c2 : x < a
          · rw [h2 x c2]
            exact hs x (y - 1) (by omega) (by omega)
          · rw [h3 x (by omega) (by omega)]
            exact hs (x - 1) (y - 1) (by omega) (by omega)
theorem gf_sort_27 {post : St1 → Prop} {J : Int32 → (Nat → Int32) → (Nat → Int32) → (Nat → Int32) → (Nat → Int32) → (Nat → Int32) → (Nat → Int32) → (Nat → Int32) → (Nat → Int32) → (Nat → Int32) → (Nat → Int32) → (Nat → Int32) → (Nat → Int32) → (Nat → Int32) → Prop} {co ro bu cn hi : Nat} {cx cy dr sz lf rt lo hg pl : Nat → Nat} {vv : Nat → Int32} {hp : Nat → Nat} {hv : Nat → Int32} {se : Nat → Nat} {i : Nat} {w : Int32} (hi40 : i < 40) (hb : ∀ j, j ≤ i → hp j < 1024)
    (H : ∀ a hp' hv', gf_Ho hp hp' i a → (a = 0 ∨ hp (a - 1) ≤ hp i) → J (nI (i + 1)) (gf_I cx) (gf_I cy) (gf_I dr) (gf_I sz) (gf_I lf) (gf_I rt) (gf_I lo) (gf_I hg) (gf_I pl) vv (gf_I (gf_up hp' a (hp i))) hv' (gf_I se)) :
    ∃ n, wX_sortHits_27 post J (nI i) (nI (hp i)) w (nI co) (nI ro) (nI bu) (nI cn) (nI hi) n (nI i) (gf_I cx) (gf_I cy) (gf_I dr) (gf_I sz) (gf_I lf) (gf_I rt) (gf_I lo) (gf_I hg) (gf_I pl) vv (gf_I hp) hv (gf_I se) := by
  have hpi := hb i (Nat.le_refl _)
  refine gf_down (σ := (Nat → Nat) × (Nat → Int32)) (fun n a s => wX_sortHits_27 post J (nI i) (nI (hp i)) w (nI co) (nI ro) (nI bu) (nI cn) (nI hi) n (nI a) (gf_I cx) (gf_I cy) (gf_I dr) (gf_I sz) (gf_I lf) (gf_I rt) (gf_I lo) (gf_I hg) (gf_I pl) vv (gf_I s.1) s.2 (gf_I se)) (fun a s => gf_Ho hp s.1 i a) 0 i (hp, hv) (by omega) ⟨Nat.le_refl _, fun _ _ => rfl, fun j a b => absurd b (by omega), fun _ _ => rfl, fun j a b => absurd b (by omega)⟩ (fun n s hI => ?_) (fun n a s _ hI hw => ?_)
  · refine pk_le 0 0 (fun _ => ⟨pk_in 0 40 (by omega), nm_r (gf_st rfl (by omega) rfl) ⟨pk_in 0 40 (by omega), nm_e (nm_r (nI_1 i) (H 0 s.1 _ hI (Or.inl rfl)))⟩⟩) (fun z => absurd z (by omega))
  · obtain ⟨hp', hv'⟩ := s
    obtain ⟨h1, h2, h3, h4, h5⟩ := hI
    dsimp only at h1 h2 h3 h4 h5
    have ea : hp' a = hp a := h2 a (by omega)
    have ba := hb a (by omega)
    refine pk_le (a + 1) 0 (fun z => absurd z (by omega)) (fun _ => ⟨pk_in a 40 (by omega) (nI_pred a), pk_le (hp' a) (hp i) (fun z => ?_) (fun z => ?_) (gf_at hp' (nI_pred a) (by omega)) rfl⟩)
    · exact ⟨pk_in (a + 1) 40 (by omega), nm_r (gf_st rfl (by omega) rfl) ⟨pk_in (a + 1) 40 (by omega), nm_e (nm_r (nI_1 i) (H (a + 1) hp' _ ⟨h1, h2, h3, h4, h5⟩ (Or.inr (by rw [show a + 1 - 1 = a by omega, ← ea]; exact z))))⟩⟩
    · refine ⟨pk_in a 40 (by omega) (nI_pred a), pk_in (a + 1) 40 (by omega), nm_r (gf_st rfl (by omega) (gf_at hp' (nI_pred a) (by omega))) ⟨pk_in a 40 (by omega) (nI_pred a), pk_in (a + 1) 40 (by omega), nm_e (nm_r (pk_m1 a) (hw (gf_up hp' (a + 1) (hp' a), _) ⟨by omega, fun j hj => ?_, fun j a1 a2 => ?_, fun j hj => ?_, fun j a1 a2 => ?_⟩))⟩⟩
      · show gf_up hp' (a + 1) (hp' a) j = hp j
        rw [gf_un (by omega)]
        exact h2 j (by omega)
      · show gf_up hp' (a + 1) (hp' a) j = hp (j - 1)
        by_cases e : j = a + 1
        · rw [e, gf_us, ea, show a + 1 - 1 = a by omega]
        · rw [gf_un e]
          exact h3 j (by omega) a2
      · show gf_up hp' (a + 1) (hp' a) j = hp j
        rw [gf_un (by omega)]
        exact h4 j hj
      · by_cases e : j = a
        · rw [e, ← ea]; exact z
        · exact h5 j (by omega) a2
theorem gf_sortHits {post : St1 → Prop} {C : Nat → Prop} {co ro bu cn hi : Nat} {cx cy dr sz lf rt lo hg pl : Nat → Nat} {vv : Nat → Int32} {hp : Nat → Nat} {hv : Nat → Int32} {se : Nat → Nat} (hE : gf_En C hi hp) (h40 : hi ≤ 40)
    (H : ∀ hp' hv', gf_En C hi hp' → (∀ x y, x < y → y < hi → hp' x < hp' y) → post (nI co, nI ro, nI bu, nI cn, nI hi, gf_I cx, gf_I cy, gf_I dr, gf_I sz, gf_I lf, gf_I rt, gf_I lo, gf_I hg, gf_I pl, vv, gf_I hp', hv', gf_I se)) : wpX_sortHits post (nI co, nI ro, nI bu, nI cn, nI hi, gf_I cx, gf_I cy, gf_I dr, gf_I sz, gf_I lf, gf_I rt, gf_I lo, gf_I hg, gf_I pl, vv, gf_I hp, hv, gf_I se) := by
  refine pk_loop (σ := (Nat → Nat) × (Nat → Int32)) (fun n i s => wX_sortHits_2 post (nI co) (nI ro) (nI bu) (nI cn) (nI hi) n (nI i) (gf_I cx) (gf_I cy) (gf_I dr) (gf_I sz) (gf_I lf) (gf_I rt) (gf_I lo) (gf_I hg) (gf_I pl) vv (gf_I s.1) s.2 (gf_I se)) (fun i s => 1 ≤ i ∧ gf_En C hi s.1 ∧ ∀ x y, x < y → y < i → y < hi → s.1 x < s.1 y) (max hi 1) 1 (hp, hv) (by omega) ⟨Nat.le_refl _, hE, fun x y a b => absurd b (by omega)⟩ (fun n s hI => ?_) (fun n i s hi1 hI hw => ?_)
  · exact pk_le hi (max hi 1) (fun _ => H s.1 s.2 hI.2.1 (fun x y a b => hI.2.2 x y a (by omega) b)) (fun z => absurd z (by omega))
  · obtain ⟨hp', hv'⟩ := s
    obtain ⟨I1, I2, I3⟩ := hI
    dsimp only at I1 I2 I3
    have hih : i < hi := by omega
    have bd : ∀ j, j ≤ i → hp' j < 1024 := fun j hj => (I2.1 j (by omega)).1
    refine pk_le hi i (fun z => absurd z (by omega)) (fun _ => ⟨pk_in i 40 (by omega), nm_r (gf_at hp' rfl (by omega)) ⟨pk_in i 40 (by omega), nm_e (gf_sort_27 (by omega) bd (fun a hp2 hv2 k1 k2 => ?_))⟩⟩)
    have st := gf_sort_step I2 (fun x y a b => I3 x y a b (by omega)) hih k1 k2
    exact hw (gf_up hp2 a (hp' i), hv2) ⟨by omega, st.1, fun x y a b _ => st.2 x y a b⟩
end
section
theorem gf_cut_co {cx : Nat → Nat} {co c cut : Nat} (h : gf_sc cx co) (hc : gf_in cx co cut c) (hn : cx c ≠ cut) : co + 1 ≤ 32 := by
  refine gf_sc_co (gf_cut_sc (cx' := fun i => if i ≤ c then cx i else if i = c + 1 then cut else cx (i - 1)) h hc hn ⟨fun i hi => ?_, ?_, fun i h1 h2 => ?_⟩)
  · exact if_pos hi
  · show (if c + 1 ≤ c then cx (c + 1) else if c + 1 = c + 1 then cut else cx (c + 1 - 1)) = cut
    rw [if_neg (by omega), if_pos rfl]
  · show (if i ≤ c then cx i else if i = c + 1 then cut else cx (i - 1)) = cx (i - 1)
    rw [if_neg (by omega), if_neg (by omega)]
theorem gf_3232 (k r : Nat) : 32 * nI (k + 1) - 32 + nI r = nI (32 * k + r) := by
  show nI 32 * nI (k + 1) - nI 32 + nI r = _
  rw [pk_mul, pk_sub (by omega), nI_add, show 32 * (k + 1) - 32 = 32 * k by omega]
/-! columns -/
theorem gf_cutCol_73 {post : St1 → Prop} {J : Int32 → (Nat → Int32) → (Nat → Int32) → (Nat → Int32) → (Nat → Int32) → (Nat → Int32) → (Nat → Int32) → (Nat → Int32) → (Nat → Int32) → (Nat → Int32) → (Nat → Int32) → (Nat → Int32) → (Nat → Int32) → (Nat → Int32) → Prop} {x : Int32} {co ro bu cn hi : Nat} {cx cy dr sz lf rt lo hg pl : Nat → Nat} {vv : Nat → Int32} {hp : Nat → Nat} {hv : Nat → Int32} {se : Nat → Nat} {k : Nat} (hk : k + 1 ≤ 31) (hr : ro ≤ 32)
    (H : ∀ dr', (∀ r, r < ro → dr' (32 * (k + 1) + r) = dr (32 * k + r)) → (∀ q, (q < 32 * (k + 1) ∨ 32 * (k + 2) ≤ q) → dr' q = dr q) → J (nI k) (gf_I cx) (gf_I cy) (gf_I dr') (gf_I sz) (gf_I lf) (gf_I rt) (gf_I lo) (gf_I hg) (gf_I pl) vv (gf_I hp) hv (gf_I se)) :
    ∃ n, wX_cutColumn_73 post J x (nI (k + 1)) (nI co) (nI ro) (nI bu) (nI cn) (nI hi) n 0 (gf_I cx) (gf_I cy) (gf_I dr) (gf_I sz) (gf_I lf) (gf_I rt) (gf_I lo) (gf_I hg) (gf_I pl) vv (gf_I hp) hv (gf_I se) := by
  refine pk_loop (σ := Nat → Nat) (fun n i s => wX_cutColumn_73 post J x (nI (k + 1)) (nI co) (nI ro) (nI bu) (nI cn) (nI hi) n (nI i) (gf_I cx) (gf_I cy) (gf_I s) (gf_I sz) (gf_I lf) (gf_I rt) (gf_I lo) (gf_I hg) (gf_I pl) vv (gf_I hp) hv (gf_I se)) (fun i s => (∀ r, r < i → s (32 * (k + 1) + r) = dr (32 * k + r)) ∧ (∀ q, (q < 32 * (k + 1) ∨ 32 * (k + 2) ≤ q) → s q = dr q)) ro 0 dr (by omega) ⟨fun r h => absurd h (by omega), fun _ _ => rfl⟩ (fun n s hI => pk_le ro ro (fun _ => nm_r (pk_m1 k) (H s hI.1 hI.2)) (fun z => absurd z (by omega))) (fun n i s hi1 hI hw => pk_le ro i (fun z => absurd z (by omega)) (fun _ => ⟨pk_in (32 * k + i) 1024 (by omega) (gf_3232 k i), pk_in (32 * (k + 1) + i) 1024 (by omega) (gf_32 (k + 1) i), nm_r (gf_st (gf_32 (k + 1) i) (by omega) (gf_at s (gf_3232 k i) (by omega))) (nm_r (nI_1 i) (hw _ ⟨fun r h => ?_, fun q h => ?_⟩))⟩))
  · by_cases e : r = i
    · rw [e, gf_us]
      exact hI.2 _ (by omega)
    · rw [gf_un (by omega)]
      exact hI.1 r (by omega)
  · rw [gf_un (by omega)]
    exact hI.2 q h
theorem gf_cutCol_65 {post : St1 → Prop} {co ro bu cn hi : Nat} {cx cy dr sz lf rt lo hg pl : Nat → Nat} {vv : Nat → Int32} {hp : Nat → Nat} {hv : Nat → Int32} {se : Nat → Nat} {c : Nat} (hc : c ≤ co) (hco : co ≤ 31) (hr : ro ≤ 32)
    (H : ∀ dr', (∀ k r, k ≤ co → r < ro → dr' (32 * k + r) = dr (32 * (if k ≤ c then k else k - 1) + r)) → post (nI (co + 1), nI ro, nI bu, nI cn, nI hi, gf_I cx, gf_I cy, gf_I dr', gf_I sz, gf_I lf, gf_I rt, gf_I lo, gf_I hg, gf_I pl, vv, gf_I hp, hv, gf_I se)) :
    ∃ n, wX_cutColumn_65 post (nI c) (nI co) (nI ro) (nI bu) (nI cn) (nI hi) n (nI co) (gf_I cx) (gf_I cy) (gf_I dr) (gf_I sz) (gf_I lf) (gf_I rt) (gf_I lo) (gf_I hg) (gf_I pl) vv (gf_I hp) hv (gf_I se) := by
  refine gf_down (σ := Nat → Nat) (fun n i s => wX_cutColumn_65 post (nI c) (nI co) (nI ro) (nI bu) (nI cn) (nI hi) n (nI i) (gf_I cx) (gf_I cy) (gf_I s) (gf_I sz) (gf_I lf) (gf_I rt) (gf_I lo) (gf_I hg) (gf_I pl) vv (gf_I hp) hv (gf_I se)) (fun i s => i ≤ co ∧ (∀ j r, i < j → j ≤ co → r < ro → s (32 * j + r) = dr (32 * (j - 1) + r)) ∧ (∀ q, q < 32 * (i + 1) → s q = dr q)) c co dr hc ⟨Nat.le_refl _, fun j r a b => absurd b (by omega), fun _ _ => rfl⟩ (fun n s hI => pk_le c c (fun _ => nm_r (nI_1 co) (H s (fun k r a b => ?_))) (fun z => absurd z (by omega))) (fun n i s hi1 hI hw => pk_le (i + 1) c (fun z => absurd z (by omega)) (fun _ => gf_cutCol_73 (by omega) hr (fun dr' d1 d2 => hw dr' ⟨by omega, fun j r a b d => ?_, fun q a => ?_⟩)) rfl rfl (by omega) (by omega))
  · by_cases e : k ≤ c
    · rw [if_pos e]
      exact hI.2.2 _ (by omega)
    · rw [if_neg e]
      exact hI.2.1 k r (by omega) a b
  · by_cases e : j = i + 1
    · rw [e, d1 r d, show i + 1 - 1 = i by omega]
      exact hI.2.2 _ (by omega)
    · rw [d2 _ (by omega)]
      exact hI.2.1 j r (by omega) b d
  · rw [d2 q (by omega)]
    exact hI.2.2 q (by omega)
theorem gf_cutCol_24 {post : St1 → Prop} {co ro bu cn hi : Nat} {cx cy dr sz lf rt lo hg pl : Nat → Nat} {vv : Nat → Int32} {hp : Nat → Nat} {hv : Nat → Int32} {se : Nat → Nat} {c cut : Nat} (hc : c < co) (hco : co ≤ 31) (hr : ro ≤ 32)
    (H : ∀ cx' dr', gf_cutS cx cx' co c cut → (∀ k r, k ≤ co → r < ro → dr' (32 * k + r) = dr (32 * (if k ≤ c then k else k - 1) + r)) → post (nI (co + 1), nI ro, nI bu, nI cn, nI hi, gf_I cx', gf_I cy, gf_I dr', gf_I sz, gf_I lf, gf_I rt, gf_I lo, gf_I hg, gf_I pl, vv, gf_I hp, hv, gf_I se)) :
    ∃ n, wX_cutColumn_24 post (nI cut) (nI c) (nI co) (nI ro) (nI bu) (nI cn) (nI hi) n (nI (co + 1)) (gf_I cx) (gf_I cy) (gf_I dr) (gf_I sz) (gf_I lf) (gf_I rt) (gf_I lo) (gf_I hg) (gf_I pl) vv (gf_I hp) hv (gf_I se) := by
  refine gf_down (σ := Nat → Nat) (fun n i s => wX_cutColumn_24 post (nI cut) (nI c) (nI co) (nI ro) (nI bu) (nI cn) (nI hi) n (nI i) (gf_I s) (gf_I cy) (gf_I dr) (gf_I sz) (gf_I lf) (gf_I rt) (gf_I lo) (gf_I hg) (gf_I pl) vv (gf_I hp) hv (gf_I se)) (fun i s => i ≤ co + 1 ∧ (∀ j, i < j → j ≤ co + 1 → s j = cx (j - 1)) ∧ (∀ j, j ≤ i → s j = cx j)) (c + 1) (co + 1) cx (by omega) ⟨Nat.le_refl _, fun j a b => absurd b (by omega), fun _ _ => rfl⟩ (fun n s hI => pk_le (c + 1) (c + 1) (fun _ => ⟨pk_in (c + 1) 33 (by omega) (nI_1 c), nm_r (gf_st (nI_1 c) (by omega) rfl) (gf_cutCol_65 (by omega) hco hr (fun dr' k2 => H _ dr' ⟨fun i a => ?_, gf_us, fun i a b => ?_⟩ k2))⟩) (fun z => absurd z (by omega)) rfl (nI_1 c)) (fun n i s hi1 hI hw => pk_le (i + 1) (c + 1) (fun z => absurd z (by omega)) (fun _ => ⟨pk_in i 33 (by omega) (nI_pred i), pk_in (i + 1) 33 (by omega), nm_r (gf_st rfl (by omega) (gf_at s (nI_pred i) (by omega))) (nm_r (pk_m1 i) (hw _ ⟨by omega, fun j a b => ?_, fun j a => ?_⟩))⟩) rfl (nI_1 c) (by omega) (by omega))
  · rw [gf_un (by omega)]
    exact hI.2.2 i (by omega)
  · rw [gf_un (by omega)]
    exact hI.2.1 i a b
  · by_cases e : j = i + 1
    · rw [e, gf_us, show i + 1 - 1 = i by omega]
      exact hI.2.2 i (by omega)
    · rw [gf_un e]
      exact hI.2.1 j (by omega) b
  · rw [gf_un (by omega)]
    exact hI.2.2 j (by omega)
theorem gf_cutColumn {post : St1 → Prop} {S : Nat → Bool} {co ro bu cn hi : Nat} {cx cy dr sz lf rt lo hg pl : Nat → Nat} {vv : Nat → Int32} {hp : Nat → Nat} {hv : Nat → Int32} {se : Nat → Nat} {cut : Nat} (h : gf_W S co ro bu cx cy dr sz lf rt lo hg pl) (hcut : cut < 32)
    (H : ∀ co' cx' dr', gf_W S co' ro bu cx' cy dr' sz lf rt lo hg pl → (∃ k, k < co' ∧ cx' k = cut) → post (nI co', nI ro, nI bu, nI cn, nI hi, gf_I cx', gf_I cy, gf_I dr', gf_I sz, gf_I lf, gf_I rt, gf_I lo, gf_I hg, gf_I pl, vv, gf_I hp, hv, gf_I se)) : wpX_cutColumn post (nI co, nI ro, nI bu, nI cn, nI hi, gf_I cx, gf_I cy, gf_I dr, gf_I sz, gf_I lf, gf_I rt, gf_I lo, gf_I hg, gf_I pl, vv, gf_I hp, hv, gf_I se) (nI cut) := by
  have h0 := h
  obtain ⟨sx, sy, hbu, hD, hP, hS⟩ := h
  have q1 := gf_sc_co sx
  have q2 := gf_sc_co sy
  unfold wpX_cutColumn
  dsimp only
  refine gf_columnOf sx hcut (fun c hc => ?_)
  have c1 := hc.1
  have c32 := gf_sc_32 sx (show c ≤ co by omega)
  refine ⟨pk_in c 33 (by omega), pk_eq (cx c) cut (fun z => H co cx dr h0 ⟨c, c1, z⟩) (fun z => nm_r (nI_1 co) ?_) (gf_at cx rfl (by omega)) rfl⟩
  have hco := gf_cut_co sx hc z
  refine gf_cutCol_24 c1 (by omega) q2 (fun cx' dr' k1 k2 => H (co + 1) cx' dr' ⟨gf_cut_sc sx hc z k1, sy, hbu, gf_cut_D sx hc k1 hD k2, hP, hS⟩ ⟨c + 1, by omega, k1.2.1⟩)
/-! rows -/
theorem gf_cutRow_76 {post : St1 → Prop} {J : Int32 → (Nat → Int32) → (Nat → Int32) → (Nat → Int32) → (Nat → Int32) → (Nat → Int32) → (Nat → Int32) → (Nat → Int32) → (Nat → Int32) → (Nat → Int32) → (Nat → Int32) → (Nat → Int32) → (Nat → Int32) → (Nat → Int32) → Prop} {co ro bu cn hi : Nat} {cx cy dr sz lf rt lo hg pl : Nat → Nat} {vv : Nat → Int32} {hp : Nat → Nat} {hv : Nat → Int32} {se : Nat → Nat} {c r : Nat} (hc : c < 32) (hr : r ≤ ro) (hro : ro ≤ 31)
    (H : ∀ dr', (∀ j, j ≤ ro → dr' (32 * c + j) = dr (32 * c + (if j ≤ r then j else j - 1))) → (∀ q, (q < 32 * c ∨ 32 * c + ro < q) → dr' q = dr q) → J (nI (c + 1)) (gf_I cx) (gf_I cy) (gf_I dr') (gf_I sz) (gf_I lf) (gf_I rt) (gf_I lo) (gf_I hg) (gf_I pl) vv (gf_I hp) hv (gf_I se)) :
    ∃ n, wX_cutRow_76 post J (nI r) (nI c) (nI co) (nI ro) (nI bu) (nI cn) (nI hi) n (nI ro) (gf_I cx) (gf_I cy) (gf_I dr) (gf_I sz) (gf_I lf) (gf_I rt) (gf_I lo) (gf_I hg) (gf_I pl) vv (gf_I hp) hv (gf_I se) := by
  have ix : ∀ i, 32 * nI c + nI (i + 1) - 1 = nI (32 * c + i) := by
    intro i
    rw [gf_32, gf_pred (by omega), show 32 * c + (i + 1) - 1 = 32 * c + i by omega]
  refine gf_down (σ := Nat → Nat) (fun n i s => wX_cutRow_76 post J (nI r) (nI c) (nI co) (nI ro) (nI bu) (nI cn) (nI hi) n (nI i) (gf_I cx) (gf_I cy) (gf_I s) (gf_I sz) (gf_I lf) (gf_I rt) (gf_I lo) (gf_I hg) (gf_I pl) vv (gf_I hp) hv (gf_I se)) (fun i s => i ≤ ro ∧ (∀ j, i < j → j ≤ ro → s (32 * c + j) = dr (32 * c + (j - 1))) ∧ (∀ q, (q ≤ 32 * c + i ∨ 32 * c + ro < q) → s q = dr q)) r ro dr hr ⟨Nat.le_refl _, fun j a b => absurd b (by omega), fun _ _ => rfl⟩ (fun n s hI => pk_le r r (fun _ => nm_r (nI_1 c) (H s (fun j a => ?_) (fun q a => hI.2.2 q (by omega)))) (fun z => absurd z (by omega))) (fun n i s hi1 hI hw => pk_le (i + 1) r (fun z => absurd z (by omega)) (fun _ => ⟨pk_in (32 * c + i) 1024 (by omega) (ix i), pk_in (32 * c + (i + 1)) 1024 (by omega) (gf_32 c (i + 1)), nm_r (gf_st (gf_32 c (i + 1)) (by omega) (gf_at s (ix i) (by omega))) (nm_r (pk_m1 i) (hw _ ⟨by omega, fun j a b => ?_, fun q a => ?_⟩))⟩) rfl rfl (by omega) (by omega))
  · by_cases e : j ≤ r
    · rw [if_pos e]
      exact hI.2.2 _ (by omega)
    · rw [if_neg e]
      exact hI.2.1 j (by omega) a
  · by_cases e : j = i + 1
    · rw [e, gf_us, show i + 1 - 1 = i by omega]
      exact hI.2.2 _ (by omega)
    · rw [gf_un (by omega)]
      exact hI.2.1 j (by omega) b
  · rw [gf_un (by omega)]
    exact hI.2.2 q (by omega)
theorem gf_cutRow_62 {post : St1 → Prop} {co ro bu cn hi : Nat} {cx cy dr sz lf rt lo hg pl : Nat → Nat} {vv : Nat → Int32} {hp : Nat → Nat} {hv : Nat → Int32} {se : Nat → Nat} {r : Nat} (hr : r ≤ ro) (hro : ro ≤ 31) (hco : co ≤ 32)
    (H : ∀ dr', (∀ c j, c < co → j ≤ ro → dr' (32 * c + j) = dr (32 * c + (if j ≤ r then j else j - 1))) → post (nI co, nI (ro + 1), nI bu, nI cn, nI hi, gf_I cx, gf_I cy, gf_I dr', gf_I sz, gf_I lf, gf_I rt, gf_I lo, gf_I hg, gf_I pl, vv, gf_I hp, hv, gf_I se)) :
    ∃ n, wX_cutRow_62 post (nI r) (nI co) (nI ro) (nI bu) (nI cn) (nI hi) n 0 (gf_I cx) (gf_I cy) (gf_I dr) (gf_I sz) (gf_I lf) (gf_I rt) (gf_I lo) (gf_I hg) (gf_I pl) vv (gf_I hp) hv (gf_I se) := by
  refine pk_loop (σ := Nat → Nat) (fun n i s => wX_cutRow_62 post (nI r) (nI co) (nI ro) (nI bu) (nI cn) (nI hi) n (nI i) (gf_I cx) (gf_I cy) (gf_I s) (gf_I sz) (gf_I lf) (gf_I rt) (gf_I lo) (gf_I hg) (gf_I pl) vv (gf_I hp) hv (gf_I se)) (fun i s => (∀ c j, c < i → j ≤ ro → s (32 * c + j) = dr (32 * c + (if j ≤ r then j else j - 1))) ∧ (∀ q, 32 * i ≤ q → s q = dr q)) co 0 dr (by omega) ⟨fun c j a => absurd a (by omega), fun _ _ => rfl⟩ (fun n s hI => pk_le co co (fun _ => nm_r (nI_1 ro) (H s hI.1)) (fun z => absurd z (by omega))) (fun n i s hi1 hI hw => pk_le co i (fun z => absurd z (by omega)) (fun _ => gf_cutRow_76 (by omega) hr hro (fun dr' d1 d2 => hw dr' ⟨fun c j a b => ?_, fun q a => ?_⟩)))
  · by_cases e : c = i
    · rw [e, d1 j b]
      exact hI.2 _ (by omega)
    · rw [d2 _ (by omega)]
      exact hI.1 c j (by omega) b
  · rw [d2 q (by omega)]
    exact hI.2 q (by omega)
theorem gf_cutRow_24 {post : St1 → Prop} {co ro bu cn hi : Nat} {cx cy dr sz lf rt lo hg pl : Nat → Nat} {vv : Nat → Int32} {hp : Nat → Nat} {hv : Nat → Int32} {se : Nat → Nat} {r cut : Nat} (hr : r < ro) (hro : ro ≤ 31) (hco : co ≤ 32)
    (H : ∀ cy' dr', gf_cutS cy cy' ro r cut → (∀ c j, c < co → j ≤ ro → dr' (32 * c + j) = dr (32 * c + (if j ≤ r then j else j - 1))) → post (nI co, nI (ro + 1), nI bu, nI cn, nI hi, gf_I cx, gf_I cy', gf_I dr', gf_I sz, gf_I lf, gf_I rt, gf_I lo, gf_I hg, gf_I pl, vv, gf_I hp, hv, gf_I se)) :
    ∃ n, wX_cutRow_24 post (nI cut) (nI r) (nI co) (nI ro) (nI bu) (nI cn) (nI hi) n (nI (ro + 1)) (gf_I cx) (gf_I cy) (gf_I dr) (gf_I sz) (gf_I lf) (gf_I rt) (gf_I lo) (gf_I hg) (gf_I pl) vv (gf_I hp) hv (gf_I se) := by
  refine gf_down (σ := Nat → Nat) (fun n i s => wX_cutRow_24 post (nI cut) (nI r) (nI co) (nI ro) (nI bu) (nI cn) (nI hi) n (nI i) (gf_I cx) (gf_I s) (gf_I dr) (gf_I sz) (gf_I lf) (gf_I rt) (gf_I lo) (gf_I hg) (gf_I pl) vv (gf_I hp) hv (gf_I se)) (fun i s => i ≤ ro + 1 ∧ (∀ j, i < j → j ≤ ro + 1 → s j = cy (j - 1)) ∧ (∀ j, j ≤ i → s j = cy j)) (r + 1) (ro + 1) cy (by omega) ⟨Nat.le_refl _, fun j a b => absurd b (by omega), fun _ _ => rfl⟩ (fun n s hI => pk_le (r + 1) (r + 1) (fun _ => ⟨pk_in (r + 1) 33 (by omega) (nI_1 r), nm_r (gf_st (nI_1 r) (by omega) rfl) (gf_cutRow_62 (by omega) hro hco (fun dr' k2 => H _ dr' ⟨fun i a => ?_, gf_us, fun i a b => ?_⟩ k2))⟩) (fun z => absurd z (by omega)) rfl (nI_1 r)) (fun n i s hi1 hI hw => pk_le (i + 1) (r + 1) (fun z => absurd z (by omega)) (fun _ => ⟨pk_in i 33 (by omega) (nI_pred i), pk_in (i + 1) 33 (by omega), nm_r (gf_st rfl (by omega) (gf_at s (nI_pred i) (by omega))) (nm_r (pk_m1 i) (hw _ ⟨by omega, fun j a b => ?_, fun j a => ?_⟩))⟩) rfl (nI_1 r) (by omega) (by omega))
  · rw [gf_un (by omega)]
    exact hI.2.2 i (by omega)
  · rw [gf_un (by omega)]
    exact hI.2.1 i a b
  · by_cases e : j = i + 1
    · rw [e, gf_us, show i + 1 - 1 = i by omega]
      exact hI.2.2 i (by omega)
    · rw [gf_un e]
      exact hI.2.1 j (by omega) b
  · rw [gf_un (by omega)]
    exact hI.2.2 j (by omega)
theorem gf_cutRow {post : St1 → Prop} {S : Nat → Bool} {co ro bu cn hi : Nat} {cx cy dr sz lf rt lo hg pl : Nat → Nat} {vv : Nat → Int32} {hp : Nat → Nat} {hv : Nat → Int32} {se : Nat → Nat} {cut : Nat} (h : gf_W S co ro bu cx cy dr sz lf rt lo hg pl) (hcut : cut < 32)
    (H : ∀ ro' cy' dr', gf_W S co ro' bu cx cy' dr' sz lf rt lo hg pl → (∃ k, k < ro' ∧ cy' k = cut) → post (nI co, nI ro', nI bu, nI cn, nI hi, gf_I cx, gf_I cy', gf_I dr', gf_I sz, gf_I lf, gf_I rt, gf_I lo, gf_I hg, gf_I pl, vv, gf_I hp, hv, gf_I se)) : wpX_cutRow post (nI co, nI ro, nI bu, nI cn, nI hi, gf_I cx, gf_I cy, gf_I dr, gf_I sz, gf_I lf, gf_I rt, gf_I lo, gf_I hg, gf_I pl, vv, gf_I hp, hv, gf_I se) (nI cut) := by
  have h0 := h
  obtain ⟨sx, sy, hbu, hD, hP, hS⟩ := h
  have q1 := gf_sc_co sx
  have q2 := gf_sc_co sy
  unfold wpX_cutRow
  dsimp only
  refine gf_rowOf sy hcut (fun r hr => ?_)
  have r1 := hr.1
  have r32 := gf_sc_32 sy (show r ≤ ro by omega)
  refine ⟨pk_in r 33 (by omega), pk_eq (cy r) cut (fun z => H ro cy dr h0 ⟨r, r1, z⟩) (fun z => nm_r (nI_1 ro) ?_) (gf_at cy rfl (by omega)) rfl⟩
  have hro := gf_cut_co sy hr z
  refine gf_cutRow_24 r1 (by omega) q1 (fun cy' dr' k1 k2 => H (ro + 1) cy' dr' ⟨sx, gf_cut_sc sy hr z k1, hbu, ?_, hP, hS⟩ ⟨r + 1, by omega, k1.2.1⟩)
  exact gf_D_sw (gf_cut_D (d' := fun r c => dr' (32 * c + r)) sy hr k1 (gf_D_sw hD) (fun j c a b => k2 c j b a))
end
section
/-! entering a bucket into the directory -/
def gf_cl (cx cy lf rt lo hg : Nat → Nat) (b c r : Nat) : Prop := lf b ≤ cx c ∧ cx c ≤ rt b ∧ lo b ≤ cy r ∧ cy r ≤ hg b
def gf_clI (co ro : Nat) (cx cy lf rt lo hg dr : Nat → Nat) (b c r : Nat) (s : Nat → Nat) : Prop :=
  ∀ c' r', c' < co → r' < ro → ((gf_cl cx cy lf rt lo hg b c' r' ∧ (c' < c ∨ (c' = c ∧ r' < r))) → s (32 * c' + r') = b) ∧ (¬ (gf_cl cx cy lf rt lo hg b c' r' ∧ (c' < c ∨ (c' = c ∧ r' < r))) → s (32 * c' + r') = dr (32 * c' + r'))
theorem gf_clI_skip {co ro : Nat} {cx cy lf rt lo hg dr : Nat → Nat} {b c r : Nat} {s : Nat → Nat} (h : gf_clI co ro cx cy lf rt lo hg dr b c r s) (hn : ¬ gf_cl cx cy lf rt lo hg b c r) : gf_clI co ro cx cy lf rt lo hg dr b c (r + 1) s := by
  intro c' r' a1 a2
  have := h c' r' a1 a2
  refine ⟨fun t => this.1 ⟨t.1, ?_⟩, fun t => this.2 (fun z => t ⟨z.1, by omega⟩)⟩
  by_cases e : c' = c ∧ r' = r
  · rw [e.1, e.2] at t
    exact absurd t.1 hn
  · omega
theorem gf_clI_put {co ro : Nat} {cx cy lf rt lo hg dr : Nat → Nat} {b c r : Nat} {s : Nat → Nat} (hr : r < 32) (hro : ro ≤ 32) (h : gf_clI co ro cx cy lf rt lo hg dr b c r s) (hn : gf_cl cx cy lf rt lo hg b c r) : gf_clI co ro cx cy lf rt lo hg dr b c (r + 1) (gf_up s (32 * c + r) b) := by
  intro c' r' a1 a2
  have := h c' r' a1 a2
  by_cases e : c' = c ∧ r' = r
  · obtain ⟨e1, e2⟩ := e
    subst e1
    subst e2
    rw [gf_us]
    exact ⟨fun _ => rfl, fun t => absurd ⟨hn, Or.inr ⟨rfl, by omega⟩⟩ t⟩
  · rw [gf_un (by omega)]
    exact ⟨fun t => this.1 ⟨t.1, by omega⟩, fun t => this.2 (fun z => t ⟨z.1, by omega⟩)⟩
theorem gf_clI_next {co ro : Nat} {cx cy lf rt lo hg dr : Nat → Nat} {b c : Nat} {s : Nat → Nat} (h : gf_clI co ro cx cy lf rt lo hg dr b c ro s) : gf_clI co ro cx cy lf rt lo hg dr b (c + 1) 0 s := by
  intro c' r' a1 a2
  have := h c' r' a1 a2
  exact ⟨fun t => this.1 ⟨t.1, by omega⟩, fun t => this.2 (fun z => t ⟨z.1, by omega⟩)⟩
theorem gf_claim {post : St1 → Prop} {co ro bu cn hi : Nat} {cx cy dr sz lf rt lo hg pl : Nat → Nat} {vv : Nat → Int32} {hp : Nat → Nat} {hv : Nat → Int32} {se : Nat → Nat} {b : Nat} (sx : gf_sc cx co) (sy : gf_sc cy ro) (hb : b < 64) (b1 : lf b ≤ 31) (b2 : rt b ≤ 31) (b3 : lo b ≤ 31) (b4 : hg b ≤ 31)
    (H : ∀ dr', (∀ c r, c < co → r < ro → (gf_cl cx cy lf rt lo hg b c r → dr' (32 * c + r) = b) ∧ (¬ gf_cl cx cy lf rt lo hg b c r → dr' (32 * c + r) = dr (32 * c + r))) → post (nI co, nI ro, nI bu, nI cn, nI hi, gf_I cx, gf_I cy, gf_I dr', gf_I sz, gf_I lf, gf_I rt, gf_I lo, gf_I hg, gf_I pl, vv, gf_I hp, hv, gf_I se)) : wpX_claim post (nI co, nI ro, nI bu, nI cn, nI hi, gf_I cx, gf_I cy, gf_I dr, gf_I sz, gf_I lf, gf_I rt, gf_I lo, gf_I hg, gf_I pl, vv, gf_I hp, hv, gf_I se) (nI b) := by
  have q1 := gf_sc_co sx
  have q2 := gf_sc_co sy
  refine pk_loop (σ := Nat → Nat) (fun n i s => wX_claim_2 post (nI b) (nI co) (nI ro) (nI bu) (nI cn) (nI hi) n (nI i) (gf_I cx) (gf_I cy) (gf_I s) (gf_I sz) (gf_I lf) (gf_I rt) (gf_I lo) (gf_I hg) (gf_I pl) vv (gf_I hp) hv (gf_I se)) (fun i s => gf_clI co ro cx cy lf rt lo hg dr b i 0 s) co 0 dr (by omega) (fun c' r' a1 a2 => ⟨fun t => absurd t.2 (by omega), fun _ => rfl⟩) (fun n s hI => pk_le co co (fun _ => H s (fun c r a1 a2 => ⟨fun t => (hI c r a1 a2).1 ⟨t, Or.inl a1⟩, fun t => (hI c r a1 a2).2 (fun z => t z.1)⟩)) (fun z => absurd z (by omega))) (fun n c s hc hI hw => pk_le co c (fun z => absurd z (by omega)) (fun _ => ?_))
  have c32 := gf_sc_32 sx (show c ≤ co by omega)
  refine pk_loop (σ := Nat → Nat) (fun m i s => wX_claim_12 post (wX_claim_2 post (nI b) (nI co) (nI ro) (nI bu) (nI cn) (nI hi) n) (nI b) (nI c) (nI co) (nI ro) (nI bu) (nI cn) (nI hi) m (nI i) (gf_I cx) (gf_I cy) (gf_I s) (gf_I sz) (gf_I lf) (gf_I rt) (gf_I lo) (gf_I hg) (gf_I pl) vv (gf_I hp) hv (gf_I se)) (fun i s => gf_clI co ro cx cy lf rt lo hg dr b c i s) ro 0 s (by omega) hI (fun m s hI => pk_le ro ro (fun _ => nm_r (nI_1 c) (hw s (gf_clI_next hI))) (fun z => absurd z (by omega))) (fun m r s hr hI hw => ?_)
  have r32 := gf_sc_32 sy (show r ≤ ro by omega)
  have i1 := pk_in (x := nI b) b 64 hb
  have i2 := pk_in (x := nI c) c 33 (by omega)
  have i3 := pk_in (x := nI r) r 33 (by omega)
  have sk : ¬ gf_cl cx cy lf rt lo hg b c r → wX_claim_12 post (wX_claim_2 post (nI b) (nI co) (nI ro) (nI bu) (nI cn) (nI hi) n) (nI b) (nI c) (nI co) (nI ro) (nI bu) (nI cn) (nI hi) m (nI (r + 1)) (gf_I cx) (gf_I cy) (gf_I s) (gf_I sz) (gf_I lf) (gf_I rt) (gf_I lo) (gf_I hg) (gf_I pl) vv (gf_I hp) hv (gf_I se) := fun t => hw s (gf_clI_skip hI t)
  refine pk_le ro r (fun z => absurd z (by omega)) (fun _ => ⟨i2, i1, pk_lt (cx c) (lf b) (fun z => br_t rfl (nm_r (nI_1 r) (sk (fun t => by unfold gf_cl at t; omega)))) (fun z1 => ⟨i2, i1, pk_lt (rt b) (cx c) (fun z => br_t rfl (nm_r (nI_1 r) (sk (fun t => by unfold gf_cl at t; omega)))) (fun z2 => br_f (by decide) ⟨i3, i1, pk_lt (cy r) (lo b) (fun z => nm_r (nI_1 r) (sk (fun t => by unfold gf_cl at t; omega))) (fun z3 => ⟨i3, i1, pk_lt (hg b) (cy r) (fun z => nm_r (nI_1 r) (sk (fun t => by unfold gf_cl at t; omega))) (fun z4 => ⟨pk_in (32 * c + r) 1024 (by omega) (gf_32 c r), nm_r (gf_st (gf_32 c r) (by omega) rfl) (nm_r (nI_1 r) (hw _ (gf_clI_put (by omega) q2 hI ⟨z1, z2, z3, z4⟩)))⟩) (gf_at hg rfl (by omega)) (gf_at cy rfl (by omega))⟩) (gf_at cy rfl (by omega)) (gf_at lo rfl (by omega))⟩) (gf_at rt rfl (by omega)) (gf_at cx rfl (by omega))⟩) (gf_at cx rfl (by omega)) (gf_at lf rfl (by omega))⟩)
/-! parting the points -/
def gf_cd (ax p : Nat) : Nat := if ax = 0 then p % 32 else p / 32
theorem gf_part {post : St1 → Prop} {co ro bu cn hi : Nat} {cx cy dr sz lf rt lo hg pl : Nat → Nat} {vv : Nat → Int32} {hp : Nat → Nat} {hv : Nat → Int32} {se : Nat → Nat} {b f ax cut : Nat} (hbf : b < f) (hf : f < 64) (h4 : sz b = 4) (h0 : sz f = 0) (hax : ax ≤ 1) (hcut : cut < 32) (hpl : ∀ k, k < 4 → pl (4 * b + k) < 1024) (hd : ∀ i j, i < j → j < 4 → pl (4 * b + i) ≠ pl (4 * b + j))
    (H : ∀ sz' pl' vv' kept m, gf_pt pl pl' b f (fun p => cut ≤ gf_cd ax p) 4 kept m → sz' b = kept → sz' f = m → (∀ a, a ≠ b → a ≠ f → sz' a = sz a) → post (nI co, nI ro, nI bu, nI cn, nI hi, gf_I cx, gf_I cy, gf_I dr, gf_I sz', gf_I lf, gf_I rt, gf_I lo, gf_I hg, gf_I pl', vv', gf_I hp, hv, gf_I se)) : wpX_part post (nI co, nI ro, nI bu, nI cn, nI hi, gf_I cx, gf_I cy, gf_I dr, gf_I sz, gf_I lf, gf_I rt, gf_I lo, gf_I hg, gf_I pl, vv, gf_I hp, hv, gf_I se) (nI b) (nI f) (nI ax) (nI cut) := by
  have ib := pk_in (x := nI b) b 64 (by omega)
  have jf := pk_in (x := nI f) f 64 (by omega)
  refine ⟨ib, nm_r (e' := nI 4) (by rw [gf_at sz rfl (by omega), h4]) (nm_r (gf_40 b) ?_)⟩
  refine pk_loop (σ := Nat × (Nat → Nat) × (Nat → Nat) × (Nat → Int32)) (fun n i s => wX_part_16 post (nI b) (nI f) (nI ax) (nI cut) (nI 4) (nI co) (nI ro) (nI bu) (nI cn) (nI hi) n (nI s.1) (nI (4 * b + i)) (gf_I cx) (gf_I cy) (gf_I dr) (gf_I s.2.1) (gf_I lf) (gf_I rt) (gf_I lo) (gf_I hg) (gf_I s.2.2.1) s.2.2.2 (gf_I hp) hv (gf_I se)) (fun i s => gf_pt pl s.2.2.1 b f (fun p => cut ≤ gf_cd ax p) i s.1 (s.2.1 f) ∧ ∀ a, a ≠ f → s.2.1 a = sz a) 4 0 (0, sz, pl, vv) (by omega) ⟨?_, fun _ _ => rfl⟩ (fun n s hI => ?_) (fun n k s hk hI hw => ?_)
  · show gf_pt pl pl b f (fun p => cut ≤ gf_cd ax p) 0 0 (sz f)
    rw [h0]
    exact gf_pt_0
  · obtain ⟨kept, sz', pl', vv'⟩ := s
    obtain ⟨I1, I2⟩ := hI
    dsimp only at I1 I2
    refine pk_le (4 * b + 4) (4 * b + 4) (fun _ => ⟨ib, nm_r (gf_st rfl (by omega) rfl) (H _ _ _ kept (sz' f) I1 gf_us (gf_un (by omega)) (fun a a1 a2 => ?_))⟩) (fun z => absurd z (by omega)) (gf_4 b 4) rfl
    rw [gf_un a1]
    exact I2 a a2
  · obtain ⟨kept, sz', pl', vv'⟩ := s
    obtain ⟨I1, I2⟩ := hI
    dsimp only at I1 I2
    have e1 : pl' (4 * b + k) = pl (4 * b + k) := I1.2.2.1 k (Nat.le_refl _) hk
    have e2 := I1.1
    have bp := hpl k hk
    have ep : gf_I pl' (nI (4 * b + k)).toNatClampNeg = nI (pl (4 * b + k)) := by rw [gf_at pl' rfl (by omega), e1]
    have ik := pk_in (x := nI (4 * b + k)) (4 * b + k) 256 (by omega)
    have ikp := pk_in (4 * b + kept) 256 (by omega) (gf_4 b kept)
    have im := pk_in (4 * f + sz' f) 256 (by omega) (gf_4a sz' (show f < 2 ^ 31 by omega))
    have main : ∀ z : Int32, z = nI (gf_cd ax (pl (4 * b + k))) → wX_part_53 post (wX_part_16 post (nI b) (nI f) (nI ax) (nI cut) (nI 4) (nI co) (nI ro) (nI bu) (nI cn) (nI hi) n) (nI b) (nI f) (nI ax) (nI cut) (nI kept) (nI 4) (nI (4 * b + k)) z (nI co) (nI ro) (nI bu) (nI cn) (nI hi) (gf_I cx) (gf_I cy) (gf_I dr) (gf_I sz') (gf_I lf) (gf_I rt) (gf_I lo) (gf_I hg) (gf_I pl') vv' (gf_I hp) hv (gf_I se) := by
      intro z ez
      have cb : gf_cd ax (pl (4 * b + k)) < 1024 := by unfold gf_cd; split <;> omega
      refine pk_lt (gf_cd ax (pl (4 * b + k))) cut (fun y => ?_) (fun y => ?_) ez rfl
      · exact ⟨ik, ikp, nm_r (gf_st (gf_4 b kept) (by omega) ep) ⟨ik, ikp, nm_e (nm_r (nI_1 kept) (nm_r (nI_1 _) (hw (kept + 1, sz', gf_up pl' (4 * b + kept) (pl (4 * b + k)), _) ⟨gf_pt_lo hbf hk hd I1 (show ¬ cut ≤ gf_cd ax (pl (4 * b + k)) by omega), I2⟩)))⟩⟩
      · refine ⟨jf, ik, im, nm_r (gf_st (gf_4a sz' (by omega)) (by omega) ep) ⟨jf, ik, im, nm_e ⟨jf, jf, nm_r (gf_st (v := sz' f + 1) rfl (by omega) (by rw [gf_at sz' rfl (by omega), nI_1])) (nm_r (nI_1 _) (hw (kept, gf_up sz' f (sz' f + 1), gf_up pl' (4 * f + sz' f) (pl (4 * b + k)), _) ⟨?_, fun a ha => ?_⟩))⟩⟩⟩
        · show gf_pt pl (gf_up pl' (4 * f + sz' f) (pl (4 * b + k))) b f (fun p => cut ≤ gf_cd ax p) (k + 1) kept (gf_up sz' f (sz' f + 1) f)
          rw [gf_us]
          exact gf_pt_hi hbf hk hd I1 y
        · show gf_up sz' f (sz' f + 1) a = sz a
          rw [gf_un ha]
          exact I2 a ha
    refine pk_le (4 * b + 4) (4 * b + k) (fun z => absurd z (by omega)) (fun _ => pk_eq ax 0 (fun z => ⟨ik, main _ ?_⟩) (fun z => ⟨ik, main _ ?_⟩)) (gf_4 b 4) rfl
    · rw [ep, gf_and31 (by omega)]
      unfold gf_cd
      rw [if_pos z]
    · rw [ep, gf_shr5 (by omega)]
      unfold gf_cd
      rw [if_neg z]
end
section
theorem gf_split_183X {post : St1 → Prop} {S : Nat → Bool} {co ro bu cn hi : Nat} {cx cy dr sz lf rt lo hg pl : Nat → Nat} {vv : Nat → Int32} {hp : Nat → Nat} {hv : Nat → Int32} {se : Nat → Nat} {b k i j : Nat} (h : gf_W S co ro bu cx cy dr sz lf rt lo hg pl) (hb : b < bu) (hbu : bu < 64) (h4 : sz b = 4) (hk : k < co) (hl : lf b ≤ cx k) (hr : cx k ≤ rt b) (h0 : 0 < cx k) (hi4 : i < 4) (hj4 : j < 4) (qi : pl (4 * b + i) / 32 < cx k) (qj : cx k ≤ pl (4 * b + j) / 32)
    (H : ∀ dr' sz' lf' rt' lo' hg' pl' vv', gf_W S co ro (bu + 1) cx cy dr' sz' lf' rt' lo' hg' pl' → (∀ a x y, a < bu + 1 → x < 32 → y < 32 → gf_rc lf rt lo hg b x y → gf_rc lf' rt' lo' hg' a x y → sz' a < 4) → post (nI co, nI ro, nI (bu + 1), nI cn, nI hi, gf_I cx, gf_I cy, gf_I dr', gf_I sz', gf_I lf', gf_I rt', gf_I lo', gf_I hg', gf_I pl', vv', gf_I hp, hv, gf_I se)) :
    wX_split_183 post (nI b) 1 (nI (cx k)) (nI co) (nI ro) (nI bu) (nI cn) (nI hi) (gf_I cx) (gf_I cy) (gf_I dr) (gf_I sz) (gf_I lf) (gf_I rt) (gf_I lo) (gf_I hg) (gf_I pl) vv (gf_I hp) hv (gf_I se) := by
  have W0 := h
  obtain ⟨sx, sy, _, hD, hP, hS⟩ := h
  obtain ⟨p1, p2, p3, p4, p5, p6, p7⟩ := hP b hb
  have ib := pk_in (x := nI b) b 64 (by omega)
  have jf := pk_in (x := nI bu) bu 64 hbu
  refine nm_r (nI_1 bu) ⟨jf, nm_r (gf_st rfl (by omega) (show (0 : Int32) = nI 0 from rfl)) (br_f (by decide) ?_)⟩
  refine ⟨jf, nm_r (gf_st rfl (by omega) rfl) ⟨ib, jf, nm_r (gf_st rfl (by omega) (gf_at rt rfl (by omega))) (br_f (by decide) ⟨ib, ?_⟩)⟩⟩
  refine ⟨jf, nm_r (gf_st rfl (by omega) (gf_at lo rfl (by omega))) ⟨ib, jf, nm_r (gf_st rfl (by omega) (gf_at hg rfl (by omega))) (br_f (by decide) ⟨ib, nm_r (gf_st rfl (by omega) (gf_pred h0)) ?_⟩)⟩⟩
  have v1 : gf_up lf bu (cx k) bu = cx k := gf_us
  have v2 : gf_up (gf_up rt bu (rt b)) b (cx k - 1) bu = rt b := by rw [gf_un (by omega), gf_us]
  have v3 : gf_up lo bu (lo b) bu = lo b := gf_us
  have v4 : gf_up hg bu (hg b) bu = hg b := gf_us
  have w1 : gf_up lf bu (cx k) b = lf b := gf_un (by omega)
  have w2 : gf_up (gf_up rt bu (rt b)) b (cx k - 1) b = cx k - 1 := gf_us
  have w3 : gf_up lo bu (lo b) b = lo b := gf_un (by omega)
  have w4 : gf_up hg bu (hg b) b = hg b := gf_un (by omega)
  have u : ∀ a, a < bu → a ≠ b → gf_up lf bu (cx k) a = lf a ∧ gf_up (gf_up rt bu (rt b)) b (cx k - 1) a = rt a ∧ gf_up lo bu (lo b) a = lo a ∧ gf_up hg bu (hg b) a = hg a := by
    intro a a1 a2
    exact ⟨gf_un (by omega), by rw [gf_un a2, gf_un (by omega)], gf_un (by omega), gf_un (by omega)⟩
  unfold wX_split_307
  refine gf_claim sx sy hbu (by omega) (by omega) (by omega) (by omega) (fun dr' hd => ?_)
  refine gf_part (ax := 1) hb hbu (by rw [gf_un (by omega)]; exact h4) gf_us (by omega) (by omega) (fun q hq => gf_W_pl W0 hb (by omega)) (fun x y a1 a2 => p7 x y a1 (by omega)) (fun sz' pl' vv' kept m hpt s1 s2 s3 => ?_)
  have few := gf_pt_few hpt hi4 hj4 (show ¬ cx k ≤ pl (4 * b + i) / 32 by omega) (show cx k ≤ pl (4 * b + j) / 32 from qj)
  have s3' : ∀ a, a < bu → a ≠ b → sz' a = sz a := fun a a1 a2 => by rw [s3 a a2 (by omega), gf_un (by omega)]
  have PS := gf_P_split (sz' := sz') (lf' := gf_up lf bu (cx k)) (rt' := gf_up (gf_up rt bu (rt b)) b (cx k - 1)) (lo' := gf_up lo bu (lo b)) (hg' := gf_up hg bu (hg b)) hP hb h4 hpt s1 s2 s3' (fun a ha => ?_) (fun p r q => ?_) (fun p r q => ?_) u
  · refine H dr' sz' _ _ _ _ pl' vv' ⟨sx, sy, by omega, gf_split_D sx sy hb hk hD hl hr h0 (fun c r c1 r1 => ?_) ⟨v1, v2, v3, v4⟩ ⟨w1, w2, w3, w4⟩ u, PS.1, fun p => (hS p).trans (PS.2 p)⟩ (fun a x y a1 x1 y1 t1 t2 => ?_)
    · have := hd c r c1 r1
      unfold gf_cl at this
      rw [v1, v2, v3, v4] at this
      exact this
    · by_cases e1 : a = bu
      · rw [e1, s2]; exact few.2
      · by_cases e2 : a = b
        · rw [e2, s1]; exact few.1
        · obtain ⟨u1, u2, u3, u4⟩ := u a (by omega) e2
          unfold gf_rc at t2
          rw [u1, u2, u3, u4] at t2
          exact absurd (gf_W_one W0 x1 y1 (show a < bu by omega) hb t2 t1) e2
  · by_cases e1 : a = bu
    · rw [e1, v1, v2, v3, v4]
      omega
    · by_cases e2 : a = b
      · rw [e2, w1, w2, w3, w4]
        omega
      · obtain ⟨u1, u2, u3, u4⟩ := u a (by omega) e2
        rw [u1, u2, u3, u4]
        obtain ⟨_, q2, q3, q4, q5, _⟩ := hP a (by omega)
        exact ⟨q2, q3, q4, q5⟩
  · unfold gf_rc at r ⊢
    rw [v1, v2, v3, v4]
    exact ⟨q, r.2.1, r.2.2.1, r.2.2.2⟩
  · have q' : ¬ cx k ≤ p / 32 := q
    unfold gf_rc at r ⊢
    rw [w1, w2, w3, w4]
    exact ⟨r.1, by omega, r.2.2.1, r.2.2.2⟩
theorem gf_split_183Y {post : St1 → Prop} {S : Nat → Bool} {co ro bu cn hi : Nat} {cx cy dr sz lf rt lo hg pl : Nat → Nat} {vv : Nat → Int32} {hp : Nat → Nat} {hv : Nat → Int32} {se : Nat → Nat} {b k i j : Nat} (h : gf_W S co ro bu cx cy dr sz lf rt lo hg pl) (hb : b < bu) (hbu : bu < 64) (h4 : sz b = 4) (hk : k < ro) (hl : lo b ≤ cy k) (hr : cy k ≤ hg b) (h0 : 0 < cy k) (hi4 : i < 4) (hj4 : j < 4) (qi : pl (4 * b + i) % 32 < cy k) (qj : cy k ≤ pl (4 * b + j) % 32)
    (H : ∀ dr' sz' lf' rt' lo' hg' pl' vv', gf_W S co ro (bu + 1) cx cy dr' sz' lf' rt' lo' hg' pl' → (∀ a x y, a < bu + 1 → x < 32 → y < 32 → gf_rc lf rt lo hg b x y → gf_rc lf' rt' lo' hg' a x y → sz' a < 4) → post (nI co, nI ro, nI (bu + 1), nI cn, nI hi, gf_I cx, gf_I cy, gf_I dr', gf_I sz', gf_I lf', gf_I rt', gf_I lo', gf_I hg', gf_I pl', vv', gf_I hp, hv, gf_I se)) :
    wX_split_183 post (nI b) 0 (nI (cy k)) (nI co) (nI ro) (nI bu) (nI cn) (nI hi) (gf_I cx) (gf_I cy) (gf_I dr) (gf_I sz) (gf_I lf) (gf_I rt) (gf_I lo) (gf_I hg) (gf_I pl) vv (gf_I hp) hv (gf_I se) := by
  have W0 := h
  obtain ⟨sx, sy, _, hD, hP, hS⟩ := h
  obtain ⟨p1, p2, p3, p4, p5, p6, p7⟩ := hP b hb
  have ib := pk_in (x := nI b) b 64 (by omega)
  have jf := pk_in (x := nI bu) bu 64 hbu
  refine nm_r (nI_1 bu) ⟨jf, nm_r (gf_st rfl (by omega) (show (0 : Int32) = nI 0 from rfl)) (br_t rfl ⟨ib, ?_⟩)⟩
  refine ⟨jf, nm_r (gf_st rfl (by omega) (gf_at lf rfl (by omega))) ⟨ib, jf, nm_r (gf_st rfl (by omega) (gf_at rt rfl (by omega))) (br_t rfl ?_)⟩⟩
  refine ⟨jf, nm_r (gf_st rfl (by omega) rfl) ⟨ib, jf, nm_r (gf_st rfl (by omega) (gf_at hg rfl (by omega))) (br_t rfl ⟨ib, nm_r (gf_st rfl (by omega) (gf_pred h0)) ?_⟩)⟩⟩
  have v1 : gf_up lf bu (lf b) bu = lf b := gf_us
  have v2 : gf_up rt bu (rt b) bu = rt b := gf_us
  have v3 : gf_up lo bu (cy k) bu = cy k := gf_us
  have v4 : gf_up (gf_up hg bu (hg b)) b (cy k - 1) bu = hg b := by rw [gf_un (by omega), gf_us]
  have w1 : gf_up lf bu (lf b) b = lf b := gf_un (by omega)
  have w2 : gf_up rt bu (rt b) b = rt b := gf_un (by omega)
  have w3 : gf_up lo bu (cy k) b = lo b := gf_un (by omega)
  have w4 : gf_up (gf_up hg bu (hg b)) b (cy k - 1) b = cy k - 1 := gf_us
  have u : ∀ a, a < bu → a ≠ b → gf_up lf bu (lf b) a = lf a ∧ gf_up rt bu (rt b) a = rt a ∧ gf_up lo bu (cy k) a = lo a ∧ gf_up (gf_up hg bu (hg b)) b (cy k - 1) a = hg a := by
    intro a a1 a2
    exact ⟨gf_un (by omega), gf_un (by omega), gf_un (by omega), by rw [gf_un a2, gf_un (by omega)]⟩
  unfold wX_split_307
  refine gf_claim sx sy hbu (by omega) (by omega) (by omega) (by omega) (fun dr' hd => ?_)
  refine gf_part (ax := 0) hb hbu (by rw [gf_un (by omega)]; exact h4) gf_us (by omega) (by omega) (fun q hq => gf_W_pl W0 hb (by omega)) (fun x y a1 a2 => p7 x y a1 (by omega)) (fun sz' pl' vv' kept m hpt s1 s2 s3 => ?_)
  have few := gf_pt_few hpt hi4 hj4 (show ¬ cy k ≤ pl (4 * b + i) % 32 by omega) (show cy k ≤ pl (4 * b + j) % 32 from qj)
  have s3' : ∀ a, a < bu → a ≠ b → sz' a = sz a := fun a a1 a2 => by rw [s3 a a2 (by omega), gf_un (by omega)]
  have PS := gf_P_split (sz' := sz') (lf' := gf_up lf bu (lf b)) (rt' := gf_up rt bu (rt b)) (lo' := gf_up lo bu (cy k)) (hg' := gf_up (gf_up hg bu (hg b)) b (cy k - 1)) hP hb h4 hpt s1 s2 s3' (fun a ha => ?_) (fun p r q => ?_) (fun p r q => ?_) u
  · refine H dr' sz' _ _ _ _ pl' vv' ⟨sx, sy, by omega, gf_D_sw (gf_split_D (d' := fun r c => dr' (32 * c + r)) sy sx hb hk (gf_D_sw hD) hl hr h0 (fun r c r1 c1 => ?_) ⟨v3, v4, v1, v2⟩ ⟨w3, w4, w1, w2⟩ (fun a a1 a2 => ?_)), PS.1, fun p => (hS p).trans (PS.2 p)⟩ (fun a x y a1 x1 y1 t1 t2 => ?_)
    · have := hd c r c1 r1
      unfold gf_cl at this
      rw [v1, v2, v3, v4] at this
      exact ⟨fun ⟨z1, z2, z3, z4⟩ => this.1 ⟨z3, z4, z1, z2⟩, fun z => this.2 (fun ⟨z1, z2, z3, z4⟩ => z ⟨z3, z4, z1, z2⟩)⟩
    · obtain ⟨u1, u2, u3, u4⟩ := u a a1 a2
      exact ⟨u3, u4, u1, u2⟩
    · by_cases e1 : a = bu
      · rw [e1, s2]; exact few.2
      · by_cases e2 : a = b
        · rw [e2, s1]; exact few.1
        · obtain ⟨u1, u2, u3, u4⟩ := u a (by omega) e2
          unfold gf_rc at t2
          rw [u1, u2, u3, u4] at t2
          exact absurd (gf_W_one W0 x1 y1 (show a < bu by omega) hb t2 t1) e2
  · by_cases e1 : a = bu
    · rw [e1, v1, v2, v3, v4]
      omega
    · by_cases e2 : a = b
      · rw [e2, w1, w2, w3, w4]
        omega
      · obtain ⟨u1, u2, u3, u4⟩ := u a (by omega) e2
        rw [u1, u2, u3, u4]
        obtain ⟨_, q2, q3, q4, q5, _⟩ := hP a (by omega)
        exact ⟨q2, q3, q4, q5⟩
  · unfold gf_rc at r ⊢
    rw [v1, v2, v3, v4]
    exact ⟨r.1, r.2.1, q, r.2.2.2⟩
  · have q' : ¬ cy k ≤ p % 32 := q
    unfold gf_rc at r ⊢
    rw [w1, w2, w3, w4]
    exact ⟨r.1, r.2.1, r.2.2.1, by omega⟩
end
section
theorem gf_nneg {n : Nat} (h : n < 2 ^ 31) : ¬ nI n ≤ -1 := by
  intro t
  have := Int32.le_trans (nI_pos' h) t
  exact absurd this (by decide)
/-- least and greatest coordinates of the first k points -/
def gf_mm (X Y : Nat → Nat) (k x1 x2 y1 y2 : Nat) : Prop := (∀ i, i < k → x1 ≤ X i ∧ X i ≤ x2 ∧ y1 ≤ Y i ∧ Y i ≤ y2) ∧ (∃ i, i < k ∧ X i = x1) ∧ (∃ i, i < k ∧ X i = x2) ∧ (∃ i, i < k ∧ Y i = y1) ∧ (∃ i, i < k ∧ Y i = y2)
theorem gf_mm_1 (X Y : Nat → Nat) : gf_mm X Y 1 (X 0) (X 0) (Y 0) (Y 0) := by
  refine ⟨fun i hi => ?_, ⟨0, by omega, rfl⟩, ⟨0, by omega, rfl⟩, ⟨0, by omega, rfl⟩, ⟨0, by omega, rfl⟩⟩
  have : i = 0 := by omega
  rw [this]
  omega
theorem gf_mm_s {X Y : Nat → Nat} {k x1 x2 y1 y2 : Nat} (h : gf_mm X Y k x1 x2 y1 y2) : gf_mm X Y (k + 1) (min x1 (X k)) (max x2 (X k)) (min y1 (Y k)) (max y2 (Y k)) := by
  obtain ⟨h0, ⟨i1, a1, b1⟩, ⟨i2, a2, b2⟩, ⟨i3, a3, b3⟩, ⟨i4, a4, b4⟩⟩ := h
  refine ⟨fun i hi => ?_, ?_, ?_, ?_, ?_⟩
  · by_cases e : i = k
    · rw [e]; omega
    · have := h0 i (by omega)
      omega
  · by_cases e : x1 ≤ X k
    · exact ⟨i1, by omega, by omega⟩
    · exact ⟨k, by omega, by omega⟩
  · by_cases e : X k ≤ x2
    · exact ⟨i2, by omega, by omega⟩
    · exact ⟨k, by omega, by omega⟩
  · by_cases e : y1 ≤ Y k
    · exact ⟨i3, by omega, by omega⟩
    · exact ⟨k, by omega, by omega⟩
  · by_cases e : Y k ≤ y2
    · exact ⟨i4, by omega, by omega⟩
    · exact ⟨k, by omega, by omega⟩
theorem gf_sp95 {post : St1 → Prop} {J : Int32 → Int32 → Int32 → Int32 → Int32 → Prop} {x1 x2 x3 z0 : Int32} {co ro bu cn hi : Nat} {cx cy dr sz lf rt lo hg pl : Nat → Nat} {vv : Nat → Int32} {hp : Nat → Nat} {hv : Nat → Int32} {se : Nat → Nat} {d k Y : Nat} (hd : d < 2 ^ 31) (hY : Y < 2 ^ 31) (H : J x2 x3 z0 (nI (max d Y)) (nI (k + 1))) : wX_split_95 post J x1 x2 x3 (nI d) (nI k) (nI Y) z0 (nI co) (nI ro) (nI bu) (nI cn) (nI hi) (gf_I cx) (gf_I cy) (gf_I dr) (gf_I sz) (gf_I lf) (gf_I rt) (gf_I lo) (gf_I hg) (gf_I pl) vv (gf_I hp) hv (gf_I se) :=
  pk_le Y d (fun z => nm_r (nI_1 k) (by rw [show max d Y = d by omega] at H; exact H)) (fun z => nm_r (nI_1 k) (by rw [show max d Y = Y by omega] at H; exact H))
theorem gf_sp80 {post : St1 → Prop} {J : Int32 → Int32 → Int32 → Int32 → Int32 → Prop} {x1 x2 z0 : Int32} {co ro bu cn hi : Nat} {cx cy dr sz lf rt lo hg pl : Nat → Nat} {vv : Nat → Int32} {hp : Nat → Nat} {hv : Nat → Int32} {se : Nat → Nat} {c d k Y : Nat} (hc : c < 2 ^ 31) (hd : d < 2 ^ 31) (hY : Y < 2 ^ 31) (H : J x2 z0 (nI (min c Y)) (nI (max d Y)) (nI (k + 1))) : wX_split_80 post J x1 x2 (nI c) (nI d) (nI k) (nI Y) z0 (nI co) (nI ro) (nI bu) (nI cn) (nI hi) (gf_I cx) (gf_I cy) (gf_I dr) (gf_I sz) (gf_I lf) (gf_I rt) (gf_I lo) (gf_I hg) (gf_I pl) vv (gf_I hp) hv (gf_I se) :=
  pk_le c Y (fun z => gf_sp95 hd hY (by rw [show min c Y = c by omega] at H; exact H)) (fun z => gf_sp95 hd hY (by rw [show min c Y = Y by omega] at H; exact H))
theorem gf_sp67 {post : St1 → Prop} {J : Int32 → Int32 → Int32 → Int32 → Int32 → Prop} {x1 z0 : Int32} {co ro bu cn hi : Nat} {cx cy dr sz lf rt lo hg pl : Nat → Nat} {vv : Nat → Int32} {hp : Nat → Nat} {hv : Nat → Int32} {se : Nat → Nat} {b c d k X Y : Nat} (hb : b < 2 ^ 31) (hX : X < 2 ^ 31) (hc : c < 2 ^ 31) (hd : d < 2 ^ 31) (hY : Y < 2 ^ 31) (H : J z0 (nI (max b X)) (nI (min c Y)) (nI (max d Y)) (nI (k + 1))) : wX_split_67 post J x1 (nI b) (nI c) (nI d) (nI k) (nI X) (nI Y) z0 (nI co) (nI ro) (nI bu) (nI cn) (nI hi) (gf_I cx) (gf_I cy) (gf_I dr) (gf_I sz) (gf_I lf) (gf_I rt) (gf_I lo) (gf_I hg) (gf_I pl) vv (gf_I hp) hv (gf_I se) :=
  pk_le X b (fun z => gf_sp80 hc hd hY (by rw [show max b X = b by omega] at H; exact H)) (fun z => gf_sp80 hc hd hY (by rw [show max b X = X by omega] at H; exact H))
theorem gf_split {post : St1 → Prop} {S : Nat → Bool} {co ro bu cn hi : Nat} {cx cy dr sz lf rt lo hg pl : Nat → Nat} {vv : Nat → Int32} {hp : Nat → Nat} {hv : Nat → Int32} {se : Nat → Nat} {b : Nat} (h : gf_W S co ro bu cx cy dr sz lf rt lo hg pl) (hb : b < bu) (hbu : bu < 64) (h4 : sz b = 4)
    (H : ∀ co' ro' cx' cy' dr' sz' lf' rt' lo' hg' pl' vv', gf_W S co' ro' (bu + 1) cx' cy' dr' sz' lf' rt' lo' hg' pl' → (∀ a x y, a < bu + 1 → x < 32 → y < 32 → gf_rc lf rt lo hg b x y → gf_rc lf' rt' lo' hg' a x y → sz' a < 4) → post (nI co', nI ro', nI (bu + 1), nI cn, nI hi, gf_I cx', gf_I cy', gf_I dr', gf_I sz', gf_I lf', gf_I rt', gf_I lo', gf_I hg', gf_I pl', vv', gf_I hp, hv, gf_I se)) :
    wpX_split post (nI co, nI ro, nI bu, nI cn, nI hi, gf_I cx, gf_I cy, gf_I dr, gf_I sz, gf_I lf, gf_I rt, gf_I lo, gf_I hg, gf_I pl, vv, gf_I hp, hv, gf_I se) (nI b) := by
  have W0 := h
  obtain ⟨sx, sy, _, hD, hP, hS⟩ := h
  obtain ⟨p1, p2, p3, p4, p5, p6, p7⟩ := hP b hb
  have ib := pk_in (x := nI b) b 64 (by omega)
  have bp : ∀ k, k < 4 → pl (4 * b + k) < 1024 := fun k hk => gf_W_pl W0 hb (by omega)
  have ep : ∀ k, k < 4 → gf_I pl (nI (4 * b + k)).toNatClampNeg = nI (pl (4 * b + k)) := fun k hk => gf_at pl rfl (by omega)
  have ik : ∀ k, k < 4 → vp_in (nI (4 * b + k)) 256 := fun k hk => pk_in (4 * b + k) 256 (by omega)
  have es : 4 * nI b + gf_I sz (nI b).toNatClampNeg = nI (4 * b + 4) := by rw [gf_4a sz (by omega), h4]
  have fin : ∀ x1 x2 y1 y2, gf_mm (fun i => pl (4 * b + i) / 32) (fun i => pl (4 * b + i) % 32) 4 x1 x2 y1 y2 → ((nI x2 - nI x1 < nI y2 - nI y1 → wX_split_135 post (nI b) (nI x1) (nI x2) (nI y1) (nI y2) 0 (nI co) (nI ro) (nI bu) (nI cn) (nI hi) (gf_I cx) (gf_I cy) (gf_I dr) (gf_I sz) (gf_I lf) (gf_I rt) (gf_I lo) (gf_I hg) (gf_I pl) vv (gf_I hp) hv (gf_I se)) ∧ (¬ nI x2 - nI x1 < nI y2 - nI y1 → wX_split_135 post (nI b) (nI x1) (nI x2) (nI y1) (nI y2) 1 (nI co) (nI ro) (nI bu) (nI cn) (nI hi) (gf_I cx) (gf_I cy) (gf_I dr) (gf_I sz) (gf_I lf) (gf_I rt) (gf_I lo) (gf_I hg) (gf_I pl) vv (gf_I hp) hv (gf_I se))) := by
    intro x1 x2 y1 y2 hm
    obtain ⟨h0, ⟨i1, a1, b1⟩, ⟨i2, a2, b2⟩, ⟨i3, a3, b3⟩, ⟨i4, a4, b4⟩⟩ := hm
    dsimp only at h0 b1 b2 b3 b4
    have t0 := h0 0 (by omega)
    have t1 := h0 1 (by omega)
    have ne := p7 0 1 (by omega) (by omega)
    have c1 := bp i1 a1
    have c2 := bp i2 a2
    have c3 := bp i3 a3
    have c4 := bp i4 a4
    have r1 := p6 i1 (by omega)
    have r2 := p6 i2 (by omega)
    have r3 := p6 i3 (by omega)
    have r4 := p6 i4 (by omega)
    unfold gf_rc at r1 r2 r3 r4
    have ecx : ((nI x1 + nI x2) + 1) >>> ((1 : Int32) &&& 31) = nI ((x1 + x2 + 1) / 2) := by rw [nI_add, nI_1]; exact pk_shrN (by omega) _ 1 (by decide)
    have ecy : ((nI y1 + nI y2) + 1) >>> ((1 : Int32) &&& 31) = nI ((y1 + y2 + 1) / 2) := by rw [nI_add, nI_1]; exact pk_shrN (by omega) _ 1 (by decide)
    refine pk_lt (x2 - x1) (y2 - y1) (fun z => br_t rfl ?_) (fun z => br_f (by decide) ?_) (pk_sub (by omega)) (pk_sub (by omega))
    · rw [ecy]
      refine br_t rfl (gf_cutRow W0 (show (y1 + y2 + 1) / 2 < 32 by omega) (fun ro' cy' dr' W1 ⟨k, hk, ek⟩ => ?_))
      dsimp only
      rw [← ek]
      exact gf_split_183Y (i := i3) (j := i4) W1 hb hbu h4 hk (by omega) (by omega) (by omega) a3 a4 (by omega) (by omega) (fun dr2 sz' lf' rt' lo' hg' pl' vv' W2 few => H co ro' cx cy' dr2 sz' lf' rt' lo' hg' pl' vv' W2 few)
    · rw [ecx]
      refine br_f (by decide) (gf_cutColumn W0 (show (x1 + x2 + 1) / 2 < 32 by omega) (fun co' cx' dr' W1 ⟨k, hk, ek⟩ => ?_))
      dsimp only
      rw [← ek]
      exact gf_split_183X (i := i1) (j := i2) W1 hb hbu h4 hk (by omega) (by omega) (by omega) a1 a2 (by omega) (by omega) (fun dr2 sz' lf' rt' lo' hg' pl' vv' W2 few => H co' ro cx' cy dr2 sz' lf' rt' lo' hg' pl' vv' W2 few)
  have L := pk_loop (σ := Nat × Nat × Nat × Nat) (fun n i s => wX_split_17 post (nI b) (nI co) (nI ro) (nI bu) (nI cn) (nI hi) (gf_I cx) (gf_I cy) (gf_I dr) (gf_I sz) (gf_I lf) (gf_I rt) (gf_I lo) (gf_I hg) (gf_I pl) vv (gf_I hp) hv (gf_I se) n (nI s.1) (nI s.2.1) (nI s.2.2.1) (nI s.2.2.2) (nI (4 * b + i))) (fun i s => gf_mm (fun i => pl (4 * b + i) / 32) (fun i => pl (4 * b + i) % 32) i s.1 s.2.1 s.2.2.1 s.2.2.2 ∧ 1 ≤ i) 4 1 (pl (4 * b + 0) / 32, pl (4 * b + 0) / 32, pl (4 * b + 0) % 32, pl (4 * b + 0) % 32) (by omega) ⟨gf_mm_1 (fun i => pl (4 * b + i) / 32) (fun i => pl (4 * b + i) % 32), Nat.le_refl _⟩ (fun n s hI => ?_) (fun n i s hi1 hI hw => ?_)
  · obtain ⟨n, hn⟩ := L
    have c0 := bp 0 (by omega)
    refine nm_r (gf_40 b) ⟨n + 1, ib, pk_le (4 * b + 4) (4 * b + 0) (fun z => absurd z (by omega)) (fun _ => ⟨ik 0 (by omega), nm_r (e' := nI (pl (4 * b + 0) / 32)) (by rw [show (4 * b : Nat) = 4 * b + 0 from rfl, ep 0 (by omega)]; exact gf_shr5 (by omega)) ⟨ik 0 (by omega), nm_r (e' := nI (pl (4 * b + 0) % 32)) (by rw [show (4 * b : Nat) = 4 * b + 0 from rfl, ep 0 (by omega)]; exact gf_and31 (by omega)) ?_⟩⟩) es rfl⟩
    refine pk_le 32 (pl (4 * b + 0) / 32) (fun z => absurd z (by omega)) (fun _ => br_f (gf_nneg (by omega)) (pk_le 32 (pl (4 * b + 0) % 32) (fun z => absurd z (by omega)) (fun _ => br_f (gf_nneg (by omega)) (nm_r (nI_1 _) hn))))
  · exact ⟨ib, pk_le (4 * b + 4) (4 * b + 4) (fun _ => fin _ _ _ _ hI.1) (fun z => absurd z (by omega)) es rfl⟩
  · obtain ⟨x1, x2, y1, y2⟩ := s
    obtain ⟨I1, I2⟩ := hI
    dsimp only at I1 I2
    have c0 := bp i hi1
    have B : x1 < 1024 ∧ x2 < 1024 ∧ y1 < 1024 ∧ y2 < 1024 := by
      obtain ⟨_, ⟨i1, a1, b1⟩, ⟨i2, a2, b2⟩, ⟨i3, a3, b3⟩, ⟨i4, a4, b4⟩⟩ := I1
      dsimp only at b1 b2 b3 b4
      have c1 := bp i1 (by omega)
      have c2 := bp i2 (by omega)
      have c3 := bp i3 (by omega)
      have c4 := bp i4 (by omega)
      omega
    have st := hw (_, _, _, _) ⟨gf_mm_s I1, by omega⟩
    refine ⟨ib, pk_le (4 * b + 4) (4 * b + i) (fun z => absurd z (by omega)) (fun _ => ⟨ik i hi1, nm_r (e' := nI (pl (4 * b + i) / 32)) (by rw [ep i hi1]; exact gf_shr5 (by omega)) ⟨ik i hi1, nm_r (e' := nI (pl (4 * b + i) % 32)) (by rw [ep i hi1]; exact gf_and31 (by omega)) ?_⟩⟩) es rfl⟩
    dsimp only at st
    refine pk_le x1 (pl (4 * b + i) / 32) (fun z => gf_sp67 (b := x2) (c := y1) (d := y2) (by omega) (by omega) (by omega) (by omega) (by omega) ?_) (fun z => gf_sp67 (b := x2) (c := y1) (d := y2) (by omega) (by omega) (by omega) (by omega) (by omega) ?_)
    · rw [show min x1 (pl (4 * b + i) / 32) = x1 by omega] at st
      exact st
    · rw [show min x1 (pl (4 * b + i) / 32) = pl (4 * b + i) / 32 by omega] at st
      exact st
end
section
theorem gf_W_iff {S S' : Nat → Bool} {co ro bu : Nat} {cx cy dr sz lf rt lo hg pl : Nat → Nat} (h : gf_W S co ro bu cx cy dr sz lf rt lo hg pl) (e : ∀ p, S' p = true ↔ S p = true) : gf_W S' co ro bu cx cy dr sz lf rt lo hg pl :=
  ⟨h.1, h.2.1, h.2.2.1, h.2.2.2.1, h.2.2.2.2.1, fun p => (e p).trans (h.2.2.2.2.2 p)⟩
theorem gf_sc_0 (cx : Nat → Nat) : gf_sc (gf_up (gf_up cx 0 0) 1 32) 1 := by
  refine ⟨Nat.le_refl _, by rw [gf_un (by omega), gf_us], gf_us, fun i hi => ?_⟩
  have : i = 0 := by omega
  rw [this, gf_un (by omega), gf_us, show 0 + 1 = 1 from rfl, gf_us]
  omega
theorem gf_reset {post : St1 → Prop} {co ro bu cn hi : Nat} {cx cy dr sz lf rt lo hg pl : Nat → Nat} {vv : Nat → Int32} {hp : Nat → Nat} {hv : Nat → Int32} {se : Nat → Nat} (H : ∀ cx' cy' dr' sz' lf' rt' lo' hg', gf_W (fun _ => false) 1 1 1 cx' cy' dr' sz' lf' rt' lo' hg' pl → post (nI 1, nI 1, nI 1, nI cn, nI hi, gf_I cx', gf_I cy', gf_I dr', gf_I sz', gf_I lf', gf_I rt', gf_I lo', gf_I hg', gf_I pl, vv, gf_I hp, hv, gf_I se)) : wpX_reset post (nI co, nI ro, nI bu, nI cn, nI hi, gf_I cx, gf_I cy, gf_I dr, gf_I sz, gf_I lf, gf_I rt, gf_I lo, gf_I hg, gf_I pl, vv, gf_I hp, hv, gf_I se) := by
  refine nm_r (gf_updI cx 0 0) (nm_r (gf_updI _ 1 32) (nm_r (gf_updI cy 0 0) (nm_r (gf_updI _ 1 32) (nm_r (gf_updI dr 0 0) (nm_r (gf_updI sz 0 0) (nm_r (gf_updI lf 0 0) (nm_r (gf_updI rt 0 31) (nm_r (gf_updI lo 0 0) (nm_r (gf_updI hg 0 31) (H _ _ _ _ _ _ _ _ ⟨gf_sc_0 cx, gf_sc_0 cy, by omega, fun x y c r hc hr => ?_, fun b hb => ?_, fun p => ⟨fun t => Bool.noConfusion t, fun ⟨b, k, hb, hk, _⟩ => ?_⟩⟩))))))))))
  · have x32 := gf_in_32 (gf_sc_0 cx) hc
    have y32 := gf_in_32 (gf_sc_0 cy) hr
    have c0 : c = 0 := by have := hc.1; omega
    have r0 : r = 0 := by have := hr.1; omega
    subst c0
    subst r0
    have e : gf_up dr 0 0 (32 * 0 + 0) = 0 := gf_us
    dsimp only
    rw [e]
    refine ⟨by omega, fun b hb => ?_⟩
    have b0 : b = 0 := by omega
    subst b0
    unfold gf_rc
    rw [gf_us, gf_us, gf_us, gf_us]
    exact ⟨fun _ => ⟨by omega, by omega, by omega, by omega⟩, fun _ => rfl⟩
  · have b0 : b = 0 := by omega
    subst b0
    rw [gf_us, gf_us, gf_us, gf_us, gf_us]
    exact ⟨by omega, by omega, by omega, by omega, by omega, fun k hk => absurd hk (by omega), fun k k' _ hk => absurd hk (by omega)⟩
  · have b0 : b = 0 := by omega
    rw [b0, gf_us] at hk
    omega
/-- the set of the first i of a list -/
def gf_img (hp : Nat → Nat) : Nat → Nat → Bool
  | 0 => fun _ => false
  | i + 1 => gf_ins (gf_img hp i) (hp i)
theorem gf_img_iff {hp : Nat → Nat} {p : Nat} : ∀ i, gf_img hp i p = true ↔ ∃ j, j < i ∧ hp j = p := by
  intro i
  induction i with
  | zero => exact ⟨fun t => Bool.noConfusion t, fun ⟨j, hj, _⟩ => absurd hj (by omega)⟩
  | succ i ih =>
    show gf_ins (gf_img hp i) (hp i) p = true ↔ _
    rw [gf_ins_iff, ih]
    constructor
    · rintro (e | ⟨j, hj, e⟩)
      · exact ⟨i, by omega, e.symm⟩
      · exact ⟨j, by omega, e⟩
    · rintro ⟨j, hj, e⟩
      by_cases ej : j = i
      · exact Or.inl (by rw [← e, ej])
      · exact Or.inr ⟨j, by omega, e⟩
theorem gf_rb_95 {post : St1 → Prop} {J : Int32 → Int32 → Int32 → Int32 → Int32 → Int32 → (Nat → Int32) → (Nat → Int32) → (Nat → Int32) → (Nat → Int32) → (Nat → Int32) → (Nat → Int32) → (Nat → Int32) → (Nat → Int32) → (Nat → Int32) → (Nat → Int32) → (Nat → Int32) → (Nat → Int32) → (Nat → Int32) → Prop} {S : Nat → Bool} {co ro bu cn hi : Nat} {cx cy dr sz lf rt lo hg pl : Nat → Nat} {vv : Nat → Int32} {hp : Nat → Nat} {hv : Nat → Int32} {se : Nat → Nat} {k b : Nat} (h : gf_W S co ro bu cx cy dr sz lf rt lo hg pl) (hk : k < 40) (hb : b < bu) (hs : sz b < 4) (hp1 : hp k < 1024) (hn : S (hp k) = false) (hr : gf_rc lf rt lo hg b (hp k / 32) (hp k % 32))
    (H : ∀ sz' pl' vv', gf_W (gf_ins S (hp k)) co ro bu cx cy dr sz' lf rt lo hg pl' → J (nI (k + 1)) (nI co) (nI ro) (nI bu) (nI cn) (nI hi) (gf_I cx) (gf_I cy) (gf_I dr) (gf_I sz') (gf_I lf) (gf_I rt) (gf_I lo) (gf_I hg) (gf_I pl') vv' (gf_I hp) hv (gf_I se)) : wX_rebuild_95 post J (nI k) (nI b) (nI co) (nI ro) (nI bu) (nI cn) (nI hi) (gf_I cx) (gf_I cy) (gf_I dr) (gf_I sz) (gf_I lf) (gf_I rt) (gf_I lo) (gf_I hg) (gf_I pl) vv (gf_I hp) hv (gf_I se) := by
  have b64 := h.2.2.1
  have ib := pk_in (x := nI b) b 64 (by omega)
  have ik := pk_in (x := nI k) k 40 hk
  have im := pk_in (4 * b + sz b) 256 (by omega) (gf_4a sz (show b < 2 ^ 31 by omega))
  exact ⟨ib, ik, im, nm_r (gf_st (gf_4a sz (by omega)) (by omega) (gf_at hp rfl (by omega))) ⟨ib, ik, im, nm_e ⟨ib, ib, nm_r (gf_st (v := sz b + 1) rfl (by omega) (by rw [gf_at sz rfl (by omega), nI_1])) (nm_r (nI_1 k) (H _ _ _ (gf_W_add h hb hs hp1 hr hn)))⟩⟩⟩
theorem gf_rb_46a {post : St1 → Prop} {J : Int32 → Int32 → Int32 → Int32 → Int32 → Int32 → (Nat → Int32) → (Nat → Int32) → (Nat → Int32) → (Nat → Int32) → (Nat → Int32) → (Nat → Int32) → (Nat → Int32) → (Nat → Int32) → (Nat → Int32) → (Nat → Int32) → (Nat → Int32) → (Nat → Int32) → (Nat → Int32) → Prop} {S : Nat → Bool} {co ro bu cn hi : Nat} {cx cy dr sz lf rt lo hg pl : Nat → Nat} {vv : Nat → Int32} {hp : Nat → Nat} {hv : Nat → Int32} {se : Nat → Nat} {k b t : Nat} {n : Nat} (h : gf_W S co ro bu cx cy dr sz lf rt lo hg pl) (ht : t < 40) (hk : k < 40) (hb : b < bu) (hs : sz b < 4) (hp1 : hp k < 1024) (hn : S (hp k) = false) (hr : gf_rc lf rt lo hg b (hp k / 32) (hp k % 32))
    (H : ∀ sz' pl' vv', gf_W (gf_ins S (hp k)) co ro bu cx cy dr sz' lf rt lo hg pl' → J (nI (k + 1)) (nI co) (nI ro) (nI bu) (nI cn) (nI hi) (gf_I cx) (gf_I cy) (gf_I dr) (gf_I sz') (gf_I lf) (gf_I rt) (gf_I lo) (gf_I hg) (gf_I pl') vv' (gf_I hp) hv (gf_I se)) : wX_rebuild_46 post J (nI k) (n + 1) (nI b) (nI t) (nI co) (nI ro) (nI bu) (nI cn) (nI hi) (gf_I cx) (gf_I cy) (gf_I dr) (gf_I sz) (gf_I lf) (gf_I rt) (gf_I lo) (gf_I hg) (gf_I pl) vv (gf_I hp) hv (gf_I se) := by
  have b64 := h.2.2.1
  exact pk_le 40 t (fun z => absurd z (by omega)) (fun _ => ⟨pk_in b 64 (by omega), pk_eq (sz b) 4 (fun z => absurd z (by omega)) (fun _ => gf_rb_95 h hk hb hs hp1 hn hr H) (gf_at sz rfl (by omega)) rfl⟩)
theorem gf_rb_46 {post : St1 → Prop} {J : Int32 → Int32 → Int32 → Int32 → Int32 → Int32 → (Nat → Int32) → (Nat → Int32) → (Nat → Int32) → (Nat → Int32) → (Nat → Int32) → (Nat → Int32) → (Nat → Int32) → (Nat → Int32) → (Nat → Int32) → (Nat → Int32) → (Nat → Int32) → (Nat → Int32) → (Nat → Int32) → Prop} {S : Nat → Bool} {co ro bu cn hi : Nat} {cx cy dr sz lf rt lo hg pl : Nat → Nat} {vv : Nat → Int32} {hp : Nat → Nat} {hv : Nat → Int32} {se : Nat → Nat} {k b : Nat} (h : gf_W S co ro bu cx cy dr sz lf rt lo hg pl) (hbu : bu < 64) (hk : k < 40) (hb : b < bu) (hp1 : hp k < 1024) (hn : S (hp k) = false) (hr : gf_rc lf rt lo hg b (hp k / 32) (hp k % 32))
    (H : ∀ co' ro' bu' cx' cy' dr' sz' lf' rt' lo' hg' pl' vv', bu' ≤ bu + 1 → gf_W (gf_ins S (hp k)) co' ro' bu' cx' cy' dr' sz' lf' rt' lo' hg' pl' → J (nI (k + 1)) (nI co') (nI ro') (nI bu') (nI cn) (nI hi) (gf_I cx') (gf_I cy') (gf_I dr') (gf_I sz') (gf_I lf') (gf_I rt') (gf_I lo') (gf_I hg') (gf_I pl') vv' (gf_I hp) hv (gf_I se)) :
    ∃ n, wX_rebuild_46 post J (nI k) n (nI b) 0 (nI co) (nI ro) (nI bu) (nI cn) (nI hi) (gf_I cx) (gf_I cy) (gf_I dr) (gf_I sz) (gf_I lf) (gf_I rt) (gf_I lo) (gf_I hg) (gf_I pl) vv (gf_I hp) hv (gf_I se) := by
  have s4 := gf_W_sz h hb
  by_cases e : sz b = 4
  · refine ⟨2, pk_le 40 0 (fun z => absurd z (by omega)) (fun _ => ⟨pk_in b 64 (by omega), pk_eq (sz b) 4 (fun _ => gf_split h hb hbu e (fun co' ro' cx' cy' dr' sz' lf' rt' lo' hg' pl' vv' W1 few => ?_)) (fun z => absurd e z) (gf_at sz rfl (by omega)) rfl⟩)⟩
    refine ⟨pk_in k 40 hk, pk_in k 40 hk, ?_⟩
    rw [gf_at hp rfl (by omega), gf_shr5 (by omega), gf_and31 (by omega)]
    refine gf_bucketAt W1 (by omega) (by omega) (fun b' hb' hr' => ?_)
    refine nm_r (nI_1 0) (gf_rb_46a W1 (by omega) hk hb' (few b' _ _ hb' (by omega) (by omega) hr hr') hp1 hn hr' (fun sz2 pl2 vv2 W2 => H _ _ _ _ _ _ _ _ _ _ _ _ _ (Nat.le_refl _) W2))
  · exact ⟨1, gf_rb_46a (t := 0) h (by omega) hk hb (by omega) hp1 hn hr (fun sz2 pl2 vv2 W2 => H _ _ _ _ _ _ _ _ _ _ _ _ _ (by omega) W2)⟩
theorem gf_rebuild {post : St1 → Prop} {S : Nat → Bool} {co ro bu cn hi : Nat} {cx cy dr sz lf rt lo hg pl : Nat → Nat} {vv : Nat → Int32} {hp : Nat → Nat} {hv : Nat → Int32} {se : Nat → Nat} (h : gf_W S co ro bu cx cy dr sz lf rt lo hg pl) (hcnt : gf_cnt S 1024 ≤ 40)
    (H : ∀ co' ro' bu' hi' cx' cy' dr' sz' lf' rt' lo' hg' pl' vv' hp' hv' se', bu' ≤ 41 → gf_W S co' ro' bu' cx' cy' dr' sz' lf' rt' lo' hg' pl' → post (nI co', nI ro', nI bu', nI cn, nI hi', gf_I cx', gf_I cy', gf_I dr', gf_I sz', gf_I lf', gf_I rt', gf_I lo', gf_I hg', gf_I pl', vv', gf_I hp', hv', gf_I se')) :
    wpX_rebuild post (nI co, nI ro, nI bu, nI cn, nI hi, gf_I cx, gf_I cy, gf_I dr, gf_I sz, gf_I lf, gf_I rt, gf_I lo, gf_I hg, gf_I pl, vv, gf_I hp, hv, gf_I se) := by
  have W0 := h
  unfold wpX_rebuild
  dsimp only
  refine gf_collect (low := 0) (high := 1023) h (by omega) (by omega) (by omega) (by omega) hcnt (fun g hp' hv' se' hE g40 => ?_)
  refine gf_reset (fun cx1 cy1 dr1 sz1 lf1 rt1 lo1 hg1 W1 => ?_)
  have eS : ∀ p, S p = true ↔ gf_img hp' g p = true := by
    intro p
    rw [gf_img_iff]
    constructor
    · intro t
      have p1 := gf_W_lt W0 t
      exact hE.2.2 p p1 (gf_T_iff.mpr ⟨t, by unfold gf_bx; omega⟩)
    · rintro ⟨j, hj, e⟩
      have := (hE.1 j hj).2
      rw [e] at this
      exact (gf_T_iff.mp this).1
  refine pk_loop (σ := St1) (fun n i s => wX_rebuild_14 post n (nI i) s.1 s.2.1 s.2.2.1 s.2.2.2.1 s.2.2.2.2.1 s.2.2.2.2.2.1 s.2.2.2.2.2.2.1 s.2.2.2.2.2.2.2.1 s.2.2.2.2.2.2.2.2.1 s.2.2.2.2.2.2.2.2.2.1 s.2.2.2.2.2.2.2.2.2.2.1 s.2.2.2.2.2.2.2.2.2.2.2.1 s.2.2.2.2.2.2.2.2.2.2.2.2.1 s.2.2.2.2.2.2.2.2.2.2.2.2.2.1 s.2.2.2.2.2.2.2.2.2.2.2.2.2.2.1 s.2.2.2.2.2.2.2.2.2.2.2.2.2.2.2.1 s.2.2.2.2.2.2.2.2.2.2.2.2.2.2.2.2.1 s.2.2.2.2.2.2.2.2.2.2.2.2.2.2.2.2.2) (fun i s => ∃ (co ro bu : Nat) (cx cy dr sz lf rt lo hg pl : Nat → Nat) (vv : Nat → Int32), s = (nI co, nI ro, nI bu, nI cn, nI g, gf_I cx, gf_I cy, gf_I dr, gf_I sz, gf_I lf, gf_I rt, gf_I lo, gf_I hg, gf_I pl, vv, gf_I hp', hv', gf_I se') ∧ bu ≤ i + 1 ∧ gf_W (gf_img hp' i) co ro bu cx cy dr sz lf rt lo hg pl) g 0 (nI 1, nI 1, nI 1, nI cn, nI g, gf_I cx1, gf_I cy1, gf_I dr1, gf_I sz1, gf_I lf1, gf_I rt1, gf_I lo1, gf_I hg1, gf_I pl, vv, gf_I hp', hv', gf_I se') (by omega) ⟨1, 1, 1, cx1, cy1, dr1, sz1, lf1, rt1, lo1, hg1, pl, vv, rfl, by omega, W1⟩ (fun n s hI => ?_) (fun n i s hi1 hI hw => ?_)
  · obtain ⟨co, ro, bu, cx, cy, dr, sz, lf, rt, lo, hg, pl, vv, rfl, hb, W2⟩ := hI
    exact pk_le g g (fun _ => H co ro bu g cx cy dr sz lf rt lo hg pl vv hp' hv' se' (by omega) (gf_W_iff W2 eS)) (fun z => absurd z (by omega))
  · obtain ⟨co, ro, bu, cx, cy, dr, sz, lf, rt, lo, hg, pl, vv, rfl, hb, W2⟩ := hI
    have p1 := (hE.1 i hi1).1
    have nS : gf_img hp' i (hp' i) = false := by
      cases e : gf_img hp' i (hp' i) with
      | false => rfl
      | true =>
        obtain ⟨j, hj, ej⟩ := (gf_img_iff i).mp e
        exact absurd ej (hE.2.1 j i hj hi1)
    refine pk_le g i (fun z => absurd z (by omega)) (fun _ => ⟨pk_in i 40 (by omega), pk_in i 40 (by omega), ?_⟩)
    dsimp only
    rw [gf_at hp' rfl (by omega), gf_shr5 (by omega), gf_and31 (by omega)]
    refine gf_bucketAt W2 (by omega) (by omega) (fun b hb' hr => ?_)
    refine gf_rb_46 W2 (by omega) (by omega) hb' p1 nS hr (fun co' ro' bu' cx' cy' dr' sz' lf' rt' lo' hg' pl' vv' hle W3 => hw (nI co', nI ro', nI bu', nI cn, nI g, gf_I cx', gf_I cy', gf_I dr', gf_I sz', gf_I lf', gf_I rt', gf_I lo', gf_I hg', gf_I pl', vv', gf_I hp', hv', gf_I se') ⟨co', ro', bu', cx', cy', dr', sz', lf', rt', lo', hg', pl', vv', rfl, by omega, W3⟩)
/-- a state of the picture S, its count cn -/
def gf_V (S : Nat → Bool) (cn : Nat) (u : St1) : Prop := ∃ (co ro bu hi : Nat) (cx cy dr sz lf rt lo hg pl : Nat → Nat) (vv : Nat → Int32) (hp : Nat → Nat) (hv : Nat → Int32) (se : Nat → Nat), u = (nI co, nI ro, nI bu, nI cn, nI hi, gf_I cx, gf_I cy, gf_I dr, gf_I sz, gf_I lf, gf_I rt, gf_I lo, gf_I hg, gf_I pl, vv, gf_I hp, hv, gf_I se) ∧ gf_W S co ro bu cx cy dr sz lf rt lo hg pl
theorem gf_ins_71 {post : St1 → Prop} {S : Nat → Bool} {co ro bu cn hi : Nat} {cx cy dr sz lf rt lo hg pl : Nat → Nat} {vv : Nat → Int32} {hp : Nat → Nat} {hv : Nat → Int32} {se : Nat → Nat} {p b : Nat} {v : Int32} (h : gf_W S co ro bu cx cy dr sz lf rt lo hg pl) (hb : b < bu) (hs : sz b < 4) (hp1 : p < 1024) (hn : S p = false) (hr : gf_rc lf rt lo hg b (p / 32) (p % 32))
    (H : ∀ u, gf_V (gf_ins S p) cn u → post u) : wX_insert_71 post (nI p) v (nI b) (nI co) (nI ro) (nI bu) (nI cn) (nI hi) (gf_I cx) (gf_I cy) (gf_I dr) (gf_I sz) (gf_I lf) (gf_I rt) (gf_I lo) (gf_I hg) (gf_I pl) vv (gf_I hp) hv (gf_I se) := by
  have b64 := h.2.2.1
  have ib := pk_in (x := nI b) b 64 (by omega)
  have im := pk_in (4 * b + sz b) 256 (by omega) (gf_4a sz (show b < 2 ^ 31 by omega))
  exact ⟨ib, im, nm_r (gf_st (gf_4a sz (by omega)) (by omega) rfl) ⟨ib, im, nm_e ⟨ib, ib, nm_r (gf_st (v := sz b + 1) rfl (by omega) (by rw [gf_at sz rfl (by omega), nI_1])) (H _ ⟨_, _, _, _, _, _, _, _, _, _, _, _, _, _, _, _, _, rfl, gf_W_add h hb hs hp1 hr hn⟩)⟩⟩⟩
theorem gf_ins_15a {post : St1 → Prop} {S : Nat → Bool} {co ro bu cn hi : Nat} {cx cy dr sz lf rt lo hg pl : Nat → Nat} {vv : Nat → Int32} {hp : Nat → Nat} {hv : Nat → Int32} {se : Nat → Nat} {p b t n : Nat} {v : Int32} (h : gf_W S co ro bu cx cy dr sz lf rt lo hg pl) (ht : t < 64) (hb : b < bu) (hs : sz b < 4) (hp1 : p < 1024) (hn : S p = false) (hr : gf_rc lf rt lo hg b (p / 32) (p % 32))
    (H : ∀ u, gf_V (gf_ins S p) cn u → post u) : wX_insert_15 post (nI p) v (n + 1) (nI b) (nI t) (nI co) (nI ro) (nI bu) (nI cn) (nI hi) (gf_I cx) (gf_I cy) (gf_I dr) (gf_I sz) (gf_I lf) (gf_I rt) (gf_I lo) (gf_I hg) (gf_I pl) vv (gf_I hp) hv (gf_I se) := by
  have b64 := h.2.2.1
  exact pk_le 64 t (fun z => absurd z (by omega)) (fun _ => ⟨pk_in b 64 (by omega), pk_eq (sz b) 4 (fun z => absurd z (by omega)) (fun _ => gf_ins_71 h hb hs hp1 hn hr H) (gf_at sz rfl (by omega)) rfl⟩)
theorem gf_ins_15b {post : St1 → Prop} {S : Nat → Bool} {co ro bu cn hi : Nat} {cx cy dr sz lf rt lo hg pl : Nat → Nat} {vv : Nat → Int32} {hp : Nat → Nat} {hv : Nat → Int32} {se : Nat → Nat} {p b t n : Nat} {v : Int32} (h : gf_W S co ro bu cx cy dr sz lf rt lo hg pl) (ht : t + 1 < 64) (hbu : bu < 64) (hb : b < bu) (hp1 : p < 1024) (hn : S p = false) (hr : gf_rc lf rt lo hg b (p / 32) (p % 32))
    (H : ∀ u, gf_V (gf_ins S p) cn u → post u) : wX_insert_15 post (nI p) v (n + 2) (nI b) (nI t) (nI co) (nI ro) (nI bu) (nI cn) (nI hi) (gf_I cx) (gf_I cy) (gf_I dr) (gf_I sz) (gf_I lf) (gf_I rt) (gf_I lo) (gf_I hg) (gf_I pl) vv (gf_I hp) hv (gf_I se) := by
  have s4 := gf_W_sz h hb
  by_cases e : sz b = 4
  · refine pk_le 64 t (fun z => absurd z (by omega)) (fun _ => ⟨pk_in b 64 (by omega), pk_eq (sz b) 4 (fun _ => pk_eq bu 64 (fun z => absurd z (by omega)) (fun _ => gf_split h hb hbu e (fun co' ro' cx' cy' dr' sz' lf' rt' lo' hg' pl' vv' W1 few => ?_))) (fun z => absurd e z) (gf_at sz rfl (by omega)) rfl⟩)
    dsimp only
    unfold wX_insert_53
    rw [gf_shr5 (by omega), gf_and31 (by omega)]
    refine gf_bucketAt W1 (by omega) (by omega) (fun b' hb' hr' => ?_)
    exact nm_r (nI_1 t) (gf_ins_15a W1 (by omega) hb' (few b' _ _ hb' (by omega) (by omega) hr hr') hp1 hn hr' H)
  · exact gf_ins_15a h (by omega) hb (by omega) hp1 hn hr H
theorem gf_insert {post : St1 → Prop} {S : Nat → Bool} {co ro bu cn hi : Nat} {cx cy dr sz lf rt lo hg pl : Nat → Nat} {vv : Nat → Int32} {hp : Nat → Nat} {hv : Nat → Int32} {se : Nat → Nat} {p : Nat} {v : Int32} (h : gf_W S co ro bu cx cy dr sz lf rt lo hg pl) (hcnt : gf_cnt S 1024 ≤ 40) (hp1 : p < 1024) (hn : S p = false)
    (H : ∀ u, gf_V (gf_ins S p) cn u → post u) : wpX_insert post (nI co, nI ro, nI bu, nI cn, nI hi, gf_I cx, gf_I cy, gf_I dr, gf_I sz, gf_I lf, gf_I rt, gf_I lo, gf_I hg, gf_I pl, vv, gf_I hp, hv, gf_I se) (nI p) v := by
  unfold wpX_insert
  dsimp only
  rw [gf_shr5 (by omega), gf_and31 (by omega)]
  refine gf_bucketAt h (by omega) (by omega) (fun b hb hr => ?_)
  have b64 := h.2.2.1
  have s4 := gf_W_sz h hb
  by_cases e : bu = 64 ∧ sz b = 4
  · refine ⟨3, pk_le 64 0 (fun z => absurd z (by omega)) (fun _ => ⟨pk_in b 64 (by omega), pk_eq (sz b) 4 (fun _ => pk_eq bu 64 (fun _ => gf_rebuild h hcnt (fun co' ro' bu' hi' cx' cy' dr' sz' lf' rt' lo' hg' pl' vv' hp' hv' se' b41 W1 => ?_)) (fun z => absurd e.1 z)) (fun z => absurd e.2 z) (gf_at sz rfl (by omega)) rfl⟩)⟩
    dsimp only
    unfold wX_insert_53
    rw [gf_shr5 (by omega), gf_and31 (by omega)]
    refine gf_bucketAt W1 (by omega) (by omega) (fun b' hb' hr' => ?_)
    exact nm_r (nI_1 0) (gf_ins_15b W1 (by omega) (by omega) hb' hp1 hn hr' H)
  · by_cases e4 : sz b = 4
    · exact ⟨2, gf_ins_15b (t := 0) h (by omega) (by omega) hb hp1 hn hr H⟩
    · exact ⟨1, gf_ins_15a (t := 0) h (by omega) hb (by omega) hp1 hn hr H⟩
end
section
theorem gf_m1lt {n : Nat} (h : n < 2 ^ 31) : -1 < nI n := Int32.not_le.mp (gf_nneg h)
theorem gf_nm1 {n : Nat} (h : n < 2 ^ 31) : ¬ nI n = -1 := fun e => gf_nneg h (by rw [e]; exact Int32.le_refl _)
theorem gf_isPlace {post : Int32 → Prop} {x y : Nat} (hx : x < 32) (hy : y < 32) (H : post 1) : wpX_isPlace post () (nI x) (nI y) :=
  pk_lt x 0 (fun z => absurd z (by omega)) (fun _ => pk_le 32 x (fun z => absurd z (by omega)) (fun _ => pk_lt y 0 (fun z => absurd z (by omega)) (fun _ => pk_le 32 y (fun z => absurd z (by omega)) (fun _ => H))))
theorem gf_msq {n : Nat} : n * n = 0 ↔ n = 0 :=
  ⟨fun h => (Nat.mul_eq_zero.mp h).elim id id, fun h => by rw [h]⟩
/-! gap -/
def gf_gx (l r x : Nat) : Nat := if x ≤ r then (if l ≤ x then 0 else l - x) else x - r
def gf_gap (lf rt lo hg : Nat → Nat) (b x y : Nat) : Nat := gf_gx (lf b) (rt b) x * gf_gx (lf b) (rt b) x + gf_gx (lo b) (hg b) y * gf_gx (lo b) (hg b) y
theorem gf_gx_le {l r x : Nat} (hl : l ≤ 31) (hx : x ≤ 31) : gf_gx l r x ≤ 31 := by
  unfold gf_gx
  split
  · split <;> omega
  · omega
theorem gf_gx_0 {l r x : Nat} : gf_gx l r x = 0 ↔ l ≤ x ∧ x ≤ r := by
  unfold gf_gx
  split
  · split <;> omega
  · omega
theorem gf_gap_le {lf rt lo hg : Nat → Nat} {b x y : Nat} (h1 : lf b ≤ 31) (h2 : lo b ≤ 31) (hx : x ≤ 31) (hy : y ≤ 31) : gf_gap lf rt lo hg b x y ≤ 1922 := by
  have a := gf_gx_le (r := rt b) h1 hx
  have b := gf_gx_le (r := hg b) h2 hy
  have a2 := Nat.mul_le_mul a a
  have b2 := Nat.mul_le_mul b b
  unfold gf_gap
  omega
theorem gf_gap_0 {lf rt lo hg : Nat → Nat} {b x y : Nat} : gf_gap lf rt lo hg b x y = 0 ↔ gf_rc lf rt lo hg b x y := by
  unfold gf_gap gf_rc
  rw [Nat.add_eq_zero_iff, gf_msq, gf_msq, gf_gx_0, gf_gx_0, and_assoc]
theorem gf_gap_w {post : Int32 → Prop} {co ro bu cn hi : Nat} {cx cy dr sz lf rt lo hg pl : Nat → Nat} {vv : Nat → Int32} {hp : Nat → Nat} {hv : Nat → Int32} {se : Nat → Nat} {b x y : Nat} (hb : b < 64) (b1 : lf b ≤ 31) (b2 : rt b ≤ 31) (b3 : lo b ≤ 31) (b4 : hg b ≤ 31) (hx : x < 32) (hy : y < 32) (H : post (nI (gf_gap lf rt lo hg b x y))) : wpX_gap post (nI co, nI ro, nI bu, nI cn, nI hi, gf_I cx, gf_I cy, gf_I dr, gf_I sz, gf_I lf, gf_I rt, gf_I lo, gf_I hg, gf_I pl, vv, gf_I hp, hv, gf_I se) (nI b) (nI x) (nI y) := by
  have ib := pk_in (x := nI b) b 64 hb
  have g96 : ∀ g g', g = gf_gx (lf b) (rt b) x → g' = gf_gx (lo b) (hg b) y → wX_gap_96 post (nI g) (nI g') (nI co) (nI ro) (nI bu) (nI cn) (nI hi) (gf_I cx) (gf_I cy) (gf_I dr) (gf_I sz) (gf_I lf) (gf_I rt) (gf_I lo) (gf_I hg) (gf_I pl) vv (gf_I hp) hv (gf_I se) := by
    intro g g' e e'
    unfold wX_gap_96
    rw [pk_mul, pk_mul, nI_add, e, e']
    exact H
  have g71 : ∀ g z, g = gf_gx (lf b) (rt b) x → z = (if lo b ≤ y then 0 else lo b - y) → wX_gap_71 post (nI b) (nI y) (nI g) (nI z) (nI co) (nI ro) (nI bu) (nI cn) (nI hi) (gf_I cx) (gf_I cy) (gf_I dr) (gf_I sz) (gf_I lf) (gf_I rt) (gf_I lo) (gf_I hg) (gf_I pl) vv (gf_I hp) hv (gf_I se) := by
    intro g z e ez
    refine ⟨ib, pk_le y (hg b) (fun t => g96 g z e ?_) (fun t => ⟨ib, ?_⟩) rfl (gf_at hg rfl (by omega))⟩
    · unfold gf_gx
      rw [if_pos t]
      exact ez
    · rw [gf_at hg rfl (by omega), pk_sub (by omega)]
      refine g96 g _ e ?_
      unfold gf_gx
      rw [if_neg (by omega)]
  have g47 : ∀ g, g = gf_gx (lf b) (rt b) x → wX_gap_47 post (nI b) (nI y) (nI g) (nI co) (nI ro) (nI bu) (nI cn) (nI hi) (gf_I cx) (gf_I cy) (gf_I dr) (gf_I sz) (gf_I lf) (gf_I rt) (gf_I lo) (gf_I hg) (gf_I pl) vv (gf_I hp) hv (gf_I se) := by
    intro g e
    refine ⟨ib, pk_le (lo b) y (fun t => g71 g 0 e (by rw [if_pos t])) (fun t => ⟨ib, ?_⟩) (gf_at lo rfl (by omega)) rfl⟩
    rw [gf_at lo rfl (by omega), pk_sub (by omega)]
    exact g71 g _ e (by rw [if_neg (by omega)])
  have g22 : ∀ z, z = (if lf b ≤ x then 0 else lf b - x) → wX_gap_22 post (nI b) (nI x) (nI y) (nI z) (nI co) (nI ro) (nI bu) (nI cn) (nI hi) (gf_I cx) (gf_I cy) (gf_I dr) (gf_I sz) (gf_I lf) (gf_I rt) (gf_I lo) (gf_I hg) (gf_I pl) vv (gf_I hp) hv (gf_I se) := by
    intro z ez
    refine ⟨ib, pk_le x (rt b) (fun t => g47 z ?_) (fun t => ⟨ib, ?_⟩) rfl (gf_at rt rfl (by omega))⟩
    · unfold gf_gx
      rw [if_pos t]
      exact ez
    · rw [gf_at rt rfl (by omega), pk_sub (by omega)]
      refine g47 _ ?_
      unfold gf_gx
      rw [if_neg (by omega)]
  refine ⟨ib, pk_le (lf b) x (fun t => g22 0 (by rw [if_pos t])) (fun t => ⟨ib, ?_⟩) (gf_at lf rfl (by omega)) rfl⟩
  rw [gf_at lf rfl (by omega), pk_sub (by omega)]
  exact g22 _ (by rw [if_neg (by omega)])
/-! distance -/
def gf_sq (a b : Nat) : Nat := (a - b) * (a - b) + (b - a) * (b - a)
theorem gf_sq_w (a b : Nat) : (nI a - nI b) * (nI a - nI b) = nI (gf_sq a b) := by
  unfold gf_sq
  rcases Nat.le_total b a with z | z
  · rw [pk_sub z, pk_mul, show b - a = 0 by omega]
    rfl
  · have e : (nI a - nI b) * (nI a - nI b) = (nI b - nI a) * (nI b - nI a) := by grind
    rw [e, pk_sub z, pk_mul, show a - b = 0 by omega]
    simp
theorem gf_sq_0 {a b : Nat} : gf_sq a b = 0 ↔ a = b := by
  unfold gf_sq
  rw [Nat.add_eq_zero_iff, gf_msq, gf_msq]
  omega
theorem gf_sq_le {a b : Nat} (ha : a ≤ 31) (hb : b ≤ 31) : gf_sq a b ≤ 1922 := by
  have a2 := Nat.mul_le_mul (show a - b ≤ 31 by omega) (show a - b ≤ 31 by omega)
  have b2 := Nat.mul_le_mul (show b - a ≤ 31 by omega) (show b - a ≤ 31 by omega)
  unfold gf_sq
  omega
def gf_ds (p x y : Nat) : Nat := gf_sq (p / 32) x + gf_sq (p % 32) y
theorem gf_ds_0 {p x y : Nat} (hy : y < 32) : gf_ds p x y = 0 ↔ p = 32 * x + y := by
  unfold gf_ds
  rw [Nat.add_eq_zero_iff, gf_sq_0, gf_sq_0]
  omega
theorem gf_ds_le {p x y : Nat} (hp : p < 1024) (hx : x < 32) (hy : y < 32) : gf_ds p x y ≤ 3844 := by
  have a := gf_sq_le (show p / 32 ≤ 31 by omega) (show x ≤ 31 by omega)
  have b := gf_sq_le (show p % 32 ≤ 31 by omega) (show y ≤ 31 by omega)
  unfold gf_ds
  omega
theorem gf_distance {post : Int32 → Prop} {z : Int32} {p x y : Nat} (hp : p < 1024) (hz : z = nI p) (H : post (nI (gf_ds p x y))) : wpX_distance post () z (nI x) (nI y) := by
  subst hz
  unfold wpX_distance
  rw [gf_shr5 (by omega), gf_and31 (by omega)]
  refine nm_e (nm_e ?_)
  rw [gf_sq_w, gf_sq_w, nI_add]
  exact H
/-! the nearest bucket not seen yet -/
theorem gf_next {post : Int32 → Prop} {S : Nat → Bool} {co ro bu cn hi : Nat} {cx cy dr sz lf rt lo hg pl : Nat → Nat} {vv : Nat → Int32} {hp : Nat → Nat} {hv : Nat → Int32} {se : Nat → Nat} {x y : Nat} (h : gf_W S co ro bu cx cy dr sz lf rt lo hg pl) (hx : x < 32) (hy : y < 32) (hse : ∀ b, b < bu → se b ≤ 1) (H0 : (∀ a, a < bu → se a ≠ 0) → post (-1)) (H1 : ∀ b, b < bu → se b = 0 → (∀ a, a < bu → se a = 0 → gf_gap lf rt lo hg b x y ≤ gf_gap lf rt lo hg a x y) → post (nI b)) : wpX_nextBucket post (nI co, nI ro, nI bu, nI cn, nI hi, gf_I cx, gf_I cy, gf_I dr, gf_I sz, gf_I lf, gf_I rt, gf_I lo, gf_I hg, gf_I pl, vv, gf_I hp, hv, gf_I se) (nI x) (nI y) := by
  obtain ⟨_, _, hbu, _, hP, _⟩ := h
  refine pk_loop (σ := Int32) (fun n i s => wX_nextBucket_5 post (nI x) (nI y) (nI co) (nI ro) (nI bu) (nI cn) (nI hi) (gf_I cx) (gf_I cy) (gf_I dr) (gf_I sz) (gf_I lf) (gf_I rt) (gf_I lo) (gf_I hg) (gf_I pl) vv (gf_I hp) hv (gf_I se) n s (nI i)) (fun i s => (s = -1 ∧ ∀ a, a < i → se a ≠ 0) ∨ (∃ b, s = nI b ∧ b < i ∧ se b = 0 ∧ ∀ a, a < i → se a = 0 → gf_gap lf rt lo hg b x y ≤ gf_gap lf rt lo hg a x y)) bu 0 (-1) (by omega) (Or.inl ⟨rfl, fun a ha => absurd ha (by omega)⟩) (fun n s hI => pk_le bu bu (fun _ => ?_) (fun z => absurd z (by omega))) (fun n i s hi1 hI hw => pk_le bu i (fun z => absurd z (by omega)) (fun _ => ?_))
  · rcases hI with ⟨e, k⟩ | ⟨b, e, k1, k2, k3⟩
    · rw [e]; exact H0 k
    · rw [e]; exact H1 b k1 k2 k3
  · have si := hse i hi1
    obtain ⟨_, i1, i2, i3, i4, _⟩ := hP i hi1
    refine ⟨pk_in i 64 (by omega), pk_eq (se i) 0 (fun z => ?_) (fun z => nm_r (nI_1 i) (hw s ?_)) (gf_at se rfl (by omega)) rfl⟩
    · rcases hI with ⟨e, k⟩ | ⟨b, e, k1, k2, k3⟩
      · refine br_t e (nm_r (nI_1 i) (hw (nI i) (Or.inr ⟨i, rfl, by omega, z, fun a ha sa => ?_⟩)))
        by_cases ea : a = i
        · rw [ea]; exact Nat.le_refl _
        · exact absurd sa (k a (by omega))
      · subst e
        obtain ⟨_, c1, c2, c3, c4, _⟩ := hP b (by omega)
        have gi := gf_gap_le (rt := rt) (hg := hg) i1 i3 (show x ≤ 31 by omega) (show y ≤ 31 by omega)
        have gb := gf_gap_le (rt := rt) (hg := hg) c1 c3 (show x ≤ 31 by omega) (show y ≤ 31 by omega)
        refine br_f (gf_nm1 (by omega)) (gf_gap_w (by omega) i1 i2 i3 i4 hx hy (gf_gap_w (by omega) c1 c2 c3 c4 hx hy (pk_le (gf_gap lf rt lo hg b x y) (gf_gap lf rt lo hg i x y) (fun t => nm_r (nI_1 i) (hw (nI b) (Or.inr ⟨b, rfl, by omega, k2, fun a ha sa => ?_⟩))) (fun t => nm_r (nI_1 i) (hw (nI i) (Or.inr ⟨i, rfl, by omega, z, fun a ha sa => ?_⟩))))))
        · by_cases ea : a = i
          · rw [ea]; exact t
          · exact k3 a (by omega) sa
        · by_cases ea : a = i
          · rw [ea]; exact Nat.le_refl _
          · exact Nat.le_trans (Nat.le_of_lt t) (k3 a (by omega) sa)
    · rcases hI with ⟨e, k⟩ | ⟨b, e, k1, k2, k3⟩
      · refine Or.inl ⟨e, fun a ha => ?_⟩
        by_cases ea : a = i
        · rw [ea]; exact z
        · exact k a (by omega)
      · refine Or.inr ⟨b, e, by omega, k2, fun a ha sa => ?_⟩
        by_cases ea : a = i
        · rw [ea] at sa; exact absurd sa z
        · exact k3 a (by omega) sa
theorem gf_within {post : Int32 → Prop} {S : Nat → Bool} {co ro bu cn hi : Nat} {cx cy dr sz lf rt lo hg pl : Nat → Nat} {vv : Nat → Int32} {hp : Nat → Nat} {hv : Nat → Int32} {se : Nat → Nat} {x y : Nat} (h : gf_W S co ro bu cx cy dr sz lf rt lo hg pl) (hx : x < 32) (hy : y < 32) (H : post 0) : wpX_within post (nI co, nI ro, nI bu, nI cn, nI hi, gf_I cx, gf_I cy, gf_I dr, gf_I sz, gf_I lf, gf_I rt, gf_I lo, gf_I hg, gf_I pl, vv, gf_I hp, hv, gf_I se) (nI x) (nI y) (-1) := by
  obtain ⟨_, _, hbu, _, hP, _⟩ := h
  unfold wpX_within
  dsimp only
  refine gf_isPlace hx hy (br_f (by decide) ?_)
  refine pk_loop (σ := Unit) (fun n i _ => wX_within_16 post (nI x) (nI y) (-1) (nI co) (nI ro) (nI bu) (nI cn) (nI hi) (gf_I cx) (gf_I cy) (gf_I dr) (gf_I sz) (gf_I lf) (gf_I rt) (gf_I lo) (gf_I hg) (gf_I pl) vv (gf_I hp) hv (gf_I se) n 0 (nI i)) (fun _ _ => True) bu 0 () (by omega) trivial (fun n s _ => pk_le bu bu (fun _ => H) (fun z => absurd z (by omega))) (fun n i s hi1 _ hw => pk_le bu i (fun z => absurd z (by omega)) (fun _ => ?_))
  obtain ⟨_, i1, i2, i3, i4, _⟩ := hP i hi1
  have gi := gf_gap_le (rt := rt) (hg := hg) i1 i3 (show x ≤ 31 by omega) (show y ≤ 31 by omega)
  exact gf_gap_w (by omega) i1 i2 i3 i4 hx hy (br_t (gf_m1lt (by omega)) (nm_r (nI_1 i) (hw () trivial)))
end
section
theorem gf_nr_keep {post : Int32 → St1 → Prop} {J : Int32 → Int32 → Int32 → (Nat → Int32) → (Nat → Int32) → (Nat → Int32) → (Nat → Int32) → (Nat → Int32) → (Nat → Int32) → (Nat → Int32) → (Nat → Int32) → (Nat → Int32) → (Nat → Int32) → (Nat → Int32) → (Nat → Int32) → (Nat → Int32) → Prop} {co ro bu cn hi : Nat} {cx cy dr sz lf rt lo hg pl : Nat → Nat} {vv : Nat → Int32} {hp : Nat → Nat} {hv : Nat → Int32} {se : Nat → Nat} {b x y t : Nat} (hb : b < 64) (h4 : sz b ≤ 4) (hpl : ∀ k, k < sz b → pl (4 * b + k) < 1024) (hx : x < 32) (hy : y < 32)
    (H : J (nI (32 * x + y)) (nI 0) (nI (t + 1)) (gf_I cx) (gf_I cy) (gf_I dr) (gf_I sz) (gf_I lf) (gf_I rt) (gf_I lo) (gf_I hg) (gf_I pl) vv (gf_I hp) hv (gf_I se)) : ∃ n, wX_nearest_112 post J (nI x) (nI y) (nI t) (nI b) (nI co) (nI ro) (nI bu) (nI cn) (nI hi) (gf_I cx) (gf_I cy) (gf_I dr) (gf_I sz) (gf_I lf) (gf_I rt) (gf_I lo) (gf_I hg) (gf_I pl) vv (gf_I hp) hv (gf_I se) n (nI (32 * x + y)) (nI 0) (nI (4 * b)) := by
  have ib := pk_in (x := nI b) b 64 hb
  refine pk_loop (σ := Unit) (fun n i _ => wX_nearest_112 post J (nI x) (nI y) (nI t) (nI b) (nI co) (nI ro) (nI bu) (nI cn) (nI hi) (gf_I cx) (gf_I cy) (gf_I dr) (gf_I sz) (gf_I lf) (gf_I rt) (gf_I lo) (gf_I hg) (gf_I pl) vv (gf_I hp) hv (gf_I se) n (nI (32 * x + y)) (nI 0) (nI (4 * b + i))) (fun _ _ => True) (sz b) 0 () (by omega) trivial (fun n _ _ => ⟨ib, pk_le (4 * b + sz b) (4 * b + sz b) (fun _ => nm_r (nI_1 t) H) (fun z => absurd z (by omega)) (gf_4a sz (by omega)) rfl⟩) (fun n k _ hk _ hw => ⟨ib, pk_le (4 * b + sz b) (4 * b + k) (fun z => absurd z (by omega)) (fun _ => ?_) (gf_4a sz (by omega)) rfl⟩)
  have p1 := hpl k hk
  have d1 := gf_ds_le p1 hx hy
  have ik := pk_in (x := nI (4 * b + k)) (4 * b + k) 256 (by omega)
  refine ⟨ik, gf_distance p1 (gf_at pl rfl (by omega)) (pk_lt (32 * x + y) 0 (fun z => absurd z (by omega)) (fun _ => pk_lt (gf_ds (pl (4 * b + k)) x y) 0 (fun z => absurd z (by omega)) (fun _ => pk_eq (gf_ds (pl (4 * b + k)) x y) 0 (fun e => ⟨ik, pk_le (32 * x + y) (pl (4 * b + k)) (fun _ => nm_r (nI_1 _) (hw () trivial)) (fun z => absurd ((gf_ds_0 hy).mp e) (by omega)) rfl (gf_at pl rfl (by omega))⟩) (fun _ => nm_r (nI_1 _) (hw () trivial)))))⟩
theorem gf_nr_first {post : Int32 → St1 → Prop} {J : Int32 → Int32 → Int32 → (Nat → Int32) → (Nat → Int32) → (Nat → Int32) → (Nat → Int32) → (Nat → Int32) → (Nat → Int32) → (Nat → Int32) → (Nat → Int32) → (Nat → Int32) → (Nat → Int32) → (Nat → Int32) → (Nat → Int32) → (Nat → Int32) → Prop} {co ro bu cn hi : Nat} {cx cy dr sz lf rt lo hg pl : Nat → Nat} {vv : Nat → Int32} {hp : Nat → Nat} {hv : Nat → Int32} {se : Nat → Nat} {b x y t k0 : Nat} (hb : b < 64) (h4 : sz b ≤ 4) (hpl : ∀ k, k < sz b → pl (4 * b + k) < 1024) (hx : x < 32) (hy : y < 32) (hk0 : k0 < sz b) (e0 : pl (4 * b + k0) = 32 * x + y) (en : ∀ k, k < sz b → k ≠ k0 → pl (4 * b + k) ≠ 32 * x + y)
    (H : J (nI (32 * x + y)) (nI 0) (nI (t + 1)) (gf_I cx) (gf_I cy) (gf_I dr) (gf_I sz) (gf_I lf) (gf_I rt) (gf_I lo) (gf_I hg) (gf_I pl) vv (gf_I hp) hv (gf_I se)) : ∃ n, wX_nearest_112 post J (nI x) (nI y) (nI t) (nI b) (nI co) (nI ro) (nI bu) (nI cn) (nI hi) (gf_I cx) (gf_I cy) (gf_I dr) (gf_I sz) (gf_I lf) (gf_I rt) (gf_I lo) (gf_I hg) (gf_I pl) vv (gf_I hp) hv (gf_I se) n (-2) 0 (nI (4 * b)) := by
  have ib := pk_in (x := nI b) b 64 hb
  refine pk_loop (σ := Int32 × Int32) (fun n i s => wX_nearest_112 post J (nI x) (nI y) (nI t) (nI b) (nI co) (nI ro) (nI bu) (nI cn) (nI hi) (gf_I cx) (gf_I cy) (gf_I dr) (gf_I sz) (gf_I lf) (gf_I rt) (gf_I lo) (gf_I hg) (gf_I pl) vv (gf_I hp) hv (gf_I se) n s.1 s.2 (nI (4 * b + i))) (fun k s => (k ≤ k0 ∧ (s = (-2, nI 0) ∨ ∃ p d, s = (nI p, nI d) ∧ p < 1024 ∧ 0 < d ∧ d < 2 ^ 31)) ∨ (k0 < k ∧ s = (nI (32 * x + y), nI 0))) (sz b) 0 (-2, nI 0) (by omega) (Or.inl ⟨by omega, Or.inl rfl⟩) (fun n s hI => ⟨ib, pk_le (4 * b + sz b) (4 * b + sz b) (fun _ => nm_r (nI_1 t) ?_) (fun z => absurd z (by omega)) (gf_4a sz (by omega)) rfl⟩) (fun n k s hk hI hw => ⟨ib, pk_le (4 * b + sz b) (4 * b + k) (fun z => absurd z (by omega)) (fun _ => ?_) (gf_4a sz (by omega)) rfl⟩)
  · rcases hI with ⟨z, _⟩ | ⟨_, e⟩
    · exact absurd z (by omega)
    · subst e
      exact H
  · have p1 := hpl k hk
    have d1 := gf_ds_le p1 hx hy
    have ik := pk_in (x := nI (4 * b + k)) (4 * b + k) 256 (by omega)
    have ep : gf_I pl (nI (4 * b + k)).toNatClampNeg = nI (pl (4 * b + k)) := gf_at pl rfl (by omega)
    have pos : k ≠ k0 → 0 < gf_ds (pl (4 * b + k)) x y := by
      intro ne
      rcases Nat.eq_zero_or_pos (gf_ds (pl (4 * b + k)) x y) with z | z
      · exact absurd ((gf_ds_0 hy).mp z) (en k hk ne)
      · exact z
    have setI : k ≤ k0 → wX_nearest_172 post J (wX_nearest_112 post J (nI x) (nI y) (nI t) (nI b) (nI co) (nI ro) (nI bu) (nI cn) (nI hi) (gf_I cx) (gf_I cy) (gf_I dr) (gf_I sz) (gf_I lf) (gf_I rt) (gf_I lo) (gf_I hg) (gf_I pl) vv (gf_I hp) hv (gf_I se) n) (nI x) (nI y) (nI t) (nI b) (nI (4 * b + k)) (nI (gf_ds (pl (4 * b + k)) x y)) (nI co) (nI ro) (nI bu) (nI cn) (nI hi) (gf_I cx) (gf_I cy) (gf_I dr) (gf_I sz) (gf_I lf) (gf_I rt) (gf_I lo) (gf_I hg) (gf_I pl) vv (gf_I hp) hv (gf_I se) := by
      intro hk1
      refine ⟨ik, nm_r ep (nm_r (nI_1 _) (hw (nI (pl (4 * b + k)), nI (gf_ds (pl (4 * b + k)) x y)) ?_))⟩
      by_cases e : k = k0
      · refine Or.inr ⟨by omega, ?_⟩
        have : gf_ds (pl (4 * b + k)) x y = 0 := (gf_ds_0 hy).mpr (by rw [e]; exact e0)
        rw [this, e, e0]
      · exact Or.inl ⟨by omega, Or.inr ⟨_, _, rfl, p1, pos e, by omega⟩⟩
    refine ⟨ik, gf_distance p1 ep ?_⟩
    rcases hI with ⟨hk1, e | ⟨p, d, e, hp2, hd, hd2⟩⟩ | ⟨hk1, e⟩
    · subst e
      exact br_t (by decide) (setI hk1)
    · subst e
      refine pk_lt p 0 (fun z => absurd z (by omega)) (fun _ => pk_lt (gf_ds (pl (4 * b + k)) x y) d (fun _ => setI hk1) (fun z => ?_))
      have ne : k ≠ k0 := by
        intro e
        have : gf_ds (pl (4 * b + k)) x y = 0 := (gf_ds_0 hy).mpr (by rw [e]; exact e0)
        omega
      have kp := hw (nI p, nI d) (Or.inl ⟨by omega, Or.inr ⟨p, d, rfl, hp2, hd, hd2⟩⟩)
      exact pk_eq (gf_ds (pl (4 * b + k)) x y) d (fun _ => ⟨ik, pk_le p (pl (4 * b + k)) (fun _ => nm_r (nI_1 _) kp) (fun _ => setI hk1) rfl ep⟩) (fun _ => nm_r (nI_1 _) kp)
    · subst e
      have ps := pos (by omega)
      exact pk_lt (32 * x + y) 0 (fun z => absurd z (by omega)) (fun _ => pk_lt (gf_ds (pl (4 * b + k)) x y) 0 (fun z => absurd z (by omega)) (fun _ => pk_eq (gf_ds (pl (4 * b + k)) x y) 0 (fun z => absurd z (by omega)) (fun _ => nm_r (nI_1 _) (hw (nI (32 * x + y), nI 0) (Or.inr ⟨by omega, rfl⟩)))))
theorem gf_nr_55 {post : Int32 → St1 → Prop} {S : Nat → Bool} {co ro bu cn hi : Nat} {cx cy dr sz lf rt lo hg pl : Nat → Nat} {vv : Nat → Int32} {hp : Nat → Nat} {hv : Nat → Int32} {se : Nat → Nat} {x y : Nat} (h : gf_W S co ro bu cx cy dr sz lf rt lo hg pl) (hx : x < 32) (hy : y < 32) (hb0 : 0 < bu) (hse : ∀ b, b < bu → se b ≤ 1) (H : ∀ se', post (nI (32 * x + y)) (nI co, nI ro, nI bu, nI cn, nI hi, gf_I cx, gf_I cy, gf_I dr, gf_I sz, gf_I lf, gf_I rt, gf_I lo, gf_I hg, gf_I pl, vv, gf_I hp, hv, gf_I se')) :
    ∃ n, wX_nearest_55 post (nI x) (nI y) (nI co) (nI ro) (nI bu) (nI cn) (nI hi) n (nI (32 * x + y)) (nI 0) (nI 1) (gf_I cx) (gf_I cy) (gf_I dr) (gf_I sz) (gf_I lf) (gf_I rt) (gf_I lo) (gf_I hg) (gf_I pl) vv (gf_I hp) hv (gf_I se) := by
  have W0 := h
  obtain ⟨_, _, hbu, _, hP, _⟩ := h
  refine pk_loop (σ := Nat → Nat) (fun n i s => wX_nearest_55 post (nI x) (nI y) (nI co) (nI ro) (nI bu) (nI cn) (nI hi) n (nI (32 * x + y)) (nI 0) (nI i) (gf_I cx) (gf_I cy) (gf_I dr) (gf_I sz) (gf_I lf) (gf_I rt) (gf_I lo) (gf_I hg) (gf_I pl) vv (gf_I hp) hv (gf_I s)) (fun _ s => ∀ b, b < bu → s b ≤ 1) bu 1 se (by omega) hse (fun n s _ => pk_le bu bu (fun _ => H s) (fun z => absurd z (by omega))) (fun n i s hi1 hI hw => pk_le bu i (fun z => absurd z (by omega)) (fun _ => gf_next W0 hx hy hI (fun _ => br_t rfl (H s)) (fun b hb _ _ => ?_)))
  obtain ⟨c0, c1, c2, c3, c4, _⟩ := hP b hb
  have gb := gf_gap_le (rt := rt) (hg := hg) c1 c3 (show x ≤ 31 by omega) (show y ≤ 31 by omega)
  refine br_f (gf_nm1 (by omega)) (pk_lt (32 * x + y) 0 (fun z => absurd z (by omega)) (fun _ => gf_gap_w (by omega) c1 c2 c3 c4 hx hy (pk_le (gf_gap lf rt lo hg b x y) 0 (fun _ => ⟨pk_in b 64 (by omega), nm_r (gf_st rfl (by omega) (show (1 : Int32) = nI 1 from rfl)) (nm_r (gf_40 b) (gf_nr_keep (by omega) c0 (fun k hk => gf_W_pl W0 hb hk) hx hy (hw (gf_up s b 1) (fun a ha => ?_))))⟩) (fun _ => H s))))
  by_cases e : a = b
  · rw [e, gf_us]; exact Nat.le_refl _
  · rw [gf_un e]; exact hI a ha
theorem gf_nearest {post : Int32 → St1 → Prop} {S : Nat → Bool} {co ro bu cn hi : Nat} {cx cy dr sz lf rt lo hg pl : Nat → Nat} {vv : Nat → Int32} {hp : Nat → Nat} {hv : Nat → Int32} {se : Nat → Nat} {x y : Nat} (h : gf_W S co ro bu cx cy dr sz lf rt lo hg pl) (hx : x < 32) (hy : y < 32) (hS : S (32 * x + y) = true) (H : ∀ se', post (nI (32 * x + y)) (nI co, nI ro, nI bu, nI cn, nI hi, gf_I cx, gf_I cy, gf_I dr, gf_I sz, gf_I lf, gf_I rt, gf_I lo, gf_I hg, gf_I pl, vv, gf_I hp, hv, gf_I se')) : wpX_nearest post (nI co, nI ro, nI bu, nI cn, nI hi, gf_I cx, gf_I cy, gf_I dr, gf_I sz, gf_I lf, gf_I rt, gf_I lo, gf_I hg, gf_I pl, vv, gf_I hp, hv, gf_I se) (nI x) (nI y) := by
  have W0 := h
  obtain ⟨_, _, hbu, _, hP, hM⟩ := h
  obtain ⟨b0, k0, hb0, hk0, e0⟩ := (hM _).mp hS
  have R := gf_W_rc W0 hb0 hk0
  rw [e0, show (32 * x + y) / 32 = x by omega, show (32 * x + y) % 32 = y by omega] at R
  unfold wpX_nearest
  dsimp only
  refine gf_isPlace hx hy (br_f (by decide) ?_)
  refine pk_loop (σ := Nat → Nat) (fun n i s => wX_nearest_12 post (nI x) (nI y) (nI co) (nI ro) (nI bu) (nI cn) (nI hi) n (nI i) (gf_I cx) (gf_I cy) (gf_I dr) (gf_I sz) (gf_I lf) (gf_I rt) (gf_I lo) (gf_I hg) (gf_I pl) vv (gf_I hp) hv (gf_I s)) (fun i s => ∀ a, a < i → s a ≤ 1 ∧ (s a = 0 ↔ sz a ≠ 0)) bu 0 se (by omega) (fun a ha => absurd ha (by omega)) (fun n s hI => pk_le bu bu (fun _ => ?_) (fun z => absurd z (by omega))) (fun n i s hi1 hI hw => pk_le bu i (fun z => absurd z (by omega)) (fun _ => ?_))
  · obtain ⟨m, hm⟩ := gf_nr_55 (vv := vv) (hp := hp) (hv := hv) (se := gf_up s b0 1) (post := post) (cn := cn) (hi := hi) W0 hx hy (by omega) (fun a ha => by
      by_cases e : a = b0
      · rw [e, gf_us]; exact Nat.le_refl _
      · rw [gf_un e]; exact (hI a ha).1) H
    refine ⟨m + 1, pk_le bu 0 (fun z => absurd z (by omega)) (fun _ => gf_next W0 hx hy (fun a ha => (hI a ha).1) (fun all => absurd ((hI b0 hb0).2.mpr (by omega)) (all b0 hb0)) (fun b hb sb least => ?_))⟩
    have l0 := least b0 hb0 ((hI b0 hb0).2.mpr (by omega))
    rw [gf_gap_0.mpr R] at l0
    have eb : b = b0 := gf_W_one W0 hx hy hb hb0 (gf_gap_0.mp (Nat.le_zero.mp l0)) R
    subst eb
    refine br_f (gf_nm1 (by omega)) (br_t (by decide) ⟨pk_in b 64 (by omega), nm_r (gf_st rfl (by omega) (show (1 : Int32) = nI 1 from rfl)) (nm_r (gf_40 b) (gf_nr_first (k0 := k0) (t := 0) (by omega) (gf_W_sz W0 hb) (fun k hk => gf_W_pl W0 hb hk) hx hy hk0 e0 (fun k hk ne e => ne (gf_W_pt W0 hb hb hk hk0 (e.trans e0.symm)).2) hm))⟩)
  · have s4 := gf_W_sz W0 hi1
    have ii := pk_in (x := nI i) i 64 (by omega)
    refine ⟨ii, pk_eq (sz i) 0 (fun z => ⟨ii, nm_r (gf_st rfl (by omega) (show (1 : Int32) = nI 1 from rfl)) (nm_r (nI_1 i) (hw _ (fun a ha => ?_)))⟩) (fun z => ⟨ii, nm_r (gf_st rfl (by omega) (show (0 : Int32) = nI 0 from rfl)) (nm_r (nI_1 i) (hw _ (fun a ha => ?_)))⟩) (gf_at sz rfl (by omega)) rfl⟩
    · by_cases e : a = i
      · rw [e, gf_us]
        exact ⟨Nat.le_refl _, fun t => absurd t (by omega), fun t => absurd z t⟩
      · rw [gf_un e]; exact hI a (by omega)
    · by_cases e : a = i
      · rw [e, gf_us]
        exact ⟨by omega, fun _ => z, fun _ => rfl⟩
      · rw [gf_un e]; exact hI a (by omega)
end
section
/-- a whole state of the picture S -/
def gf_OK (S : Nat → Bool) (u : St1) : Prop := ∃ cn, gf_V S cn u ∧ cn = gf_cnt S 1024 ∧ cn ≤ 40
theorem gf_OKi {S : Nat → Bool} {co ro bu cn hi : Nat} {cx cy dr sz lf rt lo hg pl : Nat → Nat} {vv : Nat → Int32} {hp : Nat → Nat} {hv : Nat → Int32} {se : Nat → Nat} (h : gf_W S co ro bu cx cy dr sz lf rt lo hg pl) (hc : cn = gf_cnt S 1024) (h40 : cn ≤ 40) : gf_OK S (nI co, nI ro, nI bu, nI cn, nI hi, gf_I cx, gf_I cy, gf_I dr, gf_I sz, gf_I lf, gf_I rt, gf_I lo, gf_I hg, gf_I pl, vv, gf_I hp, hv, gf_I se) := ⟨cn, ⟨co, ro, bu, hi, cx, cy, dr, sz, lf, rt, lo, hg, pl, vv, hp, hv, se, rfl, h⟩, hc, h40⟩
theorem gf_OKe {S : Nat → Bool} {P : St1 → Prop} {u : St1} (h : gf_OK S u) (H : ∀ co ro bu cn hi cx cy dr sz lf rt lo hg pl vv hp hv se, gf_W S co ro bu cx cy dr sz lf rt lo hg pl → cn = gf_cnt S 1024 → cn ≤ 40 → P (nI co, nI ro, nI bu, nI cn, nI hi, gf_I cx, gf_I cy, gf_I dr, gf_I sz, gf_I lf, gf_I rt, gf_I lo, gf_I hg, gf_I pl, vv, gf_I hp, hv, gf_I se)) : P u := by
  obtain ⟨cn, ⟨co, ro, bu, hi, cx, cy, dr, sz, lf, rt, lo, hg, pl, vv, hp, hv, se, rfl, W⟩, hc, h40⟩ := h
  exact H _ _ _ _ _ _ _ _ _ _ _ _ _ _ _ _ _ _ W hc h40
theorem gf_isRect {post : Int32 → Prop} {low high : Nat} (hl : low < 1024) (hh : high < 1024) (H1 : low / 32 ≤ high / 32 ∧ low % 32 ≤ high % 32 → post 1) (H0 : ¬ (low / 32 ≤ high / 32 ∧ low % 32 ≤ high % 32) → post 0) : wpX_isRectangle post () (nI low) (nI high) :=
  pk_lt low 0 (fun z => absurd z (by omega)) (fun _ => pk_lt 1023 low (fun z => absurd z (by omega)) (fun _ => pk_lt high 0 (fun z => absurd z (by omega)) (fun _ => pk_lt 1023 high (fun z => absurd z (by omega)) (fun _ => br_f (by decide) (pk_lt (high / 32) (low / 32) (fun z => H0 (by omega)) (fun z1 => pk_lt (high % 32) (low % 32) (fun z => H0 (by omega)) (fun z2 => H1 ⟨z1, z2⟩) (gf_and31 (by omega)) (gf_and31 (by omega))) (gf_shr5 (by omega)) (gf_shr5 (by omega)))))))
theorem gf_ok_count {post : Int32 → St1 → Prop} {S : Nat → Bool} {u : St1} {low high : Nat} (h : gf_OK S u) (hl : low < 1024) (hh : high < 1024) (H1 : low / 32 ≤ high / 32 ∧ low % 32 ≤ high % 32 → ∀ u', gf_OK S u' → post (nI (gf_cnt (gf_T S low high) 1024)) u') (H0 : ¬ (low / 32 ≤ high / 32 ∧ low % 32 ≤ high % 32) → post (-1) u) : wpX_count post u (nI low) (nI high) := by
  obtain ⟨cn, ⟨co, ro, bu, hi, cx, cy, dr, sz, lf, rt, lo, hg, pl, vv, hp, hv, se, rfl, W⟩, hc, h40⟩ := h
  unfold wpX_count
  dsimp only
  refine gf_isRect hl hh (fun R => br_f (by decide) ?_) (fun R => br_t rfl (H0 R))
  refine gf_collect W hl hh R.1 R.2 (by omega) (fun g hp' hv' se' hE g40 => ?_)
  have t := H1 R _ (gf_OKi (hi := g) (vv := vv) (hp := hp') (hv := hv') (se := se') W hc h40)
  rw [gf_En_eq hE] at t
  exact t
theorem gf_ok_point {post : Int32 → St1 → Prop} {S : Nat → Bool} {u : St1} {low high i : Nat} (h : gf_OK S u) (hl : low < 1024) (hh : high < 1024) (hi1 : i < 2 ^ 31) (R : low / 32 ≤ high / 32 ∧ low % 32 ≤ high % 32) (H1 : i < gf_cnt (gf_T S low high) 1024 → ∀ u' p, gf_OK S u' → p < 1024 → gf_T S low high p = true → gf_cnt (gf_T S low high) p = i → post (nI p) u') (H0 : gf_cnt (gf_T S low high) 1024 ≤ i → ∀ u', gf_OK S u' → post (-2) u') : wpX_point post u (nI low) (nI high) (nI i) := by
  obtain ⟨cn, ⟨co, ro, bu, hi, cx, cy, dr, sz, lf, rt, lo, hg, pl, vv, hp, hv, se, rfl, W⟩, hc, h40⟩ := h
  unfold wpX_point
  dsimp only
  refine gf_isRect hl hh (fun R => br_f (by decide) ?_) (fun n => absurd R n)
  refine gf_collect W hl hh R.1 R.2 (by omega) (fun g hp1 hv1 se1 hE g40 => ?_)
  have eg := gf_En_eq hE
  refine gf_sortHits hE g40 (fun hp2 hv2 hE2 hs => ?_)
  dsimp only
  refine pk_lt i 0 (fun z => absurd z (by omega)) (fun _ => pk_le g i (fun z => H0 (by omega) _ (gf_OKi W hc h40)) (fun z => ⟨pk_in i 40 (by omega), ?_⟩))
  rw [gf_at hp2 rfl hi1]
  have m := hE2.1 i z
  exact H1 (by omega) _ (hp2 i) (gf_OKi W hc h40) m.1 m.2 (gf_rank hE2 hs z)
theorem gf_ok_has {post : Int32 → Prop} {S : Nat → Bool} {u : St1} {x y : Nat} (h : gf_OK S u) (hx : x < 32) (hy : y < 32) (H1 : S (32 * x + y) = true → post 1) (H0 : S (32 * x + y) = false → post 0) : wpX_has post u (nI x) (nI y) := by
  obtain ⟨cn, ⟨co, ro, bu, hi, cx, cy, dr, sz, lf, rt, lo, hg, pl, vv, hp, hv, se, rfl, W⟩, hc, h40⟩ := h
  unfold wpX_has
  dsimp only
  refine gf_isPlace hx hy (br_f (by decide) ?_)
  refine gf_find W hx hy (fun b k hb hk e => ?_) (fun e => br_t (by decide) (H0 e))
  have s4 := gf_W_sz W hb
  have b64 := W.2.2.1
  exact pk_lt (4 * b + k) 0 (fun z => absurd z (by omega)) (fun _ => H1 (by rw [← e]; exact gf_W_S W hb hk))
theorem gf_ok_nearest {post : Int32 → St1 → Prop} {S : Nat → Bool} {u : St1} {x y : Nat} (h : gf_OK S u) (hx : x < 32) (hy : y < 32) (hS : S (32 * x + y) = true) (H : ∀ u', gf_OK S u' → post (nI (32 * x + y)) u') : wpX_nearest post u (nI x) (nI y) := by
  obtain ⟨cn, ⟨co, ro, bu, hi, cx, cy, dr, sz, lf, rt, lo, hg, pl, vv, hp, hv, se, rfl, W⟩, hc, h40⟩ := h
  exact gf_nearest W hx hy hS (fun se' => H _ (gf_OKi W hc h40))
theorem gf_ok_within {post : Int32 → Prop} {S : Nat → Bool} {u : St1} {x y : Nat} (h : gf_OK S u) (hx : x < 32) (hy : y < 32) (H : post 0) : wpX_within post u (nI x) (nI y) (-1) := by
  obtain ⟨cn, ⟨co, ro, bu, hi, cx, cy, dr, sz, lf, rt, lo, hg, pl, vv, hp, hv, se, rfl, W⟩, hc, h40⟩ := h
  exact gf_within W hx hy H
theorem gf_ok_put {post : Int32 → St1 → Prop} {S : Nat → Bool} {u : St1} {x y : Nat} {v : Int32} (h : gf_OK S u) (hx : x < 32) (hy : y < 32) (H : ∀ r S' u', gf_OK S' u' → post r u') : wpX_put post u (nI x) (nI y) v := by
  obtain ⟨cn, ⟨co, ro, bu, hi, cx, cy, dr, sz, lf, rt, lo, hg, pl, vv, hp, hv, se, rfl, W⟩, hc, h40⟩ := h
  unfold wpX_put
  dsimp only
  refine gf_isPlace hx hy (br_f (by decide) ?_)
  have b64 := W.2.2.1
  refine gf_find W hx hy (fun b k hb hk e => ?_) (fun e => br_t (by decide) (pk_eq cn 40 (fun _ => H _ S _ (gf_OKi W hc h40)) (fun ne => ?_)))
  · have s4 := gf_W_sz W hb
    exact pk_lt (4 * b + k) 0 (fun z => absurd z (by omega)) (fun _ => ⟨pk_in (4 * b + k) 256 (by omega), nm_e (H _ S _ (gf_OKi W hc h40))⟩)
  · rw [gf_32]
    refine gf_insert W (by omega) (show 32 * x + y < 1024 by omega) e (fun u' hV => ?_)
    obtain ⟨co, ro, bu, hi, cx, cy, dr, sz, lf, rt, lo, hg, pl, vv, hp, hv, se, rfl, W'⟩ := hV
    have ci := gf_cnt_ins e 1024 (show 32 * x + y < 1024 by omega)
    exact nm_r (nI_1 cn) (H _ _ _ (gf_OKi W' (by omega) (by omega)))
theorem gf_W_cnt {S : Nat → Bool} {co ro bu : Nat} {cx cy dr sz lf rt lo hg pl : Nat → Nat} (h : gf_W S co ro bu cx cy dr sz lf rt lo hg pl) {b k : Nat} (hb : b < bu) (hk : k < sz b) : gf_cnt S 1024 = gf_cnt (gf_del S (pl (4 * b + k))) 1024 + 1 := gf_cnt_del (gf_W_pl h hb hk) (gf_W_S h hb hk)
theorem gf_ok_remove {post : Int32 → St1 → Prop} {S : Nat → Bool} {u : St1} {x y : Nat} (h : gf_OK S u) (hx : x < 32) (hy : y < 32) (H : ∀ r S' u', gf_OK S' u' → post r u') : wpX_remove post u (nI x) (nI y) := by
  obtain ⟨cn, ⟨co, ro, bu, hi, cx, cy, dr, sz, lf, rt, lo, hg, pl, vv, hp, hv, se, rfl, W⟩, hc, h40⟩ := h
  unfold wpX_remove
  dsimp only
  refine gf_isPlace hx hy (br_f (by decide) ?_)
  have b64 := W.2.2.1
  refine gf_find W hx hy (fun b k hb hk e => ?_) (fun e => br_f (by decide) (H _ S _ (gf_OKi W hc h40)))
  have s4 := gf_W_sz W hb
  have cd := gf_W_cnt W hb hk
  exact br_t (nI_pos' (by omega)) (gf_drop (by omega) hk s4 (by omega) (fun vv' => H _ _ _ (gf_OKi (gf_W_drop W hb hk) (by omega) (by omega))))
theorem gf_ok_clear {post : Int32 → St1 → Prop} {S : Nat → Bool} {u : St1} {low high : Nat} (h : gf_OK S u) (hl : low < 1024) (hh : high < 1024) (H : ∀ r S' u', gf_OK S' u' → post r u') : wpX_clear post u (nI low) (nI high) := by
  obtain ⟨cn, ⟨co, ro, bu, hi, cx, cy, dr, sz, lf, rt, lo, hg, pl, vv, hp, hv, se, rfl, W⟩, hc, h40⟩ := h
  unfold wpX_clear
  dsimp only
  refine gf_isRect hl hh (fun R => br_f (by decide) ?_) (fun _ => br_t rfl (H _ S _ (gf_OKi W hc h40)))
  refine gf_collect W hl hh R.1 R.2 (by omega) (fun g hp1 hv1 se1 hE g40 => ?_)
  have b64 := W.2.2.1
  refine pk_loop (σ := St1) (fun n i s => wX_clear_18 post n (nI i) s.1 s.2.1 s.2.2.1 s.2.2.2.1 s.2.2.2.2.1 s.2.2.2.2.2.1 s.2.2.2.2.2.2.1 s.2.2.2.2.2.2.2.1 s.2.2.2.2.2.2.2.2.1 s.2.2.2.2.2.2.2.2.2.1 s.2.2.2.2.2.2.2.2.2.2.1 s.2.2.2.2.2.2.2.2.2.2.2.1 s.2.2.2.2.2.2.2.2.2.2.2.2.1 s.2.2.2.2.2.2.2.2.2.2.2.2.2.1 s.2.2.2.2.2.2.2.2.2.2.2.2.2.2.1 s.2.2.2.2.2.2.2.2.2.2.2.2.2.2.2.1 s.2.2.2.2.2.2.2.2.2.2.2.2.2.2.2.2.1 s.2.2.2.2.2.2.2.2.2.2.2.2.2.2.2.2.2) (fun i s => ∃ (S : Nat → Bool) (cn : Nat) (sz pl : Nat → Nat) (vv : Nat → Int32), s = (nI co, nI ro, nI bu, nI cn, nI g, gf_I cx, gf_I cy, gf_I dr, gf_I sz, gf_I lf, gf_I rt, gf_I lo, gf_I hg, gf_I pl, vv, gf_I hp1, hv1, gf_I se1) ∧ gf_W S co ro bu cx cy dr sz lf rt lo hg pl ∧ cn = gf_cnt S 1024 ∧ cn ≤ 40) g 0 (nI co, nI ro, nI bu, nI cn, nI g, gf_I cx, gf_I cy, gf_I dr, gf_I sz, gf_I lf, gf_I rt, gf_I lo, gf_I hg, gf_I pl, vv, gf_I hp1, hv1, gf_I se1) (by omega) ⟨S, cn, sz, pl, vv, rfl, W, hc, h40⟩ (fun n s hI => ?_) (fun n i s hi1 hI hw => ?_)
  · obtain ⟨S, cn, sz, pl, vv, rfl, W, hc, h40⟩ := hI
    exact pk_le g g (fun _ => H _ S _ (gf_OKi W hc h40)) (fun z => absurd z (by omega))
  · obtain ⟨S, cn, sz, pl, vv, rfl, W, hc, h40⟩ := hI
    have p1 := (hE.1 i hi1).1
    refine pk_le g i (fun z => absurd z (by omega)) (fun _ => ⟨pk_in i 40 (by omega), pk_in i 40 (by omega), ?_⟩)
    dsimp only
    rw [gf_at hp1 rfl (by omega), gf_shr5 (by omega), gf_and31 (by omega)]
    refine gf_find W (by omega) (by omega) (fun b k hb hk e => ?_) (fun e => gf_drop0 (nm_r (nI_1 i) (hw _ ⟨S, cn, sz, pl, vv, rfl, W, hc, h40⟩)))
    have s4 := gf_W_sz W hb
    have cd := gf_W_cnt W hb hk
    exact gf_drop (by omega) hk s4 (by omega) (fun vv' => nm_r (nI_1 i) (hw (nI co, nI ro, nI bu, nI (cn - 1), nI g, gf_I cx, gf_I cy, gf_I dr, gf_I (gf_up sz b (sz b - 1)), gf_I lf, gf_I rt, gf_I lo, gf_I hg, gf_I (gf_up pl (4 * b + k) (pl (4 * b + (sz b - 1)))), vv', gf_I hp1, hv1, gf_I se1) ⟨_, _, _, _, _, rfl, gf_W_drop W hb hk, by omega, by omega⟩))
theorem gf_ok_move {post : Int32 → St1 → Prop} {S : Nat → Bool} {u : St1} {p q : Nat} (h : gf_OK S u) (hp1 : p < 1024) (hq : q < 1024) (H : ∀ r S' u', gf_OK S' u' → post r u') : wpX_move post u (nI p) (nI q) := by
  obtain ⟨cn, ⟨co, ro, bu, hi, cx, cy, dr, sz, lf, rt, lo, hg, pl, vv, hp, hv, se, rfl, W⟩, hc, h40⟩ := h
  have b64 := W.2.2.1
  refine pk_lt p 0 (fun z => absurd z (by omega)) (fun _ => pk_lt 1023 p (fun z => absurd z (by omega)) (fun _ => pk_lt q 0 (fun z => absurd z (by omega)) (fun _ => pk_le q 1023 (fun _ => ?_) (fun z => absurd z (by omega)))))
  rw [gf_shr5 (show p < 2 ^ 31 by omega), gf_and31 (show p < 2 ^ 31 by omega), gf_shr5 (show q < 2 ^ 31 by omega), gf_and31 (show q < 2 ^ 31 by omega)]
  refine gf_find W (by omega) (by omega) (fun b k hb hk e => br_t (nI_pos' ?_) (gf_find W (by omega) (by omega) (fun b' k' hb' hk' e' => ?_) (fun e' => br_t (by decide) ?_))) (fun _ => br_f (by decide) (H _ S _ (gf_OKi W hc h40)))
  · have s4 := gf_W_sz W hb
    omega
  · have s4 := gf_W_sz W hb'
    exact pk_lt (4 * b' + k') 0 (fun z => absurd z (by omega)) (fun _ => H _ S _ (gf_OKi W hc h40))
  · have s4 := gf_W_sz W hb
    have cd := gf_W_cnt W hb hk
    rw [show 32 * (q / 32) + q % 32 = q by omega] at e'
    have nS : gf_del S (pl (4 * b + k)) q = false := by
      cases t : gf_del S (pl (4 * b + k)) q with
      | false => rfl
      | true =>
        have := (gf_del_iff.mp t).2
        rw [e'] at this
        exact Bool.noConfusion this
    refine ⟨pk_in (4 * b + k) 256 (by omega), nm_e (gf_drop (by omega) hk s4 (by omega) (fun vv' => ?_))⟩
    refine gf_insert (gf_W_drop W hb hk) (by omega) hq nS (fun u' hV => ?_)
    obtain ⟨co, ro, bu, hi, cx, cy, dr, sz, lf, rt, lo, hg, pl, vv, hp, hv, se, rfl, W'⟩ := hV
    have ci := gf_cnt_ins nS 1024 hq
    exact nm_r (nI_1 _) (H _ _ _ (gf_OKi W' (by omega) (by omega)))
theorem gf_ok_scatter {post : Int32 → St1 → Prop} {S : Nat → Bool} {u : St1} {p : Nat} {w v : Int32} (h : gf_OK S u) (hp1 : p < 1024) (H : ∀ r S' u', gf_OK S' u' → post r u') : wpX_scatter post u (nI p) w v := by
  have h0 := h
  obtain ⟨cn, ⟨co, ro, bu, hi, cx, cy, dr, sz, lf, rt, lo, hg, pl, vv, hp, hv, se, rfl, W⟩, hc, h40⟩ := h
  obtain ⟨j, hj, ej⟩ := pk_andE w (m := 63) 6 (by decide)
  have D := fun r => H r S _ h0
  refine pk_lt p 0 (fun z => absurd z (by omega)) (fun _ => pk_le p 1023 (fun _ => nm_r ej (nm_e (nm_e (br_c (fun _ => D _) (fun _ => br_c (fun _ => D _) (fun _ => br_c (fun _ => D _) (fun _ => br_c (fun _ => D _) (fun _ => br_c (fun _ => nm_r (gf_shr5 (by omega)) (nm_r (gf_and31 (by omega)) ?_)) (fun _ => D _))))))))) (fun z => absurd z (by omega)))
  refine pk_loop (σ := Int32 × Int32 × St1) (fun n i s => wX_scatter_88 post v (nI j) _ _ n s.1 s.2.1 (nI i) s.2.2.1 s.2.2.2.1 s.2.2.2.2.1 s.2.2.2.2.2.1 s.2.2.2.2.2.2.1 s.2.2.2.2.2.2.2.1 s.2.2.2.2.2.2.2.2.1 s.2.2.2.2.2.2.2.2.2.1 s.2.2.2.2.2.2.2.2.2.2.1 s.2.2.2.2.2.2.2.2.2.2.2.1 s.2.2.2.2.2.2.2.2.2.2.2.2.1 s.2.2.2.2.2.2.2.2.2.2.2.2.2.1 s.2.2.2.2.2.2.2.2.2.2.2.2.2.2.1 s.2.2.2.2.2.2.2.2.2.2.2.2.2.2.2.1 s.2.2.2.2.2.2.2.2.2.2.2.2.2.2.2.2.1 s.2.2.2.2.2.2.2.2.2.2.2.2.2.2.2.2.2.1 s.2.2.2.2.2.2.2.2.2.2.2.2.2.2.2.2.2.2.1 s.2.2.2.2.2.2.2.2.2.2.2.2.2.2.2.2.2.2.2) (fun i s => (∃ x, x < 32 ∧ s.1 = nI x) ∧ (∃ y, y < 32 ∧ s.2.1 = nI y) ∧ ∃ S, gf_OK S s.2.2) j 0 (nI (p / 32), nI (p % 32), (nI co, nI ro, nI bu, nI cn, nI hi, gf_I cx, gf_I cy, gf_I dr, gf_I sz, gf_I lf, gf_I rt, gf_I lo, gf_I hg, gf_I pl, vv, gf_I hp, hv, gf_I se)) (by omega) ⟨⟨p / 32, by omega, rfl⟩, ⟨p % 32, by omega, rfl⟩, S, h0⟩ (fun n s hI => ?_) (fun n i s hi1 hI hw => ?_)
  · obtain ⟨x, y, u⟩ := s
    obtain ⟨_, _, S, hu⟩ := hI
    exact pk_le j j (fun _ => H _ S u hu) (fun z => absurd z (by omega))
  · obtain ⟨x, y, u⟩ := s
    obtain ⟨⟨x', hx, ex⟩, ⟨y', hy, ey⟩, S, hu⟩ := hI
    dsimp only at ex ey hu
    subst ex
    subst ey
    refine pk_le j i (fun z => absurd z (by omega)) (fun _ => gf_ok_put hu hx hy (fun r S' u' hu' => ?_))
    obtain ⟨x2, hx2, ex2⟩ := pk_andE (nI x' + (w >>> ((12 : Int32) &&& 31) - 31)) (m := 31) 5 (by decide)
    obtain ⟨y2, hy2, ey2⟩ := pk_andE (nI y' + (((w >>> ((6 : Int32) &&& 31)) &&& 63) - 31)) (m := 31) 5 (by decide)
    exact nm_e (nm_e (nm_r (nI_1 i) (hw (_, _, u') ⟨⟨x2, hx2, ex2⟩, ⟨y2, hy2, ey2⟩, S', hu'⟩)))
end
section
theorem gf_turn {post : St1 → Prop} {S : Nat → Bool} {u : St1} {o d : Int32} {x y : Nat} (h : gf_OK S u) (hx : x < 32) (hy : y < 32) (H : ∀ S' u', gf_OK S' u' → post u') : wpL_turn post u o (nI x) (nI y) d := by
  obtain ⟨cn, ⟨co, ro, bu, hi, cx, cy, dr, sz, lf, rt, lo, hg, pl, vv, hp, hv, se, rfl, W⟩, hc, h40⟩ := h
  have h := gf_OKi (vv := vv) (hi := hi) (hp := hp) (hv := hv) (se := se) W hc h40
  obtain ⟨q, hq, eq⟩ := pk_andE d (m := 1023) 10 (by decide)
  obtain ⟨x7, hx7, ex7⟩ := pk_andE (nI x) (m := 7) 3 (by decide)
  obtain ⟨y7, hy7, ey7⟩ := pk_andE (nI y) (m := 7) 3 (by decide)
  have p1 : 32 * x + y < 1024 := by omega
  refine nm_r (gf_32 x y) ?_
  rw [eq, ex7, ey7]
  refine br_c (fun _ => br_c (fun _ => gf_ok_remove h hx hy (fun r S' u' h' => H S' u' h')) (fun _ => br_c (fun _ => gf_ok_scatter h p1 (fun r S' u' h' => H S' u' h')) (fun _ => br_c (fun _ => br_c (fun _ => br_c (fun _ => gf_ok_clear h p1 (by omega) (fun r S' u' h' => H S' u' h')) (fun _ => gf_ok_remove h (by omega) (by omega) (fun r S' u' h' => H S' u' h'))) (fun _ => gf_ok_move h p1 (by omega) (fun r S' u' h' => H S' u' h'))) (fun _ => gf_ok_scatter h p1 (fun r S' u' h' => H S' u' h'))))) (fun _ => gf_ok_put h hx hy (fun r S' u' h' => H S' u' h'))
theorem gf_full (S : Nat → Bool) : gf_cnt (gf_T S 0 1023) 1024 = gf_cnt S 1024 := by
  refine gf_cnt_ext (fun p hp => ?_)
  rw [gf_T_iff]
  exact ⟨fun t => t.1, fun t => ⟨t, by unfold gf_bx; omega⟩⟩
theorem gf_holds_142 {post : Int32 → St1 → Prop} {S : Nat → Bool} {u : St1} {x y : Nat} (h : gf_OK S u) (hx : x < 32) (hy : y < 32) (h40 : gf_cnt S 1024 ≤ 40) (H : ∀ u', gf_OK S u' → post 1 u') : ∃ n, wL_holds_142 post (nI x) (nI y) (nI (gf_cnt S 1024)) n 0 u.1 u.2.1 u.2.2.1 u.2.2.2.1 u.2.2.2.2.1 u.2.2.2.2.2.1 u.2.2.2.2.2.2.1 u.2.2.2.2.2.2.2.1 u.2.2.2.2.2.2.2.2.1 u.2.2.2.2.2.2.2.2.2.1 u.2.2.2.2.2.2.2.2.2.2.1 u.2.2.2.2.2.2.2.2.2.2.2.1 u.2.2.2.2.2.2.2.2.2.2.2.2.1 u.2.2.2.2.2.2.2.2.2.2.2.2.2.1 u.2.2.2.2.2.2.2.2.2.2.2.2.2.2.1 u.2.2.2.2.2.2.2.2.2.2.2.2.2.2.2.1 u.2.2.2.2.2.2.2.2.2.2.2.2.2.2.2.2.1 u.2.2.2.2.2.2.2.2.2.2.2.2.2.2.2.2.2 := by
  refine pk_loop (σ := St1) (fun n i s => wL_holds_142 post (nI x) (nI y) (nI (gf_cnt S 1024)) n (nI i) s.1 s.2.1 s.2.2.1 s.2.2.2.1 s.2.2.2.2.1 s.2.2.2.2.2.1 s.2.2.2.2.2.2.1 s.2.2.2.2.2.2.2.1 s.2.2.2.2.2.2.2.2.1 s.2.2.2.2.2.2.2.2.2.1 s.2.2.2.2.2.2.2.2.2.2.1 s.2.2.2.2.2.2.2.2.2.2.2.1 s.2.2.2.2.2.2.2.2.2.2.2.2.1 s.2.2.2.2.2.2.2.2.2.2.2.2.2.1 s.2.2.2.2.2.2.2.2.2.2.2.2.2.2.1 s.2.2.2.2.2.2.2.2.2.2.2.2.2.2.2.1 s.2.2.2.2.2.2.2.2.2.2.2.2.2.2.2.2.1 s.2.2.2.2.2.2.2.2.2.2.2.2.2.2.2.2.2) (fun _ s => gf_OK S s) (gf_cnt S 1024) 0 u (by omega) h (fun n s hI => ?_) (fun n i s hi1 hI hw => ?_)
  · refine pk_le (gf_cnt S 1024) (gf_cnt S 1024) (fun _ => gf_ok_has hI hx hy (fun e => br_t rfl (gf_ok_nearest hI hx hy e (fun u' h' => br_t (gf_32 x y).symm (H u' h')))) (fun e => br_f (by decide) (H s hI))) (fun z => absurd z (by omega))
  · refine pk_le (gf_cnt S 1024) i (fun z => absurd z (by omega)) (fun _ => gf_ok_point (low := 0) (high := 1023) hI (by omega) (by omega) (by omega) (by omega) (fun _ u1 p h1 hp hT _ => ?_) (fun z => absurd z (by rw [gf_full]; omega)))
    refine pk_lt p 0 (fun z => absurd z (by omega)) (fun _ => ?_)
    rw [gf_shr5 (by omega), gf_and31 (by omega)]
    refine gf_ok_nearest h1 (by omega) (by omega) (by rw [show 32 * (p / 32) + p % 32 = p by omega]; exact (gf_T_iff.mp hT).1) (fun u2 h2 => br_t (by rw [show 32 * (p / 32) + p % 32 = p by omega]) (nm_r (nI_1 i) (hw u2 h2)))
theorem gf_holds {post : Int32 → St1 → Prop} {S : Nat → Bool} {u : St1} {low high x y : Nat} (h : gf_OK S u) (hl : low < 1024) (hh : high < 1024) (hx : x < 32) (hy : y < 32) (H : ∀ u', gf_OK S u' → post 1 u') : wpL_holds post u (nI low) (nI high) (nI x) (nI y) := by
  have h0 := h
  obtain ⟨cn, ⟨co, ro, bu, hi, cx, cy, dr, sz, lf, rt, lo, hg, pl, vv, hp, hv, se, rfl, W⟩, hc, h40⟩ := h
  subst hc
  refine pk_lt (gf_cnt S 1024) 0 (fun z => absurd z (by omega)) (fun _ => pk_lt 40 (gf_cnt S 1024) (fun z => absurd z (by omega)) (fun _ => gf_ok_count (low := 0) (high := 1023) h0 (by omega) (by omega) (fun _ u1 h1 => br_t (by rw [gf_full]) (gf_ok_within h1 hx hy (br_t rfl (gf_ok_count h1 hl hh (fun R u2 h2 => ?_) (fun _ => ?_))))) (fun n => absurd ⟨by omega, by omega⟩ n)))
  · have m40 : gf_cnt (gf_T S low high) 1024 ≤ 1024 * 1 := by
      have A : ∀ (T : Nat → Bool) n, gf_cnt T n ≤ n := by
        intro T n
        induction n with
        | zero => exact Nat.le_refl _
        | succ n ih =>
          rw [gf_cnt_s]
          split <;> omega
      have := A (gf_T S low high) 1024
      omega
    refine pk_loop (σ := Int32 × St1) (fun n i s => wL_holds_58 post (nI low) (nI high) (nI x) (nI y) (nI (gf_cnt S 1024)) (nI (gf_cnt (gf_T S low high) 1024)) n s.1 (nI i) s.2.1 s.2.2.1 s.2.2.2.1 s.2.2.2.2.1 s.2.2.2.2.2.1 s.2.2.2.2.2.2.1 s.2.2.2.2.2.2.2.1 s.2.2.2.2.2.2.2.2.1 s.2.2.2.2.2.2.2.2.2.1 s.2.2.2.2.2.2.2.2.2.2.1 s.2.2.2.2.2.2.2.2.2.2.2.1 s.2.2.2.2.2.2.2.2.2.2.2.2.1 s.2.2.2.2.2.2.2.2.2.2.2.2.2.1 s.2.2.2.2.2.2.2.2.2.2.2.2.2.2.1 s.2.2.2.2.2.2.2.2.2.2.2.2.2.2.2.1 s.2.2.2.2.2.2.2.2.2.2.2.2.2.2.2.2.1 s.2.2.2.2.2.2.2.2.2.2.2.2.2.2.2.2.2.1 s.2.2.2.2.2.2.2.2.2.2.2.2.2.2.2.2.2.2) (fun i s => gf_OK S s.2 ∧ ((i = 0 ∧ s.1 = -1) ∨ ∃ p, s.1 = nI p ∧ p < 1024 ∧ gf_cnt (gf_T S low high) p + 1 = i)) (gf_cnt (gf_T S low high) 1024) 0 (-1, u2) (by omega) ⟨h2, Or.inl ⟨rfl, rfl⟩⟩ (fun n s hI => ?_) (fun n i s hi1 hI hw => ?_)
    · refine pk_le (gf_cnt (gf_T S low high) 1024) (gf_cnt (gf_T S low high) 1024) (fun _ => pk_lt (gf_cnt (gf_T S low high) 1024) 0 (fun z => absurd z (by omega)) (fun _ => gf_ok_point hI.1 hl hh (by omega) R (fun z => absurd z (by omega)) (fun _ u3 h3 => br_t rfl (gf_holds_142 h3 hx hy h40 H)))) (fun z => absurd z (by omega))
    · obtain ⟨last, u3⟩ := s
      obtain ⟨h3, hl3⟩ := hI
      dsimp only at h3 hl3
      refine pk_le (gf_cnt (gf_T S low high) 1024) i (fun z => absurd z (by omega)) (fun _ => gf_ok_point h3 hl hh (by omega) R (fun _ u4 p h4 hp hT hr => ?_) (fun z => absurd z (by omega)))
      have up : ¬ nI p ≤ last := by
        rcases hl3 with ⟨_, e⟩ | ⟨p', e, hp', hr'⟩
        · rw [e]; exact gf_nneg (by omega)
        · rw [e, nI_leI (by omega) (by omega)]
          intro z
          have := gf_cnt_mono (gf_T S low high) z
          omega
      refine br_f up (pk_lt 1023 p (fun z => absurd z (by omega)) (fun _ => ?_))
      rw [gf_shr5 (by omega), gf_and31 (by omega)]
      have eS : S (32 * (p / 32) + p % 32) = true := by rw [show 32 * (p / 32) + p % 32 = p by omega]; exact (gf_T_iff.mp hT).1
      refine gf_ok_has h4 (by omega) (by omega) (fun _ => br_t rfl (nm_r (nI_1 i) (hw (nI p, u4) ⟨h4, Or.inr ⟨p, rfl, hp, by omega⟩⟩))) (fun e => ?_)
      rw [eS] at e
      exact Bool.noConfusion e
  · exact ⟨1, br_t (by decide) (br_t (by decide) (gf_holds_142 h1 hx hy h40 H))⟩
theorem gf_cell {post : Int32 → Prop} {L i : Nat} {xs : Nat → Int32} (hL : L ≤ 260) (hi : i ≤ 261) (H : ∀ v, post v) : wpL_cell post L xs () (nI i) :=
  pk_le L i (fun _ => H _) (fun z => ⟨pk_in i L z, H _⟩)
theorem i_vc (xs : Nat → Int32) (L : Nat) (hL : L ≤ 260) : wpL_law (fun r => r = 1) L xs := by
  refine ⟨13, 2066, by omega, by omega, ?_⟩
  refine ⟨by omega, by omega, by omega, by omega, by omega, by omega, by omega, by omega, by omega, by omega, by omega, by omega, by omega, by omega, by omega, by omega, by omega, by omega, by omega, by omega, by omega, by omega, by omega, by omega, by omega, by omega, ?_⟩
  refine gf_reset (co := 0) (ro := 0) (bu := 0) (cn := 0) (hi := 0) (cx := fun _ => 0) (cy := fun _ => 0) (dr := fun _ => 0) (sz := fun _ => 0) (lf := fun _ => 0) (rt := fun _ => 0) (lo := fun _ => 0) (hg := fun _ => 0) (pl := fun _ => 0) (vv := fun _ => 0) (hp := fun _ => 0) (hv := fun _ => 0) (se := fun _ => 0) (fun cx cy dr sz lf rt lo hg W => ?_)
  have c0 : gf_cnt (fun _ => false) 1024 = 0 := gf_cnt_0 (fun q _ t => Bool.noConfusion t)
  have h := gf_OKi (cn := 0) (hi := 0) (vv := fun _ => 0) (hp := fun _ => 0) (hv := fun _ => 0) (se := fun _ => 0) W c0.symm (by omega)
  refine pk_loop (σ := St1) (fun n i s => wL_law_10 (fun r => r = 1) L xs (1 + 13) (18 + 2066) n (nI (2 * i)) s.1 s.2.1 s.2.2.1 s.2.2.2.1 s.2.2.2.2.1 s.2.2.2.2.2.1 s.2.2.2.2.2.2.1 s.2.2.2.2.2.2.2.1 s.2.2.2.2.2.2.2.2.1 s.2.2.2.2.2.2.2.2.2.1 s.2.2.2.2.2.2.2.2.2.2.1 s.2.2.2.2.2.2.2.2.2.2.2.1 s.2.2.2.2.2.2.2.2.2.2.2.2.1 s.2.2.2.2.2.2.2.2.2.2.2.2.2.1 s.2.2.2.2.2.2.2.2.2.2.2.2.2.2.1 s.2.2.2.2.2.2.2.2.2.2.2.2.2.2.2.1 s.2.2.2.2.2.2.2.2.2.2.2.2.2.2.2.2.1 s.2.2.2.2.2.2.2.2.2.2.2.2.2.2.2.2.2) (fun _ s => ∃ S, gf_OK S s) ((L + 1) / 2) 0 _ (by omega) ⟨_, h⟩ (fun n s hI => ?_) (fun n i s hi1 hI hw => ?_)
  · exact pk_le L (2 * ((L + 1) / 2)) (fun _ => rfl) (fun z => absurd z (by omega))
  · obtain ⟨S, hs⟩ := hI
    refine pk_le L (2 * i) (fun z => absurd z (by omega)) (fun _ => gf_cell hL (by omega) (fun c => ?_))
    rw [nI_1]
    refine gf_cell hL (by omega) (fun d => ?_)
    obtain ⟨x, hx, ex⟩ := pk_andE (c >>> ((4 : Int32) &&& 31)) (m := 31) 5 (by decide)
    obtain ⟨y, hy, ey⟩ := pk_andE (c >>> ((9 : Int32) &&& 31)) (m := 31) 5 (by decide)
    obtain ⟨p, hp, ep⟩ := pk_andE (c >>> ((14 : Int32) &&& 31)) (m := 1023) 10 (by decide)
    obtain ⟨q, hq, eq⟩ := pk_andE d (m := 1023) 10 (by decide)
    refine nm_r ex (nm_r ey (gf_turn hs hx hy (fun S' u' h' => nm_r ep ?_)))
    rw [eq]
    exact gf_holds h' hp hq hx hy (fun u2 h2 => br_f (by decide) (nm_r (show nI (2 * i) + 2 = nI (2 * (i + 1)) from nI_add (2 * i) 2) (hw u2 ⟨S', h2⟩)))
end
