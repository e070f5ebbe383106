section
/-! rows taken from kit/rows (starting texts) -/
theorem pk_us {f : Nat → Int32} {k : Nat} {x : Int32} : upd f k x k = x := if_pos rfl
theorem pk_un {f : Nat → Int32} {k j : Nat} {x : Int32} (h : j ≠ k) : upd f k x j = f j := if_neg h
theorem pk_sub {a b : Nat} (h : b ≤ a) : nI a - nI b = nI (a - b) := by
  obtain ⟨c, rfl⟩ : ∃ c, a = c + b := ⟨a - b, by omega⟩
  rw [← nI_add, Int32.add_sub_cancel, Nat.add_sub_cancel]
theorem pk_m1 (n : Nat) : nI (n + 1) + (-1) = nI n := by
  rw [← nI_1, Int32.add_assoc, show (1 : Int32) + (-1) = 0 from rfl, Int32.add_zero]
theorem pk_mul (a b : Nat) : nI a * nI b = nI (a * b) := (Int32.ofNat_mul a b).symm
theorem pk_div {a d : Nat} (ha : a < 2 ^ 31) (h0 : 0 < d) (hd : d < 2 ^ 31) : nI a / nI d = nI (a / d) := by
  apply Int32.toInt_inj.mp
  rw [lg_idiv_nonneg (by rw [nI_toInt ha]; omega) (by rw [nI_toInt hd]; omega), nI_toInt ha, nI_toInt hd, nI_toInt (Nat.lt_of_le_of_lt (Nat.div_le_self a d) ha)]
  first | rfl | exact (Int.natCast_ediv _ _).symm
theorem pk_rem {a d : Nat} (ha : a < 2 ^ 31) (h0 : 0 < d) (hd : d < 2 ^ 31) : nI a - nI a / nI d * nI d = nI (a % d) := by
  rw [pk_div ha h0 hd, pk_mul, pk_sub (Nat.div_mul_le_self a d)]
  exact congrArg nI (by have := Nat.div_add_mod' a d; omega)
theorem pk_le {x y : Int32} {A B : Prop} (a b : Nat) (f : a ≤ b → A) (g : b < a → B) (hx : x = nI a := by rfl) (hy : y = nI b := by rfl) (ha : a < 2 ^ 31 := by omega) (hb : b < 2 ^ 31 := by omega) : (x ≤ y → A) ∧ (¬ x ≤ y → B) := by
  subst hx hy
  rw [nI_leI ha hb]
  exact ⟨f, fun z => g (by omega)⟩
theorem pk_lt {x y : Int32} {A B : Prop} (a b : Nat) (f : a < b → A) (g : b ≤ a → B) (hx : x = nI a := by rfl) (hy : y = nI b := by rfl) (ha : a < 2 ^ 31 := by omega) (hb : b < 2 ^ 31 := by omega) : (x < y → A) ∧ (¬ x < y → B) := by
  subst hx hy
  rw [nI_ltI ha hb]
  exact ⟨f, fun z => g (by omega)⟩
theorem pk_eq {x y : Int32} {A B : Prop} (a b : Nat) (f : a = b → A) (g : a ≠ b → B) (hx : x = nI a := by rfl) (hy : y = nI b := by rfl) (ha : a < 2 ^ 31 := by omega) (hb : b < 2 ^ 31 := by omega) : (x = y → A) ∧ (¬ x = y → B) := by
  subst hx hy
  rw [nI_eq ha hb]
  exact ⟨f, g⟩
theorem pk_in {x : Int32} (n N : Nat) (h : n < N) (hx : x = nI n := by rfl) (hN : N < 2 ^ 31 := by omega) : vp_in x N := by
  subst hx
  exact vp_in_nI h hN
theorem pk_cl {x : Int32} (n : Nat) (hx : x = nI n := by rfl) (h : n < 2 ^ 31 := by omega) : x.toNatClampNeg = n := by
  subst hx
  exact nI_clamp h
def bt (x : Int32) (i : Nat) : Bool := x.toBitVec.getLsbD i
theorem b_ext {x y : Int32} (h : ∀ i, i < 32 → bt x i = bt y i) : x = y := Int32.toBitVec_inj.mp (BitVec.eq_of_getLsbD_eq (fun i hi => h i hi))
theorem b_or (x y : Int32) (i : Nat) : bt (x ||| y) i = (bt x i || bt y i) := by unfold bt; rw [Int32.toBitVec_or, BitVec.getLsbD_or]
theorem b_0 (i : Nat) : bt 0 i = false := BitVec.getLsbD_zero
theorem s_l : ∀ n, n < 32 → ((nI n &&& 31).toBitVec.smod 32).toNat = n := by decide +kernel
theorem b_shl (n : Nat) (hn : n < 32) (x : Int32) {i : Nat} (hi : i < 32) : bt (x <<< (nI n &&& 31)) i = (decide (n ≤ i) && bt x (i - n)) := by
  unfold bt
  rw [Int32.toBitVec_shiftLeft]
  show (x.toBitVec <<< ((nI n &&& 31).toBitVec.smod 32).toNat).getLsbD i = _
  rw [s_l n hn, BitVec.getLsbD_shiftLeft]
  rcases Nat.lt_or_ge i n with h | h
  · simp [h, Nat.not_le.mpr h]
  · simp [hi, h, Nat.not_lt.mpr h]
end
section
/-! numbers, stores -/
theorem il_neg4 : (-4 : Int32) < 0 := by decide
theorem il_n4le : ¬ (0 : Int32) ≤ -4 := by decide
theorem il_ne4 {a : Nat} (h : a < 2 ^ 31) : ¬ nI a = -4 := fun e => nI_pos h (by rw [e]; exact il_neg4)
theorem il_ne4' {a : Nat} (h : a < 2 ^ 31) : ¬ (-4 : Int32) = nI a := fun e => il_ne4 h e.symm
theorem il_inj {a b : Nat} (h : nI a = nI b) (ha : a < 2 ^ 31) (hb : b < 2 ^ 31) : a = b := (nI_eq ha hb).mp h
theorem il_ix (m s : Nat) : nI m * 10 + nI s = nI (10 * m + s) := by
  rw [show (10 : Int32) = nI 10 from rfl, pk_mul, nI_add, Nat.mul_comm]
theorem il_ix' (m s : Nat) : 10 * nI m + nI s = nI (10 * m + s) := by
  rw [show (10 : Int32) = nI 10 from rfl, pk_mul, nI_add]
theorem il_ix8 (m s : Nat) : 8 * nI m + nI s = nI (8 * m + s) := by
  rw [show (8 : Int32) = nI 8 from rfl, pk_mul, nI_add]
theorem il_lt1 {p : Nat} (h : p < 2 ^ 31) : nI p + (-1) < nI p := by
  cases p with
  | zero => decide
  | succ q => rw [pk_m1]; exact nI_lt (by omega) h
theorem il_s1 (x : Int32) : x - 1 = x + (-1) := Int32.sub_eq_add_neg x 1
theorem il_up1 {f : Nat → Int32} {k : Nat} {x : Int32} (h : f k = x) : upd f k x = f := by
  funext j
  unfold upd
  split
  · next e => rw [e, h]
  · rfl
theorem il_up2 {f : Nat → Int32} {k : Nat} {x y : Int32} : upd (upd f k x) k y = upd f k y := by
  funext j
  unfold upd
  split <;> rfl
theorem il_upc {f : Nat → Int32} {k l : Nat} {x y : Int32} (h : k ≠ l) : upd (upd f k x) l y = upd (upd f l y) k x := by
  funext j
  unfold upd
  by_cases e : j = k
  · rw [if_pos e, if_pos e, if_neg (by omega)]
  · rw [if_neg e, if_neg e]

/-! sums -/
def il_sm (f : Nat → Nat) : Nat → Nat
  | 0 => 0
  | n + 1 => il_sm f n + f n
theorem il_sm_s (f : Nat → Nat) (n : Nat) : il_sm f (n + 1) = il_sm f n + f n := rfl
theorem il_sm_c {f g : Nat → Nat} : ∀ {n : Nat}, (∀ i, i < n → f i = g i) → il_sm f n = il_sm g n := by
  intro n
  induction n with
  | zero => intro _; rfl
  | succ n ih => intro h; rw [il_sm_s, il_sm_s, ih (fun i hi => h i (by omega)), h n (by omega)]
theorem il_sm_p (f g : Nat → Nat) : ∀ n : Nat, il_sm (fun i => f i + g i) n = il_sm f n + il_sm g n := by
  intro n
  induction n with
  | zero => rfl
  | succ n ih => rw [il_sm_s, il_sm_s, il_sm_s, ih]; omega
theorem il_sm_a (f : Nat → Nat) (a : Nat) : ∀ b : Nat, il_sm f (a + b) = il_sm f a + il_sm (fun i => f (a + i)) b := by
  intro b
  induction b with
  | zero => rfl
  | succ b ih => rw [← Nat.add_assoc, il_sm_s, ih, il_sm_s]; omega
theorem il_sm_0 {f : Nat → Nat} : ∀ {n : Nat}, (∀ i, i < n → f i = 0) → il_sm f n = 0 := by
  intro n
  induction n with
  | zero => intro _; rfl
  | succ n ih => intro h; rw [il_sm_s, ih (fun i hi => h i (by omega)), h n (by omega)]
theorem il_sm_mono (f : Nat → Nat) {a b : Nat} (h : a ≤ b) : il_sm f a ≤ il_sm f b := by
  obtain ⟨c, rfl⟩ : ∃ c, b = a + c := ⟨b - a, by omega⟩
  rw [il_sm_a]; omega
theorem il_sm_lt (f : Nat → Nat) {a b : Nat} (h : a < b) : il_sm f a + f a ≤ il_sm f b := il_sm_mono f (a := a + 1) h
theorem il_sm_b {f : Nat → Nat} {c : Nat} : ∀ {n : Nat}, (∀ i, i < n → f i ≤ c) → il_sm f n ≤ c * n := by
  intro n
  induction n with
  | zero => intro _; exact Nat.le_refl _
  | succ n ih =>
    intro h
    have a := ih (fun i hi => h i (by omega))
    have b := h n (by omega)
    rw [il_sm_s, Nat.mul_succ]; omega
noncomputable def il_b (p : Prop) : Nat := @ite Nat p (Classical.propDecidable p) 1 0
theorem il_b_t {p : Prop} (h : p) : il_b p = 1 := @if_pos p (Classical.propDecidable p) h Nat 1 0
theorem il_b_f {p : Prop} (h : ¬ p) : il_b p = 0 := @if_neg p (Classical.propDecidable p) h Nat 1 0
theorem il_b_i {p q : Prop} (h : p ↔ q) : il_b p = il_b q := by rw [propext h]
theorem il_b_or {p q : Prop} (h : p → ¬ q) : il_b (p ∨ q) = il_b p + il_b q := by
  by_cases a : p
  · rw [il_b_t (Or.inl a), il_b_t a, il_b_f (h a)]
  · by_cases b : q
    · rw [il_b_t (Or.inr b), il_b_f a, il_b_t b]
    · rw [il_b_f (fun z => z.elim a b), il_b_f a, il_b_f b]
theorem il_b_le (p : Prop) : il_b p ≤ 1 := by
  by_cases a : p
  · rw [il_b_t a]; omega
  · rw [il_b_f a]; omega
noncomputable def il_cn (P : Nat → Prop) (n : Nat) : Nat := il_sm (fun i => il_b (P i)) n
theorem il_cn_s (P : Nat → Prop) (n : Nat) : il_cn P (n + 1) = il_cn P n + il_b (P n) := rfl
theorem il_cn_c {P Q : Nat → Prop} {n : Nat} (h : ∀ i, i < n → (P i ↔ Q i)) : il_cn P n = il_cn Q n := il_sm_c (fun i hi => il_b_i (h i hi))
theorem il_cn_or {P Q : Nat → Prop} {n : Nat} (h : ∀ i, i < n → P i → ¬ Q i) : il_cn (fun i => P i ∨ Q i) n = il_cn P n + il_cn Q n := by
  unfold il_cn
  rw [← il_sm_p]
  exact il_sm_c (fun i hi => il_b_or (h i hi))
theorem il_cn_le (P : Nat → Prop) (n : Nat) : il_cn P n ≤ n := by
  have := il_sm_b (f := fun i => il_b (P i)) (c := 1) (n := n) (fun i _ => il_b_le _)
  unfold il_cn; omega
theorem il_cn_one {a : Nat} : ∀ {n : Nat}, a < n → il_cn (fun i => i = a) n = 1 := by
  intro n
  induction n with
  | zero => intro h; omega
  | succ n ih =>
    intro h
    rw [il_cn_s]
    by_cases e : a = n
    · subst e
      rw [il_b_t rfl, show il_cn (fun i => i = a) a = 0 from il_sm_0 (fun i hi => il_b_f (by omega))]
    · rw [ih (by omega), il_b_f (fun z => e z.symm)]
theorem il_cn_len : ∀ {L : List Nat} {n : Nat}, L.Nodup → (∀ p, p ∈ L → p < n) → il_cn (fun p => p ∈ L) n = L.length := by
  intro L
  induction L with
  | nil => intro n _ _; exact il_sm_0 (fun i _ => il_b_f (by simp))
  | cons a t ih =>
    intro n hn hl
    have hc := List.nodup_cons.mp hn
    rw [il_cn_c (Q := fun p => p = a ∨ p ∈ t) (fun i _ => List.mem_cons), il_cn_or (fun i _ e => by rw [e]; exact hc.1),
      il_cn_one (hl a (by simp)), ih hc.2 (fun p hp => hl p (List.mem_cons_of_mem _ hp)), List.length_cons, Nat.add_comm]

/-! chains: a list, its links -/
def il_lk (nx bf : Nat → Int32) : Int32 → List Nat → Int32 → Prop
  | _, [], h => h = -4
  | pv, p :: t, h => h = nI p ∧ bf p = pv ∧ il_lk nx bf (nI p) t (nx p)
theorem il_lk_fr {nx bf nx' bf' : Nat → Int32} : ∀ {L : List Nat} {pv h : Int32}, (∀ p, p ∈ L → nx' p = nx p ∧ bf' p = bf p) → il_lk nx bf pv L h → il_lk nx' bf' pv L h := by
  intro L
  induction L with
  | nil => intro pv h _ H; exact H
  | cons a t ih =>
    intro pv h F H
    have fa := F a (by simp)
    refine ⟨H.1, ?_, ?_⟩
    · rw [fa.2]; exact H.2.1
    · rw [fa.1]; exact ih (fun p hp => F p (List.mem_cons_of_mem _ hp)) H.2.2
theorem il_lk_hd {nx bf nx' bf' : Nat → Int32} {L : List Nat} {pv pv' h : Int32} (hn : L.Nodup) (hl : ∀ p, p ∈ L → p < 48) (hx : ∀ p, p ∈ L → nx' p = nx p)
    (h0 : ∀ p, p ∈ L → h = nI p → bf' p = pv') (hb : ∀ p, p ∈ L → h ≠ nI p → bf' p = bf p) (H : il_lk nx bf pv L h) : il_lk nx' bf' pv' L h := by
  cases L with
  | nil => exact H
  | cons a t =>
    have hc := List.nodup_cons.mp hn
    refine ⟨H.1, h0 a (by simp) H.1, ?_⟩
    rw [hx a (by simp)]
    refine il_lk_fr (fun p hp => ⟨hx p (List.mem_cons_of_mem _ hp), hb p (List.mem_cons_of_mem _ hp) ?_⟩) H.2.2
    intro e
    have := il_inj (H.1.symm.trans e) (by have := hl a (by simp); omega) (by have := hl p (List.mem_cons_of_mem _ hp); omega)
    subst this
    exact hc.1 hp
theorem il_lk_c {nx bf : Nat → Int32} {L : List Nat} {pv h : Int32} (H : il_lk nx bf pv L h) : (L = [] ∧ h = -4) ∨ ∃ q t, L = q :: t ∧ h = nI q ∧ bf q = pv := by
  cases L with
  | nil => exact Or.inl ⟨rfl, H⟩
  | cons a t => exact Or.inr ⟨a, t, rfl, H.1, H.2.1⟩
theorem il_lk_app {nx bf : Nat → Int32} {B : List Nat} : ∀ {A : List Nat} {pv h : Int32}, il_lk nx bf pv (A ++ B) h → ∃ pv' h', il_lk nx bf pv' B h' := by
  intro A
  induction A with
  | nil => intro pv h H; exact ⟨pv, h, H⟩
  | cons a t ih => intro pv h H; exact ih H.2.2
/-- what the store behind an unlinked place does: the next place x takes over what stood before -/
def il_BF (x b : Int32) (bf bf' : Nat → Int32) : Prop := ∀ q, q < 48 → (x = nI q → bf' q = b) ∧ (x ≠ nI q → bf' q = bf q)
theorem il_un1 {nx bf bf' : Nat → Int32} {a p : Nat} {B : List Nat} (hF : il_BF (nx p) (bf p) bf bf') (hB : ∀ q, q < 48 → nx p = nI q → q ∈ B) :
    ∀ {A : List Nat} {pv h : Int32}, (A ++ a :: p :: B).Nodup → (∀ q, q ∈ A ++ a :: p :: B → q < 48) → il_lk nx bf pv (A ++ a :: p :: B) h →
      il_lk (upd nx a (nx p)) bf' pv (A ++ a :: B) h ∧ bf p = nI a := by
  intro A
  induction A with
  | nil =>
    intro pv h hn hl H
    obtain ⟨e1, e2, e3, e4, H5⟩ := H
    have hc := List.nodup_cons.mp hn
    have hd := List.nodup_cons.mp hc.2
    have ha : a < 48 := hl a (by simp)
    have haB : a ∉ B := fun z => hc.1 (List.mem_cons_of_mem _ z)
    refine ⟨⟨e1, ?_, ?_⟩, e4⟩
    · rw [((hF a ha).2 (fun z => haB (hB a ha z)))]; exact e2
    · rw [pk_us]
      refine il_lk_hd hd.2 (fun q hq => hl q (by simp [hq])) (fun q hq => pk_un (fun z => haB (z ▸ hq))) ?_ ?_ H5
      · intro q hq e; rw [(hF q (hl q (by simp [hq]))).1 e]; exact e4
      · intro q hq e; exact (hF q (hl q (by simp [hq]))).2 e
  | cons c t ih =>
    intro pv h hn hl H
    obtain ⟨e1, e2, H3⟩ := H
    have hc := List.nodup_cons.mp hn
    obtain ⟨G, e4⟩ := ih hc.2 (fun q hq => hl q (List.mem_cons_of_mem _ hq)) H3
    have hcl : c < 48 := hl c (by simp)
    refine ⟨⟨e1, ?_, ?_⟩, e4⟩
    · rw [(hF c hcl).2 (fun z => hc.1 (by have := hB c hcl z; simp [this]))]; exact e2
    · rw [pk_un (fun z => hc.1 (by simp [z]))]; exact G

/-- the chains hold, for each name, the places to which g gives it -/
def il_ch (g ch nx bf : Nat → Int32) : Prop := ∃ L : Nat → List Nat, ∀ s, s < 10 → il_lk nx bf (-4) (L s) (ch s) ∧ (L s).Nodup ∧ ∀ p, p ∈ L s ↔ (p < 48 ∧ g p = nI s)
theorem il_ch_hd {g ch nx bf : Nat → Int32} {s : Nat} (C : il_ch g ch nx bf) (hs : s < 10) : ch s = -4 ∨ ∃ q, q < 48 ∧ g q = nI s ∧ ch s = nI q := by
  obtain ⟨L, H⟩ := C
  obtain ⟨h1, _, h3⟩ := H s hs
  rcases il_lk_c h1 with ⟨_, e⟩ | ⟨q, t, e, e2, _⟩
  · exact Or.inl e
  · have := (h3 q).mp (by rw [e]; simp)
    exact Or.inr ⟨q, this.1, this.2, e2⟩
theorem il_ch_ln {g ch nx bf bf' : Nat → Int32} {p s : Nat} (C : il_ch g ch nx bf) (hp : p < 48) (hs : s < 10) (hg : g p = -4) (hbp : bf' p = -4)
    (hb1 : ∀ q, q < 48 → g q = nI s → ch s = nI q → bf' q = nI p) (hb2 : ∀ q, q < 48 → q ≠ p → ch s ≠ nI q → bf' q = bf q) :
    il_ch (upd g p (nI s)) (upd ch s (nI p)) (upd nx p (ch s)) bf' := by
  have hd := il_ch_hd C hs
  obtain ⟨L, H⟩ := C
  have hpn : ∀ t, t < 10 → p ∉ L t := fun t ht m => il_ne4' (a := t) (by omega) (hg.symm.trans (((H t ht).2.2 p).mp m).2)
  have hne : ∀ t q, t < 10 → q ∈ L t → q ≠ p := fun t q ht m e => hpn t ht (e ▸ m)
  refine ⟨fun t => if t = s then p :: L s else L t, fun t ht => ?_⟩
  dsimp only
  obtain ⟨h1, h2, h3⟩ := H t ht
  by_cases e : t = s
  · subst e
    rw [if_pos rfl]
    refine ⟨⟨pk_us, hbp, ?_⟩, List.nodup_cons.mpr ⟨hpn t ht, h2⟩, fun q => ?_⟩
    · rw [pk_us]
      exact il_lk_hd h2 (fun q hq => ((h3 q).mp hq).1) (fun q hq => pk_un (hne t q ht hq)) (fun q hq e => hb1 q ((h3 q).mp hq).1 ((h3 q).mp hq).2 e)
        (fun q hq e => hb2 q ((h3 q).mp hq).1 (hne t q ht hq) e) h1
    · rw [List.mem_cons, h3 q]
      by_cases z : q = p
      · subst z; simp [pk_us, hp]
      · rw [pk_un z]; simp [z]
  · rw [if_neg e, pk_un e]
    refine ⟨il_lk_fr (fun q hq => ⟨pk_un (hne t q ht hq), hb2 q ((h3 q).mp hq).1 (hne t q ht hq) ?_⟩) h1, h2, fun q => ?_⟩
    · intro z
      rcases hd with z2 | ⟨q', hq', g', z2⟩
      · exact il_ne4' (a := q) (by have := ((h3 q).mp hq).1; omega) (z2.symm.trans z)
      · have := il_inj (z.symm.trans z2) (by have := ((h3 q).mp hq).1; omega) (by omega)
        subst this
        exact e (il_inj (((h3 q).mp hq).2.symm.trans g') (by omega) (by omega))
    · rw [h3 q]
      by_cases z : q = p
      · subst z
        rw [pk_us, hg]
        exact ⟨fun k => absurd k.2 (il_ne4' (by omega)), fun k => absurd (il_inj k.2 (by omega) (by omega)).symm e⟩
      · rw [pk_un z]
theorem il_ch_un {g ch nx bf : Nat → Int32} {p s : Nat} (C : il_ch g ch nx bf) (hp : p < 48) (hs : s < 10) (hg : g p = nI s) :
    (nx p = -4 ∨ ∃ q, q < 48 ∧ nx p = nI q) ∧
    ((bf p = -4 ∧ ∀ bf', il_BF (nx p) (bf p) bf bf' → il_ch (upd g p (-4)) (upd ch s (nx p)) nx bf') ∨
     (∃ a, a < 48 ∧ a ≠ p ∧ bf p = nI a ∧ ∀ bf', il_BF (nx p) (bf p) bf bf' → il_ch (upd g p (-4)) ch (upd nx a (nx p)) bf')) := by
  obtain ⟨L, H⟩ := C
  obtain ⟨h1, h2, h3⟩ := H s hs
  obtain ⟨A, B, eL⟩ := List.append_of_mem ((h3 p).mpr ⟨hp, hg⟩)
  have hl : ∀ q, q ∈ A ++ p :: B → q < 48 := fun q hq => ((h3 q).mp (by rw [eL]; exact hq)).1
  have hin : ∀ q, q ∈ A ++ p :: B → g q = nI s := fun q hq => ((h3 q).mp (by rw [eL]; exact hq)).2
  have hn := h2
  rw [eL] at h1 hn
  obtain ⟨pv', h', Hp⟩ := il_lk_app h1
  have hBn : B.Nodup ∧ p ∉ B := by
    have a := (List.nodup_append.mp hn).2.1
    have b := List.nodup_cons.mp a
    exact ⟨b.2, b.1⟩
  have hAp : p ∉ A := fun z => (List.nodup_append.mp hn).2.2 p z p (by simp) rfl
  have hnx : nx p = -4 ∨ ∃ q, q < 48 ∧ q ∈ B ∧ nx p = nI q := by
    rcases il_lk_c Hp.2.2 with ⟨_, e⟩ | ⟨q, t, e, e2, _⟩
    · exact Or.inl e
    · exact Or.inr ⟨q, hl q (by simp [e]), by simp [e], e2⟩
  have hB : ∀ q, q < 48 → nx p = nI q → q ∈ B := by
    intro q hq e
    rcases hnx with z | ⟨q', hq', m, z⟩
    · exact absurd (z.symm.trans e) (il_ne4' (by omega))
    · have := il_inj (e.symm.trans z) (by omega) (by omega)
      rw [this]; exact m
  have hAB : (A ++ B).Nodup := by
    have a := List.nodup_append.mp hn
    exact List.nodup_append.mpr ⟨a.1, hBn.1, fun x hx y hy => a.2.2 x hx y (List.mem_cons_of_mem _ hy)⟩
  have hmem : ∀ q, q ∈ A ++ B ↔ (q < 48 ∧ upd g p (-4) q = nI s) := by
    intro q
    by_cases z : q = p
    · subst z
      rw [pk_us]
      constructor
      · intro k; rcases List.mem_append.mp k with k | k
        · exact absurd k hAp
        · exact absurd k hBn.2
      · intro k; exact absurd k.2 (il_ne4' (by omega))
    · rw [pk_un z, ← h3 q, eL]; simp [z]
  -- the other names' chains
  have hoth : ∀ t, t < 10 → t ≠ s → ∀ q, q ∈ L t → q < 48 ∧ q ∉ A ++ p :: B := by
    intro t ht e q hq
    have := ((H t ht).2.2 q).mp hq
    exact ⟨this.1, fun k => e (il_inj (this.2.symm.trans (hin q k)) (by omega) (by omega))⟩
  have hmo : ∀ t, t < 10 → t ≠ s → ∀ q, q ∈ L t ↔ (q < 48 ∧ upd g p (-4) q = nI t) := by
    intro t ht e q
    rw [(H t ht).2.2 q]
    by_cases z : q = p
    · subst z
      rw [pk_us, hg]
      exact ⟨fun k => absurd (il_inj k.2 (by omega) (by omega)).symm e, fun k => absurd k.2 (il_ne4' (by omega))⟩
    · rw [pk_un z]
  refine ⟨hnx.imp id (fun ⟨q, a, _, b⟩ => ⟨q, a, b⟩), ?_⟩
  rcases List.eq_nil_or_concat A with e | ⟨A', a, e⟩
  · subst e
    have H1 : il_lk nx bf (-4) (p :: B) (ch s) := h1
    refine Or.inl ⟨H1.2.1, fun bf' F => ⟨fun t => if t = s then B else L t, fun t ht => ?_⟩⟩
    dsimp only
    by_cases e : t = s
    · subst e
      rw [if_pos rfl, pk_us]
      refine ⟨?_, hBn.1, hmem⟩
      refine il_lk_hd hBn.1 (fun q hq => hl q (by simp [hq])) (fun _ _ => rfl) ?_ ?_ H1.2.2
      · intro q hq e; rw [(F q (hl q (by simp [hq]))).1 e]; exact H1.2.1
      · intro q hq e; exact (F q (hl q (by simp [hq]))).2 e
    · rw [if_neg e, pk_un e]
      refine ⟨il_lk_fr (fun q hq => ⟨rfl, (F q (hoth t ht e q hq).1).2 ?_⟩) (H t ht).1, (H t ht).2.1, hmo t ht e⟩
      intro z
      exact (hoth t ht e q hq).2 (by have := hB q (hoth t ht e q hq).1 z; simp [this])
  · have eA : A = A' ++ [a] := by rw [e]; simp
    have eA2 : A ++ p :: B = A' ++ a :: p :: B := by rw [eA]; simp
    have eA3 : A ++ B = A' ++ a :: B := by rw [eA]; simp
    have hap : a ≠ p := fun z => hAp (by rw [eA]; simp [z])
    have ha : a < 48 := hl a (by rw [eA]; simp)
    have h1' := h1
    have hn' := hn
    have hl' := hl
    rw [eA2] at h1' hn' hl'
    have F0 : il_BF (nx p) (bf p) bf (fun q => @ite Int32 (nx p = nI q) (Classical.propDecidable _) (bf p) (bf q)) :=
      fun q _ => ⟨fun z => @if_pos _ (Classical.propDecidable _) z _ _ _, fun z => @if_neg _ (Classical.propDecidable _) z _ _ _⟩
    refine Or.inr ⟨a, ha, hap, (il_un1 F0 hB hn' hl' h1').2, fun bf' F => ⟨fun t => if t = s then A ++ B else L t, fun t ht => ?_⟩⟩
    dsimp only
    by_cases e : t = s
    · subst e
      rw [if_pos rfl]
      refine ⟨?_, hAB, hmem⟩
      rw [eA3]
      exact (il_un1 F hB hn' hl' h1').1
    · rw [if_neg e]
      refine ⟨il_lk_fr (fun q hq => ⟨pk_un ?_, (F q (hoth t ht e q hq).1).2 ?_⟩) (H t ht).1, (H t ht).2.1, hmo t ht e⟩
      · intro z
        exact (hoth t ht e q hq).2 (by rw [z, eA]; simp)
      · intro z
        exact (hoth t ht e q hq).2 (by have := hB q (hoth t ht e q hq).1 z; simp [this])
theorem il_ch_len {g ch nx bf : Nat → Int32} {s : Nat} (C : il_ch g ch nx bf) (hs : s < 10) :
    ∃ L : List Nat, il_lk nx bf (-4) L (ch s) ∧ (∀ p, p ∈ L ↔ (p < 48 ∧ g p = nI s)) ∧ L.length = il_cn (fun p => g p = nI s) 48 ∧ L.length ≤ 48 := by
  obtain ⟨L, H⟩ := C
  obtain ⟨h1, h2, h3⟩ := H s hs
  have e := il_cn_len h2 (fun p hp => ((h3 p).mp hp).1)
  rw [il_cn_c (Q := fun p => g p = nI s) (fun i hi => (h3 i).trans ⟨fun z => z.2, fun z => ⟨hi, z⟩⟩)] at e
  exact ⟨L s, h1, h3, e.symm, by rw [← e]; exact il_cn_le _ _⟩
end
section
section
variable {st va nm ad df kn ct ch nx bf g : Nat → Int32} {post : SX → Prop}
theorem il_link {p s : Nat} (C : il_ch g ch nx bf) (hp : p < 48) (hs : s < 10) (hg : g p = -4)
    (K : ∀ ch' nx' bf', il_ch (upd g p (nI s)) ch' nx' bf' → post (st, va, nm, ad, df, kn, ct, ch', nx', bf')) :
    wpX_link post (st, va, nm, ad, df, kn, ct, ch, nx, bf) (nI p) (nI s) := by
  have hpi : vp_in (nI p) 48 := vp_in_nI hp (by omega)
  have hsi : vp_in (nI s) 10 := vp_in_nI hs (by omega)
  unfold wpX_link
  dsimp only
  rw [nI_clamp (n := p) (by omega), nI_clamp (n := s) (by omega)]
  refine ⟨hsi, nm_e ⟨hpi, nm_e ⟨hpi, nm_e ?_⟩⟩⟩
  rcases il_ch_hd C hs with e | ⟨q, hq, hgq, e⟩
  · refine br_t (by rw [e]; exact il_neg4) ⟨hsi, nm_e (K _ _ _ (il_ch_ln C hp hs hg pk_us ?_ ?_))⟩
    · intro q hq _ z; exact absurd (e.symm.trans z) (il_ne4' (by omega))
    · intro q _ z _; exact pk_un z
  · have hqp : q ≠ p := fun z => il_ne4' (a := s) (by omega) (hg.symm.trans (z ▸ hgq))
    have ec : (ch s).toNatClampNeg = q := by rw [e]; exact nI_clamp (by omega)
    refine br_f (by rw [e]; exact nI_pos (by omega)) ⟨by rw [e]; exact vp_in_nI hq (by omega), ?_⟩
    rw [ec]
    refine nm_e ⟨hsi, nm_e (K _ _ _ (il_ch_ln C hp hs hg ?_ ?_ ?_))⟩
    · rw [pk_un (fun z => hqp z.symm), pk_us]
    · intro r hr _ z
      have := il_inj (e.symm.trans z) (by omega) (by omega)
      rw [this, pk_us]
    · intro r hr z1 z2
      rw [pk_un (fun z => z2 (by rw [e, z])), pk_un z1]
theorem il_un41 {p : Nat} {x : Int32} (hp : p < 48) (hx : nx p = x) (hxx : x = -4 ∨ ∃ q, q < 48 ∧ x = nI q)
    (K : ∀ bf', il_BF x (bf p) bf bf' → post (st, va, nm, ad, df, kn, ct, ch, nx, bf')) :
    wX_unlink_41 post (nI p) st va nm ad df kn ct ch nx bf := by
  have hpi : vp_in (nI p) 48 := vp_in_nI hp (by omega)
  unfold wX_unlink_41
  rw [nI_clamp (n := p) (by omega), hx]
  rcases hxx with e | ⟨q, hq, e⟩
  · refine ⟨hpi, br_t (by rw [e]; exact il_neg4) (K _ (fun q hq => ⟨fun z => ?_, fun _ => rfl⟩))⟩
    exact absurd (e.symm.trans z) (il_ne4' (by omega))
  · have ec : x.toNatClampNeg = q := by rw [e]; exact nI_clamp (by omega)
    refine ⟨hpi, br_f (by rw [e]; exact nI_pos (by omega)) ⟨hpi, hpi, by rw [e]; exact vp_in_nI hq (by omega), ?_⟩⟩
    rw [ec]
    refine nm_e (K _ (fun r hr => ⟨fun z => ?_, fun z => ?_⟩))
    · have := il_inj (e.symm.trans z) (by omega) (by omega)
      rw [this, pk_us]
    · rw [pk_un (fun k => z (by rw [e, k]))]
theorem il_unlink {p s : Nat} (C : il_ch g ch nx bf) (hp : p < 48) (hs : s < 10) (hg : g p = nI s)
    (K : ∀ ch' nx' bf', il_ch (upd g p (-4)) ch' nx' bf' → post (st, va, nm, ad, df, kn, ct, ch', nx', bf')) :
    wpX_unlink post (st, va, nm, ad, df, kn, ct, ch, nx, bf) (nI p) (nI s) := by
  have hpi : vp_in (nI p) 48 := vp_in_nI hp (by omega)
  have hsi : vp_in (nI s) 10 := vp_in_nI hs (by omega)
  unfold wpX_unlink
  dsimp only
  rw [nI_clamp (n := p) (by omega), nI_clamp (n := s) (by omega)]
  obtain ⟨hx, ⟨e, H⟩ | ⟨a, ha, hap, e, H⟩⟩ := il_ch_un C hp hs hg
  · exact ⟨hpi, br_t (by rw [e]; exact il_neg4) ⟨hpi, hsi, nm_e (il_un41 hp rfl hx (fun bf' F => K _ _ _ (H bf' F)))⟩⟩
  · have ec : (bf p).toNatClampNeg = a := by rw [e]; exact nI_clamp (by omega)
    refine ⟨hpi, br_f (by rw [e]; exact nI_pos (by omega)) ⟨hpi, hpi, by rw [e]; exact vp_in_nI ha (by omega), ?_⟩⟩
    rw [ec]
    exact nm_e (il_un41 hp (pk_un (fun z => hap z.symm)) hx (fun bf' F => K _ _ _ (H bf' F)))
def il_bv (k a : Int32) : Int32 := if 0 ≤ k then k + a else -1
theorem il_bind {p s : Nat} (hp : p < 48) (hs : s < 10) (hn : nm p = nI s)
    (K : post (st, upd va p (il_bv (kn s) (ad p)), nm, ad, df, kn, ct, ch, nx, bf)) :
    wpX_bind post (st, va, nm, ad, df, kn, ct, ch, nx, bf) (nI p) := by
  have hpi : vp_in (nI p) 48 := vp_in_nI hp (by omega)
  have hsi : vp_in (nI s) 10 := vp_in_nI hs (by omega)
  unfold wpX_bind
  dsimp only
  rw [nI_clamp (n := p) (by omega), hn]
  refine ⟨hpi, nm_e ?_⟩
  rw [nI_clamp (n := s) (by omega)]
  by_cases h : 0 ≤ kn s
  · rw [il_bv, if_pos h] at K
    exact ⟨hsi, br_t h ⟨hsi, hpi, hpi, nm_e K⟩⟩
  · rw [il_bv, if_neg h] at K
    exact ⟨hsi, br_f h ⟨hpi, nm_e K⟩⟩
theorem il_putc {p : Nat} {v more : Int32} (hp : p < 48) (K : post (st, upd va p v, upd nm p (-4), upd ad p more, df, kn, ct, ch, nx, bf)) :
    wpX_put post (st, va, nm, ad, df, kn, ct, ch, nx, bf) (nI p) v (-4) more := by
  have hpi : vp_in (nI p) 48 := vp_in_nI hp (by omega)
  unfold wpX_put
  dsimp only
  rw [nI_clamp (n := p) (by omega)]
  exact ⟨hpi, nm_e ⟨hpi, nm_e ⟨hpi, nm_e (br_t il_neg4 K)⟩⟩⟩
theorem il_putr {p s : Nat} {v more : Int32} (C : il_ch g ch nx bf) (hp : p < 48) (hs : s < 10) (hg : g p = -4)
    (K : ∀ ch' nx' bf', il_ch (upd g p (nI s)) ch' nx' bf' → post (st, upd va p (il_bv (kn s) more), upd nm p (nI s), upd ad p more, df, kn, ct, ch', nx', bf')) :
    wpX_put post (st, va, nm, ad, df, kn, ct, ch, nx, bf) (nI p) v (nI s) more := by
  have hpi : vp_in (nI p) 48 := vp_in_nI hp (by omega)
  unfold wpX_put
  dsimp only
  rw [nI_clamp (n := p) (by omega)]
  refine ⟨hpi, nm_e ⟨hpi, nm_e ⟨hpi, nm_e (br_f (nI_pos (by omega)) (il_link C hp hs hg (fun ch' nx' bf' C' => ?_)))⟩⟩⟩
  dsimp only
  refine il_bind hp hs pk_us ?_
  dsimp only
  rw [pk_us, il_up2]
  exact K ch' nx' bf' C'
/-- a reference's value is up to date -/
def il_VL (nm kn va ad : Nat → Int32) : Prop := ∀ p, p < 48 → ∀ s, s < 10 → nm p = nI s → va p = il_bv (kn s) (ad p)
def il_NV (nm : Nat → Int32) : Prop := ∀ p, p < 48 → nm p = -4 ∨ ∃ s, s < 10 ∧ nm p = nI s
theorem il_move {f t : Nat} (hf : f < 48) (ht : t < 48) (hft : f ≠ t) (hv : nm f = -4 ∨ ∃ s, s < 10 ∧ nm f = nI s) (hnt : nm t = -4) (C : il_ch nm ch nx bf) (V : il_VL nm kn va ad)
    (K : ∀ ch' nx' bf', il_ch (upd (upd nm t (nm f)) f (-4)) ch' nx' bf' → post (st, upd va t (va f), upd (upd nm t (nm f)) f (-4), upd ad t (ad f), df, kn, ct, ch', nx', bf')) :
    wpX_moveWord post (st, va, nm, ad, df, kn, ct, ch, nx, bf) (nI f) (nI t) := by
  have hfi : vp_in (nI f) 48 := vp_in_nI hf (by omega)
  unfold wpX_moveWord
  dsimp only
  rw [nI_clamp (n := f) (by omega)]
  rcases hv with e | ⟨s, hs, e⟩
  · rw [e] at K ⊢
    refine ⟨hfi, nm_e (br_t il_neg4 ?_)⟩
    unfold wX_moveWord_17
    rw [nI_clamp (n := f) (by omega)]
    refine ⟨hfi, hfi, il_putc ht ?_⟩
    dsimp only
    exact ⟨hfi, nm_e (K ch nx bf (by rw [il_up1 hnt, il_up1 e]; exact C))⟩
  · have ev := V f hf s hs e
    rw [e] at K ⊢
    refine ⟨hfi, nm_e (br_f (nI_pos (by omega)) (il_unlink C hf hs e (fun ch1 nx1 bf1 C1 => ?_)))⟩
    dsimp only
    unfold wX_moveWord_17
    rw [nI_clamp (n := f) (by omega)]
    refine ⟨hfi, hfi, il_putr C1 ht hs (by rw [pk_un (fun z => hft z.symm)]; exact hnt) (fun ch2 nx2 bf2 C2 => ?_)⟩
    dsimp only
    rw [← ev]
    rw [il_upc hft] at C2
    exact ⟨hfi, nm_e (K ch2 nx2 bf2 C2)⟩
theorem il_mvI {f t : Nat} (hf : f < 48) (hft : f ≠ t) (N : il_NV nm) (V : il_VL nm kn va ad) :
    il_NV (upd (upd nm t (nm f)) f (-4)) ∧ il_VL (upd (upd nm t (nm f)) f (-4)) kn (upd va t (va f)) (upd ad t (ad f)) := by
  constructor
  · intro p hp
    by_cases e : p = f
    · rw [e, pk_us]; exact Or.inl rfl
    · rw [pk_un e]
      by_cases e2 : p = t
      · rw [e2, pk_us]; exact N f hf
      · rw [pk_un e2]; exact N p hp
  · intro p hp s hs h
    by_cases e : p = f
    · rw [e, pk_us] at h; exact absurd h (il_ne4' (by omega))
    · rw [pk_un e] at h
      by_cases e2 : p = t
      · rw [e2, pk_us] at h
        rw [e2, pk_us, pk_us]
        exact V f hf s hs h
      · rw [pk_un e2] at h
        rw [pk_un e2, pk_un e2]
        exact V p hp s hs h
end
end
section
section
variable {st nm ad df ch nx bf : Nat → Int32} {post : SX → Prop}
theorem il_rb9 {kn ct : Nat → Int32} {s : Nat} (hs : s < 10) : ∀ (L : List Nat) (n i : Nat) (pv x : Int32) (va : Nat → Int32), il_lk nx bf pv L x → (∀ p, p ∈ L → p < 48 ∧ nm p = nI s) → i + L.length ≤ 48 → L.length < n →
    (∀ va', (∀ j, (j ∈ L → va' j = il_bv (kn s) (ad j)) ∧ (j ∉ L → va' j = va j)) → post (st, va', nm, ad, df, kn, ct, ch, nx, bf)) →
    wX_rebind_9 post n x (nI i) st va nm ad df kn ct ch nx bf := by
  intro L
  induction L with
  | nil =>
    intro n i pv x va H _ hi hn K
    obtain ⟨n, rfl⟩ : ∃ k, n = k + 1 := ⟨n - 1, by omega⟩
    have hK : post (st, va, nm, ad, df, kn, ct, ch, nx, bf) := K va (fun j => ⟨fun z => by simp at z, fun _ => rfl⟩)
    have hx : x < 0 := by rw [show x = -4 from H]; exact il_neg4
    exact br_c (fun _ => hK) (fun _ => br_t hx hK)
  | cons p t ih =>
    intro n i pv x va H hm hi hn K
    rw [List.length_cons] at hi hn
    obtain ⟨n, rfl⟩ : ∃ k, n = k + 1 := ⟨n - 1, by omega⟩
    obtain ⟨e1, _, H3⟩ := H
    rw [e1]
    obtain ⟨hp, hnp⟩ := hm p (by simp)
    refine br_f (nI_ge (b := 48) (by omega) (by omega)) (br_f (nI_pos (by omega)) (il_bind hp hs hnp ?_))
    dsimp only
    refine ⟨vp_in_nI hp (by omega), ?_⟩
    rw [nI_clamp (n := p) (by omega)]
    refine nm_e (nm_r (nI_1 i) (ih n (i + 1) (nI p) (nx p) _ H3 (fun q hq => hm q (List.mem_cons_of_mem _ hq)) (by omega) (by omega) (fun va' F => K va' (fun j => ⟨fun z => ?_, fun z => ?_⟩))))
    · by_cases h : j ∈ t
      · exact (F j).1 h
      · have e : j = p := by
          rcases List.mem_cons.mp z with k | k
          · exact k
          · exact absurd k h
        rw [(F j).2 h, e, pk_us]
    · rw [(F j).2 (fun k => z (List.mem_cons_of_mem _ k)), pk_un (fun k => z (by rw [k]; simp))]
theorem il_rebind {va kn ct : Nat → Int32} {s : Nat} (C : il_ch nm ch nx bf) (hs : s < 10)
    (K : ∀ va', (∀ j, j < 48 → (nm j = nI s → va' j = il_bv (kn s) (ad j)) ∧ (nm j ≠ nI s → va' j = va j)) → post (st, va', nm, ad, df, kn, ct, ch, nx, bf)) :
    wpX_rebind post (st, va, nm, ad, df, kn, ct, ch, nx, bf) (nI s) := by
  obtain ⟨L, h1, h2, _, h4⟩ := il_ch_len C hs
  unfold wpX_rebind
  dsimp only
  rw [nI_clamp (n := s) (by omega)]
  refine ⟨vp_in_nI hs (by omega), nm_e ⟨L.length + 1, ?_⟩⟩
  exact il_rb9 hs L _ 0 _ _ va h1 (fun p hp => (h2 p).mp hp) (by omega) (by omega)
    (fun va' F => K va' (fun j hj => ⟨fun e => (F j).1 ((h2 j).mpr ⟨hj, e⟩), fun e => (F j).2 (fun z => e ((h2 j).mp z).2)⟩))
/-- no module defines the name s; module m is the first that does -/
def il_NF (df : Nat → Int32) (s : Nat) : Prop := ∀ m, m < 6 → df (10 * m + s) = -4
def il_MF (df : Nat → Int32) (s m : Nat) : Prop := m < 6 ∧ df (10 * m + s) ≠ -4 ∧ ∀ k, k < m → df (10 * k + s) = -4
def il_DV (df : Nat → Int32) (s : Nat) : Prop := ∀ m, m < 6 → df (10 * m + s) = -4 ∨ ∃ w, w ≤ 8 ∧ df (10 * m + s) = nI w
def il_K1 (df st kn ct : Nat → Int32) (s : Nat) : Prop := (il_NF df s ∧ ct s = -4 ∧ kn s = -4) ∨ ∃ m, il_MF df s m ∧ ct s = nI m ∧ kn s = st m + df (10 * m + s)
theorem il_rf13 {va kn ct : Nat → Int32} {J : Int32 → (Nat → Int32) → (Nat → Int32) → (Nat → Int32) → (Nat → Int32) → (Nat → Int32) → (Nat → Int32) → (Nat → Int32) → (Nat → Int32) → (Nat → Int32) → (Nat → Int32) → Prop}
    {s : Nat} (hs : s < 10) (D : il_DV df s)
    (K : ∀ x z, ((il_NF df s ∧ x = -4 ∧ z = -4) ∨ ∃ m, il_MF df s m ∧ x = nI m ∧ z = st m + df (10 * m + s)) → wX_refresh_70 post J (nI s) x z st va nm ad df kn ct ch nx bf) :
    ∀ (j n : Nat) (x : Int32), j ≤ 6 → j < n → ((x = -4 ∧ ∀ m, j ≤ m → m < 6 → df (10 * m + s) = -4) ∨ ∃ m, j ≤ m ∧ m < 6 ∧ x = nI m ∧ df (10 * m + s) ≠ -4 ∧ ∀ k, j ≤ k → k < m → df (10 * k + s) = -4) →
    wX_refresh_13 post J (nI s) st va nm ad df kn ct ch nx bf n x (nI j + (-1)) := by
  intro j
  induction j with
  | zero =>
    intro n x _ hn Q
    obtain ⟨n, rfl⟩ : ∃ k, n = k + 1 := ⟨n - 1, by omega⟩
    refine br_t (by decide) ?_
    rcases Q with ⟨e, q⟩ | ⟨m, _, hm, e, q1, q2⟩
    · rw [e]
      exact br_f il_n4le (K _ _ (Or.inl ⟨fun m hm => q m (by omega) hm, rfl, rfl⟩))
    · rw [e]
      refine br_t (nI_pos' (by omega)) ⟨vp_in_nI (by omega) (by omega), ?_⟩
      rw [il_ix, nI_clamp (n := m) (by omega), nI_clamp (n := 10 * m + s) (by omega)]
      exact ⟨vp_in_nI (by omega) (by omega), K _ _ (Or.inr ⟨m, ⟨hm, q1, fun k hk => q2 k (by omega) hk⟩, rfl, rfl⟩)⟩
  | succ j ih =>
    intro n x hj hn Q
    obtain ⟨n, rfl⟩ : ∃ k, n = k + 1 := ⟨n - 1, by omega⟩
    rw [pk_m1]
    have hix : vp_in (nI j * 10 + nI s) 60 := by rw [il_ix]; exact vp_in_nI (by omega) (by omega)
    have hcl : (nI j * 10 + nI s).toNatClampNeg = 10 * j + s := by rw [il_ix]; exact nI_clamp (by omega)
    refine br_f (nI_pos (by omega)) ⟨hix, ?_⟩
    rw [hcl]
    rcases D j (by omega) with e | ⟨w, hw, e⟩
    · refine br_t (by rw [e]; exact il_neg4) (nm_e (ih n x (by omega) (by omega) ?_))
      rcases Q with ⟨e1, q⟩ | ⟨m, h1, h2, h3, h4, h5⟩
      · exact Or.inl ⟨e1, fun m a b => if z : m = j then (by rw [z]; exact e) else q m (by omega) b⟩
      · exact Or.inr ⟨m, by omega, h2, h3, h4, fun k a b => if z : k = j then (by rw [z]; exact e) else h5 k (by omega) b⟩
    · exact br_f (by rw [e]; exact nI_pos (by omega)) (nm_e (ih n (nI j) (by omega) (by omega)
        (Or.inr ⟨j, by omega, by omega, rfl, by rw [e]; exact il_ne4 (by omega), fun k a b => absurd b (by omega)⟩)))
theorem il_rf70 {va kn ct : Nat → Int32} {J : Int32 → (Nat → Int32) → (Nat → Int32) → (Nat → Int32) → (Nat → Int32) → (Nat → Int32) → (Nat → Int32) → (Nat → Int32) → (Nat → Int32) → (Nat → Int32) → (Nat → Int32) → Prop}
    {s : Nat} {x z : Int32} (hs : s < 10) (C : il_ch nm ch nx bf) (V : il_VL nm kn va ad)
    (K : ∀ va' kn', il_VL nm kn' va' ad → kn' s = z → (∀ t, t ≠ s → kn' t = kn t) → (∀ j, j < 48 → nm j = -4 → va' j = va j) → J (nI (s + 1)) st va' nm ad df kn' (upd ct s x) ch nx bf) :
    wX_refresh_70 post J (nI s) x z st va nm ad df kn ct ch nx bf := by
  have hsi : vp_in (nI s) 10 := vp_in_nI hs (by omega)
  unfold wX_refresh_70
  rw [nI_clamp (n := s) (by omega)]
  refine ⟨hsi, nm_e ⟨hsi, ?_⟩⟩
  by_cases e : z = kn s
  · exact br_t e (nm_r (nI_1 s) (K va kn V e.symm (fun _ _ => rfl) (fun _ _ _ => rfl)))
  · refine br_f e ⟨hsi, nm_e (il_rebind C hs (fun va' F => ?_))⟩
    dsimp only
    refine nm_r (nI_1 s) (K va' (upd kn s z) ?_ pk_us (fun t ht => pk_un ht) ?_)
    · intro p hp t ht ep
      by_cases q : t = s
      · rw [q] at ep ⊢; exact (F p hp).1 ep
      · rw [(F p hp).2 (fun k => q (il_inj (ep.symm.trans k) (by omega) (by omega))), pk_un q]; exact V p hp t ht ep
    · intro j hj ej
      exact (F j hj).2 (by rw [ej]; exact il_ne4' (by omega))
theorem il_rf2 (C : il_ch nm ch nx bf) (D : ∀ s, s < 10 → il_DV df s) :
    ∀ (d n i : Nat) (va kn ct : Nat → Int32), i + d = 10 → d < n → il_VL nm kn va ad → (∀ s, s < i → il_K1 df st kn ct s) →
    (∀ va' kn' ct', il_VL nm kn' va' ad → (∀ s, s < 10 → il_K1 df st kn' ct' s) → (∀ j, j < 48 → nm j = -4 → va' j = va j) → post (st, va', nm, ad, df, kn', ct', ch, nx, bf)) →
    wX_refresh_2 post n (nI i) st va nm ad df kn ct ch nx bf := by
  intro d
  induction d with
  | zero =>
    intro n i va kn ct hi hn V Q K
    obtain ⟨n, rfl⟩ : ∃ k, n = k + 1 := ⟨n - 1, by omega⟩
    obtain rfl : i = 10 := by omega
    exact br_t (by decide) (K va kn ct V Q (fun _ _ _ => rfl))
  | succ d ih =>
    intro n i va kn ct hi hn V Q K
    obtain ⟨n, rfl⟩ : ∃ k, n = k + 1 := ⟨n - 1, by omega⟩
    refine br_f (nI_ge (b := 10) (by omega) (by omega)) ⟨7, ?_⟩
    rw [show (5 : Int32) = nI 6 + (-1) from by decide]
    refine il_rf13 (s := i) (by omega) (D i (by omega)) (fun x z R => ?_) 6 7 (-4) (by omega) (by omega) (Or.inl ⟨rfl, fun m a b => absurd b (by omega)⟩)
    refine il_rf70 (by omega) C V (fun va' kn' V' e1 e2 e3 => ?_)
    refine ih n (i + 1) va' kn' (upd ct i x) (by omega) (by omega) V' ?_ (fun va2 kn2 ct2 a b c => K va2 kn2 ct2 a b (fun j hj e => (c j hj e).trans (e3 j hj e)))
    intro s hs
    by_cases z' : s = i
    · rw [z']
      unfold il_K1
      rw [pk_us, e1]
      exact R
    · have := Q s (by omega)
      unfold il_K1 at this ⊢
      rw [pk_un z', e2 s z']
      exact this
theorem il_refresh0 {va kn ct : Nat → Int32} (C : il_ch nm ch nx bf) (D : ∀ s, s < 10 → il_DV df s) (V : il_VL nm kn va ad)
    (K : ∀ va' kn' ct', il_VL nm kn' va' ad → (∀ s, s < 10 → il_K1 df st kn' ct' s) → (∀ j, j < 48 → nm j = -4 → va' j = va j) → post (st, va', nm, ad, df, kn', ct', ch, nx, bf)) :
    wpX_refresh post (st, va, nm, ad, df, kn, ct, ch, nx, bf) := by
  unfold wpX_refresh
  dsimp only
  exact ⟨11, il_rf2 C D 10 11 0 va kn ct (by omega) (by omega) V (fun s hs => absurd hs (by omega)) K⟩
end
end
section
section
variable {df ct : Nat → Int32} {post : SX → Prop}
def il_IM (nm va ad kn ch nx bf : Nat → Int32) : Prop := il_NV nm ∧ il_ch nm ch nx bf ∧ il_VL nm kn va ad
/-- the places from k on stand one higher, place k is free, S is the size ahead of it -/
def il_SO (k S : Nat) (nm va ad nm0 va0 ad0 : Nat → Int32) : Prop := ∀ j, j < 48 → (j < k → nm j = nm0 j ∧ va j = va0 j ∧ ad j = ad0 j) ∧ (j = k → nm j = -4) ∧
  (k < j → j ≤ S → nm j = nm0 (j - 1) ∧ va j = va0 (j - 1) ∧ ad j = ad0 (j - 1)) ∧ (S < j → nm j = -4)
theorem il_SOs {nm va ad nm0 va0 ad0 : Nat → Int32} {k S : Nat} (hk : k + 1 ≤ S) (hS : S < 48) (Q : il_SO (k + 1) S nm va ad nm0 va0 ad0) :
    il_SO k S (upd (upd nm (k + 1) (nm k)) k (-4)) (upd va (k + 1) (va k)) (upd ad (k + 1) (ad k)) nm0 va0 ad0 := by
  intro j hj
  obtain ⟨a, b, c, d⟩ := Q j hj
  refine ⟨fun h => ?_, fun h => ?_, fun h h2 => ?_, fun h => ?_⟩
  · rw [pk_un (by omega), pk_un (by omega), pk_un (by omega), pk_un (by omega)]; exact a (by omega)
  · rw [h, pk_us]
  · rw [pk_un (by omega)]
    by_cases e : j = k + 1
    · rw [e, pk_us, pk_us, pk_us]
      exact (Q k (by omega)).1 (by omega)
    · rw [pk_un e, pk_un e, pk_un e]; exact c (by omega) h2
  · rw [pk_un (by omega), pk_un (by omega)]; exact d h
theorem il_op10 {st kn nm0 va0 ad0 : Nat → Int32} {m p S : Nat} (hS : S < 48)
    (K : ∀ va' nm' ad' ch' nx' bf', il_SO p S nm' va' ad' nm0 va0 ad0 → il_IM nm' va' ad' kn ch' nx' bf' → ∃ n33, wX_open_33 post n33 (nI (m + 1)) st va' nm' ad' df kn ct ch' nx' bf') :
    ∀ (d n : Nat) (va nm ad ch nx bf : Nat → Int32), p + d ≤ S → d < n → il_SO (p + d) S nm va ad nm0 va0 ad0 → il_IM nm va ad kn ch nx bf →
      wX_open_10 post (nI m) (nI p) n (nI (p + d) + (-1)) st va nm ad df kn ct ch nx bf := by
  intro d
  induction d with
  | zero =>
    intro n va nm ad ch nx bf hd hn Q I
    obtain ⟨n, rfl⟩ : ∃ k, n = k + 1 := ⟨n - 1, by omega⟩
    exact br_t (il_lt1 (by omega)) (nm_r (nI_1 m) (K va nm ad ch nx bf Q I))
  | succ d ih =>
    intro n va nm ad ch nx bf hd hn Q I
    obtain ⟨n, rfl⟩ : ∃ k, n = k + 1 := ⟨n - 1, by omega⟩
    rw [← Nat.add_assoc] at Q hd ⊢
    rw [pk_m1]
    refine br_f (nI_nlt (by omega) (by omega)) ?_
    rw [nI_1 (p + d)]
    refine il_move (f := p + d) (t := p + d + 1) (by omega) (by omega) (by omega) (I.1 _ (by omega)) ((Q (p + d + 1) (by omega)).2.1 rfl) I.2.1 I.2.2 (fun ch' nx' bf' C' => ?_)
    dsimp only
    have M := il_mvI (f := p + d) (t := p + d + 1) (by omega) (by omega) I.1 I.2.2
    exact nm_e (ih n _ _ _ ch' nx' bf' (by omega) (by omega) (il_SOs (by omega) hS Q) ⟨M.1, C', M.2⟩)
theorem il_op33 {va nm ad kn ch nx bf : Nat → Int32} : ∀ (d n k : Nat) (st : Nat → Int32), k + d = 7 → d < n →
    (∀ st', (∀ j, j < 7 → (j < k → st' j = st j) ∧ (k ≤ j → st' j = st j + 1)) → post (st', va, nm, ad, df, kn, ct, ch, nx, bf)) →
    wX_open_33 post n (nI k) st va nm ad df kn ct ch nx bf := by
  intro d
  induction d with
  | zero =>
    intro n k st hk hn K
    obtain ⟨n, rfl⟩ : ∃ k, n = k + 1 := ⟨n - 1, by omega⟩
    obtain rfl : k = 7 := by omega
    exact br_t (by decide) (K st (fun j hj => ⟨fun _ => rfl, fun h => absurd h (by omega)⟩))
  | succ d ih =>
    intro n k st hk hn K
    obtain ⟨n, rfl⟩ : ∃ k, n = k + 1 := ⟨n - 1, by omega⟩
    have hki : vp_in (nI k) 7 := vp_in_nI (by omega) (by omega)
    refine br_f (nI_nlt (a := 6) (by omega) (by omega)) ⟨hki, hki, ?_⟩
    rw [nI_clamp (n := k) (by omega)]
    refine nm_e (nm_r (nI_1 k) (ih n (k + 1) _ (by omega) (by omega) (fun st' F => K st' (fun j hj => ⟨fun h => ?_, fun h => ?_⟩))))
    · rw [(F j hj).1 (by omega), pk_un (by omega)]
    · by_cases e : j = k
      · rw [(F j hj).1 (by omega), e, pk_us]
      · rw [(F j hj).2 (by omega), pk_un e]
theorem il_open {st va nm ad kn ch nx bf : Nat → Int32} {m p S : Nat} (hm : m < 6) (hS : S < 48) (hp : p ≤ S) (h6 : st 6 = nI S) (T : ∀ j, S ≤ j → j < 48 → nm j = -4) (I : il_IM nm va ad kn ch nx bf)
    (K : ∀ st' va' nm' ad' ch' nx' bf', il_SO p S nm' va' ad' nm va ad → il_IM nm' va' ad' kn ch' nx' bf' → (∀ j, j < 7 → (j ≤ m → st' j = st j) ∧ (m < j → st' j = st j + 1)) →
      post (st', va', nm', ad', df, kn, ct, ch', nx', bf')) :
    wpX_open post (st, va, nm, ad, df, kn, ct, ch, nx, bf) (nI m) (nI p) := by
  unfold wpX_open
  dsimp only
  refine nm_r (e' := nI S + (-1)) (by rw [h6]; exact il_s1 _) ⟨S - p + 1, ?_⟩
  have key := il_op10 (post := post) (df := df) (ct := ct) (st := st) (kn := kn) (nm0 := nm) (va0 := va) (ad0 := ad) (m := m) (p := p) (S := S) hS
    (fun va' nm' ad' ch' nx' bf' Q I => ⟨7 - m, il_op33 (6 - m) (7 - m) (m + 1) st (by omega) (by omega)
      (fun st' F => K st' va' nm' ad' ch' nx' bf' Q I (fun j hj => ⟨fun h => (F j hj).1 (by omega), fun h => (F j hj).2 (by omega)⟩))⟩)
    (S - p) (S - p + 1) va nm ad ch nx bf (by omega) (by omega)
  rw [show p + (S - p) = S from by omega] at key
  refine key ?_ I
  intro j hj
  exact ⟨fun _ => ⟨rfl, rfl, rfl⟩, fun h => T j (by omega) hj, fun h h2 => absurd h (by omega), fun h => T j (by omega) hj⟩
/-- place p has gone, the places between p and k stand one lower -/
def il_SC (p k : Nat) (nm va ad nm0 va0 ad0 : Nat → Int32) : Prop := ∀ j, j < 48 → (j < p → nm j = nm0 j ∧ va j = va0 j ∧ ad j = ad0 j) ∧
  (p ≤ j → j + 1 < k → nm j = nm0 (j + 1) ∧ va j = va0 (j + 1) ∧ ad j = ad0 (j + 1)) ∧ (j + 1 = k → nm j = -4) ∧ (k ≤ j → nm j = nm0 j ∧ va j = va0 j ∧ ad j = ad0 j)
theorem il_SCs {nm va ad nm0 va0 ad0 : Nat → Int32} {p q : Nat} (hq : p ≤ q) (hS : q + 1 < 48) (Q : il_SC p (q + 1) nm va ad nm0 va0 ad0) :
    il_SC p (q + 1 + 1) (upd (upd nm q (nm (q + 1))) (q + 1) (-4)) (upd va q (va (q + 1))) (upd ad q (ad (q + 1))) nm0 va0 ad0 := by
  intro j hj
  obtain ⟨a, b, c, d⟩ := Q j hj
  refine ⟨fun h => ?_, fun h h2 => ?_, fun h => ?_, fun h => ?_⟩
  · rw [pk_un (by omega), pk_un (by omega), pk_un (by omega), pk_un (by omega)]; exact a (by omega)
  · rw [pk_un (by omega)]
    by_cases e : j = q
    · rw [e, pk_us, pk_us, pk_us]
      exact (Q (q + 1) (by omega)).2.2.2 (by omega)
    · rw [pk_un e, pk_un e, pk_un e]; exact b h (by omega)
  · rw [show j = q + 1 from by omega, pk_us]
  · rw [pk_un (by omega), pk_un (by omega), pk_un (by omega), pk_un (by omega)]; exact d (by omega)
theorem il_cl32 {st kn nm0 va0 ad0 : Nat → Int32} {m p S : Nat} (hS : S ≤ 48) (h6 : st 6 = nI S)
    (K : ∀ va' nm' ad' ch' nx' bf', il_SC p S nm' va' ad' nm0 va0 ad0 → il_IM nm' va' ad' kn ch' nx' bf' → ∃ n61, wX_close_61 post n61 (nI (m + 1)) st va' nm' ad' df kn ct ch' nx' bf') :
    ∀ (d n q : Nat) (va nm ad ch nx bf : Nat → Int32), q + 1 + d = S → p ≤ q → d < n → il_SC p (q + 1) nm va ad nm0 va0 ad0 → il_IM nm va ad kn ch nx bf →
      wX_close_32 post (nI m) n (nI (q + 1)) st va nm ad df kn ct ch nx bf := by
  intro d
  induction d with
  | zero =>
    intro n q va nm ad ch nx bf hd hq hn Q I
    obtain ⟨n, rfl⟩ : ∃ k, n = k + 1 := ⟨n - 1, by omega⟩
    obtain rfl : S = q + 1 := by omega
    exact br_t (by rw [h6]; exact nI_le (by omega) (by omega)) (nm_r (nI_1 m) (K va nm ad ch nx bf Q I))
  | succ d ih =>
    intro n q va nm ad ch nx bf hd hq hn Q I
    obtain ⟨n, rfl⟩ : ∃ k, n = k + 1 := ⟨n - 1, by omega⟩
    refine br_f (by rw [h6]; exact nI_ge (by omega) (by omega)) ?_
    rw [nI_pred q]
    refine il_move (f := q + 1) (t := q) (by omega) (by omega) (by omega) (I.1 _ (by omega)) ((Q q (by omega)).2.2.1 rfl) I.2.1 I.2.2 (fun ch' nx' bf' C' => ?_)
    dsimp only
    have M := il_mvI (f := q + 1) (t := q) (by omega) (by omega) I.1 I.2.2
    exact nm_r (nI_1 (q + 1)) (ih n (q + 1) _ _ _ ch' nx' bf' (by omega) (by omega) (by omega) (il_SCs hq (by omega) Q) ⟨M.1, C', M.2⟩)
theorem il_cl61 {va nm ad kn ch nx bf : Nat → Int32} : ∀ (d n k : Nat) (st : Nat → Int32), k + d = 7 → d < n →
    (∀ st', (∀ j, j < 7 → (j < k → st' j = st j) ∧ (k ≤ j → st' j = st j - 1)) → post (st', va, nm, ad, df, kn, ct, ch, nx, bf)) →
    wX_close_61 post n (nI k) st va nm ad df kn ct ch nx bf := by
  intro d
  induction d with
  | zero =>
    intro n k st hk hn K
    obtain ⟨n, rfl⟩ : ∃ k, n = k + 1 := ⟨n - 1, by omega⟩
    obtain rfl : k = 7 := by omega
    exact br_t (by decide) (K st (fun j hj => ⟨fun _ => rfl, fun h => absurd h (by omega)⟩))
  | succ d ih =>
    intro n k st hk hn K
    obtain ⟨n, rfl⟩ : ∃ k, n = k + 1 := ⟨n - 1, by omega⟩
    have hki : vp_in (nI k) 7 := vp_in_nI (by omega) (by omega)
    refine br_f (nI_nlt (a := 6) (by omega) (by omega)) ⟨hki, hki, ?_⟩
    rw [nI_clamp (n := k) (by omega)]
    refine nm_e (nm_r (nI_1 k) (ih n (k + 1) _ (by omega) (by omega) (fun st' F => K st' (fun j hj => ⟨fun h => ?_, fun h => ?_⟩))))
    · rw [(F j hj).1 (by omega), pk_un (by omega)]
    · by_cases e : j = k
      · rw [(F j hj).1 (by omega), e, pk_us]
      · rw [(F j hj).2 (by omega), pk_un e]
theorem il_close {st va nm ad kn ch nx bf : Nat → Int32} {m p S : Nat} (hm : m < 6) (hS : S ≤ 48) (hp : p < S) (h6 : st 6 = nI S) (I : il_IM nm va ad kn ch nx bf)
    (K : ∀ st' va' nm' ad' ch' nx' bf', il_SC p S nm' va' ad' nm va ad → il_IM nm' va' ad' kn ch' nx' bf' → (∀ j, j < 7 → (j ≤ m → st' j = st j) ∧ (m < j → st' j = st j - 1)) →
      post (st', va', nm', ad', df, kn, ct, ch', nx', bf')) :
    wpX_close post (st, va, nm, ad, df, kn, ct, ch, nx, bf) (nI m) (nI p) := by
  have hpi : vp_in (nI p) 48 := vp_in_nI (by omega) (by omega)
  have key : ∀ (nm' ch' nx' bf' : Nat → Int32), il_SC p (p + 1) nm' va ad nm va ad → il_IM nm' va ad kn ch' nx' bf' →
      wX_close_32 post (nI m) (S - p) (nI (p + 1)) st va nm' ad df kn ct ch' nx' bf' := fun nm1 ch1 nx1 bf1 Q1 I1 =>
    il_cl32 hS h6 (fun va' nm' ad' ch' nx' bf' Q I => ⟨7 - m, il_cl61 (6 - m) (7 - m) (m + 1) st (by omega) (by omega)
      (fun st' F => K st' va' nm' ad' ch' nx' bf' Q I (fun j hj => ⟨fun h => (F j hj).1 (by omega), fun h => (F j hj).2 (by omega)⟩))⟩)
      (S - p - 1) (S - p) p va nm1 ad ch1 nx1 bf1 (by omega) (by omega) (by omega) Q1 I1
  unfold wpX_close
  dsimp only
  rw [nI_clamp (n := p) (by omega)]
  refine ⟨hpi, ?_⟩
  rcases I.1 p (by omega) with e | ⟨s, hs, e⟩
  · rw [e]
    refine br_t il_neg4 (nm_r (nI_1 p) ⟨S - p, key nm ch nx bf ?_ I⟩)
    intro j hj
    exact ⟨fun _ => ⟨rfl, rfl, rfl⟩, fun h h2 => absurd h (by omega), fun h => by rw [show j = p from by omega]; exact e, fun _ => ⟨rfl, rfl, rfl⟩⟩
  · rw [e]
    refine br_f (nI_pos (by omega)) ⟨hpi, il_unlink I.2.1 (by omega) hs e (fun ch' nx' bf' C' => ?_)⟩
    dsimp only
    refine ⟨hpi, nm_e (nm_r (nI_1 p) ⟨S - p, key _ ch' nx' bf' ?_ ⟨?_, C', ?_⟩⟩)⟩
    · intro j hj
      refine ⟨fun h => ?_, fun h h2 => absurd h (by omega), fun h => ?_, fun h => ?_⟩
      · rw [pk_un (by omega)]; exact ⟨rfl, rfl, rfl⟩
      · rw [show j = p from by omega, pk_us]
      · rw [pk_un (by omega)]; exact ⟨rfl, rfl, rfl⟩
    · intro q hq
      by_cases z : q = p
      · rw [z, pk_us]; exact Or.inl rfl
      · rw [pk_un z]; exact I.1 q hq
    · intro q hq t ht h
      by_cases z : q = p
      · rw [z, pk_us] at h; exact absurd h (il_ne4' (by omega))
      · rw [pk_un z] at h; exact I.2.2 q hq t ht h
end
end
section
/-! the words: word w of module m is place il_sm sz m + w of the component, cell 8 m + w of the reference -/
def il_sz (sz : Nat → Nat) (m c : Nat) : Nat → Nat := fun j => if j = m then c else sz j
theorem il_sz_s {sz : Nat → Nat} {m c : Nat} : il_sz sz m c m = c := if_pos rfl
theorem il_sz_n {sz : Nat → Nat} {m c j : Nat} (h : j ≠ m) : il_sz sz m c j = sz j := if_neg h
theorem il_sm_z (sz : Nat → Nat) (m c : Nat) : ∀ j, (j ≤ m → il_sm (il_sz sz m c) j = il_sm sz j) ∧ (m < j → il_sm (il_sz sz m c) j + sz m = il_sm sz j + c) := by
  intro j
  induction j with
  | zero => exact ⟨fun _ => rfl, fun h => absurd h (by omega)⟩
  | succ j ih =>
    refine ⟨fun h => ?_, fun h => ?_⟩
    · rw [il_sm_s, il_sm_s, ih.1 (by omega), il_sz_n (by omega)]
    · rw [il_sm_s, il_sm_s]
      by_cases e : j = m
      · rw [ih.1 (by omega), e, il_sz_s]; omega
      · have := ih.2 (by omega)
        rw [il_sz_n e]; omega
theorem il_6 {sz : Nat → Nat} (hz : ∀ m, m < 6 → sz m ≤ 8) : il_sm sz 6 ≤ 48 := il_sm_b (c := 8) hz
theorem il_6l {sz : Nat → Nat} {m : Nat} (hz : ∀ m, m < 6 → sz m ≤ 8) (hm : m < 6) (h8 : sz m < 8) : il_sm sz 6 < 48 := by
  have a := (il_sm_z sz m 8 6).2 hm
  have b : il_sm (il_sz sz m 8) 6 ≤ 48 := il_6 (fun k hk => by
    by_cases e : k = m
    · rw [e, il_sz_s]; omega
    · rw [il_sz_n e]; exact hz k hk)
  omega
theorem il_pl {sz : Nat → Nat} {m w : Nat} (hm : m < 6) (hw : w < sz m) : il_sm sz m + w < il_sm sz 6 := by
  have := il_sm_lt sz hm
  omega
theorem il_pl_i {sz : Nat → Nat} {m w k v : Nat} (hw : w < sz m) (hv : v < sz k) (e : il_sm sz k + v = il_sm sz m + w) : k = m ∧ v = w := by
  rcases Nat.lt_trichotomy k m with h | h | h
  · have := il_sm_lt sz h; omega
  · subst h; exact ⟨rfl, by omega⟩
  · have := il_sm_lt sz h; omega
theorem il_pl_e {sz : Nat → Nat} {j : Nat} : ∀ n, j < il_sm sz n → ∃ m w, m < n ∧ w < sz m ∧ j = il_sm sz m + w := by
  intro n
  induction n with
  | zero => intro h; exact absurd h (by show ¬ j < 0; omega)
  | succ n ih =>
    intro h
    by_cases e : j < il_sm sz n
    · obtain ⟨m, w, a, b, c⟩ := ih e; exact ⟨m, w, by omega, b, c⟩
    · rw [il_sm_s] at h
      exact ⟨n, j - il_sm sz n, by omega, by omega, by omega⟩
def il_ww (n v a na nu : Int32) : Prop := na = n ∧ (n = -4 → nu = v) ∧ (n ≠ -4 → nu = a)
theorem il_ww_c {n v a na nu n' v' a' na' nu' : Int32} (H : il_ww n v a na nu) (x : n' = n ∧ v' = v ∧ a' = a) (y : na' = na ∧ nu' = nu) : il_ww n' v' a' na' nu' := by
  obtain ⟨rfl, rfl, rfl⟩ := x
  obtain ⟨rfl, rfl⟩ := y
  exact H
def il_WD (sz : Nat → Nat) (nm va ad na nu : Nat → Int32) : Prop :=
  ∀ m, m < 6 → ∀ w, w < sz m → il_ww (nm (il_sm sz m + w)) (va (il_sm sz m + w)) (ad (il_sm sz m + w)) (na (8 * m + w)) (nu (8 * m + w))
/-- the reference's cells after an insertion of one word at w of module m (size c) -/
def il_YI (m w c : Nat) (na nu na' nu' : Nat → Int32) : Prop := (∀ j, (j < 8 * m + w ∨ 8 * m + 8 ≤ j) → na' j = na j ∧ nu' j = nu j) ∧ (∀ j, 8 * m + w < j → j ≤ 8 * m + c → na' j = na (j - 1) ∧ nu' j = nu (j - 1))
def il_YD (m w c : Nat) (na nu na' nu' : Nat → Int32) : Prop := (∀ j, (j < 8 * m + w ∨ 8 * m + 8 ≤ j) → na' j = na j ∧ nu' j = nu j) ∧ (∀ j, 8 * m + w ≤ j → j + 1 < 8 * m + c → na' j = na (j + 1) ∧ nu' j = nu (j + 1))
section
variable {st va nm ad df kn ct ch nx bf na nu : Nat → Int32} {post : SX → Prop} {sz : Nat → Nat} {m w : Nat}
theorem il_WDi {nm1 va1 ad1 nm2 va2 ad2 na' nu' : Nat → Int32} (hz : ∀ m, m < 6 → sz m ≤ 8) (hm : m < 6) (hw : w ≤ sz m) (h8 : sz m < 8) (W : il_WD sz nm va ad na nu)
    (Q : il_SO (il_sm sz m + w) (il_sm sz 6) nm1 va1 ad1 nm va ad)
    (hX : ∀ j, j ≠ il_sm sz m + w → nm2 j = nm1 j ∧ va2 j = va1 j ∧ ad2 j = ad1 j)
    (hN : il_ww (nm2 (il_sm sz m + w)) (va2 (il_sm sz m + w)) (ad2 (il_sm sz m + w)) (na' (8 * m + w)) (nu' (8 * m + w)))
    (Y : il_YI m w (sz m) na nu na' nu') : il_WD (il_sz sz m (sz m + 1)) nm2 va2 ad2 na' nu' := by
  have h6 := il_6l hz hm h8
  have hlm := il_sm_lt sz hm
  intro k hk v hv
  have s1 := il_sm_z sz m (sz m + 1) k
  have hlk := il_sm_lt sz hk
  have hzk := hz k hk
  have keep : ∀ j, j < il_sm sz m + w → nm2 j = nm j ∧ va2 j = va j ∧ ad2 j = ad j := fun j hj => by
    have a := hX j (by omega)
    have b := (Q j (by omega)).1 hj
    exact ⟨a.1.trans b.1, a.2.1.trans b.2.1, a.2.2.trans b.2.2⟩
  have shift : ∀ j, il_sm sz m + w ≤ j → j + 1 ≤ il_sm sz 6 → nm2 (j + 1) = nm j ∧ va2 (j + 1) = va j ∧ ad2 (j + 1) = ad j := fun j hj hj2 => by
    have a := hX (j + 1) (by omega)
    have b := (Q (j + 1) (by omega)).2.2.1 (by omega) hj2
    exact ⟨a.1.trans b.1, a.2.1.trans b.2.1, a.2.2.trans b.2.2⟩
  rcases Nat.lt_trichotomy k m with h | h | h
  · have hkm := il_sm_lt sz h
    rw [il_sz_n (by omega)] at hv
    rw [s1.1 (by omega)]
    exact il_ww_c (W k hk v hv) (keep _ (by omega)) (Y.1 _ (by omega))
  · subst h
    rw [il_sz_s] at hv
    rw [s1.1 (by omega)]
    rcases Nat.lt_trichotomy v w with h | h | h
    · exact il_ww_c (W k hk v (by omega)) (keep _ (by omega)) (Y.1 _ (by omega))
    · rw [h]; exact hN
    · obtain ⟨v, rfl⟩ : ∃ x, v = x + 1 := ⟨v - 1, by omega⟩
      exact il_ww_c (W k hk v (by omega)) (shift (il_sm sz k + v) (by omega) (by omega)) (Y.2 (8 * k + (v + 1)) (by omega) (by omega))
  · have hkm := il_sm_lt sz h
    have e := s1.2 h
    rw [il_sz_n (by omega)] at hv
    rw [show il_sm (il_sz sz m (sz m + 1)) k + v = il_sm sz k + v + 1 from by omega]
    exact il_ww_c (W k hk v hv) (shift _ (by omega) (by omega)) (Y.1 _ (by omega))
theorem il_WDd {nm1 va1 ad1 na' nu' : Nat → Int32} (hz : ∀ m, m < 6 → sz m ≤ 8) (hm : m < 6) (hw : w < sz m) (W : il_WD sz nm va ad na nu)
    (Q : il_SC (il_sm sz m + w) (il_sm sz 6) nm1 va1 ad1 nm va ad) (Y : il_YD m w (sz m) na nu na' nu') : il_WD (il_sz sz m (sz m - 1)) nm1 va1 ad1 na' nu' := by
  have h6 := il_6 hz
  have hlm := il_sm_lt sz hm
  intro k hk v hv
  have s1 := il_sm_z sz m (sz m - 1) k
  have hlk := il_sm_lt sz hk
  have hzk := hz k hk
  rcases Nat.lt_trichotomy k m with h | h | h
  · have hkm := il_sm_lt sz h
    rw [il_sz_n (by omega)] at hv
    rw [s1.1 (by omega)]
    exact il_ww_c (W k hk v hv) ((Q _ (by omega)).1 (by omega)) (Y.1 _ (by omega))
  · subst h
    rw [il_sz_s] at hv
    rw [s1.1 (by omega)]
    by_cases h : v < w
    · exact il_ww_c (W k hk v (by omega)) ((Q _ (by omega)).1 (by omega)) (Y.1 _ (by omega))
    · exact il_ww_c (W k hk (v + 1) (by omega)) ((Q (il_sm sz k + v) (by omega)).2.1 (by omega) (by omega)) (Y.2 (8 * k + v) (by omega) (by omega))
  · have hkm := il_sm_lt sz h
    have e := s1.2 h
    rw [il_sz_n (by omega)] at hv
    have e2 : il_sm (il_sz sz m (sz m - 1)) k + v + 1 = il_sm sz k + v := by omega
    have q := (Q (il_sm (il_sz sz m (sz m - 1)) k + v) (by omega)).2.1 (by omega) (by omega)
    rw [e2] at q
    exact il_ww_c (W k hk v hv) q (Y.1 _ (by omega))
def il_R1 (sz : Nat → Nat) (st va nm ad kn ch nx bf na nu : Nat → Int32) : Prop :=
  (∀ m, m < 6 → sz m ≤ 8) ∧ (∀ m, m < 7 → st m = nI (il_sm sz m)) ∧ il_IM nm va ad kn ch nx bf ∧ (∀ j, il_sm sz 6 ≤ j → j < 48 → nm j = -4) ∧ il_WD sz nm va ad na nu
def il_DF (sz : Nat → Nat) (df : Nat → Int32) : Prop := ∀ m, m < 6 → ∀ s, s < 10 → df (10 * m + s) = -4 ∨ ∃ w, w ≤ sz m ∧ df (10 * m + s) = nI w
theorem il_DFV (hz : ∀ m, m < 6 → sz m ≤ 8) (D : il_DF sz df) : ∀ s, s < 10 → il_DV df s := fun s hs m hm => by
  rcases D m hm s hs with e | ⟨w, hw, e⟩
  · exact Or.inl e
  · exact Or.inr ⟨w, Nat.le_trans hw (hz m hm), e⟩
theorem il_IMp {p : Nat} {x v more : Int32} {ch' nx' bf' : Nat → Int32} (I : il_IM nm va ad kn ch nx bf) (hx : x = -4 ∨ ∃ s, s < 10 ∧ x = nI s) (C : il_ch (upd nm p x) ch' nx' bf')
    (hv : ∀ s, s < 10 → x = nI s → v = il_bv (kn s) more) : il_IM (upd nm p x) (upd va p v) (upd ad p more) kn ch' nx' bf' := by
  refine ⟨fun q hq => ?_, C, fun q hq s hs h => ?_⟩
  · by_cases z : q = p
    · rw [z, pk_us]; exact hx
    · rw [pk_un z]; exact I.1 q hq
  · by_cases z : q = p
    · rw [z, pk_us] at h
      rw [z, pk_us, pk_us]; exact hv s hs h
    · rw [pk_un z] at h
      rw [pk_un z, pk_un z]; exact I.2.2 q hq s hs h
/-- what open leaves -/
def il_OP (sz : Nat → Nat) (m w : Nat) (st' va' nm' ad' kn ch' nx' bf' nm va ad : Nat → Int32) : Prop :=
  il_SO (il_sm sz m + w) (il_sm sz 6) nm' va' ad' nm va ad ∧ il_IM nm' va' ad' kn ch' nx' bf' ∧ ∀ j, j < 7 → st' j = nI (il_sm (il_sz sz m (sz m + 1)) j)
theorem il_open1 (R : il_R1 sz st va nm ad kn ch nx bf na nu) (hm : m < 6) (hw : w ≤ sz m) (h8 : sz m < 8)
    (K : ∀ st' va' nm' ad' ch' nx' bf', il_OP sz m w st' va' nm' ad' kn ch' nx' bf' nm va ad → post (st', va', nm', ad', df, kn, ct, ch', nx', bf')) :
    wpX_open post (st, va, nm, ad, df, kn, ct, ch, nx, bf) (nI m) (nI (il_sm sz m + w)) := by
  obtain ⟨hz, hst, I, T, W⟩ := R
  have hlm := il_sm_lt sz hm
  refine il_open hm (il_6l hz hm h8) (by omega) (hst 6 (by omega)) T I (fun st' va' nm' ad' ch' nx' bf' Q I' F => K st' va' nm' ad' ch' nx' bf' ⟨Q, I', fun j hj => ?_⟩)
  have s1 := il_sm_z sz m (sz m + 1) j
  by_cases h : j ≤ m
  · rw [(F j hj).1 h, hst j hj, s1.1 h]
  · have := s1.2 (by omega)
    rw [(F j hj).2 (by omega), hst j hj, nI_1, show il_sm sz j + 1 = il_sm (il_sz sz m (sz m + 1)) j from by omega]
theorem il_put1 {st' va' nm' ad' ch' nx' bf' na' nu' : Nat → Int32} {x v more : Int32} (R : il_R1 sz st va nm ad kn ch nx bf na nu) (hm : m < 6) (hw : w ≤ sz m) (h8 : sz m < 8)
    (O : il_OP sz m w st' va' nm' ad' kn ch' nx' bf' nm va ad) (hx : x = -4 ∨ ∃ s, s < 10 ∧ x = nI s) (Y : il_YI m w (sz m) na nu na' nu')
    (y1 : na' (8 * m + w) = x) (y2 : x = -4 → nu' (8 * m + w) = v) (y3 : x ≠ -4 → nu' (8 * m + w) = more)
    (K : ∀ va2 nm2 ad2 ch2 nx2 bf2, il_R1 (il_sz sz m (sz m + 1)) st' va2 nm2 ad2 kn ch2 nx2 bf2 na' nu' → post (st', va2, nm2, ad2, df, kn, ct, ch2, nx2, bf2)) :
    wpX_put post (st', va', nm', ad', df, kn, ct, ch', nx', bf') (nI (il_sm sz m + w)) v x more := by
  obtain ⟨hz, hst, I, T, W⟩ := R
  obtain ⟨Q, I', hst'⟩ := O
  have hlm := il_sm_lt sz hm
  have h6 := il_6l hz hm h8
  have hp : il_sm sz m + w < 48 := by omega
  have hnp : nm' (il_sm sz m + w) = -4 := (Q _ hp).2.1 rfl
  have hz' : ∀ k, k < 6 → il_sz sz m (sz m + 1) k ≤ 8 := fun k hk => by
    by_cases e : k = m
    · rw [e, il_sz_s]; omega
    · rw [il_sz_n e]; exact hz k hk
  have e6 := (il_sm_z sz m (sz m + 1) 6).2 hm
  have fin : ∀ (v' : Int32) (ch2 nx2 bf2 : Nat → Int32), il_IM (upd nm' (il_sm sz m + w) x) (upd va' (il_sm sz m + w) v') (upd ad' (il_sm sz m + w) more) kn ch2 nx2 bf2 → (x = -4 → v' = v) →
      post (st', upd va' (il_sm sz m + w) v', upd nm' (il_sm sz m + w) x, upd ad' (il_sm sz m + w) more, df, kn, ct, ch2, nx2, bf2) := by
    intro v' ch2 nx2 bf2 I2 hv
    refine K _ _ _ _ _ _ ⟨hz', hst', I2, fun j h1 h2 => ?_, il_WDi hz hm hw h8 W Q (fun j hj => ⟨pk_un hj, pk_un hj, pk_un hj⟩) ?_ Y⟩
    · rw [pk_un (by omega)]; exact (Q j h2).2.2.2 (by omega)
    · rw [pk_us, pk_us, pk_us]
      exact ⟨y1, fun e => (y2 e).trans (hv e).symm, y3⟩
  rcases hx with e | ⟨s, hs, e⟩
  · rw [e] at fin ⊢
    exact il_putc hp (fin v ch' nx' bf' (il_IMp I' (Or.inl rfl) (by rw [il_up1 hnp]; exact I'.2.1) (fun s hs z => absurd z (il_ne4' (by omega)))) (fun _ => rfl))
  · rw [e] at fin ⊢
    refine il_putr I'.2.1 hp hs hnp (fun ch2 nx2 bf2 C2 => fin _ ch2 nx2 bf2 (il_IMp I' (Or.inr ⟨s, hs, rfl⟩) C2 (fun t ht z => ?_)) (fun z => absurd z (il_ne4 (by omega))))
    rw [il_inj z (by omega) (by omega)]
theorem il_close1 {na' nu' : Nat → Int32} (R : il_R1 sz st va nm ad kn ch nx bf na nu) (hm : m < 6) (hw : w < sz m) (Y : il_YD m w (sz m) na nu na' nu')
    (K : ∀ st' va' nm' ad' ch' nx' bf', il_R1 (il_sz sz m (sz m - 1)) st' va' nm' ad' kn ch' nx' bf' na' nu' → post (st', va', nm', ad', df, kn, ct, ch', nx', bf')) :
    wpX_close post (st, va, nm, ad, df, kn, ct, ch, nx, bf) (nI m) (nI (il_sm sz m + w)) := by
  obtain ⟨hz, hst, I, T, W⟩ := R
  have hlm := il_sm_lt sz hm
  have h6 := il_6 hz
  have e6 := (il_sm_z sz m (sz m - 1) 6).2 hm
  refine il_close hm h6 (by omega) (hst 6 (by omega)) I (fun st' va' nm' ad' ch' nx' bf' Q I' F => K st' va' nm' ad' ch' nx' bf' ⟨fun k hk => ?_, fun j hj => ?_, I', fun j h1 h2 => ?_, il_WDd hz hm hw W Q Y⟩)
  · by_cases e : k = m
    · have := hz m hm
      rw [e, il_sz_s]; omega
    · rw [il_sz_n e]; exact hz k hk
  · have s1 := il_sm_z sz m (sz m - 1) j
    by_cases h : j ≤ m
    · rw [(F j hj).1 h, hst j hj, s1.1 h]
    · have := s1.2 (by omega)
      have := il_sm_lt sz (a := m) (b := j) (by omega)
      rw [(F j hj).2 (by omega), hst j hj, show il_sm sz j = il_sm (il_sz sz m (sz m - 1)) j + 1 from by omega, nI_pred]
  · by_cases h : j + 1 = il_sm sz 6
    · exact (Q j h2).2.2.1 h
    · rw [((Q j h2).2.2.2 (by omega)).1]; exact T j (by omega) h2
theorem il_refresh1 (R : il_R1 sz st va nm ad kn ch nx bf na nu) (D : il_DF sz df)
    (K : ∀ va' kn' ct', il_R1 sz st va' nm ad kn' ch nx bf na nu → (∀ s, s < 10 → il_K1 df st kn' ct' s) → post (st, va', nm, ad, df, kn', ct', ch, nx, bf)) :
    wpX_refresh post (st, va, nm, ad, df, kn, ct, ch, nx, bf) := by
  obtain ⟨hz, hst, I, T, W⟩ := R
  have h6 := il_6 hz
  refine il_refresh0 I.2.1 (il_DFV hz D) I.2.2 (fun va' kn' ct' V Q F => K va' kn' ct' ⟨hz, hst, ⟨I.1, I.2.1, V⟩, T, fun m hm w hw => ?_⟩ Q)
  obtain ⟨a, b, c⟩ := W m hm w hw
  have := il_pl hm hw
  exact ⟨a, fun e => (b e).trans (F _ (by omega) e).symm, c⟩
end
end
section
/-! arguments -/
def il_V (n : Nat) (x : Int32) : Prop := ∃ m, m < n ∧ x = nI m
theorem il_Vn {n : Nat} {x : Int32} (hn : n < 2 ^ 31) (h : ¬ il_V n x) : x < 0 ∨ (¬ x < 0 ∧ ∃ j, j < 2 ^ 31 ∧ n ≤ j ∧ x = nI j) := by
  by_cases z : x < 0
  · exact Or.inl z
  · obtain ⟨j, hj, e⟩ := nI_of z
    exact Or.inr ⟨z, j, hj, by
      apply Nat.le_of_not_lt
      intro k
      exact h ⟨j, k, e⟩, e⟩
theorem il_bad0 {post : Int32 → Prop} {u : SX} {m : Nat} (hm : m < 6) (K : post 0) : wpX_bad post u (nI m) :=
  br_f (nI_pos (by omega)) (br_t (nI_lt (b := 6) hm (by omega)) K)
theorem il_bad1 {post : Int32 → Prop} {u : SX} {x : Int32} (h : ¬ il_V 6 x) (K : post 1) : wpX_bad post u x := by
  rcases il_Vn (by omega) h with z | ⟨z, j, hj, hn, e⟩
  · exact br_t z K
  · exact br_f z (br_f (by rw [e]; exact nI_nlt (b := 6) hn hj) K)
theorem il_bdn0 {post : Int32 → Prop} {u : SX} {m : Nat} (hm : m < 10) (K : post 0) : wpX_badName post u (nI m) :=
  br_f (nI_pos (by omega)) (br_t (nI_lt (b := 10) hm (by omega)) K)
theorem il_bdn1 {post : Int32 → Prop} {u : SX} {x : Int32} (h : ¬ il_V 10 x) (K : post 1) : wpX_badName post u x := by
  rcases il_Vn (by omega) h with z | ⟨z, j, hj, hn, e⟩
  · exact br_t z K
  · exact br_f z (br_f (by rw [e]; exact nI_nlt (b := 10) hn hj) K)
theorem il_isM1 {post : Int32 → Prop} {u : SY} {m : Nat} (hm : m < 6) (K : post 1) : wpY_isModule post u (nI m) :=
  br_f (nI_pos (by omega)) (br_f (nI_nlt (a := 5) (by omega) (by omega)) K)
theorem il_isM0 {post : Int32 → Prop} {u : SY} {x : Int32} (h : ¬ il_V 6 x) (K : post 0) : wpY_isModule post u x := by
  rcases il_Vn (by omega) h with z | ⟨z, j, hj, hn, e⟩
  · exact br_t z K
  · exact br_f z (br_t (by rw [e]; exact nI_lt (a := 5) hn hj) K)
theorem il_isN1 {post : Int32 → Prop} {u : SY} {m : Nat} (hm : m < 10) (K : post 1) : wpY_isName post u (nI m) :=
  br_f (nI_pos (by omega)) (br_f (nI_nlt (a := 9) (by omega) (by omega)) K)
theorem il_isN0 {post : Int32 → Prop} {u : SY} {x : Int32} (h : ¬ il_V 10 x) (K : post 0) : wpY_isName post u x := by
  rcases il_Vn (by omega) h with z | ⟨z, j, hj, hn, e⟩
  · exact br_t z K
  · exact br_f z (br_t (by rw [e]; exact nI_lt (a := 9) hn hj) K)
theorem il_words {st va nm ad df kn ct ch nx bf : Nat → Int32} {post : Int32 → Prop} {sz : Nat → Nat} {m : Nat} (hst : ∀ m, m < 7 → st m = nI (il_sm sz m)) (hm : m < 6) (K : post (nI (sz m))) :
    wpX_words post (st, va, nm, ad, df, kn, ct, ch, nx, bf) (nI m) := by
  unfold wpX_words
  dsimp only
  rw [nI_1 m, nI_clamp (n := m) (by omega), nI_clamp (n := m + 1) (by omega), hst m (by omega), hst (m + 1) (by omega), pk_sub (il_sm_mono sz (by omega)), il_sm_s, Nat.add_sub_cancel_left]
  exact ⟨vp_in_nI (by omega) (by omega), vp_in_nI (by omega) (by omega), K⟩
/-! the definitions of one module changed by f, the first i of them -/
def il_dm (f : Int32 → Int32) (m i : Nat) (df : Nat → Int32) : Nat → Int32 := fun j => if 10 * m ≤ j ∧ j < 10 * m + i then f (df j) else df j
theorem il_dm_0 {f : Int32 → Int32} {m : Nat} {df : Nat → Int32} : il_dm f m 0 df = df := by
  funext j
  unfold il_dm
  rw [if_neg (by omega)]
theorem il_dm_at {f : Int32 → Int32} {m i : Nat} {df : Nat → Int32} : il_dm f m i df (10 * m + i) = df (10 * m + i) := by
  unfold il_dm
  rw [if_neg (by omega)]
theorem il_dm_s {f : Int32 → Int32} {m i : Nat} {df : Nat → Int32} {x : Int32} (h : f (df (10 * m + i)) = x) : upd (il_dm f m i df) (10 * m + i) x = il_dm f m (i + 1) df := by
  funext j
  by_cases e : j = 10 * m + i
  · rw [e, pk_us]
    unfold il_dm
    rw [if_pos (by omega), h]
  · rw [pk_un e]
    unfold il_dm
    by_cases h : 10 * m ≤ j ∧ j < 10 * m + i
    · rw [if_pos h, if_pos (by omega)]
    · rw [if_neg h, if_neg (by omega)]
theorem il_dm_k {f : Int32 → Int32} {m i : Nat} {df : Nat → Int32} (h : f (df (10 * m + i)) = df (10 * m + i)) : il_dm f m i df = il_dm f m (i + 1) df := by
  rw [← il_dm_s h, il_up1 il_dm_at]
theorem il_dm_o {f : Int32 → Int32} {m k s : Nat} {df : Nat → Int32} (hs : s < 10) (h : k ≠ m) : il_dm f m 10 df (10 * k + s) = df (10 * k + s) := by
  unfold il_dm
  rw [if_neg (by omega)]
theorem il_dm_i {f : Int32 → Int32} {m s : Nat} {df : Nat → Int32} (hs : s < 10) : il_dm f m 10 df (10 * m + s) = f (df (10 * m + s)) := by
  unfold il_dm
  rw [if_pos (by omega)]
def il_fi (w : Int32) (x : Int32) : Int32 := if x < w then x else x + 1
def il_fd (w : Int32) (x : Int32) : Int32 := if x ≤ w then x else x - 1
def il_fu (_ : Int32) : Int32 := -4
theorem il_fi_t {w x : Int32} (h : x < w) : il_fi w x = x := if_pos h
theorem il_fi_f {w x : Int32} (h : ¬ x < w) : il_fi w x = x + 1 := if_neg h
theorem il_fd_t {w x : Int32} (h : x ≤ w) : il_fd w x = x := if_pos h
theorem il_fd_f {w x : Int32} (h : ¬ x ≤ w) : il_fd w x = x - 1 := if_neg h
theorem il_DFi {sz : Nat → Nat} {df : Nat → Int32} {m w : Nat} (hz : ∀ m, m < 6 → sz m ≤ 8) (D : il_DF sz df) (hm : m < 6) (hw : w ≤ sz m) : il_DF (il_sz sz m (sz m + 1)) (il_dm (il_fi (nI w)) m 10 df) := by
  intro k hk s hs
  have hzk := hz k hk
  by_cases e : k = m
  · subst e
    rw [il_dm_i hs, il_sz_s]
    rcases D k hk s hs with z | ⟨v, hv, z⟩
    · left
      rw [z, il_fi_t]
      exact Int32.lt_of_lt_of_le il_neg4 (nI_pos' (by omega))
    · right
      rw [z]
      by_cases h : v < w
      · exact ⟨v, by omega, il_fi_t (nI_lt h (by omega))⟩
      · exact ⟨v + 1, by omega, (il_fi_f (nI_nlt (by omega) (by omega))).trans (nI_1 v)⟩
  · rw [il_dm_o hs e, il_sz_n e]; exact D k hk s hs
theorem il_DFd {sz : Nat → Nat} {df : Nat → Int32} {m w : Nat} (hz : ∀ m, m < 6 → sz m ≤ 8) (D : il_DF sz df) (hm : m < 6) (hw : w < sz m) : il_DF (il_sz sz m (sz m - 1)) (il_dm (il_fd (nI w)) m 10 df) := by
  intro k hk s hs
  have hzk := hz k hk
  by_cases e : k = m
  · subst e
    rw [il_dm_i hs, il_sz_s]
    rcases D k hk s hs with z | ⟨v, hv, z⟩
    · left
      rw [z, il_fd_t]
      exact Int32.le_of_lt (Int32.lt_of_lt_of_le il_neg4 (nI_pos' (by omega)))
    · right
      rw [z]
      by_cases h : v ≤ w
      · exact ⟨v, by omega, il_fd_t (nI_le h (by omega))⟩
      · obtain ⟨v, rfl⟩ : ∃ x, v = x + 1 := ⟨v - 1, by omega⟩
        exact ⟨v, by omega, (il_fd_f (nI_ge (by omega) (by omega))).trans (nI_pred v)⟩
  · rw [il_dm_o hs e, il_sz_n e]; exact D k hk s hs
theorem il_DFu {sz : Nat → Nat} {df : Nat → Int32} {m c : Nat} (D : il_DF sz df) : il_DF (il_sz sz m c) (il_dm il_fu m 10 df) := by
  intro k hk s hs
  by_cases e : k = m
  · subst e
    rw [il_dm_i hs]
    exact Or.inl rfl
  · rw [il_dm_o hs e, il_sz_n e]; exact D k hk s hs
theorem il_DFa {sz : Nat → Nat} {df : Nat → Int32} {m : Nat} (D : il_DF sz df) : il_DF (il_sz sz m (sz m + 1)) df := by
  intro k hk s hs
  rcases D k hk s hs with z | ⟨v, hv, z⟩
  · exact Or.inl z
  · refine Or.inr ⟨v, ?_, z⟩
    by_cases e : k = m
    · subst e; rw [il_sz_s]; omega
    · rw [il_sz_n e]; exact hv
theorem il_DFs {sz : Nat → Nat} {df : Nat → Int32} {m t : Nat} {x : Int32} (D : il_DF sz df) (ht : t < 10) (hx : x = -4 ∨ ∃ w, w ≤ sz m ∧ x = nI w) : il_DF sz (upd df (10 * m + t) x) := by
  intro k hk s hs
  by_cases e : 10 * k + s = 10 * m + t
  · rw [e, pk_us]
    rw [show k = m from by omega]; exact hx
  · rw [pk_un e]; exact D k hk s hs
section
variable {st va nm ad df kn ct ch nx bf : Nat → Int32} {post : Int32 → SX → Prop} {m w : Nat}
theorem il_in69 (hm : m < 6) (K : ∀ n, wX_insert_69 post (nI m) (nI w) (n + 1) (nI 10) st va nm ad (il_dm (il_fi (nI w)) m 10 df) kn ct ch nx bf) :
    ∀ (d n i : Nat), i + d = 10 → d < n → wX_insert_69 post (nI m) (nI w) n (nI i) st va nm ad (il_dm (il_fi (nI w)) m i df) kn ct ch nx bf := by
  intro d
  induction d with
  | zero =>
    intro n i hi hn
    obtain ⟨n, rfl⟩ : ∃ k, n = k + 1 := ⟨n - 1, by omega⟩
    obtain rfl : i = 10 := by omega
    exact K n
  | succ d ih =>
    intro n i hi hn
    obtain ⟨n, rfl⟩ : ∃ k, n = k + 1 := ⟨n - 1, by omega⟩
    have hix : vp_in (nI m * 10 + nI i) 60 := by rw [il_ix]; exact vp_in_nI (by omega) (by omega)
    have hcl : (nI m * 10 + nI i).toNatClampNeg = 10 * m + i := by rw [il_ix]; exact nI_clamp (by omega)
    refine br_f (nI_ge (b := 10) (by omega) (by omega)) ⟨hix, ?_⟩
    rw [hcl, il_dm_at]
    by_cases h : df (10 * m + i) < nI w
    · refine br_t h (nm_r (nI_1 i) ?_)
      rw [il_dm_k (il_fi_t h)]
      exact ih n (i + 1) (by omega) (by omega)
    · refine br_f h ⟨hix, hix, ?_⟩
      rw [il_dm_s (il_fi_f h)]
      exact nm_e (nm_r (nI_1 i) (ih n (i + 1) (by omega) (by omega)))
theorem il_de41 (hm : m < 6) (K : ∀ n, wX_delete_41 post (nI m) (nI w) (n + 1) (nI 10) st va nm ad (il_dm (il_fd (nI w)) m 10 df) kn ct ch nx bf) :
    ∀ (d n i : Nat), i + d = 10 → d < n → wX_delete_41 post (nI m) (nI w) n (nI i) st va nm ad (il_dm (il_fd (nI w)) m i df) kn ct ch nx bf := by
  intro d
  induction d with
  | zero =>
    intro n i hi hn
    obtain ⟨n, rfl⟩ : ∃ k, n = k + 1 := ⟨n - 1, by omega⟩
    obtain rfl : i = 10 := by omega
    exact K n
  | succ d ih =>
    intro n i hi hn
    obtain ⟨n, rfl⟩ : ∃ k, n = k + 1 := ⟨n - 1, by omega⟩
    have hix : vp_in (nI m * 10 + nI i) 60 := by rw [il_ix]; exact vp_in_nI (by omega) (by omega)
    have hcl : (nI m * 10 + nI i).toNatClampNeg = 10 * m + i := by rw [il_ix]; exact nI_clamp (by omega)
    refine br_f (nI_ge (b := 10) (by omega) (by omega)) ⟨hix, ?_⟩
    rw [hcl, il_dm_at]
    by_cases h : df (10 * m + i) ≤ nI w
    · refine br_t h (nm_r (nI_1 i) ?_)
      rw [il_dm_k (il_fd_t h)]
      exact ih n (i + 1) (by omega) (by omega)
    · refine br_f h ⟨hix, hix, ?_⟩
      rw [il_dm_s (il_fd_f h)]
      exact nm_e (nm_r (nI_1 i) (ih n (i + 1) (by omega) (by omega)))
theorem il_un42 {x : Int32} (hm : m < 6) (K : ∀ n, wX_unload_42 post (nI m) x (n + 1) (nI 10) st va nm ad (il_dm il_fu m 10 df) kn ct ch nx bf) :
    ∀ (d n i : Nat), i + d = 10 → d < n → wX_unload_42 post (nI m) x n (nI i) st va nm ad (il_dm il_fu m i df) kn ct ch nx bf := by
  intro d
  induction d with
  | zero =>
    intro n i hi hn
    obtain ⟨n, rfl⟩ : ∃ k, n = k + 1 := ⟨n - 1, by omega⟩
    obtain rfl : i = 10 := by omega
    exact K n
  | succ d ih =>
    intro n i hi hn
    obtain ⟨n, rfl⟩ : ∃ k, n = k + 1 := ⟨n - 1, by omega⟩
    have hix : vp_in (nI m * 10 + nI i) 60 := by rw [il_ix]; exact vp_in_nI (by omega) (by omega)
    have hcl : (nI m * 10 + nI i).toNatClampNeg = 10 * m + i := by rw [il_ix]; exact nI_clamp (by omega)
    refine br_f (nI_ge (b := 10) (by omega) (by omega)) ⟨hix, ?_⟩
    rw [hcl, il_dm_s (show il_fu _ = -4 from rfl)]
    exact nm_e (nm_r (nI_1 i) (ih n (i + 1) (by omega) (by omega)))
theorem il_in69z (hm : m < 6) (K : ∀ n, wX_insert_69 post (nI m) (nI w) (n + 1) (nI 10) st va nm ad (il_dm (il_fi (nI w)) m 10 df) kn ct ch nx bf) :
    wX_insert_69 post (nI m) (nI w) 11 0 st va nm ad df kn ct ch nx bf := by
  have h := il_in69 hm K 10 11 0 (by omega) (by omega)
  rw [il_dm_0] at h
  exact h
theorem il_de41z (hm : m < 6) (K : ∀ n, wX_delete_41 post (nI m) (nI w) (n + 1) (nI 10) st va nm ad (il_dm (il_fd (nI w)) m 10 df) kn ct ch nx bf) :
    wX_delete_41 post (nI m) (nI w) 11 0 st va nm ad df kn ct ch nx bf := by
  have h := il_de41 hm K 10 11 0 (by omega) (by omega)
  rw [il_dm_0] at h
  exact h
theorem il_un42z {x : Int32} (hm : m < 6) (K : ∀ n, wX_unload_42 post (nI m) x (n + 1) (nI 10) st va nm ad (il_dm il_fu m 10 df) kn ct ch nx bf) :
    wX_unload_42 post (nI m) x 11 0 st va nm ad df kn ct ch nx bf := by
  have h := il_un42 hm K 10 11 0 (by omega) (by omega)
  rw [il_dm_0] at h
  exact h
end
section
variable {na nu si df : Nat → Int32} {post : Int32 → SY → Prop} {m w : Nat}
theorem il_yi134 (hm : m < 6) (K : ∀ n, wY_insert_134 post (nI m) (nI w) (n + 1) (nI (10 * m + 10)) na nu si (il_dm (il_fi (nI w)) m 10 df)) :
    ∀ (d n i : Nat), i + d = 10 → d < n → wY_insert_134 post (nI m) (nI w) n (nI (10 * m + i)) na nu si (il_dm (il_fi (nI w)) m i df) := by
  intro d
  induction d with
  | zero =>
    intro n i hi hn
    obtain ⟨n, rfl⟩ : ∃ k, n = k + 1 := ⟨n - 1, by omega⟩
    obtain rfl : i = 10 := by omega
    exact K n
  | succ d ih =>
    intro n i hi hn
    obtain ⟨n, rfl⟩ : ∃ k, n = k + 1 := ⟨n - 1, by omega⟩
    have hix : vp_in (nI (10 * m + i)) 60 := vp_in_nI (by omega) (by omega)
    refine br_f (by rw [show (10 : Int32) * nI m + 10 = nI (10 * m + 10) from il_ix' m 10]; exact nI_ge (by omega) (by omega)) ⟨hix, ?_⟩
    rw [nI_clamp (n := 10 * m + i) (by omega), il_dm_at]
    by_cases h : df (10 * m + i) < nI w
    · refine br_t h ⟨hix, hix, ?_⟩
      rw [il_dm_s (il_fi_t h)]
      exact nm_e (nm_r (nI_1 (10 * m + i)) (ih n (i + 1) (by omega) (by omega)))
    · refine br_f h ⟨hix, hix, ?_⟩
      rw [il_dm_s (il_fi_f h)]
      exact nm_e (nm_r (nI_1 (10 * m + i)) (ih n (i + 1) (by omega) (by omega)))
theorem il_yd93 (hm : m < 6) (K : ∀ n, wY_delete_93 post (nI m) (nI w) (n + 1) (nI (10 * m + 10)) na nu si (il_dm (il_fd (nI w)) m 10 df)) :
    ∀ (d n i : Nat), i + d = 10 → d < n → wY_delete_93 post (nI m) (nI w) n (nI (10 * m + i)) na nu si (il_dm (il_fd (nI w)) m i df) := by
  intro d
  induction d with
  | zero =>
    intro n i hi hn
    obtain ⟨n, rfl⟩ : ∃ k, n = k + 1 := ⟨n - 1, by omega⟩
    obtain rfl : i = 10 := by omega
    exact K n
  | succ d ih =>
    intro n i hi hn
    obtain ⟨n, rfl⟩ : ∃ k, n = k + 1 := ⟨n - 1, by omega⟩
    have hix : vp_in (nI (10 * m + i)) 60 := vp_in_nI (by omega) (by omega)
    refine br_f (by rw [show (10 : Int32) * nI m + 10 = nI (10 * m + 10) from il_ix' m 10]; exact nI_ge (by omega) (by omega)) ⟨hix, ?_⟩
    rw [nI_clamp (n := 10 * m + i) (by omega), il_dm_at]
    by_cases h : df (10 * m + i) ≤ nI w
    · refine br_t h ⟨hix, hix, ?_⟩
      rw [il_dm_s (il_fd_t h)]
      exact nm_e (nm_r (nI_1 (10 * m + i)) (ih n (i + 1) (by omega) (by omega)))
    · refine br_f h ⟨hix, hix, ?_⟩
      rw [il_dm_s (il_fd_f h)]
      exact nm_e (nm_r (nI_1 (10 * m + i)) (ih n (i + 1) (by omega) (by omega)))
theorem il_yu29 {x : Int32} (hm : m < 6) (K : post x (na, nu, si, il_dm il_fu m 10 df)) :
    ∀ (d n i : Nat), i + d = 10 → d < n → wY_unload_29 post (nI m) x n (nI (10 * m + i)) na nu si (il_dm il_fu m i df) := by
  intro d
  induction d with
  | zero =>
    intro n i hi hn
    obtain ⟨n, rfl⟩ : ∃ k, n = k + 1 := ⟨n - 1, by omega⟩
    obtain rfl : i = 10 := by omega
    exact br_t (by rw [show (10 : Int32) * nI m + 10 = nI (10 * m + 10) from il_ix' m 10]; exact nI_le (by omega) (by omega)) K
  | succ d ih =>
    intro n i hi hn
    obtain ⟨n, rfl⟩ : ∃ k, n = k + 1 := ⟨n - 1, by omega⟩
    have hix : vp_in (nI (10 * m + i)) 60 := vp_in_nI (by omega) (by omega)
    refine br_f (by rw [show (10 : Int32) * nI m + 10 = nI (10 * m + 10) from il_ix' m 10]; exact nI_ge (by omega) (by omega)) ⟨hix, ?_⟩
    rw [nI_clamp (n := 10 * m + i) (by omega), il_dm_s (show il_fu _ = -4 from rfl)]
    exact nm_e (nm_r (nI_1 (10 * m + i)) (ih n (i + 1) (by omega) (by omega)))
theorem il_yi134z (hm : m < 6) (K : ∀ n, wY_insert_134 post (nI m) (nI w) (n + 1) (nI (10 * m + 10)) na nu si (il_dm (il_fi (nI w)) m 10 df)) :
    wY_insert_134 post (nI m) (nI w) 11 (nI (10 * m)) na nu si df := by
  have h := il_yi134 hm K 10 11 0 (by omega) (by omega)
  rw [il_dm_0] at h
  exact h
theorem il_yd93z (hm : m < 6) (K : ∀ n, wY_delete_93 post (nI m) (nI w) (n + 1) (nI (10 * m + 10)) na nu si (il_dm (il_fd (nI w)) m 10 df)) :
    wY_delete_93 post (nI m) (nI w) 11 (nI (10 * m)) na nu si df := by
  have h := il_yd93 hm K 10 11 0 (by omega) (by omega)
  rw [il_dm_0] at h
  exact h
theorem il_yu29z {x : Int32} (hm : m < 6) (K : post x (na, nu, si, il_dm il_fu m 10 df)) : wY_unload_29 post (nI m) x 11 (nI (10 * m)) na nu si df := by
  have h := il_yu29 hm K 10 11 0 (by omega) (by omega)
  rw [il_dm_0] at h
  exact h
end
end
section
/-! the reference's cells shifted -/
def il_sr (f : Nat → Int32) (lo hi : Nat) : Nat → Int32 := fun j => if lo < j ∧ j ≤ hi then f (j - 1) else f j
def il_sl (f : Nat → Int32) (lo hi : Nat) : Nat → Int32 := fun j => if lo ≤ j ∧ j < hi then f (j + 1) else f j
theorem il_sr_0 {f : Nat → Int32} {hi : Nat} : il_sr f hi hi = f := by
  funext j
  unfold il_sr
  rw [if_neg (by omega)]
theorem il_sr_at {f : Nat → Int32} {k hi : Nat} : il_sr f (k + 1) hi k = f k := by
  unfold il_sr
  rw [if_neg (by omega)]
theorem il_sr_s {f : Nat → Int32} {k hi : Nat} (h : k + 1 ≤ hi) : upd (il_sr f (k + 1) hi) (k + 1) (f k) = il_sr f k hi := by
  funext j
  by_cases e : j = k + 1
  · rw [e, pk_us]
    unfold il_sr
    rw [if_pos (by omega)]
    rfl
  · rw [pk_un e]
    unfold il_sr
    by_cases z : k < j ∧ j ≤ hi
    · rw [if_pos z, if_pos (by omega)]
    · rw [if_neg z, if_neg (by omega)]
theorem il_sl_0 {f : Nat → Int32} {lo : Nat} : il_sl f lo lo = f := by
  funext j
  unfold il_sl
  rw [if_neg (by omega)]
theorem il_sl_at {f : Nat → Int32} {lo k : Nat} : il_sl f lo k (k + 1) = f (k + 1) := by
  unfold il_sl
  rw [if_neg (by omega)]
theorem il_sl_s {f : Nat → Int32} {lo k : Nat} (h : lo ≤ k) : upd (il_sl f lo k) k (f (k + 1)) = il_sl f lo (k + 1) := by
  funext j
  by_cases e : j = k
  · rw [e, pk_us]
    unfold il_sl
    rw [if_pos (by omega)]
  · rw [pk_un e]
    unfold il_sl
    by_cases z : lo ≤ j ∧ j < k
    · rw [if_pos z, if_pos (by omega)]
    · rw [if_neg z, if_neg (by omega)]
theorem il_YIi {na nu : Nat → Int32} {m w c : Nat} {x y : Int32} (hw : w ≤ c) (hc : c < 8) :
    il_YI m w c na nu (upd (il_sr na (8 * m + w) (8 * m + c)) (8 * m + w) x) (upd (il_sr nu (8 * m + w) (8 * m + c)) (8 * m + w) y) := by
  refine ⟨fun j h => ?_, fun j h1 h2 => ?_⟩
  · rw [pk_un (by omega), pk_un (by omega)]
    unfold il_sr
    rw [if_neg (by omega), if_neg (by omega)]
    exact ⟨rfl, rfl⟩
  · rw [pk_un (by omega), pk_un (by omega)]
    unfold il_sr
    rw [if_pos ⟨h1, h2⟩, if_pos ⟨h1, h2⟩]
    exact ⟨rfl, rfl⟩
theorem il_YIa {na nu : Nat → Int32} {m c : Nat} {x y : Int32} (hc : c < 8) :
    il_YI m c c na nu (upd na (8 * m + c) x) (upd nu (8 * m + c) y) := by
  refine ⟨fun j h => ?_, fun j h1 h2 => absurd h1 (by omega)⟩
  rw [pk_un (by omega), pk_un (by omega)]
  exact ⟨rfl, rfl⟩
theorem il_YDd {na nu : Nat → Int32} {m w c : Nat} (hw : w < c) (hc : c ≤ 8) :
    il_YD m w c na nu (il_sl na (8 * m + w) (8 * m + (c - 1))) (il_sl nu (8 * m + w) (8 * m + (c - 1))) := by
  refine ⟨fun j h => ?_, fun j h1 h2 => ?_⟩
  · unfold il_sl
    rw [if_neg (by omega), if_neg (by omega)]
    exact ⟨rfl, rfl⟩
  · unfold il_sl
    rw [if_pos (by omega), if_pos (by omega)]
    exact ⟨rfl, rfl⟩
section
variable {na nu si df : Nat → Int32} {post : Int32 → SY → Prop} {m w c : Nat}
theorem il_yapp {x y : Int32} (hm : m < 6) (hc : si m = nI c) (h8 : c < 8)
    (K : post (nI (c + 1)) (upd na (8 * m + c) x, upd nu (8 * m + c) y, upd si m (nI (c + 1)), df)) : wpY_append post (na, nu, si, df) (nI m) x y := by
  have hmi : vp_in (nI m) 6 := vp_in_nI hm (by omega)
  have hi : vp_in (nI (8 * m + c)) 48 := vp_in_nI (by omega) (by omega)
  unfold wpY_append
  dsimp only
  rw [nI_clamp (n := m) (by omega), hc, il_ix8, nI_clamp (n := 8 * m + c) (by omega), nI_1 c]
  refine ⟨hmi, br_f (fun e => absurd (il_inj (b := 8) e (by omega) (by omega)) (by omega)) ⟨hmi, hi, nm_e ⟨hmi, hi, nm_e ⟨hmi, hmi, nm_e ⟨hmi, ?_⟩⟩⟩⟩⟩
  rw [pk_us]
  exact K
theorem il_yful {x y : Int32} (hm : m < 6) (hc : si m = nI 8) (K : post (-2) (na, nu, si, df)) : wpY_append post (na, nu, si, df) (nI m) x y := by
  have hmi : vp_in (nI m) 6 := vp_in_nI hm (by omega)
  unfold wpY_append
  dsimp only
  rw [nI_clamp (n := m) (by omega)]
  exact ⟨hmi, br_t hc K⟩
theorem il_isW1 {post : Int32 → Prop} (hm : m < 6) (hc : si m = nI c) (h8 : c ≤ 8) (hw : w < c) (K : post 1) : wpY_isWord post (na, nu, si, df) (nI m) (nI w) := by
  unfold wpY_isWord
  dsimp only
  rw [nI_clamp (n := m) (by omega), hc]
  exact br_f (nI_pos (by omega)) ⟨vp_in_nI hm (by omega), br_f (nI_ge (by omega) (by omega)) K⟩
theorem il_isW0 {post : Int32 → Prop} {x : Int32} (hm : m < 6) (hc : si m = nI c) (h8 : c ≤ 8) (h : ¬ il_V c x) (K : post 0) : wpY_isWord post (na, nu, si, df) (nI m) x := by
  unfold wpY_isWord
  dsimp only
  rw [nI_clamp (n := m) (by omega), hc]
  rcases il_Vn (by omega) h with z | ⟨z, j, hj, hn, e⟩
  · exact br_t z K
  · exact br_f z ⟨vp_in_nI hm (by omega), br_t (by rw [e]; exact nI_le hn hj) K⟩
theorem il_yi54 {v : Int32} (hm : m < 6) (hw : w ≤ c) (h8 : c < 8)
    (K : ∃ n134, wY_insert_134 post (nI m) (nI w) n134 (nI (10 * m)) (upd (il_sr na (8 * m + w) (8 * m + c)) (8 * m + w) (-4)) (upd (il_sr nu (8 * m + w) (8 * m + c)) (8 * m + w) v) si df) :
    ∀ (d n : Nat), w + d ≤ c → d < n → wY_insert_54 post (nI m) (nI w) v n (nI (8 * m + w + d)) (il_sr na (8 * m + w + d) (8 * m + c)) (il_sr nu (8 * m + w + d) (8 * m + c)) si df := by
  intro d
  induction d with
  | zero =>
    intro n hd hn
    obtain ⟨n, rfl⟩ : ∃ k, n = k + 1 := ⟨n - 1, by omega⟩
    have hi : vp_in (8 * nI m + nI w) 48 := by rw [il_ix8]; exact vp_in_nI (by omega) (by omega)
    have hcl : (8 * nI m + nI w).toNatClampNeg = 8 * m + w := by rw [il_ix8]; exact nI_clamp (by omega)
    refine br_t (by rw [il_ix8]; exact nI_le (by omega) (by omega)) ⟨hi, ?_⟩
    rw [hcl]
    exact nm_e ⟨hi, nm_e (nm_r (pk_mul 10 m) K)⟩
  | succ d ih =>
    intro n hd hn
    obtain ⟨n, rfl⟩ : ∃ k, n = k + 1 := ⟨n - 1, by omega⟩
    rw [show 8 * m + w + (d + 1) = 8 * m + w + d + 1 from by omega]
    have hi0 : vp_in (nI (8 * m + w + d + 1) - 1) 48 := by rw [nI_pred]; exact vp_in_nI (by omega) (by omega)
    have hi1 : vp_in (nI (8 * m + w + d + 1)) 48 := vp_in_nI (by omega) (by omega)
    have hcl : (nI (8 * m + w + d + 1) - 1).toNatClampNeg = 8 * m + w + d := by rw [nI_pred]; exact nI_clamp (by omega)
    refine br_f (by rw [il_ix8]; exact nI_ge (by omega) (by omega)) ⟨hi0, hi1, ?_⟩
    rw [hcl, nI_clamp (n := 8 * m + w + d + 1) (by omega), il_sr_at, il_sr_at, il_sr_s (by omega), il_sr_s (by omega)]
    exact nm_e ⟨hi0, hi1, nm_e (nm_r (pk_m1 (8 * m + w + d)) (ih n (by omega) (by omega)))⟩
theorem il_yi54z {v : Int32} (hm : m < 6) (hw : w ≤ c) (h8 : c < 8)
    (K : ∃ n134, wY_insert_134 post (nI m) (nI w) n134 (nI (10 * m)) (upd (il_sr na (8 * m + w) (8 * m + c)) (8 * m + w) (-4)) (upd (il_sr nu (8 * m + w) (8 * m + c)) (8 * m + w) v) si df) :
    wY_insert_54 post (nI m) (nI w) v (c - w + 1) (nI (8 * m + c)) na nu si df := by
  have h := il_yi54 hm hw h8 K (c - w) (c - w + 1) (by omega) (by omega)
  rw [show 8 * m + w + (c - w) = 8 * m + c from by omega, il_sr_0, il_sr_0] at h
  exact h
theorem il_yins {v : Int32} (hm : m < 6) (hc : si m = nI c) (hw : w ≤ c) (h8 : c < 8)
    (K : post (nI (c + 1)) (upd (il_sr na (8 * m + w) (8 * m + c)) (8 * m + w) (-4), upd (il_sr nu (8 * m + w) (8 * m + c)) (8 * m + w) v, upd si m (nI (c + 1)), il_dm (il_fi (nI w)) m 10 df)) :
    wpY_insert post (na, nu, si, df) (nI m) (nI w) v := by
  have hmi : vp_in (nI m) 6 := vp_in_nI hm (by omega)
  unfold wpY_insert
  dsimp only
  refine il_isM1 hm (br_f (by decide) (br_f (nI_pos (by omega)) ⟨hmi, ?_⟩))
  rw [nI_clamp (n := m) (by omega), hc, il_ix8]
  refine br_t (nI_le hw (by omega)) ⟨hmi, br_f (fun e => absurd (il_inj (b := 8) e (by omega) (by omega)) (by omega)) ⟨hmi, nm_e ⟨c - w + 1, il_yi54z hm hw h8 ⟨11, il_yi134z hm (fun n => ?_)⟩⟩⟩⟩
  refine br_t (by rw [show (10 : Int32) * nI m + 10 = nI (10 * m + 10) from il_ix' m 10]; exact nI_le (by omega) (by omega)) ⟨hmi, hmi, ?_⟩
  rw [nI_clamp (n := m) (by omega), hc, nI_1 c]
  refine nm_e ⟨hmi, ?_⟩
  rw [pk_us]
  exact K
theorem il_yd39 (hm : m < 6) (hc : si m = nI c) (h8 : c < 8)
    (K : ∃ n93, wY_delete_93 post (nI m) (nI w) n93 (nI (10 * m)) (il_sl na (8 * m + w) (8 * m + c)) (il_sl nu (8 * m + w) (8 * m + c)) si df) :
    ∀ (d n i : Nat), i + d = c → w ≤ i → d < n → wY_delete_39 post (nI m) (nI w) n (nI (8 * m + i)) (il_sl na (8 * m + w) (8 * m + i)) (il_sl nu (8 * m + w) (8 * m + i)) si df := by
  have hmi : vp_in (nI m) 6 := vp_in_nI hm (by omega)
  have hcm : (nI m).toNatClampNeg = m := nI_clamp (by omega)
  have he : 8 * nI m + si (nI m).toNatClampNeg = nI (8 * m + c) := by rw [hcm, hc, il_ix8]
  intro d
  induction d with
  | zero =>
    intro n i hd hw hn
    obtain ⟨n, rfl⟩ : ∃ k, n = k + 1 := ⟨n - 1, by omega⟩
    obtain rfl : i = c := by omega
    exact ⟨hmi, br_t (by rw [he]; exact nI_le (by omega) (by omega)) (nm_r (pk_mul 10 m) K)⟩
  | succ d ih =>
    intro n i hd hw hn
    obtain ⟨n, rfl⟩ : ∃ k, n = k + 1 := ⟨n - 1, by omega⟩
    have hi0 : vp_in (nI (8 * m + i) + 1) 48 := by rw [nI_1]; exact vp_in_nI (by omega) (by omega)
    have hi1 : vp_in (nI (8 * m + i)) 48 := vp_in_nI (by omega) (by omega)
    have hcl : (nI (8 * m + i) + 1).toNatClampNeg = 8 * m + i + 1 := by rw [nI_1]; exact nI_clamp (by omega)
    refine ⟨hmi, br_f (by rw [he]; exact nI_ge (by omega) (by omega)) ⟨hi0, hi1, ?_⟩⟩
    rw [hcl, nI_clamp (n := 8 * m + i) (by omega), il_sl_at, il_sl_at, il_sl_s (by omega), il_sl_s (by omega)]
    exact nm_e ⟨hi0, hi1, nm_e (nm_r (nI_1 (8 * m + i)) (ih n (i + 1) (by omega) (by omega) (by omega)))⟩
theorem il_yd39z (hm : m < 6) (hc : si m = nI c) (hw : w ≤ c) (h8 : c < 8)
    (K : ∃ n93, wY_delete_93 post (nI m) (nI w) n93 (nI (10 * m)) (il_sl na (8 * m + w) (8 * m + c)) (il_sl nu (8 * m + w) (8 * m + c)) si df) :
    wY_delete_39 post (nI m) (nI w) (c - w + 1) (nI (8 * m + w)) na nu si df := by
  have h := il_yd39 hm hc h8 K (c - w) (c - w + 1) w (by omega) (by omega) (by omega)
  rw [il_sl_0, il_sl_0] at h
  exact h
theorem il_ydel (hm : m < 6) (hc : si m = nI c) (hw : w < c) (h8 : c ≤ 8)
    (K : post (nI (c - 1)) (il_sl na (8 * m + w) (8 * m + (c - 1)), il_sl nu (8 * m + w) (8 * m + (c - 1)), upd si m (nI (c - 1)), il_dm (il_fd (nI w)) m 10 df)) :
    wpY_delete post (na, nu, si, df) (nI m) (nI w) := by
  have hmi : vp_in (nI m) 6 := vp_in_nI hm (by omega)
  unfold wpY_delete
  dsimp only
  refine il_isM1 hm (br_f (by decide) (il_isW1 hm hc h8 hw (br_f (by decide) ⟨hmi, hmi, ?_⟩)))
  obtain ⟨c, rfl⟩ : ∃ k, c = k + 1 := ⟨c - 1, by omega⟩
  rw [Nat.add_sub_cancel] at K
  rw [nI_clamp (n := m) (by omega), hc, il_ix8, nI_pred]
  refine nm_e (nm_e ⟨c - w + 1, il_yd39z hm pk_us (by omega) (by omega) ⟨11, il_yd93z hm (fun n => ?_)⟩⟩)
  refine br_t (by rw [show (10 : Int32) * nI m + 10 = nI (10 * m + 10) from il_ix' m 10]; exact nI_le (by omega) (by omega)) ⟨hmi, ?_⟩
  rw [nI_clamp (n := m) (by omega), pk_us]
  exact K
theorem il_yunl (hm : m < 6) (K : post (si m) (na, nu, upd si m 0, il_dm il_fu m 10 df)) : wpY_unload post (na, nu, si, df) (nI m) := by
  have hmi : vp_in (nI m) 6 := vp_in_nI hm (by omega)
  unfold wpY_unload
  dsimp only
  refine il_isM1 hm (br_f (by decide) ⟨hmi, ?_⟩)
  rw [nI_clamp (n := m) (by omega)]
  exact nm_e ⟨hmi, nm_e (nm_r (pk_mul 10 m) ⟨11, il_yu29z hm K⟩)⟩
end
end
section
/-! the relation; the component's storing methods -/
def il_R (sz : Nat → Nat) (st va nm ad df kn ct ch nx bf na nu si : Nat → Int32) : Prop :=
  il_R1 sz st va nm ad kn ch nx bf na nu ∧ il_DF sz df ∧ (∀ s, s < 10 → il_K1 df st kn ct s) ∧ ∀ m, m < 6 → si m = nI (sz m)
/-- both objects hold the same words and definitions; the component's image, addresses and chains are up to date -/
def i_Rel (_ : Nat) (u : SX) (v : SY) : Prop := match u, v with
  | (st, va, nm, ad, df, kn, ct, ch, nx, bf), (na, nu, si, df') => df' = df ∧ ∃ sz, il_R sz st va nm ad df kn ct ch nx bf na nu si
theorem i_up {k : Nat} {u : SX} {v : SY} (h : i_Rel k u v) : i_Rel (k + 4) u v := h
section
variable {st va nm ad df kn ct ch nx bf na nu si : Nat → Int32} {sz : Nat → Nat} {m w : Nat} {post : Int32 → SX → Prop}
theorem il_SI {c : Nat} (S : ∀ m, m < 6 → si m = nI (sz m)) : ∀ k, k < 6 → upd si m (nI c) k = nI (il_sz sz m c k) := by
  intro k hk
  by_cases e : k = m
  · rw [e, pk_us, il_sz_s]
  · rw [pk_un e, il_sz_n e]; exact S k hk
theorem il_n8 {c : Nat} (h : c < 8) : ¬ nI c = 8 := fun e => absurd (il_inj (b := 8) e (by omega) (by omega)) (by omega)
theorem il_xful {x v more : Int32} (hst : ∀ m, m < 7 → st m = nI (il_sm sz m)) (hm : m < 6) (h8 : sz m = 8) (K : post (-2) (st, va, nm, ad, df, kn, ct, ch, nx, bf)) :
    wpX_append post (st, va, nm, ad, df, kn, ct, ch, nx, bf) (nI m) v x more := by
  unfold wpX_append
  dsimp only
  exact il_words hst hm (br_t (by rw [h8]; rfl) K)
theorem il_xapp {x v more y : Int32} (R : il_R sz st va nm ad df kn ct ch nx bf na nu si) (hm : m < 6) (h8 : sz m < 8) (hx : x = -4 ∨ ∃ s, s < 10 ∧ x = nI s) (y2 : x = -4 → y = v) (y3 : x ≠ -4 → y = more)
    (K : ∀ st' va' nm' ad' kn' ct' ch' nx' bf', il_R (il_sz sz m (sz m + 1)) st' va' nm' ad' df kn' ct' ch' nx' bf' (upd na (8 * m + sz m) x) (upd nu (8 * m + sz m) y) (upd si m (nI (sz m + 1))) →
      post (nI (sz m + 1)) (st', va', nm', ad', df, kn', ct', ch', nx', bf')) :
    wpX_append post (st, va, nm, ad, df, kn, ct, ch, nx, bf) (nI m) v x more := by
  obtain ⟨R1, D, Q, S⟩ := R
  unfold wpX_append
  dsimp only
  refine il_words R1.2.1 hm (br_f (il_n8 h8) ?_)
  rw [nI_1 m, nI_clamp (n := m + 1) (by omega), R1.2.1 (m + 1) (by omega), il_sm_s]
  refine ⟨vp_in_nI (by omega) (by omega), nm_e (il_open1 (w := sz m) R1 hm (Nat.le_refl _) h8 (fun st' va' nm' ad' ch' nx' bf' O => ?_))⟩
  dsimp only
  refine il_put1 R1 hm (Nat.le_refl _) h8 O hx (il_YIa h8) pk_us (fun e => pk_us.trans (y2 e)) (fun e => pk_us.trans (y3 e)) (fun va2 nm2 ad2 ch2 nx2 bf2 R2 => ?_)
  dsimp only
  refine il_refresh1 R2 (il_DFa D) (fun va3 kn3 ct3 R3 Q3 => ?_)
  dsimp only
  refine il_words R3.2.1 hm ?_
  rw [il_sz_s]
  exact K _ _ _ _ _ _ _ _ _ ⟨R3, il_DFa D, Q3, il_SI S⟩
theorem il_xins {v : Int32} (R : il_R sz st va nm ad df kn ct ch nx bf na nu si) (hm : m < 6) (hw : w ≤ sz m) (h8 : sz m < 8)
    (K : ∀ st' va' nm' ad' kn' ct' ch' nx' bf', il_R (il_sz sz m (sz m + 1)) st' va' nm' ad' (il_dm (il_fi (nI w)) m 10 df) kn' ct' ch' nx' bf'
        (upd (il_sr na (8 * m + w) (8 * m + sz m)) (8 * m + w) (-4)) (upd (il_sr nu (8 * m + w) (8 * m + sz m)) (8 * m + w) v) (upd si m (nI (sz m + 1))) →
      post (nI (sz m + 1)) (st', va', nm', ad', il_dm (il_fi (nI w)) m 10 df, kn', ct', ch', nx', bf')) :
    wpX_insert post (st, va, nm, ad, df, kn, ct, ch, nx, bf) (nI m) (nI w) v := by
  obtain ⟨R1, D, Q, S⟩ := R
  unfold wpX_insert
  dsimp only
  refine il_bad0 hm (br_t rfl (br_f (nI_pos (by omega)) (il_words R1.2.1 hm (br_t (nI_le hw (by omega)) (il_words R1.2.1 hm (br_f (il_n8 h8) ?_))))))
  rw [nI_clamp (n := m) (by omega), R1.2.1 m (by omega), nI_add]
  refine ⟨vp_in_nI (by omega) (by omega), nm_e (il_open1 R1 hm hw h8 (fun st' va' nm' ad' ch' nx' bf' O => ?_))⟩
  dsimp only
  refine il_put1 R1 hm hw h8 O (Or.inl rfl) (il_YIi hw h8) pk_us (fun _ => pk_us) (fun e => absurd rfl e) (fun va2 nm2 ad2 ch2 nx2 bf2 R2 => ?_)
  dsimp only
  refine ⟨11, il_in69z hm (fun n => br_t (by decide) (il_refresh1 R2 (il_DFi R1.1 D hm hw) (fun va3 kn3 ct3 R3 Q3 => ?_)))⟩
  dsimp only
  refine il_words R3.2.1 hm ?_
  rw [il_sz_s]
  exact K _ _ _ _ _ _ _ _ _ ⟨R3, il_DFi R1.1 D hm hw, Q3, il_SI S⟩
theorem il_xdel (R : il_R sz st va nm ad df kn ct ch nx bf na nu si) (hm : m < 6) (hw : w < sz m)
    (K : ∀ st' va' nm' ad' kn' ct' ch' nx' bf', il_R (il_sz sz m (sz m - 1)) st' va' nm' ad' (il_dm (il_fd (nI w)) m 10 df) kn' ct' ch' nx' bf'
        (il_sl na (8 * m + w) (8 * m + (sz m - 1))) (il_sl nu (8 * m + w) (8 * m + (sz m - 1))) (upd si m (nI (sz m - 1))) →
      post (nI (sz m - 1)) (st', va', nm', ad', il_dm (il_fd (nI w)) m 10 df, kn', ct', ch', nx', bf')) :
    wpX_delete post (st, va, nm, ad, df, kn, ct, ch, nx, bf) (nI m) (nI w) := by
  obtain ⟨R1, D, Q, S⟩ := R
  have h8 := R1.1 m hm
  unfold wpX_delete
  dsimp only
  refine il_bad0 hm (br_t rfl (br_f (nI_pos (by omega)) (il_words R1.2.1 hm (br_t (nI_lt hw (by omega)) ?_))))
  rw [nI_clamp (n := m) (by omega), R1.2.1 m (by omega), nI_add]
  refine ⟨vp_in_nI (by omega) (by omega), il_close1 R1 hm hw (il_YDd hw h8) (fun st' va' nm' ad' ch' nx' bf' R2 => ?_)⟩
  dsimp only
  refine ⟨11, il_de41z hm (fun n => br_t (by decide) (il_refresh1 R2 (il_DFd R1.1 D hm hw) (fun va3 kn3 ct3 R3 Q3 => ?_)))⟩
  dsimp only
  refine il_words R3.2.1 hm ?_
  rw [il_sz_s]
  exact K _ _ _ _ _ _ _ _ _ ⟨R3, il_DFd R1.1 D hm hw, Q3, il_SI S⟩
theorem il_sz_z {a b : Nat} : il_sz (il_sz sz m a) m b = il_sz sz m b := by
  funext j
  unfold il_sz
  split <;> rfl
theorem il_sz_i : il_sz sz m (sz m) = sz := by
  funext j
  unfold il_sz
  split
  · next e => rw [e]
  · rfl
theorem il_un18 {na0 nu0 : Nat → Int32} {N : Nat} (hm : m < 6) (hN : N ≤ 8)
    (K : ∀ st' va' nm' ad' ch' nx' bf', il_R1 (il_sz sz m 0) st' va' nm' ad' kn ch' nx' bf' na0 nu0 → ∃ n42, wX_unload_42 post (nI m) (nI N) n42 0 st' va' nm' ad' df kn ct ch' nx' bf') :
    ∀ (d n k : Nat) (st va nm ad ch nx bf na nu : Nat → Int32), k + d = N → d < n → il_R1 (il_sz sz m d) st va nm ad kn ch nx bf na nu → (∀ j, (j < 8 * m ∨ 8 * m + 8 ≤ j) → na j = na0 j ∧ nu j = nu0 j) →
      wX_unload_18 post (nI m) (nI N) n (nI k) st va nm ad df kn ct ch nx bf := by
  intro d
  induction d with
  | zero =>
    intro n k st va nm ad ch nx bf na nu hk hn R E
    obtain ⟨n, rfl⟩ : ∃ k, n = k + 1 := ⟨n - 1, by omega⟩
    refine br_t (nI_le (by omega) (by omega)) (K st va nm ad ch nx bf ⟨R.1, R.2.1, R.2.2.1, R.2.2.2.1, fun i hi v hv => ?_⟩)
    have h8 := R.1 i hi
    have W := R.2.2.2.2 i hi v hv
    by_cases e : i = m
    · rw [e, il_sz_s] at hv; omega
    · have := E (8 * i + v) (by omega)
      exact il_ww_c W ⟨rfl, rfl, rfl⟩ ⟨this.1.symm, this.2.symm⟩
  | succ d ih =>
    intro n k st va nm ad ch nx bf na nu hk hn R E
    obtain ⟨n, rfl⟩ : ∃ k, n = k + 1 := ⟨n - 1, by omega⟩
    refine br_f (nI_ge (by omega) (by omega)) ⟨vp_in_nI (by omega) (by omega), ?_⟩
    rw [nI_clamp (n := m) (by omega), R.2.1 m (by omega)]
    have Y : il_YD m 0 (il_sz sz m (d + 1) m) na nu _ _ := il_YDd (by rw [il_sz_s]; omega) (R.1 m hm)
    refine il_close1 (w := 0) R hm (by rw [il_sz_s]; omega) Y (fun st' va' nm' ad' ch' nx' bf' R2 => ?_)
    dsimp only
    have E2 := fun j h => Y.1 j h
    rw [il_sz_z] at R2
    rw [il_sz_s, Nat.add_sub_cancel] at R2 E2
    refine nm_r (nI_1 k) (ih n (k + 1) _ _ _ _ _ _ _ _ _ (by omega) (by omega) R2 (fun j h => ?_))
    have a := E2 j (by omega)
    have b := E j h
    exact ⟨a.1.trans b.1, a.2.trans b.2⟩
theorem il_xunl (R : il_R sz st va nm ad df kn ct ch nx bf na nu si) (hm : m < 6)
    (K : ∀ st' va' nm' ad' kn' ct' ch' nx' bf', il_R (il_sz sz m 0) st' va' nm' ad' (il_dm il_fu m 10 df) kn' ct' ch' nx' bf' na nu (upd si m 0) →
      post (nI (sz m)) (st', va', nm', ad', il_dm il_fu m 10 df, kn', ct', ch', nx', bf')) :
    wpX_unload post (st, va, nm, ad, df, kn, ct, ch, nx, bf) (nI m) := by
  obtain ⟨R1, D, Q, S⟩ := R
  have h8 := R1.1 m hm
  unfold wpX_unload
  dsimp only
  refine il_bad0 hm (br_t rfl (il_words R1.2.1 hm ⟨sz m + 1, ?_⟩))
  refine il_un18 (sz := sz) (na0 := na) (nu0 := nu) hm h8 (fun st' va' nm' ad' ch' nx' bf' R2 => ?_) (sz m) (sz m + 1) 0 st va nm ad ch nx bf na nu (by omega) (by omega) (by rw [il_sz_i]; exact R1) (fun j _ => ⟨rfl, rfl⟩)
  refine ⟨11, il_un42z hm (fun n => br_t (by decide) (il_refresh1 R2 (il_DFu D) (fun va3 kn3 ct3 R3 Q3 => ?_)))⟩
  dsimp only
  exact K _ _ _ _ _ _ _ _ _ ⟨R3, il_DFu D, Q3, il_SI (c := 0) S⟩
theorem il_xd53 {s : Nat} {x z : Int32} (R : il_R sz st va nm ad df kn ct ch nx bf na nu si) (hm : m < 6) (hs : s < 10) (hx : x = -4 ∨ ∃ w, w ≤ sz m ∧ x = nI w)
    (K : ∀ va' kn' ct', il_R sz st va' nm ad (upd df (10 * m + s) x) kn' ct' ch nx bf na nu si → post z (st, va', nm, ad, upd df (10 * m + s) x, kn', ct', ch, nx, bf)) :
    wX_define_53 post (nI m) (nI s) x z st va nm ad df kn ct ch nx bf := by
  obtain ⟨R1, D, Q, S⟩ := R
  have D' := il_DFs (m := m) (t := s) (x := x) D hs hx
  unfold wX_define_53
  rw [il_ix, nI_clamp (n := 10 * m + s) (by omega)]
  refine ⟨vp_in_nI (by omega) (by omega), nm_e (il_refresh1 R1 D' (fun va3 kn3 ct3 R3 Q3 => ?_))⟩
  dsimp only
  exact K _ _ _ ⟨R3, D', Q3, S⟩
theorem il_WDp {v more : Int32} (hz : ∀ m, m < 6 → sz m ≤ 8) (hm : m < 6) (hw : w < sz m) (W : il_WD sz nm va ad na nu) :
    il_WD sz (upd nm (il_sm sz m + w) (-4)) (upd va (il_sm sz m + w) v) (upd ad (il_sm sz m + w) more) (upd na (8 * m + w) (-4)) (upd nu (8 * m + w) v) := by
  intro k hk i hi
  have h1 := hz k hk
  have h2 := hz m hm
  by_cases e : il_sm sz k + i = il_sm sz m + w
  · obtain ⟨e1, e2⟩ := il_pl_i hw hi e
    subst e1 e2
    rw [pk_us, pk_us, pk_us, pk_us, pk_us]
    exact ⟨rfl, fun _ => rfl, fun z => absurd rfl z⟩
  · have e2 : 8 * k + i ≠ 8 * m + w := by
      intro z
      have e3 : k = m := by omega
      subst e3
      omega
    rw [pk_un e, pk_un e, pk_un e, pk_un e2, pk_un e2]
    exact W k hk i hi
theorem il_xpat {v : Int32} (R : il_R sz st va nm ad df kn ct ch nx bf na nu si) (hm : m < 6) (hw : w < sz m)
    (K : ∀ z va' nm' ad' ch' nx' bf', ((na (8 * m + w) = -4 ∧ z = 0) ∨ (na (8 * m + w) ≠ -4 ∧ z = 1)) → il_R sz st va' nm' ad' df kn ct ch' nx' bf' (upd na (8 * m + w) (-4)) (upd nu (8 * m + w) v) si →
      post z (st, va', nm', ad', df, kn, ct, ch', nx', bf')) :
    wpX_patch post (st, va, nm, ad, df, kn, ct, ch, nx, bf) (nI m) (nI w) v := by
  obtain ⟨⟨hz, hst, I, T, W⟩, D, Q, S⟩ := R
  have h8 := hz m hm
  have h6 := il_6 hz
  have hp6 := il_pl hm hw
  have hp : il_sm sz m + w < 48 := by omega
  have hpi : vp_in (nI (il_sm sz m + w)) 48 := vp_in_nI hp (by omega)
  have hna := (W m hm w hw).1
  have fin : ∀ ch' nx' bf', il_ch (upd nm (il_sm sz m + w) (-4)) ch' nx' bf' → il_R sz st (upd va (il_sm sz m + w) v) (upd nm (il_sm sz m + w) (-4)) (upd ad (il_sm sz m + w) 0) df kn ct ch' nx' bf' (upd na (8 * m + w) (-4)) (upd nu (8 * m + w) v) si := by
    intro ch' nx' bf' C
    refine ⟨⟨hz, hst, il_IMp I (Or.inl rfl) C (fun s hs z => absurd z (il_ne4' (by omega))), fun j h1 h2 => ?_, il_WDp hz hm hw W⟩, D, Q, S⟩
    rw [pk_un (by omega)]; exact T j h1 h2
  unfold wpX_patch
  dsimp only
  refine il_bad0 hm (br_t rfl (br_f (nI_pos (by omega)) (il_words hst hm (br_t (nI_lt hw (by omega)) ?_))))
  rw [nI_clamp (n := m) (by omega), hst m (by omega), nI_add]
  refine ⟨vp_in_nI (by omega) (by omega), nm_e ⟨hpi, ?_⟩⟩
  rw [nI_clamp (n := il_sm sz m + w) (by omega)]
  rcases I.1 _ hp with e | ⟨s, hs, e⟩
  · refine br_t (by rw [e]; exact il_neg4) (br_f (by decide) (il_putc hp ?_))
    dsimp only
    exact K _ _ _ _ _ _ _ (Or.inl ⟨hna.trans e, rfl⟩) (fin ch nx bf (by rw [il_up1 e]; exact I.2.1))
  · refine br_f (by rw [e]; exact nI_pos (by omega)) (br_t rfl ⟨hpi, ?_⟩)
    rw [nI_clamp (n := il_sm sz m + w) (by omega), e]
    refine il_unlink I.2.1 hp hs e (fun ch' nx' bf' C => ?_)
    dsimp only
    unfold wX_patch_72
    refine il_putc hp ?_
    dsimp only
    exact K _ _ _ _ _ _ _ (Or.inr ⟨by rw [hna, e]; exact il_ne4 (by omega), rfl⟩) (fin ch' nx' bf' C)
end
end
section
theorem i_vc_constant {k : Nat} {u : SX} {v : SY} (I : i_Rel k u v) (hk : k + 4 ≤ 2048) (v1 : Int32) (v2 : Int32) : wpX_constant (fun r u' => wpY_constant (fun r' v' => r' = r ∧ i_Rel (k + 4) u' v') v v1 v2) u v1 v2 := by
  obtain ⟨st, va, nm, ad, dfx, kn, ct, ch, nx, bf⟩ := u
  obtain ⟨na, nu, si, df⟩ := v
  obtain ⟨rfl, sz, R⟩ := I
  by_cases h : il_V 6 v1
  · obtain ⟨m, hm, rfl⟩ := h
    have hs := R.2.2.2 m hm
    have hz := R.1.1 m hm
    unfold wpX_constant
    dsimp only
    refine il_bad0 hm (br_t rfl ?_)
    by_cases h8 : sz m = 8
    · refine il_xful R.1.2.1 hm h8 ?_
      dsimp only
      unfold wpY_constant
      dsimp only
      exact il_isM1 hm (br_f (by decide) (il_yful hm (by rw [hs, h8]) ⟨rfl, rfl, sz, R⟩))
    · refine il_xapp R hm (by omega) (Or.inl rfl) (fun _ => rfl) (fun e => absurd rfl e) (fun st' va' nm' ad' kn' ct' ch' nx' bf' R' => ?_)
      dsimp only
      unfold wpY_constant
      dsimp only
      exact il_isM1 hm (br_f (by decide) (il_yapp hm hs (by omega) ⟨rfl, rfl, _, R'⟩))
  · unfold wpX_constant
    dsimp only
    refine il_bad1 h (br_f (by decide) ?_)
    unfold wpY_constant
    dsimp only
    exact il_isM0 h (br_t rfl ⟨rfl, rfl, sz, R⟩)
theorem i_vc_reference {k : Nat} {u : SX} {v : SY} (I : i_Rel k u v) (hk : k + 4 ≤ 2048) (v1 : Int32) (v2 : Int32) (v3 : Int32) : wpX_reference (fun r u' => wpY_reference (fun r' v' => r' = r ∧ i_Rel (k + 4) u' v') v v1 v2 v3) u v1 v2 v3 := by
  obtain ⟨st, va, nm, ad, dfx, kn, ct, ch, nx, bf⟩ := u
  obtain ⟨na, nu, si, df⟩ := v
  obtain ⟨rfl, sz, R⟩ := I
  unfold wpX_reference
  dsimp only
  by_cases h : il_V 6 v1
  · obtain ⟨m, hm, rfl⟩ := h
    have hs := R.2.2.2 m hm
    have hz := R.1.1 m hm
    refine il_bad0 hm (br_t rfl ?_)
    by_cases h2 : il_V 10 v2
    · obtain ⟨s, hs10, rfl⟩ := h2
      refine il_bdn0 hs10 (br_t rfl ?_)
      by_cases h3 : v3 < -100
      · refine br_t h3 ?_
        unfold wpY_reference
        dsimp only
        exact il_isM1 hm (br_f (by decide) (il_isN1 hs10 (br_f (by decide) (br_t h3 (br_t rfl ⟨rfl, rfl, sz, R⟩)))))
      · by_cases h4 : v3 ≤ 100
        · refine br_f h3 (br_t h4 ?_)
          by_cases h8 : sz m = 8
          · refine il_xful R.1.2.1 hm h8 ?_
            dsimp only
            unfold wpY_reference
            dsimp only
            exact il_isM1 hm (br_f (by decide) (il_isN1 hs10 (br_f (by decide) (br_f h3 (br_f (Int32.not_lt.mpr h4) (br_f (by decide) (il_yful hm (by rw [hs, h8]) ⟨rfl, rfl, sz, R⟩)))))))
          · refine il_xapp (y := v3) R hm (by omega) (Or.inr ⟨s, hs10, rfl⟩) (fun e => absurd e (il_ne4 (by omega))) (fun _ => rfl) (fun st' va' nm' ad' kn' ct' ch' nx' bf' R' => ?_)
            dsimp only
            unfold wpY_reference
            dsimp only
            exact il_isM1 hm (br_f (by decide) (il_isN1 hs10 (br_f (by decide) (br_f h3 (br_f (Int32.not_lt.mpr h4) (br_f (by decide) (il_yapp hm hs (by omega) ⟨rfl, rfl, _, R'⟩)))))))
        · refine br_f h3 (br_f h4 ?_)
          unfold wpY_reference
          dsimp only
          exact il_isM1 hm (br_f (by decide) (il_isN1 hs10 (br_f (by decide) (br_f h3 (br_t (Int32.not_le.mp h4) (br_t rfl ⟨rfl, rfl, sz, R⟩))))))
    · refine il_bdn1 h2 (br_f (by decide) ?_)
      unfold wpY_reference
      dsimp only
      exact il_isM1 hm (br_f (by decide) (il_isN0 h2 (br_t rfl (br_t rfl ⟨rfl, rfl, sz, R⟩))))
  · refine il_bad1 h (br_f (by decide) ?_)
    unfold wpY_reference
    dsimp only
    exact il_isM0 h (br_t rfl (br_t rfl ⟨rfl, rfl, sz, R⟩))
theorem i_vc_patch {k : Nat} {u : SX} {v : SY} (I : i_Rel k u v) (hk : k + 4 ≤ 2048) (v1 : Int32) (v2 : Int32) (v3 : Int32) : wpX_patch (fun r u' => wpY_patch (fun r' v' => r' = r ∧ i_Rel (k + 4) u' v') v v1 v2 v3) u v1 v2 v3 := by
  obtain ⟨st, va, nm, ad, dfx, kn, ct, ch, nx, bf⟩ := u
  obtain ⟨na, nu, si, df⟩ := v
  obtain ⟨rfl, sz, R⟩ := I
  by_cases h : il_V 6 v1
  · obtain ⟨m, hm, rfl⟩ := h
    have hs := R.2.2.2 m hm
    have hz := R.1.1 m hm
    by_cases h2 : il_V (sz m) v2
    · obtain ⟨w, hw, rfl⟩ := h2
      refine il_xpat R hm hw (fun z va' nm' ad' ch' nx' bf' E R' => ?_)
      unfold wpY_patch
      dsimp only
      have hi : vp_in (8 * nI m + nI w) 48 := by rw [il_ix8]; exact vp_in_nI (by omega) (by omega)
      have hcl : (8 * nI m + nI w).toNatClampNeg = 8 * m + w := by rw [il_ix8]; exact nI_clamp (by omega)
      refine il_isM1 hm (br_f (by decide) (il_isW1 hm hs hz hw (br_f (by decide) ⟨hi, ?_⟩)))
      unfold wY_patch_43
      rw [hcl]
      rcases E with ⟨e, rfl⟩ | ⟨e, rfl⟩
      · exact br_t e ⟨hi, nm_e ⟨hi, nm_e ⟨rfl, rfl, sz, R'⟩⟩⟩
      · exact br_f e ⟨hi, nm_e ⟨hi, nm_e ⟨rfl, rfl, sz, R'⟩⟩⟩
    · have hY : wpY_patch (fun r' v' => r' = -4 ∧ i_Rel (k + 4) (st, va, nm, ad, df, kn, ct, ch, nx, bf) v') (na, nu, si, df) (nI m) v2 v3 := by
        unfold wpY_patch
        dsimp only
        exact il_isM1 hm (br_f (by decide) (il_isW0 hm hs hz h2 (br_t rfl ⟨rfl, rfl, sz, R⟩)))
      unfold wpX_patch
      dsimp only
      refine il_bad0 hm (br_t rfl ?_)
      rcases il_Vn (by omega) h2 with z | ⟨z, j, hj, hn, e⟩
      · exact br_t z hY
      · exact br_f z (il_words R.1.2.1 hm (br_f (by rw [e]; exact nI_nlt hn hj) hY))
  · unfold wpX_patch
    dsimp only
    refine il_bad1 h (br_f (by decide) ?_)
    unfold wpY_patch
    dsimp only
    exact il_isM0 h (br_t rfl ⟨rfl, rfl, sz, R⟩)
theorem i_vc_insert {k : Nat} {u : SX} {v : SY} (I : i_Rel k u v) (hk : k + 4 ≤ 2048) (v1 : Int32) (v2 : Int32) (v3 : Int32) : wpX_insert (fun r u' => wpY_insert (fun r' v' => r' = r ∧ i_Rel (k + 4) u' v') v v1 v2 v3) u v1 v2 v3 := by
  obtain ⟨st, va, nm, ad, dfx, kn, ct, ch, nx, bf⟩ := u
  obtain ⟨na, nu, si, df⟩ := v
  obtain ⟨rfl, sz, R⟩ := I
  by_cases h : il_V 6 v1
  · obtain ⟨m, hm, rfl⟩ := h
    have hs := R.2.2.2 m hm
    have hz := R.1.1 m hm
    have hmi : vp_in (nI m) 6 := vp_in_nI hm (by omega)
    by_cases h2 : il_V (sz m + 1) v2
    · obtain ⟨w, hw, rfl⟩ := h2
      by_cases h8 : sz m = 8
      · unfold wpX_insert
        dsimp only
        refine il_bad0 hm (br_t rfl (br_f (nI_pos (by omega)) (il_words R.1.2.1 hm (br_t (nI_le (by omega) (by omega)) (il_words R.1.2.1 hm (br_t (by rw [h8]; rfl) ?_))))))
        unfold wpY_insert
        dsimp only
        refine il_isM1 hm (br_f (by decide) (br_f (nI_pos (by omega)) ⟨hmi, ?_⟩))
        rw [nI_clamp (n := m) (by omega), hs]
        exact br_t (nI_le (by omega) (by omega)) ⟨hmi, br_t (by rw [h8]; rfl) ⟨rfl, rfl, sz, R⟩⟩
      · refine il_xins R hm (by omega) (by omega) (fun st' va' nm' ad' kn' ct' ch' nx' bf' R' => ?_)
        exact il_yins hm hs (by omega) (by omega) ⟨rfl, rfl, _, R'⟩
    · rcases il_Vn (by omega) h2 with z | ⟨z, j, hj, hn, e⟩
      · unfold wpX_insert
        dsimp only
        refine il_bad0 hm (br_t rfl (br_t z ?_))
        unfold wpY_insert
        dsimp only
        exact il_isM1 hm (br_f (by decide) (br_t z ⟨rfl, rfl, sz, R⟩))
      · unfold wpX_insert
        dsimp only
        refine il_bad0 hm (br_t rfl (br_f z (il_words R.1.2.1 hm (br_f (by rw [e]; exact nI_ge hn hj) ?_))))
        unfold wpY_insert
        dsimp only
        refine il_isM1 hm (br_f (by decide) (br_f z ⟨hmi, ?_⟩))
        rw [nI_clamp (n := m) (by omega), hs]
        exact br_f (by rw [e]; exact nI_ge hn hj) ⟨rfl, rfl, sz, R⟩
  · unfold wpX_insert
    dsimp only
    refine il_bad1 h (br_f (by decide) ?_)
    unfold wpY_insert
    dsimp only
    exact il_isM0 h (br_t rfl ⟨rfl, rfl, sz, R⟩)
theorem i_vc_delete {k : Nat} {u : SX} {v : SY} (I : i_Rel k u v) (hk : k + 4 ≤ 2048) (v1 : Int32) (v2 : Int32) : wpX_delete (fun r u' => wpY_delete (fun r' v' => r' = r ∧ i_Rel (k + 4) u' v') v v1 v2) u v1 v2 := by
  obtain ⟨st, va, nm, ad, dfx, kn, ct, ch, nx, bf⟩ := u
  obtain ⟨na, nu, si, df⟩ := v
  obtain ⟨rfl, sz, R⟩ := I
  by_cases h : il_V 6 v1
  · obtain ⟨m, hm, rfl⟩ := h
    have hs := R.2.2.2 m hm
    have hz := R.1.1 m hm
    by_cases h2 : il_V (sz m) v2
    · obtain ⟨w, hw, rfl⟩ := h2
      refine il_xdel R hm hw (fun st' va' nm' ad' kn' ct' ch' nx' bf' R' => ?_)
      exact il_ydel hm hs hw hz ⟨rfl, rfl, _, R'⟩
    · have hY : wpY_delete (fun r' v' => r' = -4 ∧ i_Rel (k + 4) (st, va, nm, ad, df, kn, ct, ch, nx, bf) v') (na, nu, si, df) (nI m) v2 := by
        unfold wpY_delete
        dsimp only
        exact il_isM1 hm (br_f (by decide) (il_isW0 hm hs hz h2 (br_t rfl ⟨rfl, rfl, sz, R⟩)))
      unfold wpX_delete
      dsimp only
      refine il_bad0 hm (br_t rfl ?_)
      rcases il_Vn (by omega) h2 with z | ⟨z, j, hj, hn, e⟩
      · exact br_t z hY
      · exact br_f z (il_words R.1.2.1 hm (br_f (by rw [e]; exact nI_nlt hn hj) hY))
  · unfold wpX_delete
    dsimp only
    refine il_bad1 h (br_f (by decide) ?_)
    unfold wpY_delete
    dsimp only
    exact il_isM0 h (br_t rfl ⟨rfl, rfl, sz, R⟩)
theorem i_vc_unload {k : Nat} {u : SX} {v : SY} (I : i_Rel k u v) (hk : k + 4 ≤ 2048) (v1 : Int32) : wpX_unload (fun r u' => wpY_unload (fun r' v' => r' = r ∧ i_Rel (k + 4) u' v') v v1) u v1 := by
  obtain ⟨st, va, nm, ad, dfx, kn, ct, ch, nx, bf⟩ := u
  obtain ⟨na, nu, si, df⟩ := v
  obtain ⟨rfl, sz, R⟩ := I
  by_cases h : il_V 6 v1
  · obtain ⟨m, hm, rfl⟩ := h
    have hs := R.2.2.2 m hm
    refine il_xunl R hm (fun st' va' nm' ad' kn' ct' ch' nx' bf' R' => ?_)
    exact il_yunl hm ⟨hs, rfl, _, R'⟩
  · unfold wpX_unload
    dsimp only
    refine il_bad1 h (br_f (by decide) ?_)
    unfold wpY_unload
    dsimp only
    exact il_isM0 h (br_t rfl ⟨rfl, rfl, sz, R⟩)
theorem i_vc_define {k : Nat} {u : SX} {v : SY} (I : i_Rel k u v) (hk : k + 4 ≤ 2048) (v1 : Int32) (v2 : Int32) (v3 : Int32) : wpX_define (fun r u' => wpY_define (fun r' v' => r' = r ∧ i_Rel (k + 4) u' v') v v1 v2 v3) u v1 v2 v3 := by
  obtain ⟨st, va, nm, ad, dfx, kn, ct, ch, nx, bf⟩ := u
  obtain ⟨na, nu, si, df⟩ := v
  obtain ⟨rfl, sz, R⟩ := I
  unfold wpX_define
  dsimp only
  by_cases h : il_V 6 v1
  · obtain ⟨m, hm, rfl⟩ := h
    have hs := R.2.2.2 m hm
    have hz := R.1.1 m hm
    have hmi : vp_in (nI m) 6 := vp_in_nI hm (by omega)
    refine il_bad0 hm (br_t rfl ?_)
    by_cases h2 : il_V 10 v2
    · obtain ⟨s, hs10, rfl⟩ := h2
      refine il_bdn0 hs10 (br_t rfl ?_)
      have hix : vp_in (nI m * 10 + nI s) 60 := by rw [il_ix]; exact vp_in_nI (by omega) (by omega)
      have hcl : (nI m * 10 + nI s).toNatClampNeg = 10 * m + s := by rw [il_ix]; exact nI_clamp (by omega)
      have hix' : vp_in (10 * nI m + nI s) 60 := by rw [il_ix']; exact vp_in_nI (by omega) (by omega)
      have hcl' : (10 * nI m + nI s).toNatClampNeg = 10 * m + s := by rw [il_ix']; exact nI_clamp (by omega)
      by_cases h3 : il_V (sz m + 1) v3
      · obtain ⟨w, hw, rfl⟩ := h3
        have hwz : nI w ≤ nI (sz m) := nI_le (by omega) (by omega)
        refine br_f (nI_pos (by omega)) (il_words R.1.2.1 hm (br_t hwz ⟨hix, ?_⟩))
        rw [hcl]
        have D := R.2.1 m hm s hs10
        have hY : ∀ z : Int32, ((df (10 * m + s) = -4 ∧ z = 0) ∨ (df (10 * m + s) ≠ -4 ∧ z = 1)) → ∀ va' kn' ct', il_R sz st va' nm ad (upd df (10 * m + s) (nI w)) kn' ct' ch nx bf na nu si →
            wpY_define (fun r' v' => r' = z ∧ i_Rel (k + 4) (st, va', nm, ad, upd df (10 * m + s) (nI w), kn', ct', ch, nx, bf) v') (na, nu, si, df) (nI m) (nI s) (nI w) := by
          intro z hzz va' kn' ct' R'
          unfold wpY_define
          dsimp only
          refine il_isM1 hm (br_f (by decide) (il_isN1 hs10 (br_f (by decide) (br_f (nI_pos (by omega)) ⟨hmi, ?_⟩))))
          rw [nI_clamp (n := m) (by omega), hs]
          refine br_t hwz ⟨hix', ?_⟩
          unfold wY_define_56
          rw [hcl']
          rcases hzz with ⟨e, rfl⟩ | ⟨e, rfl⟩
          · exact br_t e ⟨hix', nm_e ⟨rfl, rfl, sz, R'⟩⟩
          · exact br_f e ⟨hix', nm_e ⟨rfl, rfl, sz, R'⟩⟩
        rcases D with e | ⟨x, hx, e⟩
        · exact br_t (by rw [e]; exact il_neg4) (il_xd53 R hm hs10 (Or.inr ⟨w, by omega, rfl⟩) (fun va' kn' ct' R' => hY 0 (Or.inl ⟨e, rfl⟩) va' kn' ct' R'))
        · exact br_f (by rw [e]; exact nI_pos (by omega)) (il_xd53 R hm hs10 (Or.inr ⟨w, by omega, rfl⟩) (fun va' kn' ct' R' => hY 1 (Or.inr ⟨by rw [e]; exact il_ne4 (by omega), rfl⟩) va' kn' ct' R'))
      · rcases il_Vn (by omega) h3 with z | ⟨z, j, hj, hn, e⟩
        · refine br_t z ?_
          unfold wpY_define
          dsimp only
          exact il_isM1 hm (br_f (by decide) (il_isN1 hs10 (br_f (by decide) (br_t z ⟨rfl, rfl, sz, R⟩))))
        · refine br_f z (il_words R.1.2.1 hm (br_f (by rw [e]; exact nI_ge hn hj) ?_))
          unfold wpY_define
          dsimp only
          refine il_isM1 hm (br_f (by decide) (il_isN1 hs10 (br_f (by decide) (br_f z ⟨hmi, ?_⟩))))
          rw [nI_clamp (n := m) (by omega), hs]
          exact br_f (by rw [e]; exact nI_ge hn hj) ⟨rfl, rfl, sz, R⟩
    · refine il_bdn1 h2 (br_f (by decide) ?_)
      unfold wpY_define
      dsimp only
      exact il_isM1 hm (br_f (by decide) (il_isN0 h2 (br_t rfl ⟨rfl, rfl, sz, R⟩)))
  · refine il_bad1 h (br_f (by decide) ?_)
    unfold wpY_define
    dsimp only
    exact il_isM0 h (br_t rfl ⟨rfl, rfl, sz, R⟩)
theorem i_vc_undefine {k : Nat} {u : SX} {v : SY} (I : i_Rel k u v) (hk : k + 4 ≤ 2048) (v1 : Int32) (v2 : Int32) : wpX_undefine (fun r u' => wpY_undefine (fun r' v' => r' = r ∧ i_Rel (k + 4) u' v') v v1 v2) u v1 v2 := by
  obtain ⟨st, va, nm, ad, dfx, kn, ct, ch, nx, bf⟩ := u
  obtain ⟨na, nu, si, df⟩ := v
  obtain ⟨rfl, sz, R⟩ := I
  unfold wpX_undefine
  dsimp only
  by_cases h : il_V 6 v1
  · obtain ⟨m, hm, rfl⟩ := h
    refine il_bad0 hm (br_t rfl ?_)
    by_cases h2 : il_V 10 v2
    · obtain ⟨s, hs10, rfl⟩ := h2
      refine il_bdn0 hs10 (br_t rfl ?_)
      have hz := R.1.1 m hm
      have hix : vp_in (nI m * 10 + nI s) 60 := by rw [il_ix]; exact vp_in_nI (by omega) (by omega)
      have hcl : (nI m * 10 + nI s).toNatClampNeg = 10 * m + s := by rw [il_ix]; exact nI_clamp (by omega)
      have hix' : vp_in (10 * nI m + nI s) 60 := by rw [il_ix']; exact vp_in_nI (by omega) (by omega)
      have hcl' : (10 * nI m + nI s).toNatClampNeg = 10 * m + s := by rw [il_ix']; exact nI_clamp (by omega)
      have hY : ∀ (z : Int32) (u' : SX), df (10 * m + s) = z → i_Rel (k + 4) u' (na, nu, si, upd df (10 * m + s) (-4)) → wpY_undefine (fun r' v' => r' = z ∧ i_Rel (k + 4) u' v') (na, nu, si, df) (nI m) (nI s) := by
        intro z u' e R'
        unfold wpY_undefine
        dsimp only
        refine il_isM1 hm (br_f (by decide) (il_isN1 hs10 (br_f (by decide) ⟨hix', ?_⟩)))
        rw [hcl']
        exact nm_e ⟨hix', nm_e ⟨e, R'⟩⟩
      refine ⟨hix, ?_⟩
      rw [hcl]
      refine nm_e ?_
      rcases R.2.1 m hm s hs10 with e | ⟨x, hx, e⟩
      · refine br_f (by rw [e]; exact il_n4le) (hY (-4) _ e ?_)
        rw [il_up1 e]
        exact ⟨rfl, sz, R⟩
      · have D' := il_DFs (m := m) (t := s) (x := -4) R.2.1 hs10 (Or.inl rfl)
        refine br_t (by rw [e]; exact nI_pos' (by omega)) ⟨hix, nm_e (il_refresh1 R.1 D' (fun va3 kn3 ct3 R3 Q3 => ?_))⟩
        dsimp only
        exact hY _ _ rfl ⟨rfl, sz, R3, D', Q3, R.2.2.2⟩
    · refine il_bdn1 h2 (br_f (by decide) ?_)
      unfold wpY_undefine
      dsimp only
      exact il_isM1 hm (br_f (by decide) (il_isN0 h2 (br_t rfl ⟨rfl, rfl, sz, R⟩)))
  · refine il_bad1 h (br_f (by decide) ?_)
    unfold wpY_undefine
    dsimp only
    exact il_isM0 h (br_t rfl ⟨rfl, rfl, sz, R⟩)
end
section
def il_fl (i : Nat) (f : Nat → Int32) : Nat → Int32 := fun j => if j < i then -4 else f j
theorem il_fl_0 {f : Nat → Int32} : il_fl 0 f = f := by
  funext j
  unfold il_fl
  rw [if_neg (by omega)]
theorem il_fl_s {i : Nat} {f : Nat → Int32} : upd (il_fl i f) i (-4) = il_fl (i + 1) f := by
  funext j
  by_cases e : j = i
  · rw [e, pk_us]
    unfold il_fl
    rw [if_pos (by omega)]
  · rw [pk_un e]
    unfold il_fl
    by_cases h : j < i
    · rw [if_pos h, if_pos (by omega)]
    · rw [if_neg h, if_neg (by omega)]
theorem il_fl_l {i j : Nat} {f : Nat → Int32} (h : j < i) : il_fl i f j = -4 := if_pos h
section
variable {st va nm ad df kn ct ch nx bf : Nat → Int32} {post : SX → Prop}
theorem il_i146 (K : post (st, va, il_fl 48 nm, ad, df, kn, ct, ch, nx, bf)) : ∀ (d n i : Nat), i + d = 48 → d < n → wX_init_146 post n (nI i) st va (il_fl i nm) ad df kn ct ch nx bf := by
  intro d
  induction d with
  | zero =>
    intro n i hi hn
    obtain ⟨n, rfl⟩ : ∃ k, n = k + 1 := ⟨n - 1, by omega⟩
    obtain rfl : i = 48 := by omega
    exact br_t (by decide) K
  | succ d ih =>
    intro n i hi hn
    obtain ⟨n, rfl⟩ : ∃ k, n = k + 1 := ⟨n - 1, by omega⟩
    refine br_f (nI_ge (b := 48) (by omega) (by omega)) ⟨vp_in_nI (by omega) (by omega), ?_⟩
    rw [nI_clamp (n := i) (by omega), il_fl_s]
    exact nm_e (nm_r (nI_1 i) (ih n (i + 1) (by omega) (by omega)))
theorem il_i108 (K : ∃ n, wX_init_146 post n 0 st va nm ad df (il_fl 10 kn) (il_fl 10 ct) (il_fl 10 ch) nx bf) :
    ∀ (d n i : Nat), i + d = 10 → d < n → wX_init_108 post n (nI i) st va nm ad df (il_fl i kn) (il_fl i ct) (il_fl i ch) nx bf := by
  intro d
  induction d with
  | zero =>
    intro n i hi hn
    obtain ⟨n, rfl⟩ : ∃ k, n = k + 1 := ⟨n - 1, by omega⟩
    obtain rfl : i = 10 := by omega
    exact br_t (by decide) K
  | succ d ih =>
    intro n i hi hn
    obtain ⟨n, rfl⟩ : ∃ k, n = k + 1 := ⟨n - 1, by omega⟩
    have hii : vp_in (nI i) 10 := vp_in_nI (by omega) (by omega)
    refine br_f (nI_ge (b := 10) (by omega) (by omega)) ⟨hii, ?_⟩
    rw [nI_clamp (n := i) (by omega), il_fl_s, il_fl_s, il_fl_s]
    exact nm_e ⟨hii, nm_e ⟨hii, nm_e (nm_r (nI_1 i) (ih n (i + 1) (by omega) (by omega)))⟩⟩
theorem il_i86 (K : ∃ n, wX_init_108 post n 0 st va nm ad (il_fl 60 df) kn ct ch nx bf) :
    ∀ (d n i : Nat), i + d = 60 → d < n → wX_init_86 post n (nI i) st va nm ad (il_fl i df) kn ct ch nx bf := by
  intro d
  induction d with
  | zero =>
    intro n i hi hn
    obtain ⟨n, rfl⟩ : ∃ k, n = k + 1 := ⟨n - 1, by omega⟩
    obtain rfl : i = 60 := by omega
    exact br_t (by decide) K
  | succ d ih =>
    intro n i hi hn
    obtain ⟨n, rfl⟩ : ∃ k, n = k + 1 := ⟨n - 1, by omega⟩
    refine br_f (nI_ge (b := 60) (by omega) (by omega)) ⟨vp_in_nI (by omega) (by omega), ?_⟩
    rw [nI_clamp (n := i) (by omega), il_fl_s]
    exact nm_e (nm_r (nI_1 i) (ih n (i + 1) (by omega) (by omega)))
theorem il_init (K : post (fun _ => 0, fun _ => 0, il_fl 48 (fun _ => 0), fun _ => 0, il_fl 60 (fun _ => 0), il_fl 10 (fun _ => 0), il_fl 10 (fun _ => 0), il_fl 10 (fun _ => 0), fun _ => 0, fun _ => 0)) : wpX_init post := by
  have a := il_i146 (post := post) K 48 49 0 (by omega) (by omega)
  rw [il_fl_0] at a
  have b := il_i108 (post := post) ⟨49, a⟩ 10 11 0 (by omega) (by omega)
  rw [il_fl_0] at b
  have c := il_i86 (post := post) ⟨11, b⟩ 60 61 0 (by omega) (by omega)
  rw [il_fl_0] at c
  exact ⟨61, c⟩
end
theorem il_yi38 {post : SY → Prop} {na nu si df : Nat → Int32} (K : post (na, nu, si, il_fl 60 df)) : ∀ (d n i : Nat), i + d = 60 → d < n → wY_init_38 post n (nI i) na nu si (il_fl i df) := by
  intro d
  induction d with
  | zero =>
    intro n i hi hn
    obtain ⟨n, rfl⟩ : ∃ k, n = k + 1 := ⟨n - 1, by omega⟩
    obtain rfl : i = 60 := by omega
    exact br_t (by decide) K
  | succ d ih =>
    intro n i hi hn
    obtain ⟨n, rfl⟩ : ∃ k, n = k + 1 := ⟨n - 1, by omega⟩
    refine br_f (nI_ge (b := 60) (by omega) (by omega)) ⟨vp_in_nI (by omega) (by omega), ?_⟩
    rw [nI_clamp (n := i) (by omega), il_fl_s]
    exact nm_e (nm_r (nI_1 i) (ih n (i + 1) (by omega) (by omega)))
theorem il_yinit {post : SY → Prop} (K : post (fun _ => 0, fun _ => 0, fun _ => 0, il_fl 60 (fun _ => 0))) : wpY_init post := by
  have c := il_yi38 (post := post) K 60 61 0 (by omega) (by omega)
  rw [il_fl_0] at c
  exact ⟨61, c⟩
theorem i_vc0 : wpX_init (fun u => wpY_init (fun v => i_Rel 0 u v)) := by
  refine il_init (il_yinit ⟨rfl, fun _ => 0, ⟨fun _ _ => Nat.zero_le _, fun m _ => ?_, ⟨fun p hp => Or.inl (il_fl_l hp), ⟨fun _ => [], fun s hs => ⟨?_, List.nodup_nil, fun p => ?_⟩⟩, fun p hp s hs h => ?_⟩,
    fun j _ hj => il_fl_l hj, fun m _ w hw => absurd hw (Nat.not_lt_zero w)⟩, fun m hm s hs => Or.inl (il_fl_l (by omega)), fun s hs => Or.inl ⟨fun m hm => il_fl_l (by omega), il_fl_l hs, il_fl_l hs⟩, fun _ _ => rfl⟩)
  · rw [il_sm_0 (fun _ _ => rfl)]; rfl
  · exact il_fl_l hs
  · constructor
    · intro h; simp at h
    · intro h
      rw [il_fl_l h.1] at h
      exact absurd h.2 (il_ne4' (by omega))
  · rw [il_fl_l hp] at h
    exact absurd h (il_ne4' (by omega))
end
section
section
variable {st va nm ad df kn ct ch nx bf na nu si : Nat → Int32} {sz : Nat → Nat} {m w s : Nat} {post : Int32 → Prop}
theorem il_beg4 (hz : ∀ m, m < 6 → sz m ≤ 8) (S : ∀ m, m < 6 → si m = nI (sz m)) (hm : m ≤ 6) (K : post (nI (il_sm sz m))) :
    ∀ (d n j : Nat), j + d = m → d < n → wY_begin_4 post (nI m) na nu si df n (nI (il_sm sz j)) (nI j) := by
  intro d
  induction d with
  | zero =>
    intro n j hj hn
    obtain ⟨n, rfl⟩ : ∃ k, n = k + 1 := ⟨n - 1, by omega⟩
    obtain rfl : j = m := by omega
    exact br_t (nI_le (by omega) (by omega)) K
  | succ d ih =>
    intro n j hj hn
    obtain ⟨n, rfl⟩ : ∃ k, n = k + 1 := ⟨n - 1, by omega⟩
    refine br_f (nI_ge (by omega) (by omega)) ⟨vp_in_nI (by omega) (by omega), ?_⟩
    rw [nI_clamp (n := j) (by omega), S j (by omega), nI_add]
    exact nm_e (nm_r (nI_1 j) (ih n (j + 1) (by omega) (by omega)))
theorem il_begin (hz : ∀ m, m < 6 → sz m ≤ 8) (S : ∀ m, m < 6 → si m = nI (sz m)) (hm : m ≤ 6) (K : post (nI (il_sm sz m))) : wpY_begin post (na, nu, si, df) (nI m) :=
  ⟨m + 1, il_beg4 hz S hm K m (m + 1) 0 (by omega) (by omega)⟩
theorem il_mfM (hs : s < 10) (M : il_MF df s m) (K : post (nI m)) : wpY_moduleFor post (na, nu, si, df) (nI s) := by
  have key : ∀ (d n j : Nat), j + d = m → d < n → wY_moduleFor_2 post (nI s) na nu si df n (nI j) := by
    intro d
    induction d with
    | zero =>
      intro n j hj hn
      obtain ⟨n, rfl⟩ : ∃ k, n = k + 1 := ⟨n - 1, by omega⟩
      obtain rfl : j = m := by omega
      have hm := M.1
      refine br_f (nI_ge (b := 6) (by omega) (by omega)) ?_
      rw [il_ix', nI_clamp (n := 10 * j + s) (by omega)]
      exact ⟨vp_in_nI (by omega) (by omega), br_f M.2.1 K⟩
    | succ d ih =>
      intro n j hj hn
      obtain ⟨n, rfl⟩ : ∃ k, n = k + 1 := ⟨n - 1, by omega⟩
      have hm := M.1
      refine br_f (nI_ge (b := 6) (by omega) (by omega)) ?_
      rw [il_ix', nI_clamp (n := 10 * j + s) (by omega)]
      exact ⟨vp_in_nI (by omega) (by omega), br_t (M.2.2 j (by omega)) (nm_r (nI_1 j) (ih n (j + 1) (by omega) (by omega)))⟩
  exact ⟨m + 1, key m (m + 1) 0 (by omega) (by omega)⟩
theorem il_mfN (hs : s < 10) (M : il_NF df s) (K : post (-4)) : wpY_moduleFor post (na, nu, si, df) (nI s) := by
  have key : ∀ (d n j : Nat), j + d = 6 → d < n → wY_moduleFor_2 post (nI s) na nu si df n (nI j) := by
    intro d
    induction d with
    | zero =>
      intro n j hj hn
      obtain ⟨n, rfl⟩ : ∃ k, n = k + 1 := ⟨n - 1, by omega⟩
      obtain rfl : j = 6 := by omega
      exact br_t (by decide) K
    | succ d ih =>
      intro n j hj hn
      obtain ⟨n, rfl⟩ : ∃ k, n = k + 1 := ⟨n - 1, by omega⟩
      refine br_f (nI_ge (b := 6) (by omega) (by omega)) ?_
      rw [il_ix', nI_clamp (n := 10 * j + s) (by omega)]
      exact ⟨vp_in_nI (by omega) (by omega), br_t (M j (by omega)) (nm_r (nI_1 j) (ih n (j + 1) (by omega) (by omega)))⟩
  exact ⟨7, key 6 7 0 (by omega) (by omega)⟩
theorem il_where (R : il_R sz st va nm ad df kn ct ch nx bf na nu si) (hs : s < 10) (K : post (kn s)) : wpY_where post (na, nu, si, df) (nI s) := by
  obtain ⟨R1, D, Q, S⟩ := R
  unfold wpY_where
  dsimp only
  refine il_isN1 hs (br_f (by decide) ?_)
  rcases Q s hs with ⟨N, e1, e2⟩ | ⟨m, M, e1, e2⟩
  · rw [e2] at K
    exact il_mfN hs N (br_f il_n4le K)
  · have hm := M.1
    refine il_mfM hs M (br_t (nI_pos' (by omega)) (il_begin R1.1 S (by omega) ?_))
    rw [il_ix', nI_clamp (n := 10 * m + s) (by omega)]
    rw [e2, R1.2.1 m (by omega)] at K
    exact ⟨vp_in_nI (by omega) (by omega), K⟩
theorem il_valueOf (R : il_R sz st va nm ad df kn ct ch nx bf na nu si) (hm : m < 6) (hw : w < sz m) (K : post (va (il_sm sz m + w))) : wpY_valueOf post (na, nu, si, df) (nI (8 * m + w)) := by
  have h8 := R.1.1 m hm
  have h6 := il_6 R.1.1
  have hp := il_pl hm hw
  have hi : vp_in (nI (8 * m + w)) 48 := vp_in_nI (by omega) (by omega)
  obtain ⟨e1, e2, e3⟩ := R.1.2.2.2.2 m hm w hw
  unfold wpY_valueOf
  dsimp only
  rw [nI_clamp (n := 8 * m + w) (by omega), e1]
  refine ⟨hi, ?_⟩
  rcases R.1.2.2.1.1 _ (show il_sm sz m + w < 48 by omega) with e | ⟨s, hs, e⟩
  · rw [e2 e]
    exact br_t e ⟨hi, K⟩
  · have ne : nm (il_sm sz m + w) ≠ -4 := by rw [e]; exact il_ne4 (by omega)
    rw [R.1.2.2.1.2.2 _ (by omega) s hs e, il_bv] at K
    rw [e3 ne]
    refine br_f ne ⟨hi, ?_⟩
    rw [e]
    refine il_where R hs ?_
    by_cases h : 0 ≤ kn s
    · rw [if_pos h] at K
      exact br_t h ⟨hi, K⟩
    · rw [if_neg h] at K
      exact br_f h K
theorem il_moM (hz : ∀ m, m < 6 → sz m ≤ 8) (S : ∀ m, m < 6 → si m = nI (sz m)) (hm : m < 6) (hw : w < sz m) (K : post (nI m)) : wpY_moduleOf post (na, nu, si, df) (nI (il_sm sz m + w)) := by
  have h6 := il_6 hz
  have hp := il_pl hm hw
  have key : ∀ (d n j : Nat), j + d = m → d < n → wY_moduleOf_2 post (nI (il_sm sz m + w)) na nu si df n (nI j) := by
    intro d
    induction d with
    | zero =>
      intro n j hj hn
      obtain ⟨n, rfl⟩ : ∃ k, n = k + 1 := ⟨n - 1, by omega⟩
      obtain rfl : j = m := by omega
      refine br_f (nI_ge (b := 6) (by omega) (by omega)) (il_begin hz S (by omega) (br_f (nI_nlt (by omega) (by omega)) ⟨vp_in_nI hm (by omega), ?_⟩))
      rw [nI_clamp (n := j) (by omega), S j hm, nI_add]
      exact br_f (nI_ge (by omega) (by have := hz j hm; omega)) K
    | succ d ih =>
      intro n j hj hn
      obtain ⟨n, rfl⟩ : ∃ k, n = k + 1 := ⟨n - 1, by omega⟩
      have hl := il_sm_lt sz (a := j) (b := m) (by omega)
      refine br_f (nI_ge (b := 6) (by omega) (by omega)) (il_begin hz S (by omega) (br_f (nI_nlt (by omega) (by omega)) ⟨vp_in_nI (by omega) (by omega), ?_⟩))
      rw [nI_clamp (n := j) (by omega), S j (by omega), nI_add]
      exact br_t (nI_le (by omega) (by omega)) (nm_r (nI_1 j) (ih n (j + 1) (by omega) (by omega)))
  exact ⟨m + 1, key m (m + 1) 0 (by omega) (by omega)⟩
theorem il_moN {x : Int32} (hz : ∀ m, m < 6 → sz m ≤ 8) (S : ∀ m, m < 6 → si m = nI (sz m)) (h : ¬ il_V (il_sm sz 6) x) (K : post (-4)) : wpY_moduleOf post (na, nu, si, df) x := by
  have h6 := il_6 hz
  have key : ∀ (d n j : Nat), j + d = 6 → d < n → wY_moduleOf_2 post x na nu si df n (nI j) := by
    intro d
    induction d with
    | zero =>
      intro n j hj hn
      obtain ⟨n, rfl⟩ : ∃ k, n = k + 1 := ⟨n - 1, by omega⟩
      obtain rfl : j = 6 := by omega
      exact br_t (by decide) K
    | succ d ih =>
      intro n j hj hn
      obtain ⟨n, rfl⟩ : ∃ k, n = k + 1 := ⟨n - 1, by omega⟩
      have hl := il_sm_lt sz (a := j) (b := 6) (by omega)
      refine br_f (nI_ge (b := 6) (by omega) (by omega)) (il_begin hz S (by omega) ?_)
      rcases il_Vn (by omega) h with z | ⟨z, i, hi, hn, e⟩
      · exact br_t (Int32.lt_of_lt_of_le z (nI_pos' (by omega))) (nm_r (nI_1 j) (ih n (j + 1) (by omega) (by omega)))
      · refine br_f (by rw [e]; exact nI_nlt (by omega) hi) ⟨vp_in_nI (by omega) (by omega), ?_⟩
        rw [nI_clamp (n := j) (by omega), S j (by omega), nI_add]
        exact br_t (by rw [e]; exact nI_le (by omega) hi) (nm_r (nI_1 j) (ih n (j + 1) (by omega) (by omega)))
  exact ⟨7, key 6 7 0 (by omega) (by omega)⟩
theorem il_yvalM (R : il_R sz st va nm ad df kn ct ch nx bf na nu si) {p : Nat} (hp : p < il_sm sz 6) (K : post (va p)) : wpY_value post (na, nu, si, df) (nI p) := by
  obtain ⟨m, w, hm, hw, e⟩ := il_pl_e 6 hp
  have h6 := il_6 R.1.1
  subst e
  unfold wpY_value
  dsimp only
  refine il_moM R.1.1 R.2.2.2 hm hw (br_t (nI_pos' (by omega)) (il_begin R.1.1 R.2.2.2 (by omega) ?_))
  rw [il_ix8, pk_sub (by omega), show 8 * m + (il_sm sz m + w) - il_sm sz m = 8 * m + w from by omega]
  exact il_valueOf R hm hw K
theorem il_yvalN (R : il_R sz st va nm ad df kn ct ch nx bf na nu si) {x : Int32} (h : ¬ il_V (il_sm sz 6) x) (K : post 0) : wpY_value post (na, nu, si, df) x := by
  unfold wpY_value
  dsimp only
  exact il_moN R.1.1 R.2.2.2 h (br_f il_n4le K)
/-! the component reads -/
theorem il_cl12 : ∀ (L : List Nat) (n c i : Nat) (pv x : Int32), il_lk nx bf pv L x → (∀ p, p ∈ L → p < 48) → i + L.length ≤ 48 → L.length < n → post (nI (c + L.length)) →
    wX_chainLength_12 post st va nm ad df kn ct ch nx bf n (nI c) x (nI i) := by
  intro L
  induction L with
  | nil =>
    intro n c i pv x H _ hi hn K
    obtain ⟨n, rfl⟩ : ∃ k, n = k + 1 := ⟨n - 1, by omega⟩
    have hx : x < 0 := by rw [show x = -4 from H]; exact il_neg4
    exact br_c (fun _ => K) (fun _ => br_t hx K)
  | cons p t ih =>
    intro n c i pv x H hm hi hn K
    rw [List.length_cons] at hi hn K
    obtain ⟨n, rfl⟩ : ∃ k, n = k + 1 := ⟨n - 1, by omega⟩
    obtain ⟨e1, _, H3⟩ := H
    have hp := hm p (by simp)
    rw [e1]
    refine br_f (nI_ge (b := 48) (by omega) (by omega)) (br_f (nI_pos (by omega)) (nm_r (nI_1 c) ⟨vp_in_nI hp (by omega), ?_⟩))
    rw [nI_clamp (n := p) (by omega)]
    exact nm_e (nm_r (nI_1 i) (ih n (c + 1) (i + 1) (nI p) (nx p) H3 (fun q hq => hm q (List.mem_cons_of_mem _ hq)) (by omega) (by omega) (by rw [show c + 1 + t.length = c + (t.length + 1) from by omega]; exact K)))
theorem il_chl (C : il_ch nm ch nx bf) (hs : s < 10) (K : post (nI (il_cn (fun p => nm p = nI s) 48))) : wpX_chainLength post (st, va, nm, ad, df, kn, ct, ch, nx, bf) (nI s) := by
  obtain ⟨L, h1, h2, h3, h4⟩ := il_ch_len C hs
  unfold wpX_chainLength
  dsimp only
  rw [nI_clamp (n := s) (by omega)]
  refine ⟨vp_in_nI hs (by omega), nm_e ⟨L.length + 1, ?_⟩⟩
  exact il_cl12 L _ 0 0 _ _ h1 (fun p hp => ((h2 p).mp hp).1) (by omega) (by omega) (by rw [Nat.zero_add, h3]; exact K)
theorem il_mat (hz : ∀ m, m < 6 → sz m ≤ 8) (hst : ∀ m, m < 7 → st m = nI (il_sm sz m)) (hm : m < 6) (hw : w < sz m) (K : post (nI m)) : wpX_moduleAt post (st, va, nm, ad, df, kn, ct, ch, nx, bf) (nI (il_sm sz m + w)) := by
  have h6 := il_6 hz
  have hp := il_pl hm hw
  have key : ∀ (d n j : Nat) (x : Int32), j + 1 + d = 6 → d < n → x = nI (if j ≤ m then j else m) → wX_moduleAt_4 post (nI (il_sm sz m + w)) st va nm ad df kn ct ch nx bf n x (nI (j + 1)) := by
    intro d
    induction d with
    | zero =>
      intro n j x hj hn e
      obtain ⟨n, rfl⟩ : ∃ k, n = k + 1 := ⟨n - 1, by omega⟩
      obtain rfl : j = 5 := by omega
      refine br_t (by decide) ?_
      rw [e]
      by_cases h : 5 ≤ m
      · rw [if_pos h, show 5 = m from by omega]; exact K
      · rw [if_neg h]; exact K
    | succ d ih =>
      intro n j x hj hn e
      obtain ⟨n, rfl⟩ : ∃ k, n = k + 1 := ⟨n - 1, by omega⟩
      have hl := il_sm_lt sz (a := j + 1) (b := 6) (by omega)
      refine br_f (nI_ge (b := 6) (by omega) (by omega)) ⟨vp_in_nI (by omega) (by omega), ?_⟩
      rw [nI_clamp (n := j + 1) (by omega), hst (j + 1) (by omega)]
      by_cases h : j + 1 ≤ m
      · have h2 := il_sm_mono sz h
        exact br_f (nI_nlt (by omega) (by omega)) (nm_r (nI_1 (j + 1)) (ih n (j + 1) _ (by omega) (by omega) (by rw [if_pos h])))
      · have h2 := il_sm_lt sz (a := m) (b := j + 1) (by omega)
        refine br_t (nI_lt (by omega) (by omega)) (nm_r (nI_1 (j + 1)) (ih n (j + 1) _ (by omega) (by omega) ?_))
        rw [if_neg h, e]
        by_cases h3 : j ≤ m
        · rw [if_pos h3, show j = m from by omega]
        · rw [if_neg h3]
  exact ⟨6, key 5 6 0 0 (by omega) (by omega) (by rw [if_pos (by omega)]; rfl)⟩
end
/-- a sum of places against numbers -/
def il_ds (f : Nat → Int32) : Nat → Int32
  | 0 => 0
  | n + 1 => il_ds f n + (nI n + 1) * f n
theorem il_ds_e {f g : Nat → Int32} : ∀ {n : Nat}, (∀ i, i < n → f i = g i) → il_ds f n = il_ds g n := by
  intro n
  induction n with
  | zero => intro _; rfl
  | succ n ih =>
    intro h
    show il_ds f n + (nI n + 1) * f n = il_ds g n + (nI n + 1) * g n
    rw [ih (fun i hi => h i (by omega)), h n (by omega)]
theorem il_ds_0 {f : Nat → Int32} {a : Nat} : ∀ (b : Nat), (∀ i, a ≤ i → i < a + b → f i = 0) → il_ds f (a + b) = il_ds f a := by
  intro b
  induction b with
  | zero => intro _; rfl
  | succ b ih =>
    intro h
    show il_ds f (a + b) + (nI (a + b) + 1) * f (a + b) = il_ds f a
    rw [ih (fun i h1 h2 => h i h1 (by omega)), h (a + b) (by omega) (by omega), Int32.mul_zero, Int32.add_zero]
end
section
theorem i_vc_size {k : Nat} {u : SX} {v : SY} (I : i_Rel k u v) (hk : k + 4 ≤ 2048) : wpX_size (fun r => wpY_size (fun r' => r' = r ∧ i_Rel (k + 4) u v) v) u := by
  obtain ⟨st, va, nm, ad, dfx, kn, ct, ch, nx, bf⟩ := u
  obtain ⟨na, nu, si, df⟩ := v
  obtain ⟨rfl, sz, R⟩ := I
  unfold wpX_size wpY_size
  dsimp only
  exact il_begin (m := 6) R.1.1 R.2.2.2 (by omega) ⟨(R.1.2.1 6 (by omega)).symm, rfl, sz, R⟩
theorem i_vc_value {k : Nat} {u : SX} {v : SY} (I : i_Rel k u v) (hk : k + 4 ≤ 2048) (v1 : Int32) : wpX_value (fun r => wpY_value (fun r' => r' = r ∧ i_Rel (k + 4) u v) v v1) u v1 := by
  obtain ⟨st, va, nm, ad, dfx, kn, ct, ch, nx, bf⟩ := u
  obtain ⟨na, nu, si, df⟩ := v
  obtain ⟨rfl, sz, R⟩ := I
  have h6 := il_6 R.1.1
  have e6 := R.1.2.1 6 (by omega)
  unfold wpX_value
  dsimp only
  by_cases h : il_V (il_sm sz 6) v1
  · obtain ⟨p, hp, rfl⟩ := h
    refine br_f (nI_pos (by omega)) (br_t (by rw [e6]; exact nI_lt hp (by omega)) ⟨vp_in_nI (by omega) (by omega), ?_⟩)
    rw [nI_clamp (n := p) (by omega)]
    exact il_yvalM R hp ⟨rfl, rfl, sz, R⟩
  · have hY : wpY_value (fun r' => r' = 0 ∧ i_Rel (k + 4) (st, va, nm, ad, df, kn, ct, ch, nx, bf) (na, nu, si, df)) (na, nu, si, df) v1 := il_yvalN R h ⟨rfl, rfl, sz, R⟩
    rcases il_Vn (by omega) h with z | ⟨z, j, hj, hn, e⟩
    · exact br_t z hY
    · exact br_f z (br_f (by rw [e6, e]; exact nI_nlt hn hj) hY)
theorem i_vc_address {k : Nat} {u : SX} {v : SY} (I : i_Rel k u v) (hk : k + 4 ≤ 2048) (v1 : Int32) : wpX_address (fun r => wpY_address (fun r' => r' = r ∧ i_Rel (k + 4) u v) v v1) u v1 := by
  obtain ⟨st, va, nm, ad, dfx, kn, ct, ch, nx, bf⟩ := u
  obtain ⟨na, nu, si, df⟩ := v
  obtain ⟨rfl, sz, R⟩ := I
  unfold wpX_address wpY_address
  dsimp only
  by_cases h : il_V 6 v1
  · obtain ⟨m, hm, rfl⟩ := h
    refine il_bad0 hm (br_t rfl ⟨vp_in_nI (by omega) (by omega), ?_⟩)
    rw [nI_clamp (n := m) (by omega), R.1.2.1 m (by omega)]
    exact il_isM1 hm (br_f (by decide) (il_begin R.1.1 R.2.2.2 (by omega) ⟨rfl, rfl, sz, R⟩))
  · exact il_bad1 h (br_f (by decide) (il_isM0 h (br_t rfl ⟨rfl, rfl, sz, R⟩)))
theorem i_vc_where {k : Nat} {u : SX} {v : SY} (I : i_Rel k u v) (hk : k + 4 ≤ 2048) (v1 : Int32) : wpX_where (fun r => wpY_where (fun r' => r' = r ∧ i_Rel (k + 4) u v) v v1) u v1 := by
  obtain ⟨st, va, nm, ad, dfx, kn, ct, ch, nx, bf⟩ := u
  obtain ⟨na, nu, si, df⟩ := v
  obtain ⟨rfl, sz, R⟩ := I
  unfold wpX_where
  dsimp only
  by_cases h : il_V 10 v1
  · obtain ⟨s, hs, rfl⟩ := h
    refine il_bdn0 hs (br_t rfl ⟨vp_in_nI (by omega) (by omega), ?_⟩)
    rw [nI_clamp (n := s) (by omega)]
    exact il_where R hs ⟨rfl, rfl, sz, R⟩
  · refine il_bdn1 h (br_f (by decide) ?_)
    unfold wpY_where
    dsimp only
    exact il_isN0 h (br_t rfl ⟨rfl, rfl, sz, R⟩)
theorem i_vc_moduleOf {k : Nat} {u : SX} {v : SY} (I : i_Rel k u v) (hk : k + 4 ≤ 2048) (v1 : Int32) : wpX_moduleOf (fun r => wpY_moduleOf (fun r' => r' = r ∧ i_Rel (k + 4) u v) v v1) u v1 := by
  obtain ⟨st, va, nm, ad, dfx, kn, ct, ch, nx, bf⟩ := u
  obtain ⟨na, nu, si, df⟩ := v
  obtain ⟨rfl, sz, R⟩ := I
  have h6 := il_6 R.1.1
  have e6 := R.1.2.1 6 (by omega)
  unfold wpX_moduleOf
  dsimp only
  by_cases h : il_V (il_sm sz 6) v1
  · obtain ⟨p, hp, rfl⟩ := h
    obtain ⟨m, w, hm, hw, rfl⟩ := il_pl_e 6 hp
    exact br_f (nI_pos (by omega)) (br_t (by rw [e6]; exact nI_lt hp (by omega)) (il_mat R.1.1 R.1.2.1 hm hw (il_moM R.1.1 R.2.2.2 hm hw ⟨rfl, rfl, sz, R⟩)))
  · have hY : wpY_moduleOf (fun r' => r' = -4 ∧ i_Rel (k + 4) (st, va, nm, ad, df, kn, ct, ch, nx, bf) (na, nu, si, df)) (na, nu, si, df) v1 := il_moN R.1.1 R.2.2.2 h ⟨rfl, rfl, sz, R⟩
    rcases il_Vn (by omega) h with z | ⟨z, j, hj, hn, e⟩
    · exact br_t z hY
    · exact br_f z (br_f (by rw [e6, e]; exact nI_nlt hn hj) hY)
section
variable {st va nm ad df kn ct ch nx bf na nu si : Nat → Int32} {sz : Nat → Nat} {m w s : Nat} {post : Int32 → Prop}
theorem il_xdg {N : Nat} (hN : N ≤ 48) (e6 : st 6 = nI N) (K : post (il_ds va N)) : ∀ (d n i : Nat), i + d = N → d < n → wX_digest_4 post st va nm ad df kn ct ch nx bf n (il_ds va i) (nI i) := by
  intro d
  induction d with
  | zero =>
    intro n i hi hn
    obtain ⟨n, rfl⟩ : ∃ k, n = k + 1 := ⟨n - 1, by omega⟩
    obtain rfl : i = N := by omega
    exact br_t (by rw [e6]; exact nI_le (by omega) (by omega)) K
  | succ d ih =>
    intro n i hi hn
    obtain ⟨n, rfl⟩ : ∃ k, n = k + 1 := ⟨n - 1, by omega⟩
    refine br_f (by rw [e6]; exact nI_ge (by omega) (by omega)) ⟨vp_in_nI (by omega) (by omega), ?_⟩
    rw [nI_clamp (n := i) (by omega)]
    exact nm_e (nm_r (nI_1 i) (ih n (i + 1) (by omega) (by omega)))
theorem il_ydg (R : il_R sz st va nm ad df kn ct ch nx bf na nu si) (K : post (il_ds (fun p => if p < il_sm sz 6 then va p else 0) 48)) :
    ∀ (d n i : Nat), i + d = 48 → d < n → wY_digest_4 post na nu si df n (il_ds (fun p => if p < il_sm sz 6 then va p else 0) i) (nI i) := by
  have h6 := il_6 R.1.1
  intro d
  induction d with
  | zero =>
    intro n i hi hn
    obtain ⟨n, rfl⟩ : ∃ k, n = k + 1 := ⟨n - 1, by omega⟩
    obtain rfl : i = 48 := by omega
    exact br_t (by decide) K
  | succ d ih =>
    intro n i hi hn
    obtain ⟨n, rfl⟩ : ∃ k, n = k + 1 := ⟨n - 1, by omega⟩
    refine br_f (nI_ge (b := 48) (by omega) (by omega)) ?_
    have nxt := ih n (i + 1) (by omega) (by omega)
    by_cases h : i < il_sm sz 6
    · refine il_yvalM R h (nm_r (e' := il_ds (fun p => if p < il_sm sz 6 then va p else 0) (i + 1)) ?_ (nm_r (nI_1 i) nxt))
      show _ = il_ds (fun p => if p < il_sm sz 6 then va p else 0) i + (nI i + 1) * (if i < il_sm sz 6 then va i else 0)
      rw [if_pos h]
    · refine il_yvalN R (fun ⟨j, hj, e⟩ => h (by rw [il_inj e (by omega) (by omega)]; exact hj)) (nm_r (e' := il_ds (fun p => if p < il_sm sz 6 then va p else 0) (i + 1)) ?_ (nm_r (nI_1 i) nxt))
      show _ = il_ds (fun p => if p < il_sm sz 6 then va p else 0) i + (nI i + 1) * (if i < il_sm sz 6 then va i else 0)
      rw [if_neg h]
end
theorem i_vc_digest {k : Nat} {u : SX} {v : SY} (I : i_Rel k u v) (hk : k + 4 ≤ 2048) : wpX_digest (fun r => wpY_digest (fun r' => r' = r ∧ i_Rel (k + 4) u v) v) u := by
  obtain ⟨st, va, nm, ad, dfx, kn, ct, ch, nx, bf⟩ := u
  obtain ⟨na, nu, si, df⟩ := v
  obtain ⟨rfl, sz, R⟩ := I
  have h6 := il_6 R.1.1
  refine ⟨il_sm sz 6 + 1, il_xdg h6 (R.1.2.1 6 (by omega)) ?_ (il_sm sz 6) (il_sm sz 6 + 1) 0 (by omega) (by omega)⟩
  refine ⟨49, il_ydg R ⟨?_, rfl, sz, R⟩ 48 49 0 (by omega) (by omega)⟩
  rw [show 48 = il_sm sz 6 + (48 - il_sm sz 6) from by omega, il_ds_0 _ (fun i h1 h2 => if_neg (by omega))]
  exact il_ds_e (fun i hi => if_pos hi)
/-! places against words -/
theorem il_cn_a (P : Nat → Prop) (a b : Nat) : il_cn P (a + b) = il_cn P a + il_cn (fun i => P (a + i)) b := il_sm_a (fun i => il_b (P i)) a b
theorem il_cn_0 {P : Nat → Prop} {n : Nat} (h : ∀ i, i < n → ¬ P i) : il_cn P n = 0 := il_sm_0 (fun i hi => il_b_f (h i hi))
theorem il_cn_pw {sz : Nat → Nat} {P Q : Nat → Prop} (hz : ∀ m, m < 6 → sz m ≤ 8) (h1 : ∀ m, m < 6 → ∀ w, w < sz m → (P (il_sm sz m + w) ↔ Q (8 * m + w)))
    (h2 : ∀ j, il_sm sz 6 ≤ j → j < 48 → ¬ P j) (h3 : ∀ m, m < 6 → ∀ w, w < 8 → sz m ≤ w → ¬ Q (8 * m + w)) : il_cn P 48 = il_cn Q 48 := by
  have h6 := il_6 hz
  have key : ∀ k, k ≤ 6 → il_cn P (il_sm sz k) = il_cn Q (8 * k) := by
    intro k
    induction k with
    | zero => intro _; rfl
    | succ k ih =>
      intro hk
      have h8 := hz k (by omega)
      rw [il_sm_s, il_cn_a, ih (by omega), show 8 * (k + 1) = 8 * k + (sz k + (8 - sz k)) from by omega, il_cn_a Q, il_cn_a (fun i => Q (8 * k + i)) (sz k),
        il_cn_0 (P := fun i => Q (8 * k + (sz k + i))) (fun i hi => h3 k (by omega) _ (by omega) (by omega)), il_cn_c (fun w hw => h1 k (by omega) w hw)]
      rfl
  have e := key 6 (by omega)
  rw [show 48 = il_sm sz 6 + (48 - il_sm sz 6) from by omega, il_cn_a P, il_cn_0 (P := fun i => P (il_sm sz 6 + i)) (fun i hi => h2 _ (by omega) (by omega)), e,
    show il_sm sz 6 + (48 - il_sm sz 6) = 8 * 6 from by omega]
  rfl
section
variable {st va nm ad df kn ct ch nx bf na nu si : Nat → Int32} {sz : Nat → Nat} {m w s : Nat} {post : Int32 → Prop}
theorem il_yus (hz : ∀ m, m < 6 → sz m ≤ 8) (S : ∀ m, m < 6 → si m = nI (sz m)) (K : post (nI (il_cn (fun i => i % 8 < sz (i / 8) ∧ na i = nI s) 48))) :
    ∀ (d n i : Nat), i + d = 48 → d < n → wY_uses_14 post (nI s) na nu si df n (nI (il_cn (fun i => i % 8 < sz (i / 8) ∧ na i = nI s) i)) (nI i) := by
  intro d
  induction d with
  | zero =>
    intro n i hi hn
    obtain ⟨n, rfl⟩ : ∃ k, n = k + 1 := ⟨n - 1, by omega⟩
    obtain rfl : i = 48 := by omega
    exact br_t (by decide) K
  | succ d ih =>
    intro n i hi hn
    obtain ⟨n, rfl⟩ : ∃ k, n = k + 1 := ⟨n - 1, by omega⟩
    have nxt := ih n (i + 1) (by omega) (by omega)
    rw [il_cn_s] at nxt
    have hd : nI i / 8 = nI (i / 8) := pk_div (d := 8) (by omega) (by omega) (by omega)
    have hr : nI i - nI i / 8 * 8 = nI (i % 8) := pk_rem (d := 8) (by omega) (by omega) (by omega)
    have h8 := hz (i / 8) (by omega)
    refine br_f (nI_ge (b := 48) (by omega) (by omega)) ⟨by decide, by decide, ?_⟩
    rw [hr, hd, nI_clamp (n := i / 8) (by omega), nI_clamp (n := i) (by omega), S (i / 8) (by omega)]
    refine ⟨vp_in_nI (by omega) (by omega), ?_⟩
    by_cases h : i % 8 < sz (i / 8)
    · refine br_f (nI_ge h (by omega)) ⟨vp_in_nI (by omega) (by omega), ?_⟩
      by_cases h2 : na i = nI s
      · rw [il_b_t ⟨h, h2⟩] at nxt
        exact br_t h2 (nm_r (nI_1 _) (nm_r (nI_1 i) nxt))
      · rw [il_b_f (fun z => h2 z.2)] at nxt
        exact br_f h2 (nm_r (nI_1 i) nxt)
    · rw [il_b_f (fun z => h z.1)] at nxt
      exact br_t (nI_le (by omega) (by omega)) (nm_r (nI_1 i) nxt)
end
theorem i_vc_uses {k : Nat} {u : SX} {v : SY} (I : i_Rel k u v) (hk : k + 4 ≤ 2048) (v1 : Int32) : wpX_uses (fun r => wpY_uses (fun r' => r' = r ∧ i_Rel (k + 4) u v) v v1) u v1 := by
  obtain ⟨st, va, nm, ad, dfx, kn, ct, ch, nx, bf⟩ := u
  obtain ⟨na, nu, si, df⟩ := v
  obtain ⟨rfl, sz, R⟩ := I
  unfold wpX_uses wpY_uses
  dsimp only
  by_cases h : il_V 10 v1
  · obtain ⟨s, hs, rfl⟩ := h
    refine il_bdn0 hs (br_t rfl (il_chl R.1.2.2.1.2.1 hs (il_isN1 hs (br_f (by decide) ⟨49, il_yus R.1.1 R.2.2.2 ⟨?_, rfl, sz, R⟩ 48 49 0 (by omega) (by omega)⟩))))
    refine congrArg nI (Eq.symm (il_cn_pw R.1.1 (fun m hm w hw => ?_) (fun j h1 h2 e => ?_) (fun m hm w hw h z => ?_)))
    · have h8 := R.1.1 m hm
      have e := (R.1.2.2.2.2 m hm w hw).1
      rw [show (8 * m + w) % 8 = w from by omega, show (8 * m + w) / 8 = m from by omega, e]
      exact ⟨fun z => ⟨hw, z⟩, fun z => z.2⟩
    · rw [R.1.2.2.2.1 j h1 h2] at e
      exact il_ne4' (by omega) e
    · have := z.1
      rw [show (8 * m + w) % 8 = w from by omega, show (8 * m + w) / 8 = m from by omega] at this
      omega
  · exact il_bdn1 h (br_f (by decide) (il_isN0 h (br_t rfl ⟨rfl, rfl, sz, R⟩)))
end
section
theorem il_MFu {df : Nat → Int32} {s a b : Nat} (A : il_MF df s a) (B : il_MF df s b) : a = b := by
  rcases Nat.lt_trichotomy a b with h | h | h
  · exact absurd (B.2.2 a h) A.2.1
  · exact h
  · exact absurd (A.2.2 b h) B.2.1
section
variable {st va nm ad df kn ct ch nx bf na nu si : Nat → Int32} {sz : Nat → Nat} {m w s : Nat} {post : Int32 → Prop}
theorem il_kn (R : il_R sz st va nm ad df kn ct ch nx bf na nu si) (hs : s < 10) : (il_NF df s ∧ kn s = -4) ∨ (¬ il_NF df s ∧ 0 ≤ kn s) := by
  have h6 := il_6 R.1.1
  rcases R.2.2.1 s hs with ⟨N, _, e⟩ | ⟨m, M, _, e⟩
  · exact Or.inl ⟨N, e⟩
  · refine Or.inr ⟨fun N => M.2.1 (N m M.1), ?_⟩
    have hm := M.1
    have h8 := R.1.1 m hm
    have hl := il_sm_lt sz hm
    rcases R.2.1 m hm s hs with z | ⟨w, hw, z⟩
    · exact absurd z M.2.1
    · rw [e, R.1.2.1 m (by omega), z, nI_add]
      exact nI_pos' (by omega)
theorem il_ct (R : il_R sz st va nm ad df kn ct ch nx bf na nu si) (hs : s < 10) (hm : m < 6) : ct s = nI m ↔ il_MF df s m := by
  rcases R.2.2.1 s hs with ⟨N, e, _⟩ | ⟨i, M, e, _⟩
  · rw [e]
    exact ⟨fun z => absurd z (il_ne4' (by omega)), fun M => absurd (N m M.1) M.2.1⟩
  · have hi := M.1
    rw [e]
    constructor
    · intro z
      rw [← il_inj z (by omega) (by omega)]; exact M
    · intro M2
      rw [il_MFu M M2]
theorem il_na {i : Nat} (R : il_R sz st va nm ad df kn ct ch nx bf na nu si) (hi : i < 48) (h : i % 8 < sz (i / 8)) : na i = nm (il_sm sz (i / 8) + i % 8) ∧ (na i = -4 ∨ ∃ s, s < 10 ∧ na i = nI s) := by
  have hm : i / 8 < 6 := by omega
  have h6 := il_6 R.1.1
  have hp := il_pl hm h
  have e := (R.1.2.2.2.2 (i / 8) hm (i % 8) h).1
  rw [show 8 * (i / 8) + i % 8 = i from by omega] at e
  rw [e]
  exact ⟨rfl, R.1.2.2.1.1 _ (by omega)⟩
/-! undefined -/
theorem il_xud (R : il_R sz st va nm ad df kn ct ch nx bf na nu si) (K : post (nI (il_cn (fun p => ∃ t, t < 10 ∧ il_NF df t ∧ nm p = nI t) 48))) :
    ∀ (d n i : Nat), i + d = 10 → d < n → wX_undefined_4 post st va nm ad df kn ct ch nx bf n (nI (il_cn (fun p => ∃ t, t < i ∧ il_NF df t ∧ nm p = nI t) 48)) (nI i) := by
  intro d
  induction d with
  | zero =>
    intro n i hi hn
    obtain ⟨n, rfl⟩ : ∃ k, n = k + 1 := ⟨n - 1, by omega⟩
    obtain rfl : i = 10 := by omega
    exact br_t (by decide) K
  | succ d ih =>
    intro n i hi hn
    obtain ⟨n, rfl⟩ : ∃ k, n = k + 1 := ⟨n - 1, by omega⟩
    have nxt := ih n (i + 1) (by omega) (by omega)
    refine br_f (nI_ge (b := 10) (by omega) (by omega)) ⟨vp_in_nI (by omega) (by omega), ?_⟩
    rw [nI_clamp (n := i) (by omega)]
    rcases il_kn R (s := i) (by omega) with ⟨N, e⟩ | ⟨N, e⟩
    · refine br_f (by rw [e]; exact il_n4le) (il_chl R.1.2.2.1.2.1 (by omega) (nm_r (nI_add _ _) (nm_r (nI_1 i) ?_)))
      rw [← il_cn_or (P := fun p => ∃ t, t < i ∧ il_NF df t ∧ nm p = nI t)]
      · rw [il_cn_c (Q := fun p => ∃ t, t < i + 1 ∧ il_NF df t ∧ nm p = nI t) (fun p _ => ?_)]
        · exact nxt
        · constructor
          · rintro (⟨t, a, b, c⟩ | c)
            · exact ⟨t, by omega, b, c⟩
            · exact ⟨i, by omega, N, c⟩
          · rintro ⟨t, a, b, c⟩
            by_cases z : t = i
            · rw [z] at c; exact Or.inr c
            · exact Or.inl ⟨t, by omega, b, c⟩
      · rintro p _ ⟨t, a, _, c⟩ z
        have := il_inj (c.symm.trans z) (by omega) (by omega)
        omega
    · refine br_t e (nm_r (nI_1 i) ?_)
      rw [il_cn_c (Q := fun p => ∃ t, t < i + 1 ∧ il_NF df t ∧ nm p = nI t) (fun p _ => ?_)]
      · exact nxt
      · constructor
        · rintro ⟨t, a, b, c⟩
          exact ⟨t, by omega, b, c⟩
        · rintro ⟨t, a, b, c⟩
          by_cases z : t = i
          · rw [z] at b; exact absurd b N
          · exact ⟨t, by omega, b, c⟩
theorem il_yud (R : il_R sz st va nm ad df kn ct ch nx bf na nu si) (K : post (nI (il_cn (fun i => i % 8 < sz (i / 8) ∧ ∃ t, t < 10 ∧ il_NF df t ∧ na i = nI t) 48))) :
    ∀ (d n i : Nat), i + d = 48 → d < n → wY_undefined_4 post na nu si df n (nI (il_cn (fun i => i % 8 < sz (i / 8) ∧ ∃ t, t < 10 ∧ il_NF df t ∧ na i = nI t) i)) (nI i) := by
  intro d
  induction d with
  | zero =>
    intro n i hi hn
    obtain ⟨n, rfl⟩ : ∃ k, n = k + 1 := ⟨n - 1, by omega⟩
    obtain rfl : i = 48 := by omega
    exact br_t (by decide) K
  | succ d ih =>
    intro n i hi hn
    obtain ⟨n, rfl⟩ : ∃ k, n = k + 1 := ⟨n - 1, by omega⟩
    have nxt := ih n (i + 1) (by omega) (by omega)
    rw [il_cn_s] at nxt
    have hd : nI i / 8 = nI (i / 8) := pk_div (d := 8) (by omega) (by omega) (by omega)
    have hr : nI i - nI i / 8 * 8 = nI (i % 8) := pk_rem (d := 8) (by omega) (by omega) (by omega)
    have h8 := R.1.1 (i / 8) (by omega)
    refine br_f (nI_ge (b := 48) (by omega) (by omega)) ⟨by decide, by decide, ?_⟩
    rw [hr, hd, nI_clamp (n := i / 8) (by omega), nI_clamp (n := i) (by omega), R.2.2.2 (i / 8) (by omega)]
    refine ⟨vp_in_nI (by omega) (by omega), ?_⟩
    by_cases h : i % 8 < sz (i / 8)
    · refine br_f (nI_ge h (by omega)) ⟨vp_in_nI (by omega) (by omega), ?_⟩
      rcases (il_na R (by omega) h).2 with e | ⟨s, hs, e⟩
      · rw [il_b_f (fun ⟨_, t, ht, _, z⟩ => il_ne4' (a := t) (by omega) (e.symm.trans z))] at nxt
        exact br_t e (nm_r (nI_1 i) nxt)
      · refine br_f (by rw [e]; exact il_ne4 (by omega)) ⟨vp_in_nI (by omega) (by omega), ?_⟩
        rw [e]
        rcases R.2.2.1 s hs with ⟨N, _⟩ | ⟨m, M, _⟩
        · rw [il_b_t ⟨h, s, hs, N, e⟩] at nxt
          exact il_mfN hs N (br_f il_n4le (nm_r (nI_1 _) (nm_r (nI_1 i) nxt)))
        · have hm := M.1
          rw [il_b_f (fun ⟨_, t, ht, N, z⟩ => M.2.1 (by rw [il_inj (e.symm.trans z) (by omega) (by omega)]; exact N m hm))] at nxt
          exact il_mfM hs M (br_t (nI_pos' (by omega)) (nm_r (nI_1 i) nxt))
    · rw [il_b_f (fun z => h z.1)] at nxt
      exact br_t (nI_le (by omega) (by omega)) (nm_r (nI_1 i) nxt)
/-! idle -/
def il_ID (df : Nat → Int32) (i : Nat) : Prop := df i ≠ -4 ∧ ¬ il_MF df (i % 10) (i / 10)
theorem il_xid12 {J : Int32 → Int32 → Prop} {c : Nat} (R : il_R sz st va nm ad df kn ct ch nx bf na nu si) (hs : s < 10) (K : J (nI (c + il_cn (fun m => il_ID df (10 * m + s)) 6)) (nI (s + 1))) :
    ∀ (d n j : Nat), j + d = 6 → d < n → wX_idle_12 post J (nI s) st va nm ad df kn ct ch nx bf n (nI (c + il_cn (fun m => il_ID df (10 * m + s)) j)) (nI j) := by
  intro d
  induction d with
  | zero =>
    intro n j hj hn
    obtain ⟨n, rfl⟩ : ∃ k, n = k + 1 := ⟨n - 1, by omega⟩
    obtain rfl : j = 6 := by omega
    exact br_t (by decide) (nm_r (nI_1 s) K)
  | succ d ih =>
    intro n j hj hn
    obtain ⟨n, rfl⟩ : ∃ k, n = k + 1 := ⟨n - 1, by omega⟩
    have nxt := ih n (j + 1) (by omega) (by omega)
    rw [il_cn_s] at nxt
    have h8 := R.1.1 j (by omega)
    refine br_f (nI_ge (b := 6) (by omega) (by omega)) ?_
    rw [il_ix, nI_clamp (n := 10 * j + s) (by omega), nI_clamp (n := s) (by omega)]
    refine ⟨vp_in_nI (by omega) (by omega), ?_⟩
    rcases R.2.1 j (by omega) s hs with e | ⟨w, hw, e⟩
    · rw [il_b_f (fun z => z.1 e)] at nxt
      exact br_t (by rw [e]; exact il_neg4) (nm_r (nI_1 j) nxt)
    · refine br_f (by rw [e]; exact nI_pos (by omega)) ⟨vp_in_nI (by omega) (by omega), ?_⟩
      have hc := il_ct R hs (m := j) (by omega)
      by_cases z : nI j = ct s
      · rw [il_b_f (fun q => q.2 (by rw [show (10 * j + s) % 10 = s from by omega, show (10 * j + s) / 10 = j from by omega]; exact hc.mp z.symm))] at nxt
        exact br_t z (nm_r (nI_1 j) nxt)
      · rw [il_b_t ⟨by rw [e]; exact il_ne4 (by omega), fun q => z (hc.mpr (by rw [show (10 * j + s) % 10 = s from by omega, show (10 * j + s) / 10 = j from by omega] at q; exact q)).symm⟩] at nxt
        exact br_f z (nm_r (nI_1 _) (nm_r (nI_1 j) nxt))
theorem il_xid4 (R : il_R sz st va nm ad df kn ct ch nx bf na nu si) (K : post (nI (il_sm (fun s => il_cn (fun m => il_ID df (10 * m + s)) 6) 10))) :
    ∀ (d n i : Nat), i + d = 10 → d < n → wX_idle_4 post st va nm ad df kn ct ch nx bf n (nI (il_sm (fun s => il_cn (fun m => il_ID df (10 * m + s)) 6) i)) (nI i) := by
  intro d
  induction d with
  | zero =>
    intro n i hi hn
    obtain ⟨n, rfl⟩ : ∃ k, n = k + 1 := ⟨n - 1, by omega⟩
    obtain rfl : i = 10 := by omega
    exact br_t (by decide) K
  | succ d ih =>
    intro n i hi hn
    obtain ⟨n, rfl⟩ : ∃ k, n = k + 1 := ⟨n - 1, by omega⟩
    exact br_f (nI_ge (b := 10) (by omega) (by omega)) ⟨7, il_xid12 R (by omega) (ih n (i + 1) (by omega) (by omega)) 6 7 0 (by omega) (by omega)⟩
theorem il_yid (R : il_R sz st va nm ad df kn ct ch nx bf na nu si) (K : post (nI (il_cn (il_ID df) 60))) :
    ∀ (d n i : Nat), i + d = 60 → d < n → wY_idle_4 post na nu si df n (nI (il_cn (il_ID df) i)) (nI i) := by
  intro d
  induction d with
  | zero =>
    intro n i hi hn
    obtain ⟨n, rfl⟩ : ∃ k, n = k + 1 := ⟨n - 1, by omega⟩
    obtain rfl : i = 60 := by omega
    exact br_t (by decide) K
  | succ d ih =>
    intro n i hi hn
    obtain ⟨n, rfl⟩ : ∃ k, n = k + 1 := ⟨n - 1, by omega⟩
    have nxt := ih n (i + 1) (by omega) (by omega)
    rw [il_cn_s] at nxt
    have hd : nI i / 10 = nI (i / 10) := pk_div (d := 10) (by omega) (by omega) (by omega)
    have hr : nI i - nI i / 10 * 10 = nI (i % 10) := pk_rem (d := 10) (by omega) (by omega) (by omega)
    refine br_f (nI_ge (b := 60) (by omega) (by omega)) ⟨vp_in_nI (by omega) (by omega), ?_⟩
    rw [hr, hd, nI_clamp (n := i) (by omega)]
    by_cases e : df i = -4
    · rw [il_b_f (fun z => z.1 e)] at nxt
      exact br_t e (nm_r (nI_1 i) nxt)
    · refine br_f e ⟨by decide, ?_⟩
      rcases R.2.2.1 (i % 10) (by omega) with ⟨N, _⟩ | ⟨m, M, _⟩
      · have := N (i / 10) (by omega)
        rw [show 10 * (i / 10) + i % 10 = i from by omega] at this
        exact absurd this e
      · have hm := M.1
        refine il_mfM (by omega) M ⟨by decide, ?_⟩
        by_cases z : m = i / 10
        · rw [il_b_f (fun q => q.2 (z ▸ M))] at nxt
          exact br_t (by rw [z]) (nm_r (nI_1 i) nxt)
        · rw [il_b_t ⟨e, fun q => z (il_MFu M q)⟩] at nxt
          exact br_f (fun q => z (il_inj q (by omega) (by omega))) (nm_r (nI_1 _) (nm_r (nI_1 i) nxt))
end
theorem il_swap (P : Nat → Prop) : ∀ M : Nat, il_sm (fun s => il_cn (fun m => P (10 * m + s)) M) 10 = il_cn P (10 * M) := by
  intro M
  induction M with
  | zero => rfl
  | succ M ih =>
    rw [show 10 * (M + 1) = 10 * M + 10 from by omega, il_cn_a, ← ih]
    show il_sm (fun s => il_cn (fun m => P (10 * m + s)) M + il_b (P (10 * M + s))) 10 = _
    rw [il_sm_p]
    rfl
theorem i_vc_idle {k : Nat} {u : SX} {v : SY} (I : i_Rel k u v) (hk : k + 4 ≤ 2048) : wpX_idle (fun r => wpY_idle (fun r' => r' = r ∧ i_Rel (k + 4) u v) v) u := by
  obtain ⟨st, va, nm, ad, dfx, kn, ct, ch, nx, bf⟩ := u
  obtain ⟨na, nu, si, df⟩ := v
  obtain ⟨rfl, sz, R⟩ := I
  refine ⟨11, il_xid4 R ?_ 10 11 0 (by omega) (by omega)⟩
  refine ⟨61, il_yid R ⟨?_, rfl, sz, R⟩ 60 61 0 (by omega) (by omega)⟩
  rw [il_swap (il_ID df) 6]
theorem i_vc_undefined {k : Nat} {u : SX} {v : SY} (I : i_Rel k u v) (hk : k + 4 ≤ 2048) : wpX_undefined (fun r => wpY_undefined (fun r' => r' = r ∧ i_Rel (k + 4) u v) v) u := by
  obtain ⟨st, va, nm, ad, dfx, kn, ct, ch, nx, bf⟩ := u
  obtain ⟨na, nu, si, df⟩ := v
  obtain ⟨rfl, sz, R⟩ := I
  have e0 : il_cn (fun p => ∃ t, t < 0 ∧ il_NF df t ∧ nm p = nI t) 48 = 0 := il_cn_0 (fun i _ ⟨t, h, _⟩ => absurd h (by omega))
  unfold wpX_undefined
  dsimp only
  have key := fun (post : Int32 → Prop) K => il_xud (post := post) R K 10 11 0 (by omega) (by omega)
  rw [e0] at key
  refine ⟨11, key _ ?_⟩
  refine ⟨49, il_yud R ⟨?_, rfl, sz, R⟩ 48 49 0 (by omega) (by omega)⟩
  refine congrArg nI (Eq.symm (il_cn_pw R.1.1 (fun m hm w hw => ?_) (fun j h1 h2 z => ?_) (fun m hm w hw h z => ?_)))
  · have h8 := R.1.1 m hm
    have e := (R.1.2.2.2.2 m hm w hw).1
    rw [show (8 * m + w) % 8 = w from by omega, show (8 * m + w) / 8 = m from by omega, e]
    exact ⟨fun z => ⟨hw, z⟩, fun z => z.2⟩
  · obtain ⟨t, ht, _, e⟩ := z
    rw [R.1.2.2.2.1 j h1 h2] at e
    exact il_ne4' (by omega) e
  · have := z.1
    rw [show (8 * m + w) % 8 = w from by omega, show (8 * m + w) / 8 = m from by omega] at this
    omega
end
section
/-! a set of modules as bits -/
def il_bs (x : Int32) (Q : Nat → Prop) : Prop := ∀ j, j < 32 → (bt x j = true ↔ Q j)
theorem il_bs_0 : il_bs 0 (fun _ => False) := fun j _ => by rw [b_0]; exact ⟨fun z => absurd z (by decide), fun z => False.elim z⟩
theorem il_bs_c {x : Int32} {Q Q' : Nat → Prop} (h : il_bs x Q) (e : ∀ j, Q j ↔ Q' j) : il_bs x Q' := fun j hj => (h j hj).trans (e j)
theorem il_b1 : ∀ i, i < 32 → bt 1 i = decide (i = 0) := by decide +kernel
theorem il_bs_o {x : Int32} {Q : Nat → Prop} {m : Nat} (hm : m < 32) (h : il_bs x Q) : il_bs (x ||| ((1 : Int32) <<< (nI m &&& 31))) (fun j => Q j ∨ j = m) := by
  intro j hj
  rw [b_or, b_shl m hm 1 hj, Bool.or_eq_true, h j hj, il_b1 (j - m) (by omega), Bool.and_eq_true, decide_eq_true_eq, decide_eq_true_eq]
  exact ⟨fun z => z.imp id (fun k => by omega), fun z => z.imp id (fun k => by omega)⟩
theorem il_bs_e {x y : Int32} {Q Q' : Nat → Prop} (h : il_bs x Q) (h' : il_bs y Q') (e : ∀ j, j < 32 → (Q j ↔ Q' j)) : x = y :=
  b_ext (fun j hj => Bool.eq_iff_iff.mpr ((h j hj).trans ((e j hj).trans (h' j hj).symm)))
/-- place p lies in module j -/
def il_AT (sz : Nat → Nat) (p j : Nat) : Prop := ∃ w, j < 6 ∧ w < sz j ∧ p = il_sm sz j + w
section
variable {st va nm ad df kn ct ch nx bf na nu si : Nat → Int32} {sz : Nat → Nat} {m w s : Nat} {post : Int32 → Prop}
theorem il_us46 {J : Int32 → Int32 → Prop} {x1 : Int32} (hz : ∀ m, m < 6 → sz m ≤ 8) (hst : ∀ m, m < 7 → st m = nI (il_sm sz m)) :
    ∀ (L : List Nat) (n i : Nat) (pv x set : Int32) (Q : Nat → Prop), il_lk nx bf pv L x → (∀ p, p ∈ L → p < il_sm sz 6) → i + L.length ≤ 48 → L.length < n → il_bs set Q →
      (∀ set', il_bs set' (fun j => Q j ∨ ∃ p, p ∈ L ∧ il_AT sz p j) → J set' (nI (s + 1))) → wX_users_46 post J x1 (nI s) st va nm ad df kn ct ch nx bf n set x (nI i) := by
  have h6 := il_6 hz
  intro L
  induction L with
  | nil =>
    intro n i pv x set Q H _ hi hn B K
    obtain ⟨n, rfl⟩ : ∃ k, n = k + 1 := ⟨n - 1, by omega⟩
    have hx : x < 0 := by rw [show x = -4 from H]; exact il_neg4
    have hK : J set (nI (s + 1)) := K set (il_bs_c B (fun j => ⟨Or.inl, fun z => z.elim id (fun ⟨p, hp, _⟩ => by simp at hp)⟩))
    exact br_c (fun _ => nm_r (nI_1 s) hK) (fun _ => br_t hx (nm_r (nI_1 s) hK))
  | cons p t ih =>
    intro n i pv x set Q H hl hi hn B K
    rw [List.length_cons] at hi hn
    obtain ⟨n, rfl⟩ : ∃ k, n = k + 1 := ⟨n - 1, by omega⟩
    obtain ⟨e1, _, H3⟩ := H
    have hp := hl p (by simp)
    obtain ⟨m, w, hm, hw, e⟩ := il_pl_e 6 hp
    rw [e1]
    refine br_f (nI_ge (b := 48) (by omega) (by omega)) (br_f (nI_pos (by omega)) ?_)
    have key : ∀ (f : Int32 → Prop), f (nI m) → wpX_moduleAt f (st, va, nm, ad, df, kn, ct, ch, nx, bf) (nI p) := fun f hf => by
      rw [e]; exact il_mat hz hst hm hw hf
    refine key _ (nm_e ⟨vp_in_nI (by omega) (by omega), ?_⟩)
    rw [nI_clamp (n := p) (by omega)]
    refine nm_e (nm_r (nI_1 i) (ih n (i + 1) (nI p) (nx p) _ _ H3 (fun q hq => hl q (List.mem_cons_of_mem _ hq)) (by omega) (by omega) (il_bs_o (by omega) B) (fun set' B' => K set' (il_bs_c B' (fun j => ?_)))))
    constructor
    · rintro ((z | z) | ⟨q, hq, z⟩)
      · exact Or.inl z
      · exact Or.inr ⟨p, by simp, w, by omega, by rw [z]; exact hw, by rw [z]; exact e⟩
      · exact Or.inr ⟨q, List.mem_cons_of_mem _ hq, z⟩
    · rintro (z | ⟨q, hq, z⟩)
      · exact Or.inl (Or.inl z)
      · rcases List.mem_cons.mp hq with k | k
        · obtain ⟨w', hj, hw', e'⟩ := z
          exact Or.inl (Or.inr (il_pl_i hw hw' (by rw [← e', k, e])).1)
        · exact Or.inr ⟨q, k, z⟩
theorem il_us14 (R : il_R sz st va nm ad df kn ct ch nx bf na nu si) (hm : m < 6)
    (K : ∀ set, il_bs set (fun j => ∃ t, t < 10 ∧ il_MF df t m ∧ ∃ p, p < 48 ∧ nm p = nI t ∧ il_AT sz p j) → post set) :
    ∀ (d n i : Nat) (set : Int32), i + d = 10 → d < n → il_bs set (fun j => ∃ t, t < i ∧ il_MF df t m ∧ ∃ p, p < 48 ∧ nm p = nI t ∧ il_AT sz p j) →
      wX_users_14 post (nI m) st va nm ad df kn ct ch nx bf n set (nI i) := by
  intro d
  induction d with
  | zero =>
    intro n i set hi hn B
    obtain ⟨n, rfl⟩ : ∃ k, n = k + 1 := ⟨n - 1, by omega⟩
    obtain rfl : i = 10 := by omega
    exact br_t (by decide) (K set B)
  | succ d ih =>
    intro n i set hi hn B
    obtain ⟨n, rfl⟩ : ∃ k, n = k + 1 := ⟨n - 1, by omega⟩
    have hii : vp_in (nI i) 10 := vp_in_nI (by omega) (by omega)
    refine br_f (nI_ge (b := 10) (by omega) (by omega)) ⟨hii, ?_⟩
    rw [nI_clamp (n := i) (by omega)]
    have hc := il_ct R (s := i) (by omega) hm
    by_cases h : ct i = nI m
    · obtain ⟨L, h1, h2, _, h4⟩ := il_ch_len R.1.2.2.1.2.1 (s := i) (by omega)
      refine br_t h ⟨hii, nm_e ⟨L.length + 1, il_us46 R.1.1 R.1.2.1 L (L.length + 1) 0 _ _ set _ h1 (fun p hp => ?_) (by omega) (by omega) B (fun set' B' => ih n (i + 1) set' (by omega) (by omega) (il_bs_c B' (fun j => ?_)))⟩⟩
      · apply Nat.lt_of_not_le
        intro z
        have a := (h2 p).mp hp
        exact il_ne4' (a := i) (by omega) ((R.1.2.2.2.1 p z a.1).symm.trans a.2)
      · constructor
        · rintro (⟨t, a, b, c⟩ | ⟨p, a, b⟩)
          · exact ⟨t, by omega, b, c⟩
          · exact ⟨i, by omega, hc.mp h, p, ((h2 p).mp a).1, ((h2 p).mp a).2, b⟩
        · rintro ⟨t, a, b, p, c, d, e⟩
          by_cases z : t = i
          · rw [z] at d
            exact Or.inr ⟨p, (h2 p).mpr ⟨c, d⟩, e⟩
          · exact Or.inl ⟨t, by omega, b, p, c, d, e⟩
    · refine br_f h ⟨1, il_us46 R.1.1 R.1.2.1 [] 1 0 (-4) (-4) set _ rfl (fun p hp => by simp at hp) (by simp) (by simp) B (fun set' B' => ih n (i + 1) set' (by omega) (by omega) (il_bs_c B' (fun j => ?_)))⟩
      constructor
      · rintro (⟨t, a, b, c⟩ | ⟨p, a, b⟩)
        · exact ⟨t, by omega, b, c⟩
        · simp at a
      · rintro ⟨t, a, b, c⟩
        by_cases z : t = i
        · rw [z] at b
          exact absurd (hc.mpr b) h
        · exact Or.inl ⟨t, by omega, b, c⟩
theorem il_yus14 (R : il_R sz st va nm ad df kn ct ch nx bf na nu si) (hm : m < 6)
    (K : ∀ set, il_bs set (fun j => ∃ i, i < 48 ∧ i % 8 < sz (i / 8) ∧ i / 8 = j ∧ ∃ t, t < 10 ∧ na i = nI t ∧ il_MF df t m) → post set) :
    ∀ (d n i : Nat) (set : Int32), i + d = 48 → d < n → il_bs set (fun j => ∃ i', i' < i ∧ i' % 8 < sz (i' / 8) ∧ i' / 8 = j ∧ ∃ t, t < 10 ∧ na i' = nI t ∧ il_MF df t m) →
      wY_users_14 post (nI m) na nu si df n set (nI i) := by
  intro d
  induction d with
  | zero =>
    intro n i set hi hn B
    obtain ⟨n, rfl⟩ : ∃ k, n = k + 1 := ⟨n - 1, by omega⟩
    obtain rfl : i = 48 := by omega
    exact br_t (by decide) (K set B)
  | succ d ih =>
    intro n i set hi hn B
    obtain ⟨n, rfl⟩ : ∃ k, n = k + 1 := ⟨n - 1, by omega⟩
    have hd : nI i / 8 = nI (i / 8) := pk_div (d := 8) (by omega) (by omega) (by omega)
    have hr : nI i - nI i / 8 * 8 = nI (i % 8) := pk_rem (d := 8) (by omega) (by omega) (by omega)
    have h8 := R.1.1 (i / 8) (by omega)
    have skip : ¬ (i % 8 < sz (i / 8) ∧ ∃ t, t < 10 ∧ na i = nI t ∧ il_MF df t m) → wY_users_14 post (nI m) na nu si df n set (nI (i + 1)) := fun hq =>
      ih n (i + 1) set (by omega) (by omega) (il_bs_c B (fun j => ⟨fun ⟨i', a, b⟩ => ⟨i', by omega, b⟩, fun ⟨i', a, b, c, d⟩ => by
        by_cases z : i' = i
        · rw [z] at b d; exact absurd ⟨b, d⟩ hq
        · exact ⟨i', by omega, b, c, d⟩⟩))
    refine br_f (nI_ge (b := 48) (by omega) (by omega)) ⟨by decide, by decide, ?_⟩
    rw [hr, hd, nI_clamp (n := i / 8) (by omega), nI_clamp (n := i) (by omega), R.2.2.2 (i / 8) (by omega)]
    refine ⟨vp_in_nI (by omega) (by omega), ?_⟩
    by_cases h : i % 8 < sz (i / 8)
    · refine br_f (nI_ge h (by omega)) ⟨vp_in_nI (by omega) (by omega), ?_⟩
      rcases (il_na R (by omega) h).2 with e | ⟨s, hs, e⟩
      · exact br_t e (nm_r (nI_1 i) (skip (fun ⟨_, t, ht, z, _⟩ => il_ne4' (a := t) (by omega) (e.symm.trans z))))
      · refine br_f (by rw [e]; exact il_ne4 (by omega)) ⟨vp_in_nI (by omega) (by omega), ?_⟩
        rw [e]
        rcases R.2.2.1 s hs with ⟨N, _⟩ | ⟨m2, M, _⟩
        · refine il_mfN hs N (br_f (il_ne4' (by omega)) (nm_r (nI_1 i) (skip (fun ⟨_, t, ht, z, M⟩ => ?_))))
          have := il_inj (e.symm.trans z) (by omega) (by omega)
          subst this
          exact M.2.1 (N m hm)
        · have hm2 := M.1
          refine il_mfM hs M ?_
          by_cases z : m2 = m
          · refine br_t (by rw [z]) ⟨by decide, nm_e (nm_r (nI_1 i) (ih n (i + 1) _ (by omega) (by omega) (il_bs_c (il_bs_o (by omega) B) (fun j => ?_))))⟩
            constructor
            · rintro (⟨i', a, b⟩ | c)
              · exact ⟨i', by omega, b⟩
              · exact ⟨i, by omega, h, c.symm, s, hs, e, z ▸ M⟩
            · rintro ⟨i', a, b, c, d⟩
              by_cases y : i' = i
              · rw [y] at c; exact Or.inr c.symm
              · exact Or.inl ⟨i', by omega, b, c, d⟩
          · refine br_f (fun q => z (il_inj q (by omega) (by omega))) (nm_r (nI_1 i) (skip (fun ⟨_, t, ht, y, M'⟩ => ?_)))
            have := il_inj (e.symm.trans y) (by omega) (by omega)
            subst this
            exact z (il_MFu M M')
    · exact br_t (nI_le (by omega) (by omega)) (nm_r (nI_1 i) (skip (fun z => h z.1)))
end
theorem i_vc_users {k : Nat} {u : SX} {v : SY} (I : i_Rel k u v) (hk : k + 4 ≤ 2048) (v1 : Int32) : wpX_users (fun r => wpY_users (fun r' => r' = r ∧ i_Rel (k + 4) u v) v v1) u v1 := by
  obtain ⟨st, va, nm, ad, dfx, kn, ct, ch, nx, bf⟩ := u
  obtain ⟨na, nu, si, df⟩ := v
  obtain ⟨rfl, sz, R⟩ := I
  have h6 := il_6 R.1.1
  unfold wpX_users wpY_users
  dsimp only
  by_cases h : il_V 6 v1
  · obtain ⟨m, hm, rfl⟩ := h
    refine il_bad0 hm (br_t rfl ⟨11, il_us14 R hm (fun set B => ?_) 10 11 0 0 (by omega) (by omega) (il_bs_c il_bs_0 (fun j => ⟨fun z => z.elim, fun ⟨t, a, _⟩ => absurd a (by omega)⟩))⟩)
    refine il_isM1 hm (br_f (by decide) ⟨49, il_yus14 R hm (fun set' B' => ⟨?_, rfl, sz, R⟩) 48 49 0 0 (by omega) (by omega) (il_bs_c il_bs_0 (fun j => ⟨fun z => z.elim, fun ⟨t, a, _⟩ => absurd a (by omega)⟩))⟩)
    refine il_bs_e B' B (fun j hj => ?_)
    constructor
    · rintro ⟨i, hi, hw, hj, t, ht, e, M⟩
      have a := (il_na R hi hw).1
      have hp := il_pl (sz := sz) (show i / 8 < 6 by omega) hw
      exact ⟨t, ht, M, il_sm sz (i / 8) + i % 8, by omega, a.symm.trans e, i % 8, by omega, by rw [← hj]; exact hw, by rw [hj]⟩
    · rintro ⟨t, ht, M, p, hp, e, w, hj6, hw, ep⟩
      have h8 := R.1.1 j hj6
      have a := (R.1.2.2.2.2 j hj6 w hw).1
      refine ⟨8 * j + w, by omega, ?_, by omega, t, ht, ?_, M⟩
      · rw [show (8 * j + w) % 8 = w from by omega, show (8 * j + w) / 8 = j from by omega]; exact hw
      · rw [a, ← ep]; exact e
  · exact il_bad1 h (br_f (by decide) (il_isM0 h (br_t rfl ⟨rfl, rfl, sz, R⟩)))
end
