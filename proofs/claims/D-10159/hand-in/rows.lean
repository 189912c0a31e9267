section
/-! counting -/
noncomputable def sd_cnt (p : Nat → Prop) : Nat → Nat
  | 0 => 0
  | n + 1 => sd_cnt p n + @ite Nat (p n) (Classical.propDecidable (p n)) 1 0
theorem sd_cnt_t {p : Nat → Prop} {n : Nat} (h : p n) : sd_cnt p (n + 1) = sd_cnt p n + 1 := by
  show sd_cnt p n + @ite Nat (p n) (Classical.propDecidable (p n)) 1 0 = _
  rw [if_pos h]
theorem sd_cnt_f {p : Nat → Prop} {n : Nat} (h : ¬ p n) : sd_cnt p (n + 1) = sd_cnt p n := by
  show sd_cnt p n + @ite Nat (p n) (Classical.propDecidable (p n)) 1 0 = _
  rw [if_neg h, Nat.add_zero]
theorem sd_cnt_le (p : Nat → Prop) (n : Nat) : sd_cnt p n ≤ n := by
  induction n with
  | zero => exact Nat.le_refl 0
  | succ n ih =>
    by_cases h : p n
    · rw [sd_cnt_t h]; omega
    · rw [sd_cnt_f h]; omega
theorem sd_cnt_congr {p q : Nat → Prop} {n : Nat} (h : ∀ b, b < n → (p b ↔ q b)) : sd_cnt p n = sd_cnt q n := by
  induction n with
  | zero => rfl
  | succ n ih =>
    have e := ih (fun b hb => h b (by omega))
    by_cases g : p n
    · rw [sd_cnt_t g, sd_cnt_t ((h n (by omega)).mp g), e]
    · rw [sd_cnt_f g, sd_cnt_f (fun z => g ((h n (by omega)).mpr z)), e]
theorem sd_cnt_add {p q : Nat → Prop} {n a : Nat} (ha : a < n) (hp : ¬ p a) (hq : ∀ b, b < n → (q b ↔ p b ∨ b = a)) : sd_cnt q n = sd_cnt p n + 1 := by
  induction n with
  | zero => omega
  | succ n ih =>
    by_cases e : a = n
    · have e1 : sd_cnt q n = sd_cnt p n := sd_cnt_congr (fun b hb => ⟨fun z => ((hq b (by omega)).mp z).elim id (fun g => absurd g (by omega)), fun z => (hq b (by omega)).mpr (Or.inl z)⟩)
      rw [sd_cnt_t ((hq n (by omega)).mpr (Or.inr e.symm)), sd_cnt_f (by rw [← e]; exact hp), e1]
    · have e1 := ih (by omega) (fun b hb => hq b (by omega))
      by_cases g : p n
      · rw [sd_cnt_t ((hq n (by omega)).mpr (Or.inl g)), sd_cnt_t g, e1]
      · rw [sd_cnt_f (fun z => ((hq n (by omega)).mp z).elim g (fun y => e y.symm)), sd_cnt_f g, e1]
theorem sd_cnt_lt {p : Nat → Prop} {n a : Nat} (ha : a < n) (hp : ¬ p a) : sd_cnt p n < n := by
  have h := sd_cnt_add (q := fun b => p b ∨ b = a) ha hp (fun b _ => Iff.rfl)
  have h2 := sd_cnt_le (fun b => p b ∨ b = a) n
  omega
theorem sd_cnt_0 {p : Nat → Prop} {n : Nat} (h : ∀ b, b < n → ¬ p b) : sd_cnt p n = 0 := by
  induction n with
  | zero => rfl
  | succ n ih => rw [sd_cnt_f (h n (by omega)), ih (fun b hb => h b (by omega))]
theorem sd_cnt_3 (ow : Nat → Nat) (n : Nat) : sd_cnt (fun b => ow b = 0) n + sd_cnt (fun b => ow b = 1) n + sd_cnt (fun b => ow b = 2) n = sd_cnt (fun b => ow b < 3) n := by
  induction n with
  | zero => rfl
  | succ n ih =>
    by_cases h0 : ow n = 0
    · rw [sd_cnt_t (p := fun b => ow b = 0) h0, sd_cnt_f (p := fun b => ow b = 1) (by omega), sd_cnt_f (p := fun b => ow b = 2) (by omega), sd_cnt_t (p := fun b => ow b < 3) (by omega)]
      omega
    · by_cases h1 : ow n = 1
      · rw [sd_cnt_f (p := fun b => ow b = 0) (by omega), sd_cnt_t (p := fun b => ow b = 1) h1, sd_cnt_f (p := fun b => ow b = 2) (by omega), sd_cnt_t (p := fun b => ow b < 3) (by omega)]
        omega
      · by_cases h2 : ow n = 2
        · rw [sd_cnt_f (p := fun b => ow b = 0) (by omega), sd_cnt_f (p := fun b => ow b = 1) (by omega), sd_cnt_t (p := fun b => ow b = 2) h2, sd_cnt_t (p := fun b => ow b < 3) (by omega)]
          omega
        · rw [sd_cnt_f (p := fun b => ow b = 0) (by omega), sd_cnt_f (p := fun b => ow b = 1) (by omega), sd_cnt_f (p := fun b => ow b = 2) (by omega), sd_cnt_f (p := fun b => ow b < 3) (by omega)]
          omega
/-! ints -/
theorem sd_inj {a b : Nat} (h : nI a = nI b) (ha : a < 16) (hb : b < 16) : a = b := (nI_eq (by omega) (by omega)).mp h
theorem sd_nm1 : ∀ b, b < 16 → nI b ≠ -1 := by decide +kernel
/-! the journal of node n as a map from blocks to contents -/
def sd_ins (J : Nat → Option Int32) (b : Nat) (v : Int32) : Nat → Option Int32 := fun x => if x = b then some v else J x
theorem sd_ins_s {J : Nat → Option Int32} {b : Nat} {v : Int32} : sd_ins J b v b = some v := if_pos rfl
theorem sd_ins_n {J : Nat → Option Int32} {b x : Nat} {v : Int32} (h : x ≠ b) : sd_ins J b v x = J x := if_neg h
abbrev sd_RJ (n : Nat) (a3 a4 a5 : Nat → Int32) (J : Nat → Option Int32) : Prop :=
  ∃ c, c ≤ 16 ∧ a3 n = nI c ∧ (∀ i, i < c → ∃ b, b < 16 ∧ a4 (n * 16 + i) = nI b ∧ J b = some (a5 (n * 16 + i)))
   ∧ (∀ b, b < 16 → J b ≠ none → ∃ i, i < c ∧ a4 (n * 16 + i) = nI b)
   ∧ (∀ i j, i < c → j < c → a4 (n * 16 + i) = a4 (n * 16 + j) → i = j)
   ∧ c = sd_cnt (fun b => J b ≠ none) 16
theorem sd_RJ_fr {m : Nat} {a3 a4 a5 b3 b4 b5 : Nat → Int32} {J : Nat → Option Int32} (h : sd_RJ m a3 a4 a5 J) (h3 : b3 m = a3 m) (h4 : ∀ i, i < 16 → b4 (m * 16 + i) = a4 (m * 16 + i)) (h5 : ∀ i, i < 16 → b5 (m * 16 + i) = a5 (m * 16 + i)) : sd_RJ m b3 b4 b5 J := by
  obtain ⟨c, hc, e3, k1, k2, k3, k4⟩ := h
  refine ⟨c, hc, by rw [h3, e3], fun i hi => ?_, fun b hb hj => ?_, fun i j hi hj e => ?_, k4⟩
  · rw [h4 i (by omega), h5 i (by omega)]
    exact k1 i hi
  · obtain ⟨i, hi, e⟩ := k2 b hb hj
    exact ⟨i, hi, by rw [h4 i (by omega)]; exact e⟩
  · rw [h4 i (by omega), h4 j (by omega)] at e
    exact k3 i j hi hj e
theorem sd_RJ_0 {n : Nat} {a3 a4 a5 : Nat → Int32} (h : a3 n = 0) : sd_RJ n a3 a4 a5 (fun _ => none) :=
  ⟨0, by omega, h, fun i hi => absurd hi (by omega), fun b _ h => absurd rfl h, fun i j hi => absurd hi (by omega), (sd_cnt_0 (fun b _ h => h rfl)).symm⟩
/-- an entry is written over -/
theorem sd_RJ_old {n : Nat} {a3 a4 a5 : Nat → Int32} {J : Nat → Option Int32} {b i c : Nat} {v : Int32} (hb : b < 16) (h : sd_RJ n a3 a4 a5 J) (h3 : a3 n = nI c) (hc : c ≤ 16) (hi : i < c) (e : a4 (n * 16 + i) = nI b) :
    sd_RJ n a3 (upd a4 (n * 16 + i) (nI b)) (upd a5 (n * 16 + i) v) (sd_ins J b v) := by
  obtain ⟨c', hc', e3, k1, k2, k3, k4⟩ := h
  have ec : c = c' := (nI_eq (by omega) (by omega)).mp (h3.symm.trans e3)
  subst ec
  have e4 : ∀ j, upd a4 (n * 16 + i) (nI b) j = a4 j := by
    intro j
    by_cases g : j = n * 16 + i
    · rw [g, pk_us, e]
    · rw [pk_un g]
  have hJ : J b ≠ none := by
    obtain ⟨b', hb', f1, f2⟩ := k1 i hi
    rw [sd_inj (e.symm.trans f1) hb hb', f2]
    exact Option.some_ne_none _
  refine ⟨c, hc, e3, fun j hj => ?_, fun x hx hj => ?_, fun j k hj hk g => ?_, ?_⟩
  · obtain ⟨b', hb', f1, f2⟩ := k1 j hj
    by_cases g : j = i
    · refine ⟨b, hb, by rw [e4, g, e], ?_⟩
      rw [g, pk_us, sd_ins_s]
    · refine ⟨b', hb', by rw [e4, f1], ?_⟩
      rw [pk_un (by omega), sd_ins_n, f2]
      intro z
      exact g (k3 j i hj hi (by rw [f1, e, z]))
  · by_cases g : x = b
    · exact ⟨i, hi, by rw [e4, e, g]⟩
    · rw [sd_ins_n g] at hj
      obtain ⟨j, h1, h2⟩ := k2 x hx hj
      exact ⟨j, h1, by rw [e4, h2]⟩
  · rw [e4, e4] at g
    exact k3 j k hj hk g
  · rw [k4]
    refine sd_cnt_congr (fun x hx => ?_)
    by_cases g : x = b
    · rw [g, sd_ins_s]
      exact ⟨fun _ => Option.some_ne_none _, fun _ => hJ⟩
    · rw [sd_ins_n g]
/-- an entry is added -/
theorem sd_RJ_new {n : Nat} {a3 a4 a5 : Nat → Int32} {J : Nat → Option Int32} {b c : Nat} {v : Int32} (hb : b < 16) (h : sd_RJ n a3 a4 a5 J) (h3 : a3 n = nI c) (hc : c ≤ 16) (hj : J b = none) :
    c < 16 ∧ sd_RJ n (upd a3 n (nI (c + 1))) (upd a4 (n * 16 + c) (nI b)) (upd a5 (n * 16 + c) v) (sd_ins J b v) := by
  obtain ⟨c', hc', e3, k1, k2, k3, k4⟩ := h
  have ec : c = c' := (nI_eq (by omega) (by omega)).mp (h3.symm.trans e3)
  subst ec
  have hlt : c < 16 := by
    rw [k4]
    exact sd_cnt_lt (a := b) hb (fun z => z hj)
  have no : ∀ i, i < c → a4 (n * 16 + i) ≠ nI b := by
    intro i hi z
    obtain ⟨b', hb', f1, f2⟩ := k1 i hi
    rw [sd_inj (z.symm.trans f1) hb hb', f2] at hj
    exact Option.some_ne_none _ hj
  refine ⟨hlt, c + 1, by omega, pk_us, fun j hk => ?_, fun x hx hk => ?_, fun j k g1 g2 g => ?_, ?_⟩
  · by_cases g : j = c
    · rw [g, pk_us, pk_us]
      exact ⟨b, hb, rfl, sd_ins_s⟩
    · obtain ⟨b', hb', f1, f2⟩ := k1 j (by omega)
      rw [pk_un (by omega), pk_un (by omega)]
      refine ⟨b', hb', f1, ?_⟩
      rw [sd_ins_n, f2]
      intro z
      exact no j (by omega) (by rw [f1, z])
  · by_cases g : x = b
    · exact ⟨c, by omega, by rw [pk_us, g]⟩
    · rw [sd_ins_n g] at hk
      obtain ⟨j, h1, h2⟩ := k2 x hx hk
      exact ⟨j, by omega, by rw [pk_un (by omega), h2]⟩
  · by_cases u1 : j = c
    · by_cases u2 : k = c
      · omega
      · rw [u1, pk_us, pk_un (by omega)] at g
        exact absurd g.symm (no k (by omega))
    · by_cases u2 : k = c
      · rw [u2, pk_us, pk_un (by omega)] at g
        exact absurd g (no j (by omega))
      · rw [pk_un (by omega), pk_un (by omega)] at g
        exact k3 j k (by omega) (by omega) g
  · refine Eq.symm ((sd_cnt_add (p := fun x => J x ≠ none) (a := b) hb (fun z => z hj) (fun x hx => ?_)).trans (by rw [← k4]))
    by_cases g : x = b
    · rw [g, sd_ins_s]
      exact ⟨fun _ => Or.inr rfl, fun _ => Option.some_ne_none _⟩
    · rw [sd_ins_n g]
      exact ⟨fun z => Or.inl z, fun z => z.elim id (fun y => absurd y g)⟩
/-! what node n's cells and journal say of the picture (ow: the block's owner or 3; con: its content) -/
abbrev sd_Co (rm : Nat) (ow : Nat → Nat) (con : Nat → Int32) (n : Nat) (J : Nat → Option Int32) (a8 a9 a10 a11 : Nat → Int32) : Prop :=
  (∀ i, i < rm → (a9 (n * 8 + i) = -1 ∧ a11 (n * 8 + i) = 0) ∨ ∃ b, b < 16 ∧ a9 (n * 8 + i) = nI b ∧ a10 (n * 8 + i) = con b ∧ (ow b = n ∨ ow b = 3) ∧ (a11 (n * 8 + i) ≠ 0 → ow b = n))
  ∧ (∀ i j b, i < rm → j < rm → b < 16 → a9 (n * 8 + i) = nI b → a9 (n * 8 + j) = nI b → i = j)
  ∧ (∀ b, b < 16 → ow b = n → J b = some (con b) ∨ ∃ i, i < rm ∧ a9 (n * 8 + i) = nI b ∧ a11 (n * 8 + i) ≠ 0)
  ∧ (∀ b, b < 16 → J b ≠ none → ow b = n)
  ∧ (∀ b, b < 16 → a8 (n * 16 + b) = 0 → ow b ≠ n ∧ ∀ i, i < rm → a9 (n * 8 + i) ≠ nI b)
/-- the cell that holds block b -/
theorem sd_Co_cell {rm : Nat} {ow : Nat → Nat} {con : Nat → Int32} {n : Nat} {J : Nat → Option Int32} {a8 a9 a10 a11 : Nat → Int32} (h : sd_Co rm ow con n J a8 a9 a10 a11) {i b : Nat} (hi : i < rm) (hb : b < 16) (e : a9 (n * 8 + i) = nI b) :
    a10 (n * 8 + i) = con b ∧ (ow b = n ∨ ow b = 3) ∧ (a11 (n * 8 + i) ≠ 0 → ow b = n) := by
  rcases h.1 i hi with ⟨z, _⟩ | ⟨b', hb', e', k⟩
  · exact absurd (e.symm.trans z) (sd_nm1 b hb)
  · rw [sd_inj (e.symm.trans e') hb hb']
    exact k
/-- nothing of node n's own changes -/
theorem sd_Co_fr {rm : Nat} {ow ow' : Nat → Nat} {con con' : Nat → Int32} {m : Nat} {J : Nat → Option Int32} {a8 a9 a10 a11 b8 b9 b10 b11 : Nat → Int32} (h : sd_Co rm ow con m J a8 a9 a10 a11) (hr : rm ≤ 8)
    (h8 : ∀ i, i < 16 → b8 (m * 16 + i) = a8 (m * 16 + i)) (h9 : ∀ i, i < 8 → b9 (m * 8 + i) = a9 (m * 8 + i)) (h10 : ∀ i, i < 8 → b10 (m * 8 + i) = a10 (m * 8 + i)) (h11 : ∀ i, i < 8 → b11 (m * 8 + i) = a11 (m * 8 + i))
    (hA : ∀ b, b < 16 → ow b = m → ow' b = m ∧ con' b = con b) (hB : ∀ b, b < 16 → ow' b = m → ow b = m)
    (hC : ∀ b, b < 16 → ow b = 3 → (ow' b = 3 ∧ con' b = con b) ∨ ∀ i, i < rm → a9 (m * 8 + i) ≠ nI b) : sd_Co rm ow' con' m J b8 b9 b10 b11 := by
  obtain ⟨c1, c2, c3, c4, c5⟩ := h
  refine ⟨fun i hi => ?_, fun i j b hi hj hb e e' => ?_, fun b hb ho => ?_, fun b hb hj => (hA b hb (c4 b hb hj)).1, fun b hb h0 => ?_⟩
  · rw [h9 i (by omega), h10 i (by omega), h11 i (by omega)]
    rcases c1 i hi with z | ⟨b, hb, e, f, g, d⟩
    · exact Or.inl z
    · rcases g with g | g
      · exact Or.inr ⟨b, hb, e, by rw [(hA b hb g).2, f], Or.inl (hA b hb g).1, fun _ => (hA b hb g).1⟩
      · rcases hC b hb g with k | k
        · exact Or.inr ⟨b, hb, e, by rw [k.2, f], Or.inr k.1, fun z => (hA b hb (d z)).1⟩
        · exact absurd e (k i hi)
  · rw [h9 i (by omega)] at e
    rw [h9 j (by omega)] at e'
    exact c2 i j b hi hj hb e e'
  · have ho' := hB b hb ho
    rw [(hA b hb ho').2]
    rcases c3 b hb ho' with z | ⟨i, hi, e, d⟩
    · exact Or.inl z
    · exact Or.inr ⟨i, hi, by rw [h9 i (by omega)]; exact e, by rw [h11 i (by omega)]; exact d⟩
  · rw [h8 b hb] at h0
    refine ⟨fun z => (c5 b hb h0).1 (hB b hb z), fun i hi => ?_⟩
    rw [h9 i (by omega)]
    exact (c5 b hb h0).2 i hi
section
variable {rm : Nat} {ow : Nat → Nat} {con : Nat → Int32} {n : Nat} {J : Nat → Option Int32} {a8 a9 a10 a11 : Nat → Int32}
/-- a newer cell goes into the journal -/
theorem sd_Co_flush (h : sd_Co rm ow con n J a8 a9 a10 a11) {i b : Nat} (hi : i < rm) (hb : b < 16) (e : a9 (n * 8 + i) = nI b) (hd : a11 (n * 8 + i) ≠ 0) :
    sd_Co rm ow con n (sd_ins J b (con b)) a8 a9 a10 (upd a11 (n * 8 + i) 0) := by
  have hk := sd_Co_cell h hi hb e
  obtain ⟨c1, c2, c3, c4, c5⟩ := h
  refine ⟨fun j hj => ?_, c2, fun x hx ho => ?_, fun x hx hj => ?_, c5⟩
  · by_cases g : j = i
    · rw [g, pk_us]
      exact Or.inr ⟨b, hb, e, hk.1, hk.2.1, fun z => absurd rfl z⟩
    · rw [pk_un (by omega)]
      exact c1 j hj
  · by_cases g : x = b
    · rw [g]
      exact Or.inl sd_ins_s
    · rw [sd_ins_n g]
      rcases c3 x hx ho with z | ⟨j, hj, e', d⟩
      · exact Or.inl z
      · refine Or.inr ⟨j, hj, e', ?_⟩
        have gj : j ≠ i := fun z => g (sd_inj (by rw [← e', z, e]) hx hb)
        rw [pk_un (by omega)]
        exact d
  · by_cases g : x = b
    · rw [g]
      exact hk.2.2 hd
    · rw [sd_ins_n g] at hj
      exact c4 x hx hj
/-- a cell that isn't newer is dropped -/
theorem sd_Co_drop (h : sd_Co rm ow con n J a8 a9 a10 a11) {i : Nat} (hi : i < rm) (hd : a11 (n * 8 + i) = 0) :
    sd_Co rm ow con n J a8 (upd a9 (n * 8 + i) (-1)) a10 (upd a11 (n * 8 + i) 0) := by
  obtain ⟨c1, c2, c3, c4, c5⟩ := h
  refine ⟨fun j hj => ?_, fun j k b hj hk hb e e' => ?_, fun x hx ho => ?_, c4, fun b hb h0 => ⟨(c5 b hb h0).1, fun j hj => ?_⟩⟩
  · by_cases g : j = i
    · rw [g, pk_us, pk_us]
      exact Or.inl ⟨rfl, rfl⟩
    · rw [pk_un (by omega), pk_un (by omega)]
      exact c1 j hj
  · by_cases g : j = i
    · rw [g, pk_us] at e
      exact absurd e.symm (sd_nm1 b hb)
    · by_cases g' : k = i
      · rw [g', pk_us] at e'
        exact absurd e'.symm (sd_nm1 b hb)
      · rw [pk_un (by omega)] at e
        rw [pk_un (by omega)] at e'
        exact c2 j k b hj hk hb e e'
  · rcases c3 x hx ho with z | ⟨j, hj, e', d⟩
    · exact Or.inl z
    · have gj : j ≠ i := fun z => d (by rw [z]; exact hd)
      refine Or.inr ⟨j, hj, ?_, ?_⟩
      · rw [pk_un (by omega)]
        exact e'
      · rw [pk_un (by omega)]
        exact d
  · by_cases g : j = i
    · rw [g, pk_us]
      exact fun z => sd_nm1 b hb z.symm
    · rw [pk_un (by omega)]
      exact (c5 b hb h0).2 j hj
/-- a free cell is filled -/
theorem sd_Co_fill (h : sd_Co rm ow con n J a8 a9 a10 a11) {i b : Nat} (hi : i < rm) (hb : b < 16) (hd : a11 (n * 8 + i) = 0) (hn : ∀ j, j < rm → a9 (n * 8 + j) ≠ nI b) (ho : ow b = n ∨ ow b = 3) (hl : a8 (n * 16 + b) ≠ 0) :
    sd_Co rm ow con n J a8 (upd a9 (n * 8 + i) (nI b)) (upd a10 (n * 8 + i) (con b)) a11 := by
  obtain ⟨c1, c2, c3, c4, c5⟩ := h
  refine ⟨fun j hj => ?_, fun j k x hj hk hx e e' => ?_, fun x hx hx' => ?_, c4, fun x hx h0 => ⟨(c5 x hx h0).1, fun j hj => ?_⟩⟩
  · by_cases g : j = i
    · rw [g, pk_us, pk_us]
      exact Or.inr ⟨b, hb, rfl, rfl, ho, fun z => absurd hd z⟩
    · rw [pk_un (by omega), pk_un (by omega)]
      exact c1 j hj
  · by_cases g : j = i
    · by_cases g' : k = i
      · omega
      · rw [g, pk_us] at e
        rw [pk_un (by omega)] at e'
        exact absurd (e'.trans e.symm) (hn k hk)
    · by_cases g' : k = i
      · rw [g', pk_us] at e'
        rw [pk_un (by omega)] at e
        exact absurd (e.trans e'.symm) (hn j hj)
      · rw [pk_un (by omega)] at e
        rw [pk_un (by omega)] at e'
        exact c2 j k x hj hk hx e e'
  · rcases c3 x hx hx' with z | ⟨j, hj, e', d⟩
    · exact Or.inl z
    · have gj : j ≠ i := fun z => d (by rw [z]; exact hd)
      refine Or.inr ⟨j, hj, ?_, d⟩
      rw [pk_un (by omega)]
      exact e'
  · by_cases g : j = i
    · rw [g, pk_us]
      intro z
      rw [← sd_inj z hb hx] at h0
      exact hl h0
    · rw [pk_un (by omega)]
      exact (c5 x hx h0).2 j hj
/-- a lock changes -/
theorem sd_Co_lk (h : sd_Co rm ow con n J a8 a9 a10 a11) {b : Nat} {x : Int32} (hx : x = 0 → ow b ≠ n ∧ ∀ j, j < rm → a9 (n * 8 + j) ≠ nI b) :
    sd_Co rm ow con n J (upd a8 (n * 16 + b) x) a9 a10 a11 := by
  obtain ⟨c1, c2, c3, c4, c5⟩ := h
  refine ⟨c1, c2, c3, c4, fun y hy h0 => ?_⟩
  by_cases g : y = b
  · rw [g, pk_us] at h0
    rw [g]
    exact hx h0
  · rw [pk_un (by omega)] at h0
    exact c5 y hy h0
/-- a cell is written -/
theorem sd_Co_put (h : sd_Co rm ow con n J a8 a9 a10 a11) {i b : Nat} {v : Int32} {ow' : Nat → Nat} {con' : Nat → Int32} (hi : i < rm) (hb : b < 16) (e : a9 (n * 8 + i) = nI b) (hl : a8 (n * 16 + b) ≠ 0)
    (ho : ow' b = n) (hc : con' b = v) (ho' : ∀ x, x ≠ b → ow' x = ow x) (hc' : ∀ x, x ≠ b → con' x = con x) :
    sd_Co rm ow' con' n J a8 a9 (upd a10 (n * 8 + i) v) (upd a11 (n * 8 + i) 1) := by
  obtain ⟨c1, c2, c3, c4, c5⟩ := h
  refine ⟨fun j hj => ?_, c2, fun x hx hx' => ?_, fun x hx hx' => ?_, fun x hx h0 => ?_⟩
  · by_cases g : j = i
    · rw [g, pk_us, pk_us]
      exact Or.inr ⟨b, hb, e, hc.symm, Or.inl ho, fun _ => ho⟩
    · rw [pk_un (by omega), pk_un (by omega)]
      rcases c1 j hj with z | ⟨x, hx, e', k⟩
      · exact Or.inl z
      · have gx : x ≠ b := fun z => g (c2 j i b hj hi hb (by rw [e', z]) e)
        refine Or.inr ⟨x, hx, e', ?_⟩
        rw [ho' x gx, hc' x gx]
        exact k
  · by_cases g : x = b
    · rw [g]
      exact Or.inr ⟨i, hi, e, by rw [pk_us]; decide⟩
    · rw [hc' x g]
      rw [ho' x g] at hx'
      rcases c3 x hx hx' with z | ⟨j, hj, e', d⟩
      · exact Or.inl z
      · have gj : j ≠ i := fun z => g (sd_inj (by rw [← e', z, e]) hx hb)
        refine Or.inr ⟨j, hj, e', ?_⟩
        rw [pk_un (by omega)]
        exact d
  · by_cases g : x = b
    · rw [g]
      exact ho
    · rw [ho' x g]
      exact c4 x hx hx'
  · have g : x ≠ b := fun z => hl (by rw [← z]; exact h0)
    rw [ho' x g]
    exact c5 x hx h0
end
/-! the abstract steps -/
/-- node m's open writes go home: the owners, the home blocks -/
def sd_clO (m : Nat) (ow : Nat → Nat) : Nat → Nat := fun b => if ow b = m then 3 else ow b
def sd_clH (m : Nat) (ow : Nat → Nat) (con hom : Nat → Int32) : Nat → Int32 := fun b => if ow b = m then con b else hom b
/-- node m's open writes are lost: the contents -/
def sd_drC (m : Nat) (ow : Nat → Nat) (con hom : Nat → Int32) : Nat → Int32 := fun b => if ow b = m then hom b else con b
def sd_uN (f : Nat → Nat) (k x : Nat) : Nat → Nat := fun j => if j = k then x else f j
theorem sd_clO_t {m : Nat} {ow : Nat → Nat} {b : Nat} (h : ow b = m) : sd_clO m ow b = 3 := if_pos h
theorem sd_clO_f {m : Nat} {ow : Nat → Nat} {b : Nat} (h : ow b ≠ m) : sd_clO m ow b = ow b := if_neg h
theorem sd_clH_t {m : Nat} {ow : Nat → Nat} {con hom : Nat → Int32} {b : Nat} (h : ow b = m) : sd_clH m ow con hom b = con b := if_pos h
theorem sd_clH_f {m : Nat} {ow : Nat → Nat} {con hom : Nat → Int32} {b : Nat} (h : ow b ≠ m) : sd_clH m ow con hom b = hom b := if_neg h
theorem sd_drC_t {m : Nat} {ow : Nat → Nat} {con hom : Nat → Int32} {b : Nat} (h : ow b = m) : sd_drC m ow con hom b = hom b := if_pos h
theorem sd_drC_f {m : Nat} {ow : Nat → Nat} {con hom : Nat → Int32} {b : Nat} (h : ow b ≠ m) : sd_drC m ow con hom b = con b := if_neg h
theorem sd_uN_s {f : Nat → Nat} {k x : Nat} : sd_uN f k x k = x := if_pos rfl
theorem sd_uN_n {f : Nat → Nat} {k x j : Nat} (h : j ≠ k) : sd_uN f k x j = f j := if_neg h
theorem sd_clO_ne {m : Nat} (hm : m < 3) {ow : Nat → Nat} {b : Nat} : sd_clO m ow b ≠ m := by
  by_cases h : ow b = m
  · rw [sd_clO_t h]; omega
  · rw [sd_clO_f h]; exact h
/-! the whole state against the picture -/
abbrev sd_Gl (ow : Nat → Nat) (con hom run : Nat → Int32) : Prop := ∀ b, b < 16 → ow b ≤ 3 ∧ (ow b = 3 → con b = hom b) ∧ (ow b < 3 → run (ow b) ≠ 0)
abbrev sd_M (rm : Nat) (ow : Nat → Nat) (con hom run : Nat → Int32) (r : Int32) (a1 a2 a3 a4 a5 a6 a7 a8 a9 a10 a11 a12 : Nat → Int32) : Prop :=
  2 ≤ rm ∧ rm ≤ 8 ∧ r = nI rm ∧ (∀ n, n < 3 → a1 n = run n) ∧ (∀ b, b < 16 → a2 b = hom b) ∧ (∀ n, n < 3 → ∃ h, h < rm ∧ a12 n = nI h)
  ∧ sd_Gl ow con hom run ∧ ∀ n, n < 3 → ∃ J, sd_RJ n a3 a4 a5 J ∧ sd_Co rm ow con n J a8 a9 a10 a11
def sd_Mt (rm : Nat) (ow : Nat → Nat) (con hom run : Nat → Int32) (s : St1) : Prop := match s with
  | (r, a1, a2, a3, a4, a5, a6, a7, a8, a9, a10, a11, a12) => sd_M rm ow con hom run r a1 a2 a3 a4 a5 a6 a7 a8 a9 a10 a11 a12 ∧ ∀ n, n < 3 → a7 n = 0
theorem sd_Mt_e {rm : Nat} {ow : Nat → Nat} {con hom run : Nat → Int32} {r : Int32} {a1 a2 a3 a4 a5 a6 a7 a8 a9 a10 a11 a12 : Nat → Int32} : sd_Mt rm ow con hom run (r, a1, a2, a3, a4, a5, a6, a7, a8, a9, a10, a11, a12) ↔ (sd_M rm ow con hom run r a1 a2 a3 a4 a5 a6 a7 a8 a9 a10 a11 a12 ∧ ∀ n, n < 3 → a7 n = 0) := Iff.rfl
section
variable {rm : Nat} {ow : Nat → Nat} {con hom run : Nat → Int32} {r : Int32} {a1 a2 a3 a4 a5 a6 a7 a8 a9 a10 a11 a12 : Nat → Int32}
/-- node n's newer contents are all in its journal: they go home -/
theorem sd_M_safe (h : sd_M rm ow con hom run r a1 a2 a3 a4 a5 a6 a7 a8 a9 a10 a11 a12) {n : Nat} (hn : n < 3) {J : Nat → Option Int32} (hJ : sd_RJ n a3 a4 a5 J) (hC : sd_Co rm ow con n J a8 a9 a10 a11) (hd : ∀ i, i < rm → a11 (n * 8 + i) = 0)
    {a2' a6' a7' : Nat → Int32} (h2' : ∀ b, b < 16 → a2' b = (J b).getD (a2 b)) : sd_M rm (sd_clO n ow) con (sd_clH n ow con hom) run r a1 a2' (upd a3 n 0) a4 a5 a6' a7' a8 a9 a10 a11 a12 := by
  obtain ⟨m2, m8, hr, h1, h2, h12, hg, hN⟩ := h
  refine ⟨m2, m8, hr, h1, fun b hb => ?_, h12, fun b hb => ?_, fun m hm => ?_⟩
  · rw [h2' b hb]
    by_cases g : ow b = n
    · rw [sd_clH_t g]
      rcases hC.2.2.1 b hb g with z | ⟨i, hi, _, d⟩
      · rw [z]; rfl
      · exact absurd (hd i hi) d
    · rw [sd_clH_f g]
      have z : J b = none := Decidable.byContradiction (fun z => g (hC.2.2.2.1 b hb z))
      rw [z]
      exact h2 b hb
  · obtain ⟨g1, g2, g3⟩ := hg b hb
    by_cases g : ow b = n
    · rw [sd_clO_t g, sd_clH_t g]
      exact ⟨by omega, fun _ => rfl, fun z => absurd z (by omega)⟩
    · rw [sd_clO_f g, sd_clH_f g]
      exact ⟨g1, g2, g3⟩
  · by_cases g : m = n
    · rw [g]
      refine ⟨fun _ => none, sd_RJ_0 pk_us, fun i hi => ?_, hC.2.1, fun b hb z => absurd z (sd_clO_ne hn), fun b hb z => absurd rfl z, fun b hb z => ⟨sd_clO_ne hn, (hC.2.2.2.2 b hb z).2⟩⟩
      rcases hC.1 i hi with z | ⟨b, hb, e, f, k, d⟩
      · exact Or.inl z
      · refine Or.inr ⟨b, hb, e, f, Or.inr ?_, fun z => absurd (hd i hi) z⟩
        rcases k with k | k
        · exact sd_clO_t k
        · rw [sd_clO_f (by omega)]; exact k
    · obtain ⟨J', hJ', hC'⟩ := hN m hm
      refine ⟨J', sd_RJ_fr hJ' (pk_un g) (fun _ _ => rfl) (fun _ _ => rfl), sd_Co_fr hC' m8 (fun _ _ => rfl) (fun _ _ => rfl) (fun _ _ => rfl) (fun _ _ => rfl) (fun b hb z => ⟨?_, rfl⟩) (fun b hb z => ?_) (fun b hb z => Or.inl ⟨?_, rfl⟩)⟩
      · rw [sd_clO_f (by omega)]; exact z
      · by_cases k : ow b = n
        · rw [sd_clO_t k] at z; omega
        · rw [sd_clO_f k] at z; exact z
      · rw [sd_clO_f (by omega)]; exact z
/-- node n is wiped -/
theorem sd_M_wipe (h : sd_M rm ow con hom run r a1 a2 a3 a4 a5 a6 a7 a8 a9 a10 a11 a12) {n : Nat} (hn : n < 3) {con' hom' a1' a2' a3' a6' a7' a8' a9' a11' : Nat → Int32}
    (k1 : ∀ b, b < 16 → ow b ≠ n → con' b = con b ∧ hom' b = hom b) (k2 : ∀ b, b < 16 → ow b = n → con' b = hom' b) (h1' : ∀ m, m < 3 → a1' m = upd a1 n 0 m) (h2' : ∀ b, b < 16 → a2' b = hom' b)
    (h3' : ∀ m, m < 3 → a3' m = upd a3 n 0 m) (h8' : ∀ m i, m < 3 → m ≠ n → i < 16 → a8' (m * 16 + i) = a8 (m * 16 + i)) (h9' : ∀ m i, m < 3 → m ≠ n → i < 8 → a9' (m * 8 + i) = a9 (m * 8 + i)) (h11' : ∀ m i, m < 3 → m ≠ n → i < 8 → a11' (m * 8 + i) = a11 (m * 8 + i))
    (h9n : ∀ i, i < 8 → a9' (n * 8 + i) = -1) (h11n : ∀ i, i < 8 → a11' (n * 8 + i) = 0) : sd_M rm (sd_clO n ow) con' hom' (upd run n 0) r a1' a2' a3' a4 a5 a6' a7' a8' a9' a10 a11' a12 := by
  obtain ⟨m2, m8, hr, h1, h2, h12, hg, hN⟩ := h
  refine ⟨m2, m8, hr, fun m hm => ?_, h2', h12, fun b hb => ?_, fun m hm => ?_⟩
  · rw [h1' m hm]
    by_cases g : m = n
    · rw [g, pk_us, pk_us]
    · rw [pk_un g, pk_un g]; exact h1 m hm
  · obtain ⟨g1, g2, g3⟩ := hg b hb
    by_cases g : ow b = n
    · rw [sd_clO_t g]
      exact ⟨by omega, fun _ => k2 b hb g, fun z => absurd z (by omega)⟩
    · rw [sd_clO_f g, (k1 b hb g).1, (k1 b hb g).2, pk_un g]
      exact ⟨g1, g2, g3⟩
  · by_cases g : m = n
    · rw [g]
      refine ⟨fun _ => none, sd_RJ_0 (by rw [h3' n hn, pk_us]), fun i hi => Or.inl ⟨h9n i (by omega), h11n i (by omega)⟩, fun i j b hi hj hb e => ?_, fun b hb z => absurd z (sd_clO_ne hn), fun b hb z => absurd rfl z, fun b hb z => ⟨sd_clO_ne hn, fun i hi => ?_⟩⟩
      · rw [h9n i (by omega)] at e
        exact absurd e.symm (sd_nm1 b hb)
      · rw [h9n i (by omega)]
        exact fun e => sd_nm1 b hb e.symm
    · obtain ⟨J', hJ', hC'⟩ := hN m hm
      refine ⟨J', sd_RJ_fr hJ' (by rw [h3' m hm, pk_un g]) (fun _ _ => rfl) (fun _ _ => rfl), sd_Co_fr hC' m8 (fun i hi => h8' m i hm g hi) (fun i hi => h9' m i hm g hi) (fun _ _ => rfl) (fun i hi => h11' m i hm g hi) (fun b hb z => ⟨?_, ?_⟩) (fun b hb z => ?_) (fun b hb z => Or.inl ⟨?_, ?_⟩)⟩
      · rw [sd_clO_f (by omega)]; exact z
      · exact (k1 b hb (by omega)).1
      · by_cases k : ow b = n
        · rw [sd_clO_t k] at z; omega
        · rw [sd_clO_f k] at z; exact z
      · rw [sd_clO_f (by omega)]; exact z
      · exact (k1 b hb (by omega)).1
/-- node n writes v to block b in its cell i -/
theorem sd_M_put (h : sd_M rm ow con hom run r a1 a2 a3 a4 a5 a6 a7 a8 a9 a10 a11 a12) {n i b : Nat} {v : Int32} (hn : n < 3) (hi : i < rm) (hb : b < 16) (ho : ow b = n ∨ ow b = 3) (hu : run n ≠ 0) (e : a9 (n * 8 + i) = nI b) (hl : a8 (n * 16 + b) ≠ 0)
    (hx : ∀ m, m < 3 → m ≠ n → ∀ j, j < rm → a9 (m * 8 + j) ≠ nI b) : sd_M rm (sd_uN ow b n) (upd con b v) hom run r a1 a2 a3 a4 a5 a6 a7 a8 a9 (upd a10 (n * 8 + i) v) (upd a11 (n * 8 + i) 1) a12 := by
  obtain ⟨m2, m8, hr, h1, h2, h12, hg, hN⟩ := h
  refine ⟨m2, m8, hr, h1, h2, h12, fun x hx => ?_, fun m hm => ?_⟩
  · by_cases g : x = b
    · rw [g, sd_uN_s]
      exact ⟨by omega, fun z => absurd z (by omega), fun _ => hu⟩
    · rw [sd_uN_n g, pk_un g]
      exact hg x hx
  · obtain ⟨J', hJ', hC'⟩ := hN m hm
    by_cases g : m = n
    · subst g
      exact ⟨J', hJ', sd_Co_put hC' hi hb e hl sd_uN_s pk_us (fun x hx => sd_uN_n hx) (fun x hx => pk_un hx)⟩
    · refine ⟨J', hJ', sd_Co_fr hC' m8 (fun _ _ => rfl) (fun _ _ => rfl) (fun j hj => pk_un (by omega)) (fun j hj => pk_un (by omega)) (fun x hx z => ?_) (fun x hx z => ?_) (fun x hx' z => ?_)⟩
      · have k : x ≠ b := fun y => by rw [y] at z; omega
        rw [sd_uN_n k, pk_un k]
        exact ⟨z, rfl⟩
      · have k : x ≠ b := fun y => by rw [y, sd_uN_s] at z; exact g z.symm
        rw [sd_uN_n k] at z
        exact z
      · by_cases k : x = b
        · rw [k]
          exact Or.inr (fun j hj => hx m hm g j hj)
        · rw [sd_uN_n k, pk_un k]
          exact Or.inl ⟨z, rfl⟩
/-- only node n's part of the arrays changes, and what it says stays -/
theorem sd_M_node (h : sd_M rm ow con hom run r a1 a2 a3 a4 a5 a6 a7 a8 a9 a10 a11 a12) {n : Nat} {a3' a4' a5' a6' a7' a8' a9' a10' a11' a12' : Nat → Int32}
    (hJ : ∀ m J, m < 3 → m ≠ n → sd_RJ m a3 a4 a5 J → sd_RJ m a3' a4' a5' J) (h8' : ∀ m i, m < 3 → m ≠ n → i < 16 → a8' (m * 16 + i) = a8 (m * 16 + i)) (h9' : ∀ m i, m < 3 → m ≠ n → i < 8 → a9' (m * 8 + i) = a9 (m * 8 + i)) (h10' : ∀ m i, m < 3 → m ≠ n → i < 8 → a10' (m * 8 + i) = a10 (m * 8 + i)) (h11' : ∀ m i, m < 3 → m ≠ n → i < 8 → a11' (m * 8 + i) = a11 (m * 8 + i))
    (h12' : ∀ m, m < 3 → ∃ h, h < rm ∧ a12' m = nI h) (hN' : ∃ J, sd_RJ n a3' a4' a5' J ∧ sd_Co rm ow con n J a8' a9' a10' a11') : sd_M rm ow con hom run r a1 a2 a3' a4' a5' a6' a7' a8' a9' a10' a11' a12' := by
  obtain ⟨m2, m8, hr, h1, h2, h12, hg, hN⟩ := h
  refine ⟨m2, m8, hr, h1, h2, h12', hg, fun m hm => ?_⟩
  by_cases g : m = n
  · rw [g]
    exact hN'
  · obtain ⟨J', hJ', hC'⟩ := hN m hm
    exact ⟨J', hJ m J' hm g hJ', sd_Co_fr hC' m8 (fun i hi => h8' m i hm g hi) (fun i hi => h9' m i hm g hi) (fun i hi => h10' m i hm g hi) (fun i hi => h11' m i hm g hi) (fun b _ z => ⟨z, rfl⟩) (fun b _ z => z) (fun b _ z => Or.inl ⟨z, rfl⟩)⟩
end
end
section
/-! the methods that store nothing -/
theorem sd_rowJ {n c : Nat} {a3 : Nat → Int32} (hn : n < 3) (h3 : a3 n = nI c) : nI n * 16 + a3 (nI n).toNatClampNeg = nI (n * 16 + c) := by
  rw [nI_clamp (by omega), h3]
  show nI n * nI 16 + nI c = _
  rw [pk_mul, nI_add]
theorem sd_rowC {n : Nat} {r : Int32} {rm : Nat} (hr : r = nI rm) : nI n * 8 + r = nI (n * 8 + rm) := by
  rw [hr]
  show nI n * nI 8 + nI rm = _
  rw [pk_mul, nI_add]
theorem sd_rowL (n b : Nat) : nI n * 16 + nI b = nI (n * 16 + b) := by
  show nI n * nI 16 + nI b = _
  rw [pk_mul, nI_add]
theorem sd_journaled {post : Int32 → Prop} {r : Int32} {a1 a2 a3 a4 a5 a6 a7 a8 a9 a10 a11 a12 : Nat → Int32} {n c : Nat} {x : Int32} (hn : n < 3) (hc : c ≤ 16) (h3 : a3 n = nI c)
    (hs : ∀ i, i < c → a4 (n * 16 + i) = x → post (nI (n * 16 + i))) (hx : (∀ i, i < c → a4 (n * 16 + i) ≠ x) → post (-1)) : wpX_journaled post (r, a1, a2, a3, a4, a5, a6, a7, a8, a9, a10, a11, a12) (nI n) x := by
  refine nm_r (pk_mul n 16) ?_
  refine Classical.byCases (p := ∃ i, i < c ∧ a4 (n * 16 + i) = x) (fun hex => ?_) (fun hne => ?_)
  · obtain ⟨d, ⟨hd, ed⟩, hl⟩ := pk_least (fun i => i < c ∧ a4 (n * 16 + i) = x) hex
    exact pk_loop (σ := Unit) (fun k i _ => wX_journaled_5 post (nI n) x r a1 a2 a3 a4 a5 a6 a7 a8 a9 a10 a11 a12 k (nI (n * 16 + i))) (fun _ _ => True) d 0 () (by omega) trivial
      (fun k _ _ => And.intro (pk_in n 3 hn) (pk_le (n * 16 + c) (n * 16 + d) (fun z => absurd z (by omega)) (fun z => And.intro (pk_in (n * 16 + d) 48 (by omega)) (br_t (by rw [nI_clamp (by omega)]; exact ed) (hs d hd ed))) (sd_rowJ hn h3) rfl))
      (fun k i _ hi _ hw => And.intro (pk_in n 3 hn) (pk_le (n * 16 + c) (n * 16 + i) (fun z => absurd z (by omega)) (fun z => And.intro (pk_in (n * 16 + i) 48 (by omega)) (br_f (by rw [nI_clamp (by omega)]; exact fun z => hl i hi ⟨by omega, z⟩) (nm_r (nI_1 _) (hw () trivial)))) (sd_rowJ hn h3) rfl))
  · exact pk_loop (σ := Unit) (fun k i _ => wX_journaled_5 post (nI n) x r a1 a2 a3 a4 a5 a6 a7 a8 a9 a10 a11 a12 k (nI (n * 16 + i))) (fun _ _ => True) c 0 () (by omega) trivial
      (fun k _ _ => And.intro (pk_in n 3 hn) (pk_le (n * 16 + c) (n * 16 + c) (fun z => hx (fun i hi e => hne ⟨i, hi, e⟩)) (fun z => absurd z (by omega)) (sd_rowJ hn h3) rfl))
      (fun k i _ hi _ hw => And.intro (pk_in n 3 hn) (pk_le (n * 16 + c) (n * 16 + i) (fun z => absurd z (by omega)) (fun z => And.intro (pk_in (n * 16 + i) 48 (by omega)) (br_f (by rw [nI_clamp (by omega)]; exact fun z => hne ⟨i, hi, z⟩) (nm_r (nI_1 _) (hw () trivial)))) (sd_rowJ hn h3) rfl))
theorem sd_jour {post : Int32 → Prop} {r : Int32} {a1 a2 a3 a4 a5 a6 a7 a8 a9 a10 a11 a12 : Nat → Int32} {n b : Nat} {J : Nat → Option Int32} (hn : n < 3) (hb : b < 16) (hJ : sd_RJ n a3 a4 a5 J)
    (hs : ∀ i, i < 16 → J b = some (a5 (n * 16 + i)) → a4 (n * 16 + i) = nI b → post (nI (n * 16 + i))) (hx : J b = none → post (-1)) : wpX_journaled post (r, a1, a2, a3, a4, a5, a6, a7, a8, a9, a10, a11, a12) (nI n) (nI b) := by
  obtain ⟨c, hc, h3, k1, k2, k3, k4⟩ := hJ
  refine sd_journaled hn hc h3 (fun i hi e => ?_) (fun h => ?_)
  · obtain ⟨b', hb', f1, f2⟩ := k1 i hi
    exact hs i (by omega) (by rw [sd_inj (e.symm.trans f1) hb hb', f2]) e
  · refine hx (Decidable.byContradiction (fun z => ?_))
    obtain ⟨i, hi, e⟩ := k2 b hb z
    exact h i hi e
theorem sd_cached {post : Int32 → Prop} {r : Int32} {a1 a2 a3 a4 a5 a6 a7 a8 a9 a10 a11 a12 : Nat → Int32} {n rm : Nat} {x : Int32} (hn : n < 3) (hr : r = nI rm) (hm : rm ≤ 8)
    (hs : ∀ i, i < rm → a9 (n * 8 + i) = x → post (nI (n * 8 + i))) (hx : (∀ i, i < rm → a9 (n * 8 + i) ≠ x) → post (-1)) : wpX_cached post (r, a1, a2, a3, a4, a5, a6, a7, a8, a9, a10, a11, a12) (nI n) x := by
  refine nm_r (pk_mul n 8) ?_
  refine Classical.byCases (p := ∃ i, i < rm ∧ a9 (n * 8 + i) = x) (fun hex => ?_) (fun hne => ?_)
  · obtain ⟨d, ⟨hd, ed⟩, hl⟩ := pk_least (fun i => i < rm ∧ a9 (n * 8 + i) = x) hex
    exact pk_loop (σ := Unit) (fun k i _ => wX_cached_5 post (nI n) x r a1 a2 a3 a4 a5 a6 a7 a8 a9 a10 a11 a12 k (nI (n * 8 + i))) (fun _ _ => True) d 0 () (by omega) trivial
      (fun k _ _ => pk_le (n * 8 + rm) (n * 8 + d) (fun z => absurd z (by omega)) (fun z => And.intro (pk_in (n * 8 + d) 24 (by omega)) (br_t (by rw [nI_clamp (by omega)]; exact ed) (hs d hd ed))) (sd_rowC hr) rfl)
      (fun k i _ hi _ hw => pk_le (n * 8 + rm) (n * 8 + i) (fun z => absurd z (by omega)) (fun z => And.intro (pk_in (n * 8 + i) 24 (by omega)) (br_f (by rw [nI_clamp (by omega)]; exact fun z => hl i hi ⟨by omega, z⟩) (nm_r (nI_1 _) (hw () trivial)))) (sd_rowC hr) rfl)
  · exact pk_loop (σ := Unit) (fun k i _ => wX_cached_5 post (nI n) x r a1 a2 a3 a4 a5 a6 a7 a8 a9 a10 a11 a12 k (nI (n * 8 + i))) (fun _ _ => True) rm 0 () (by omega) trivial
      (fun k _ _ => pk_le (n * 8 + rm) (n * 8 + rm) (fun z => hx (fun i hi e => hne ⟨i, hi, e⟩)) (fun z => absurd z (by omega)) (sd_rowC hr) rfl)
      (fun k i _ hi _ hw => pk_le (n * 8 + rm) (n * 8 + i) (fun z => absurd z (by omega)) (fun z => And.intro (pk_in (n * 8 + i) 24 (by omega)) (br_f (by rw [nI_clamp (by omega)]; exact fun z => hne ⟨i, hi, z⟩) (nm_r (nI_1 _) (hw () trivial)))) (sd_rowC hr) rfl)
theorem sd_isUns {post : Int32 → Prop} {r : Int32} {a1 a2 a3 a4 a5 a6 a7 a8 a9 a10 a11 a12 : Nat → Int32} {n b rm : Nat} {ow : Nat → Nat} {con : Nat → Int32} {J : Nat → Option Int32} (hn : n < 3) (hb : b < 16) (hr : r = nI rm) (hm : rm ≤ 8) (hJ : sd_RJ n a3 a4 a5 J) (hC : sd_Co rm ow con n J a8 a9 a10 a11)
    (h1 : ow b = n → post 1) (h0 : ow b ≠ n → post 0) : wpX_isUnsafe post (r, a1, a2, a3, a4, a5, a6, a7, a8, a9, a10, a11, a12) (nI n) (nI b) := by
  unfold wpX_isUnsafe
  refine sd_jour hn hb hJ (fun i hi e e' => br_f (nI_pos (by omega)) (h1 (hC.2.2.2.1 b hb (by rw [e]; exact Option.some_ne_none _)))) (fun z => br_t (by decide) ?_)
  refine sd_cached hn hr hm (fun i hi e => br_f (nI_pos (by omega)) (And.intro (pk_in (n * 8 + i) 24 (by omega)) ?_)) (fun h => br_t (by decide) (h0 (fun y => ?_)))
  · rw [nI_clamp (by omega)]
    refine br_c (fun d => h0 (fun y => ?_)) (fun d => h1 ((sd_Co_cell hC hi hb e).2.2 d))
    rcases hC.2.2.1 b hb y with k | ⟨j, hj, e', d'⟩
    · rw [z] at k
      exact Option.some_ne_none _ k.symm
    · rw [hC.2.1 j i b hj hi hb e' e] at d'
      exact d' d
  · rcases hC.2.2.1 b hb y with k | ⟨j, hj, e', d'⟩
    · rw [z] at k
      exact Option.some_ne_none _ k.symm
    · exact h j hj e'
def sd_ov (k : Nat) : Int32 := if k < 3 then nI k else -4
theorem sd_ov_t {k : Nat} (h : k < 3) : sd_ov k = nI k := if_pos h
theorem sd_ov_f {k : Nat} (h : ¬ k < 3) : sd_ov k = -4 := if_neg h
theorem sd_ownerOf {post : Int32 → Prop} {rm : Nat} {ow : Nat → Nat} {con hom run : Nat → Int32} {r : Int32} {a1 a2 a3 a4 a5 a6 a7 a8 a9 a10 a11 a12 : Nat → Int32} {b : Nat} (h : sd_M rm ow con hom run r a1 a2 a3 a4 a5 a6 a7 a8 a9 a10 a11 a12) (hb : b < 16) (hp : post (sd_ov (ow b))) : wpX_ownerOf post (r, a1, a2, a3, a4, a5, a6, a7, a8, a9, a10, a11, a12) (nI b) := by
  obtain ⟨m2, m8, hr, h1, h2, h12, hg, hN⟩ := h
  have g3 := (hg b hb).1
  exact pk_loop (σ := Unit) (fun k i _ => wX_ownerOf_2 post (nI b) r a1 a2 a3 a4 a5 a6 a7 a8 a9 a10 a11 a12 k (nI i)) (fun _ _ => True) (ow b) 0 () (by omega) trivial
    (fun k _ _ => pk_le 3 (ow b) (fun z => by rw [sd_ov_f (by omega)] at hp; exact hp) (fun z => by
      obtain ⟨J, hJ, hC⟩ := hN (ow b) z
      rw [sd_ov_t z] at hp
      exact sd_isUns z hb hr m8 hJ hC (fun _ => br_f (by decide) hp) (fun y => absurd rfl y)))
    (fun k i _ hi _ hw => pk_le 3 i (fun z => absurd z (by omega)) (fun z => by
      obtain ⟨J, hJ, hC⟩ := hN i z
      exact sd_isUns z hb hr m8 hJ hC (fun y => absurd y (by omega)) (fun _ => br_t rfl (nm_r (nI_1 i) (hw () trivial)))))
theorem sd_badBlock {post : Int32 → Prop} {b : Nat} (hb : b < 16) (hp : post 0) : wpX_badBlock post () (nI b) := br_f (nI_pos (by omega)) (br_t (nI_lt (b := 16) hb (by decide)) hp)
theorem sd_badNode {post : Int32 → Prop} {n : Nat} (hn : n < 3) (hp : post 0) : wpX_badNode post () (nI n) := br_f (nI_pos (by omega)) (br_t (nI_lt (b := 3) hn (by decide)) hp)
theorem sd_content {post : Int32 → Prop} {rm : Nat} {ow : Nat → Nat} {con hom run : Nat → Int32} {r : Int32} {a1 a2 a3 a4 a5 a6 a7 a8 a9 a10 a11 a12 : Nat → Int32} {b : Nat} (h : sd_M rm ow con hom run r a1 a2 a3 a4 a5 a6 a7 a8 a9 a10 a11 a12) (hb : b < 16) (hp : post (con b)) : wpX_content post (r, a1, a2, a3, a4, a5, a6, a7, a8, a9, a10, a11, a12) (nI b) := by
  unfold wpX_content
  refine sd_badBlock hb (br_t rfl (sd_ownerOf h hb ?_))
  obtain ⟨m2, m8, hr, h1, h2, h12, hg, hN⟩ := h
  obtain ⟨g1, g2, g3⟩ := hg b hb
  by_cases z : ow b < 3
  · obtain ⟨J, hJ, hC⟩ := hN (ow b) z
    rw [sd_ov_t z]
    refine br_t (nI_pos' (by omega)) (sd_cached z hr m8 (fun i hi e => br_f (nI_pos (by omega)) (And.intro (pk_in (ow b * 8 + i) 24 (by omega)) ?_)) (fun hno => br_t (by decide) ?_))
    · rw [nI_clamp (by omega), (sd_Co_cell hC hi hb e).1]
      exact hp
    · have k : J b = some (con b) := (hC.2.2.1 b hb rfl).elim id (fun ⟨j, hj, e', _⟩ => absurd e' (hno j hj))
      refine sd_jour z hb hJ (fun i hi e _ => br_t (nI_pos' (by omega)) (And.intro (pk_in (ow b * 16 + i) 48 (by omega)) ?_)) (fun y => absurd (y.symm.trans k).symm (Option.some_ne_none _))
      rw [nI_clamp (by omega), ← Option.some.inj (k.symm.trans e)]
      exact hp
  · rw [sd_ov_f z]
    refine br_f (by decide) (And.intro (pk_in b 16 hb) ?_)
    rw [nI_clamp (by omega), h2 b hb, ← g2 (by omega)]
    exact hp
theorem sd_safe {post : Int32 → Prop} {rm : Nat} {ow : Nat → Nat} {con hom run : Nat → Int32} {r : Int32} {a1 a2 a3 a4 a5 a6 a7 a8 a9 a10 a11 a12 : Nat → Int32} {b : Nat} (h : sd_M rm ow con hom run r a1 a2 a3 a4 a5 a6 a7 a8 a9 a10 a11 a12) (hb : b < 16) (hp : post (hom b)) : wpX_safe post (r, a1, a2, a3, a4, a5, a6, a7, a8, a9, a10, a11, a12) (nI b) := by
  unfold wpX_safe
  refine sd_badBlock hb (br_t rfl (And.intro (pk_in b 16 hb) ?_))
  rw [nI_clamp (by omega), h.2.2.2.2.1 b hb]
  exact hp
theorem sd_owner {post : Int32 → Prop} {rm : Nat} {ow : Nat → Nat} {con hom run : Nat → Int32} {r : Int32} {a1 a2 a3 a4 a5 a6 a7 a8 a9 a10 a11 a12 : Nat → Int32} {b : Nat} (h : sd_M rm ow con hom run r a1 a2 a3 a4 a5 a6 a7 a8 a9 a10 a11 a12) (hb : b < 16) (hp : post (sd_ov (ow b))) : wpX_owner post (r, a1, a2, a3, a4, a5, a6, a7, a8, a9, a10, a11, a12) (nI b) := by
  unfold wpX_owner
  exact sd_badBlock hb (br_t rfl (sd_ownerOf h hb hp))
theorem sd_unsCnt {post : Int32 → Prop} {r : Int32} {a1 a2 a3 a4 a5 a6 a7 a8 a9 a10 a11 a12 : Nat → Int32} {n rm : Nat} {ow : Nat → Nat} {con : Nat → Int32} {J : Nat → Option Int32} (hn : n < 3) (hr : r = nI rm) (hm : rm ≤ 8) (hJ : sd_RJ n a3 a4 a5 J) (hC : sd_Co rm ow con n J a8 a9 a10 a11)
    (hp : post (nI (sd_cnt (fun b => ow b = n) 16))) : wpX_unsafeCount post (r, a1, a2, a3, a4, a5, a6, a7, a8, a9, a10, a11, a12) (nI n) := by
  have hJ' := hJ
  obtain ⟨c, hc, h3, k1, k2, k3, k4⟩ := hJ'
  let q : Nat → Nat → Prop := fun i b => J b ≠ none ∨ ∃ j, j < i ∧ a9 (n * 8 + j) = nI b ∧ a11 (n * 8 + j) ≠ 0
  have q0 : sd_cnt (q 0) 16 = c := by
    rw [k4]
    exact sd_cnt_congr (fun b _ => ⟨fun z => z.elim id (fun ⟨j, hj, _⟩ => absurd hj (by omega)), fun z => Or.inl z⟩)
  have qe : sd_cnt (q rm) 16 = sd_cnt (fun b => ow b = n) 16 := by
    refine sd_cnt_congr (fun b hb => ⟨fun z => ?_, fun z => ?_⟩)
    · rcases z with z | ⟨j, hj, e, d⟩
      · exact hC.2.2.2.1 b hb z
      · exact (sd_Co_cell hC hj hb e).2.2 d
    · rcases hC.2.2.1 b hb z with y | y
      · exact Or.inl (by rw [y]; exact Option.some_ne_none _)
      · exact Or.inr y
  have qs : ∀ i, (∀ b, b < 16 → a9 (n * 8 + i) = nI b → a11 (n * 8 + i) ≠ 0 → J b ≠ none) → sd_cnt (q (i + 1)) 16 = sd_cnt (q i) 16 := by
    intro i hi
    refine sd_cnt_congr (fun b hb => ⟨fun z => ?_, fun z => ?_⟩)
    · rcases z with z | ⟨j, hj, e, d⟩
      · exact Or.inl z
      · by_cases g : j = i
        · rw [g] at e d
          exact Or.inl (hi b hb e d)
        · exact Or.inr ⟨j, by omega, e, d⟩
    · rcases z with z | ⟨j, hj, e, d⟩
      · exact Or.inl z
      · exact Or.inr ⟨j, by omega, e, d⟩
  have qa : ∀ i b, i < rm → b < 16 → a9 (n * 8 + i) = nI b → a11 (n * 8 + i) ≠ 0 → J b = none → sd_cnt (q (i + 1)) 16 = sd_cnt (q i) 16 + 1 := by
    intro i b hi hb e d hj
    refine sd_cnt_add (a := b) hb (fun z => ?_) (fun x hx => ⟨fun z => ?_, fun z => ?_⟩)
    · rcases z with z | ⟨j, hj', e', _⟩
      · exact z hj
      · have := hC.2.1 j i b (by omega) hi hb e' e
        omega
    · rcases z with z | ⟨j, hj', e', d'⟩
      · exact Or.inl (Or.inl z)
      · by_cases g : j = i
        · rw [g, e] at e'
          exact Or.inr (sd_inj e' hb hx).symm
        · exact Or.inl (Or.inr ⟨j, by omega, e', d'⟩)
    · rcases z with (z | ⟨j, hj', e', d'⟩) | z
      · exact Or.inl z
      · exact Or.inr ⟨j, by omega, e', d'⟩
      · exact Or.inr ⟨i, by omega, by rw [z]; exact e, d⟩
  refine And.intro (pk_in n 3 hn) (nm_r (by rw [nI_clamp (by omega), h3, ← q0]) (nm_r (pk_mul n 8) ?_))
  exact pk_loop (σ := Unit) (fun k i _ => wX_unsafeCount_12 post (nI n) r a1 a2 a3 a4 a5 a6 a7 a8 a9 a10 a11 a12 k (nI (sd_cnt (q i) 16)) (nI (n * 8 + i))) (fun _ _ => True) rm 0 () (by omega) trivial
    (fun k _ _ => pk_le (n * 8 + rm) (n * 8 + rm) (fun z => by rw [qe]; exact hp) (fun z => absurd z (by omega)) (sd_rowC hr) rfl)
    (fun k i _ hi _ hw => pk_le (n * 8 + rm) (n * 8 + i) (fun z => absurd z (by omega)) (fun z => And.intro (pk_in (n * 8 + i) 24 (by omega)) (by
      have hw' := hw () trivial
      rw [nI_clamp (by omega)]
      refine br_c (fun d => nm_r (nI_1 _) ?_) (fun d => And.intro (pk_in (n * 8 + i) 24 (by omega)) ?_)
      · rw [qs i (fun b _ _ y => absurd d y)] at hw'
        exact hw'
      · rcases hC.1 i hi with y | ⟨b, hb, e, _⟩
        · exact absurd y.2 d
        · rw [e]
          refine sd_jour hn hb hJ (fun j hj y _ => br_t (nI_pos' (by omega)) (nm_r (nI_1 _) ?_)) (fun y => br_f (by decide) (nm_r (nI_1 _) (nm_r (nI_1 _) ?_)))
          · rw [qs i (fun b' hb' e' _ => by rw [← sd_inj (e.symm.trans e') hb hb', y]; exact Option.some_ne_none _)] at hw'
            exact hw'
          · rw [qa i b hi hb e d y] at hw'
            exact hw')) (sd_rowC hr) rfl)
theorem sd_uns {post : Int32 → Prop} {rm : Nat} {ow : Nat → Nat} {con hom run : Nat → Int32} {r : Int32} {a1 a2 a3 a4 a5 a6 a7 a8 a9 a10 a11 a12 : Nat → Int32} {n : Nat} (h : sd_M rm ow con hom run r a1 a2 a3 a4 a5 a6 a7 a8 a9 a10 a11 a12) (hn : n < 3) (hp : post (nI (sd_cnt (fun b => ow b = n) 16))) : wpX_unsafe post (r, a1, a2, a3, a4, a5, a6, a7, a8, a9, a10, a11, a12) (nI n) := by
  unfold wpX_unsafe
  obtain ⟨m2, m8, hr, h1, h2, h12, hg, hN⟩ := h
  obtain ⟨J, hJ, hC⟩ := hN n hn
  exact sd_badNode hn (br_t rfl (sd_unsCnt hn hr m8 hJ hC hp))
theorem sd_up {post : Int32 → Prop} {rm : Nat} {ow : Nat → Nat} {con hom run : Nat → Int32} {r : Int32} {a1 a2 a3 a4 a5 a6 a7 a8 a9 a10 a11 a12 : Nat → Int32} {n : Nat} (h : sd_M rm ow con hom run r a1 a2 a3 a4 a5 a6 a7 a8 a9 a10 a11 a12) (hn : n < 3) (h0 : run n = 0 → post 0) (h1 : run n ≠ 0 → post 1) : wpX_up post (r, a1, a2, a3, a4, a5, a6, a7, a8, a9, a10, a11, a12) (nI n) := by
  unfold wpX_up
  refine sd_badNode hn (br_t rfl (And.intro (pk_in n 3 hn) ?_))
  rw [nI_clamp (by omega), h.2.2.2.1 n hn]
  exact br_c h0 h1
/-! the sum of a journal -/
def sd_sv (a4 a5 : Nat → Int32) (p : Nat) (x : Int32) : Nat → Int32
  | 0 => x
  | i + 1 => (sd_sv a4 a5 p x i * 31 + a4 (p + i)) * 31 + a5 (p + i)
theorem sd_sumOf {post : Int32 → Prop} {r : Int32} {a1 a2 a3 a4 a5 a6 a7 a8 a9 a10 a11 a12 : Nat → Int32} {n c : Nat} (hn : n < 3) (hc : c ≤ 16) (h3 : a3 n = nI c) (hp : post (sd_sv a4 a5 (n * 16) (7 + nI c) c)) : wpX_sumOf post (r, a1, a2, a3, a4, a5, a6, a7, a8, a9, a10, a11, a12) (nI n) := by
  refine And.intro (pk_in n 3 hn) (nm_r (by rw [nI_clamp (by omega), h3]) (nm_r (pk_mul n 16) ?_))
  exact pk_loop (σ := Unit) (fun k i _ => wX_sumOf_15 post (nI n) r a1 a2 a3 a4 a5 a6 a7 a8 a9 a10 a11 a12 k (sd_sv a4 a5 (n * 16) (7 + nI c) i) (nI (n * 16 + i))) (fun _ _ => True) c 0 () (by omega) trivial
    (fun k _ _ => And.intro (pk_in n 3 hn) (pk_le (n * 16 + c) (n * 16 + c) (fun z => hp) (fun z => absurd z (by omega)) (sd_rowJ hn h3) rfl))
    (fun k i _ hi _ hw => And.intro (pk_in n 3 hn) (pk_le (n * 16 + c) (n * 16 + i) (fun z => absurd z (by omega)) (fun z => And.intro (pk_in (n * 16 + i) 48 (by omega)) (nm_r (by rw [nI_clamp (by omega)]) (And.intro (pk_in (n * 16 + i) 48 (by omega)) (nm_r (by rw [nI_clamp (by omega)]; rfl) (nm_r (nI_1 _) (hw () trivial)))))) (sd_rowJ hn h3) rfl))
theorem sd_whole0 {post : Int32 → Prop} {r : Int32} {a1 a2 a3 a4 a5 a6 a7 a8 a9 a10 a11 a12 : Nat → Int32} {n : Nat} (hn : n < 3) (h7 : a7 n = 0) (hp : post 0) : wpX_whole post (r, a1, a2, a3, a4, a5, a6, a7, a8, a9, a10, a11, a12) (nI n) :=
  And.intro (pk_in n 3 hn) (br_t (by rw [nI_clamp (by omega)]; exact h7) hp)
theorem sd_whole1 {post : Int32 → Prop} {r : Int32} {a1 a2 a3 a4 a5 a6 a7 a8 a9 a10 a11 a12 : Nat → Int32} {n c : Nat} (hn : n < 3) (hc : c ≤ 16) (h3 : a3 n = nI c) (h7 : a7 n ≠ 0) (h6 : a6 n = sd_sv a4 a5 (n * 16) (7 + nI c) c) (hp : post 1) : wpX_whole post (r, a1, a2, a3, a4, a5, a6, a7, a8, a9, a10, a11, a12) (nI n) :=
  And.intro (pk_in n 3 hn) (br_f (by rw [nI_clamp (by omega)]; exact h7) (sd_sumOf hn hc h3 (And.intro (pk_in n 3 hn) (br_t (by rw [nI_clamp (by omega)]; exact h6.symm) hp))))
end
section
/-! the methods that store -/
theorem sd_empty {post : St1 → Prop} {r : Int32} {a1 a2 a3 a4 a5 a6 a7 a8 a9 a10 a11 a12 : Nat → Int32} {n : Nat} (hn : n < 3) (hp : post (r, a1, a2, upd a3 n 0, a4, a5, a6, upd a7 n 0, a8, a9, a10, a11, a12)) : wpX_emptyJournal post (r, a1, a2, a3, a4, a5, a6, a7, a8, a9, a10, a11, a12) (nI n) :=
  And.intro (pk_in n 3 hn) (nm_r (by rw [nI_clamp (by omega)]) (And.intro (pk_in n 3 hn) (nm_r (by rw [nI_clamp (by omega)]) hp)))
theorem sd_home {post : St1 → Prop} {r : Int32} {a1 a2 a3 a4 a5 a6 a7 a8 a9 a10 a11 a12 : Nat → Int32} {n : Nat} {J : Nat → Option Int32} (hn : n < 3) (hJ : sd_RJ n a3 a4 a5 J)
    (hp : ∀ a2', (∀ b, b < 16 → a2' b = (J b).getD (a2 b)) → post (r, a1, a2', upd a3 n 0, a4, a5, a6, upd a7 n 0, a8, a9, a10, a11, a12)) : wpX_bringHome post (r, a1, a2, a3, a4, a5, a6, a7, a8, a9, a10, a11, a12) (nI n) := by
  obtain ⟨c, hc, h3, k1, k2, k3, k4⟩ := hJ
  refine nm_r (pk_mul n 16) ?_
  refine pk_loop (fun k i s => wX_bringHome_5 post (nI n) r k (nI (n * 16 + i)) a1 s a3 a4 a5 a6 a7 a8 a9 a10 a11 a12) (fun i s => (∀ b, b < 16 → (∃ j, j < i ∧ a4 (n * 16 + j) = nI b) → J b = some (s b)) ∧ (∀ b, b < 16 → (∀ j, j < i → a4 (n * 16 + j) ≠ nI b) → s b = a2 b)) c 0 a2 (by omega) ⟨fun b _ ⟨j, hj, _⟩ => absurd hj (by omega), fun b _ _ => rfl⟩ ?_ ?_
  · intro k s h
    refine And.intro (pk_in n 3 hn) (pk_le (n * 16 + c) (n * 16 + c) (fun _ => sd_empty hn (hp s (fun b hb => ?_))) (fun z => absurd z (by omega)) (sd_rowJ hn h3) rfl)
    by_cases g : J b = none
    · rw [g]
      refine h.2 b hb (fun j hj e => ?_)
      rw [h.1 b hb ⟨j, hj, e⟩] at g
      exact Option.some_ne_none _ g
    · rw [h.1 b hb (k2 b hb g)]
      rfl
  · intro k i s hi h hw
    obtain ⟨b0, hb0, e, eJ⟩ := k1 i hi
    refine And.intro (pk_in n 3 hn) (pk_le (n * 16 + c) (n * 16 + i) (fun z => absurd z (by omega)) (fun z => ?_) (sd_rowJ hn h3) rfl)
    rw [nI_clamp (show n * 16 + i < 2 ^ 31 by omega), e, nI_clamp (show b0 < 2 ^ 31 by omega)]
    refine And.intro (pk_in (n * 16 + i) 48 (by omega)) (And.intro (pk_in (n * 16 + i) 48 (by omega)) (And.intro (pk_in b0 16 hb0) (nm_e (nm_r (nI_1 _) (hw (upd s b0 (a5 (n * 16 + i))) ⟨?_, ?_⟩)))))
    · intro b hb hex
      by_cases g : b = b0
      · rw [g, pk_us, eJ]
      · rw [pk_un g]
        refine h.1 b hb ?_
        obtain ⟨j, hj, e'⟩ := hex
        have : j ≠ i := fun y => g (sd_inj (by rw [← e', y, e]) hb hb0)
        exact ⟨j, by omega, e'⟩
    · intro b hb hno
      have g : b ≠ b0 := fun y => hno i (by omega) (by rw [e, y])
      rw [pk_un g]
      exact h.2 b hb (fun j hj => hno j (by omega))
theorem sd_drop {post : St1 → Prop} {r : Int32} {a1 a2 a3 a4 a5 a6 a7 a8 a9 a10 a11 a12 : Nat → Int32} {k : Nat} (hk : k < 24) (hp : post (r, a1, a2, a3, a4, a5, a6, a7, a8, upd a9 k (-1), a10, upd a11 k 0, a12)) : wpX_dropCell post (r, a1, a2, a3, a4, a5, a6, a7, a8, a9, a10, a11, a12) (nI k) :=
  And.intro (pk_in k 24 hk) (nm_r (by rw [nI_clamp (by omega)]) (And.intro (pk_in k 24 hk) (nm_r (by rw [nI_clamp (by omega)]) hp)))
theorem sd_wJ {post : St1 → Prop} {r : Int32} {a1 a2 a3 a4 a5 a6 a7 a8 a9 a10 a11 a12 : Nat → Int32} {n b : Nat} {v : Int32} {J : Nat → Option Int32} (hn : n < 3) (hb : b < 16) (hJ : sd_RJ n a3 a4 a5 J)
    (hp : ∀ a3' a4' a5', sd_RJ n a3' a4' a5' (sd_ins J b v) → (∀ m J', m < 3 → m ≠ n → sd_RJ m a3 a4 a5 J' → sd_RJ m a3' a4' a5' J') → post (r, a1, a2, a3', a4', a5', a6, a7, a8, a9, a10, a11, a12)) : wpX_writeJournal post (r, a1, a2, a3, a4, a5, a6, a7, a8, a9, a10, a11, a12) (nI n) (nI b) v := by
  unfold wpX_writeJournal
  obtain ⟨c, hc, h3, k1, k2, k3, k4⟩ := id hJ
  refine sd_journaled hn hc h3 (fun i hi e => br_t (nI_pos' (by omega)) ?_) (fun hno => br_f (by decide) ?_)
  · exact And.intro (pk_in (n * 16 + i) 48 (by omega)) (nm_r (by rw [nI_clamp (by omega)]) (And.intro (pk_in (n * 16 + i) 48 (by omega)) (nm_r (by rw [nI_clamp (by omega)]) (hp a3 _ _ (sd_RJ_old hb hJ h3 hc hi e) (fun m J' hm g h => sd_RJ_fr h rfl (fun j hj => pk_un (by omega)) (fun j hj => pk_un (by omega)))))))
  · have hj : J b = none := Decidable.byContradiction (fun z => by
      obtain ⟨i, hi, e⟩ := k2 b hb z
      exact hno i hi e)
    have hh := sd_RJ_new (v := v) hb hJ h3 hc hj
    have hc' := hh.1
    refine And.intro (pk_in n 3 hn) (nm_r (sd_rowJ hn h3) (And.intro (pk_in n 3 hn) (And.intro (pk_in n 3 hn) (nm_r (e' := upd a3 n (nI (c + 1))) (by rw [nI_clamp (by omega), h3, nI_1]) ?_))))
    exact And.intro (pk_in (n * 16 + c) 48 (by omega)) (nm_r (by rw [nI_clamp (by omega)]) (And.intro (pk_in (n * 16 + c) 48 (by omega)) (nm_r (by rw [nI_clamp (by omega)]) (hp _ _ _ hh.2 (fun m J' hm g h => sd_RJ_fr h (pk_un g) (fun j hj => pk_un (by omega)) (fun j hj => pk_un (by omega)))))))
section
variable {rm : Nat} {ow : Nat → Nat} {con hom run : Nat → Int32} {r : Int32} {a1 a2 a3 a4 a5 a6 a7 a8 a9 a10 a11 a12 : Nat → Int32}
theorem sd_fillJ {post : St1 → Prop} {n : Nat} (h : sd_M rm ow con hom run r a1 a2 a3 a4 a5 a6 a7 a8 a9 a10 a11 a12) (hn : n < 3)
    (hp : ∀ a3' a4' a5' a11', sd_M rm ow con hom run r a1 a2 a3' a4' a5' a6 a7 a8 a9 a10 a11' a12 → (∀ i, i < rm → a11' (n * 8 + i) = 0) → post (r, a1, a2, a3', a4', a5', a6, a7, a8, a9, a10, a11', a12)) : wpX_fillJournal post (r, a1, a2, a3, a4, a5, a6, a7, a8, a9, a10, a11, a12) (nI n) := by
  have hr := h.2.2.1
  have m8 := h.2.1
  refine nm_r (pk_mul n 8) ?_
  refine pk_loop (σ := (Nat → Int32) × (Nat → Int32) × (Nat → Int32) × (Nat → Int32)) (fun k i s => wX_fillJournal_5 post (nI n) k (nI (n * 8 + i)) r a1 a2 s.1 s.2.1 s.2.2.1 a6 a7 a8 a9 a10 s.2.2.2 a12) (fun i s => sd_M rm ow con hom run r a1 a2 s.1 s.2.1 s.2.2.1 a6 a7 a8 a9 a10 s.2.2.2 a12 ∧ ∀ j, j < i → s.2.2.2 (n * 8 + j) = 0) rm 0 (a3, a4, a5, a11) (by omega) ⟨h, fun j hj => absurd hj (by omega)⟩ ?_ ?_
  · rintro k ⟨b3, b4, b5, b11⟩ ⟨hM, hd⟩
    exact pk_le (n * 8 + rm) (n * 8 + rm) (fun _ => hp b3 b4 b5 b11 hM hd) (fun z => absurd z (by omega)) (sd_rowC hr) rfl
  · rintro k i ⟨b3, b4, b5, b11⟩ hi ⟨hM, hd⟩ hw
    dsimp only at hM hd
    show wX_fillJournal_5 post (nI n) (k + 1) (nI (n * 8 + i)) r a1 a2 b3 b4 b5 a6 a7 a8 a9 a10 b11 a12
    refine pk_le (n * 8 + rm) (n * 8 + i) (fun z => absurd z (by omega)) (fun z => And.intro (pk_in (n * 8 + i) 24 (by omega)) ?_) (sd_rowC hr) rfl
    rw [nI_clamp (show n * 8 + i < 2 ^ 31 by omega)]
    refine br_c (fun d => nm_r (nI_1 _) (hw (b3, b4, b5, b11) ⟨hM, fun j hj => ?_⟩)) (fun d => And.intro (pk_in (n * 8 + i) 24 (by omega)) (And.intro (pk_in (n * 8 + i) 24 (by omega)) ?_))
    · by_cases g : j = i
      · rw [g]; exact d
      · exact hd j (by omega)
    · obtain ⟨J, hJ, hC⟩ := hM.2.2.2.2.2.2.2 n hn
      rcases hC.1 i hi with y | ⟨b, hb, e, f, _, _⟩
      · exact absurd y.2 d
      · rw [e, f]
        refine sd_wJ hn hb hJ (fun c3 c4 c5 hJ' hfr => And.intro (pk_in (n * 8 + i) 24 (by omega)) (nm_e (nm_r (nI_1 _) (hw (c3, c4, c5, upd b11 (n * 8 + i) 0) ⟨?_, fun j hj => ?_⟩))))
        · exact sd_M_node (n := n) hM hfr (fun _ _ _ _ _ => rfl) (fun _ _ _ _ _ => rfl) (fun _ _ _ _ _ => rfl) (fun m j hm g hj => pk_un (by omega)) hM.2.2.2.2.2.1 ⟨_, hJ', sd_Co_flush hC hi hb e d⟩
        · show upd b11 (n * 8 + i) 0 (n * 8 + j) = 0
          by_cases g : j = i
          · rw [g, pk_us]
          · rw [pk_un (by omega)]
            exact hd j (by omega)
theorem sd_mark {post : St1 → Prop} {n c : Nat} (hn : n < 3) (hc : c ≤ 16) (h3 : a3 n = nI c) (hp : post (r, a1, a2, a3, a4, a5, upd a6 n (sd_sv a4 a5 (n * 16) (7 + nI c) c), upd a7 n 1, a8, a9, a10, a11, a12)) : wpX_markJournal post (r, a1, a2, a3, a4, a5, a6, a7, a8, a9, a10, a11, a12) (nI n) := by
  unfold wpX_markJournal
  exact sd_sumOf hn hc h3 (And.intro (pk_in n 3 hn) (nm_r (by rw [nI_clamp (by omega)]) (And.intro (pk_in n 3 hn) (nm_r (by rw [nI_clamp (by omega)]) hp))))
theorem sd_up2 {f : Nat → Int32} {n m : Nat} {x : Int32} (h : f m = 0) : upd (upd f n x) n 0 m = 0 := by
  by_cases g : m = n
  · rw [g, pk_us]
  · rw [pk_un g, pk_un g]; exact h
theorem sd_up1 {f : Nat → Int32} {n m : Nat} (h : f m = 0) : upd f n 0 m = 0 := by
  by_cases g : m = n
  · rw [g, pk_us]
  · rw [pk_un g]; exact h
theorem sd_mkSafe {post : Int32 → St1 → Prop} {n : Nat} (h : sd_M rm ow con hom run r a1 a2 a3 a4 a5 a6 a7 a8 a9 a10 a11 a12) (hn : n < 3)
    (hp : ∀ a2' a3' a4' a5' a6' a7' a11', sd_M rm (sd_clO n ow) con (sd_clH n ow con hom) run r a1 a2' a3' a4' a5' a6' a7' a8 a9 a10 a11' a12 → (∀ m, a7 m = 0 → a7' m = 0) → post (nI (sd_cnt (fun b => ow b = n) 16)) (r, a1, a2', a3', a4', a5', a6', a7', a8, a9, a10, a11', a12)) : wpX_makeSafe post (r, a1, a2, a3, a4, a5, a6, a7, a8, a9, a10, a11, a12) (nI n) := by
  unfold wpX_makeSafe
  obtain ⟨J, hJ, hC⟩ := h.2.2.2.2.2.2.2 n hn
  refine sd_unsCnt hn h.2.2.1 h.2.1 hJ hC (sd_fillJ h hn (fun b3 b4 b5 b11 hM hd => ?_))
  obtain ⟨J', hJ', hC'⟩ := hM.2.2.2.2.2.2.2 n hn
  obtain ⟨c, hc, h3, _⟩ := id hJ'
  exact sd_mark hn hc h3 (sd_home hn hJ' (fun a2' h2' => hp _ _ _ _ _ _ _ (sd_M_safe hM hn hJ' hC' hd h2') (fun m z => sd_up2 z)))
/-! a node dies -/
theorem sd_die59 {post : St1 → Prop} {n : Nat} (hn : n < 3) (hp : ∀ a8', (∀ m i, m < 3 → m ≠ n → i < 16 → a8' (m * 16 + i) = a8 (m * 16 + i)) → post (r, a1, a2, a3, a4, a5, a6, a7, a8', a9, a10, a11, a12)) : ∃ fu, wX_die_59 post (nI n) r fu 0 a1 a2 a3 a4 a5 a6 a7 a8 a9 a10 a11 a12 :=
  pk_loop (fun k i s => wX_die_59 post (nI n) r k (nI i) a1 a2 a3 a4 a5 a6 a7 s a9 a10 a11 a12) (fun i s => ∀ m j, m < 3 → m ≠ n → j < 16 → s (m * 16 + j) = a8 (m * 16 + j)) 16 0 a8 (by omega) (fun _ _ _ _ _ => rfl)
    (fun k s h => pk_le 16 16 (fun _ => hp s h) (fun z => absurd z (by omega)))
    (fun k i s hi h hw => pk_le 16 i (fun z => absurd z (by omega)) (fun z => And.intro (pk_in (n * 16 + i) 48 (by omega) (sd_rowL n i)) (nm_r (e' := upd s (n * 16 + i) 0) (by rw [sd_rowL, nI_clamp (by omega)]) (nm_r (nI_1 _) (hw _ (fun m j hm g hj => by rw [pk_un (by omega)]; exact h m j hm g hj))))))
theorem sd_die12 {post : St1 → Prop} {n : Nat} (hn : n < 3)
    (hp : ∀ k a9' a11', (∀ m i, m < 3 → m ≠ n → i < 8 → a9' (m * 8 + i) = a9 (m * 8 + i)) → (∀ m i, m < 3 → m ≠ n → i < 8 → a11' (m * 8 + i) = a11 (m * 8 + i)) → (∀ i, i < 8 → a9' (n * 8 + i) = -1) → (∀ i, i < 8 → a11' (n * 8 + i) = 0) → wX_die_12 post (nI n) (k + 1) (nI (n * 8 + 8)) r a1 a2 a3 a4 a5 a6 a7 a8 a9' a10 a11' a12) : ∃ fu, wX_die_12 post (nI n) fu (nI (n * 8)) r a1 a2 a3 a4 a5 a6 a7 a8 a9 a10 a11 a12 := by
  refine pk_loop (σ := (Nat → Int32) × (Nat → Int32)) (fun k i s => wX_die_12 post (nI n) k (nI (n * 8 + i)) r a1 a2 a3 a4 a5 a6 a7 a8 s.1 a10 s.2 a12) (fun i s => (∀ m i, m < 3 → m ≠ n → i < 8 → s.1 (m * 8 + i) = a9 (m * 8 + i)) ∧ (∀ m i, m < 3 → m ≠ n → i < 8 → s.2 (m * 8 + i) = a11 (m * 8 + i)) ∧ (∀ j, j < i → s.1 (n * 8 + j) = -1) ∧ (∀ j, j < i → s.2 (n * 8 + j) = 0)) 8 0 (a9, a11) (by omega) ⟨fun _ _ _ _ _ => rfl, fun _ _ _ _ _ => rfl, fun j hj => absurd hj (by omega), fun j hj => absurd hj (by omega)⟩ ?_ ?_
  · rintro k ⟨b9, b11⟩ ⟨h1, h2, h3, h4⟩
    exact hp k b9 b11 h1 h2 h3 h4
  · rintro k i ⟨b9, b11⟩ hi ⟨h1, h2, h3, h4⟩ hw
    dsimp only at h1 h2 h3 h4
    show wX_die_12 post (nI n) (k + 1) (nI (n * 8 + i)) r a1 a2 a3 a4 a5 a6 a7 a8 b9 a10 b11 a12
    refine pk_le (n * 8 + 8) (n * 8 + i) (fun z => absurd z (by omega)) (fun z => sd_drop (by omega) (nm_r (nI_1 _) (hw (upd b9 (n * 8 + i) (-1), upd b11 (n * 8 + i) 0) ⟨?_, ?_, ?_, ?_⟩))) (sd_rowC rfl) rfl
    · intro m j hm g hj
      show upd b9 (n * 8 + i) (-1) (m * 8 + j) = _
      rw [pk_un (by omega)]
      exact h1 m j hm g hj
    · intro m j hm g hj
      show upd b11 (n * 8 + i) 0 (m * 8 + j) = _
      rw [pk_un (by omega)]
      exact h2 m j hm g hj
    · intro j hj
      show upd b9 (n * 8 + i) (-1) (n * 8 + j) = _
      by_cases g : j = i
      · rw [g, pk_us]
      · rw [pk_un (by omega)]
        exact h3 j (by omega)
    · intro j hj
      show upd b11 (n * 8 + i) 0 (n * 8 + j) = _
      by_cases g : j = i
      · rw [g, pk_us]
      · rw [pk_un (by omega)]
        exact h4 j (by omega)
theorem sd_die0 {post : St1 → Prop} {n : Nat} (h : sd_M rm ow con hom run r a1 a2 a3 a4 a5 a6 a7 a8 a9 a10 a11 a12) (hn : n < 3) (h7 : a7 n = 0)
    (hp : ∀ a1' a3' a7' a8' a9' a11', sd_M rm (sd_clO n ow) (sd_drC n ow con hom) hom (upd run n 0) r a1' a2 a3' a4 a5 a6 a7' a8' a9' a10 a11' a12 → (∀ m, a7 m = 0 → a7' m = 0) → post (r, a1', a2, a3', a4, a5, a6, a7', a8', a9', a10, a11', a12)) : wpX_die post (r, a1, a2, a3, a4, a5, a6, a7, a8, a9, a10, a11, a12) (nI n) := by
  refine And.intro (pk_in n 3 hn) (nm_r (e' := upd a1 n 0) (by rw [nI_clamp (by omega)]) (nm_r (pk_mul n 8) (sd_die12 hn (fun k a9' a11' h9 h11 h9n h11n => ?_))))
  refine pk_le (n * 8 + 8) (n * 8 + 8) (fun z => ?_) (fun z => absurd z (by omega)) (sd_rowC rfl) rfl
  refine sd_whole0 hn h7 (br_t rfl (sd_empty hn (sd_die59 hn (fun a8' h8 => hp _ _ _ _ _ _ ?_ (fun m z => sd_up1 z)))))
  exact sd_M_wipe h hn (fun b hb g => ⟨sd_drC_f g, rfl⟩) (fun b hb g => sd_drC_t g) (fun _ _ => rfl) h.2.2.2.2.1 (fun _ _ => rfl) h8 h9 h11 h9n h11n
theorem sd_die1 {post : St1 → Prop} {n c : Nat} (h : sd_M rm ow con hom run r a1 a2 a3 a4 a5 a6 a7 a8 a9 a10 a11 a12) (hn : n < 3) (hd : ∀ i, i < rm → a11 (n * 8 + i) = 0) (hc : c ≤ 16) (h3 : a3 n = nI c) (h7 : a7 n ≠ 0) (h6 : a6 n = sd_sv a4 a5 (n * 16) (7 + nI c) c)
    (hp : ∀ a1' a2' a3' a7' a8' a9' a11', sd_M rm (sd_clO n ow) con (sd_clH n ow con hom) (upd run n 0) r a1' a2' a3' a4 a5 a6 a7' a8' a9' a10 a11' a12 → (∀ m, m ≠ n → a7 m = 0 → a7' m = 0) → a7' n = 0 → post (r, a1', a2', a3', a4, a5, a6, a7', a8', a9', a10, a11', a12)) : wpX_die post (r, a1, a2, a3, a4, a5, a6, a7, a8, a9, a10, a11, a12) (nI n) := by
  obtain ⟨J, hJ, hC⟩ := h.2.2.2.2.2.2.2 n hn
  refine And.intro (pk_in n 3 hn) (nm_r (e' := upd a1 n 0) (by rw [nI_clamp (by omega)]) (nm_r (pk_mul n 8) (sd_die12 hn (fun k a9' a11' h9 h11 h9n h11n => ?_))))
  refine pk_le (n * 8 + 8) (n * 8 + 8) (fun z => ?_) (fun z => absurd z (by omega)) (sd_rowC rfl) rfl
  refine sd_whole1 hn hc h3 h7 h6 (br_f (by decide) (sd_home hn hJ (fun a2' h2' => sd_die59 hn (fun a8' h8 => hp _ _ _ _ _ _ _ ?_ (fun m g z => sd_up1 z) pk_us))))
  refine sd_M_wipe h hn (fun b hb g => ⟨rfl, sd_clH_f g⟩) (fun b hb g => (sd_clH_t g).symm) (fun _ _ => rfl) (fun b hb => ?_) (fun _ _ => rfl) h8 h9 h11 h9n h11n
  rw [h2' b hb]
  by_cases g : ow b = n
  · rw [sd_clH_t g]
    rcases hC.2.2.1 b hb g with z | ⟨i, hi, _, d⟩
    · rw [z]; rfl
    · exact absurd (hd i hi) d
  · rw [sd_clH_f g]
    have z : J b = none := Decidable.byContradiction (fun z => g (hC.2.2.2.1 b hb z))
    rw [z]
    exact h.2.2.2.2.1 b hb
end
end
section
/-! locks and caches -/
/-- node m steps back from block b -/
def sd_st (m b : Nat) (con : Nat → Int32) (p : (Nat → Nat) × (Nat → Int32)) : (Nat → Nat) × (Nat → Int32) := if p.1 b = m then (sd_clO m p.1, sd_clH m p.1 con p.2) else p
theorem sd_st_t {m b : Nat} {con : Nat → Int32} {p : (Nat → Nat) × (Nat → Int32)} (h : p.1 b = m) : sd_st m b con p = (sd_clO m p.1, sd_clH m p.1 con p.2) := if_pos h
theorem sd_st_f {m b : Nat} {con : Nat → Int32} {p : (Nat → Nat) × (Nat → Int32)} (h : p.1 b ≠ m) : sd_st m b con p = p := if_neg h
/-- node n takes block b -/
def sd_tk (n b : Nat) (con : Nat → Int32) (p : (Nat → Nat) × (Nat → Int32)) : Nat → (Nat → Nat) × (Nat → Int32)
  | 0 => p
  | i + 1 => if i = n then sd_tk n b con p i else sd_st i b con (sd_tk n b con p i)
theorem sd_tk_n {n b i : Nat} {con : Nat → Int32} {p : (Nat → Nat) × (Nat → Int32)} (h : i = n) : sd_tk n b con p (i + 1) = sd_tk n b con p i := if_pos h
theorem sd_tk_s {n b i : Nat} {con : Nat → Int32} {p : (Nat → Nat) × (Nat → Int32)} (h : i ≠ n) : sd_tk n b con p (i + 1) = sd_st i b con (sd_tk n b con p i) := if_neg h
section
variable {rm : Nat} {ow : Nat → Nat} {con hom run : Nat → Int32} {r : Int32} {a1 a2 a3 a4 a5 a6 a7 a8 a9 a10 a11 a12 : Nat → Int32}
theorem sd_sb19 {post : St1 → Prop} {m b : Nat} {x : Int32} (h : sd_M rm ow con hom run r a1 a2 a3 a4 a5 a6 a7 a8 a9 a10 a11 a12) (hm : m < 3) (hb : b < 16) (ho : ow b ≠ m)
    (hp : ∀ a8' a9' a11', sd_M rm ow con hom run r a1 a2 a3 a4 a5 a6 a7 a8' a9' a10 a11' a12 → (x = 2 → ∀ i, i < rm → a9' (m * 8 + i) ≠ nI b) → (∀ k i, k < 3 → k ≠ m → i < 8 → a9' (k * 8 + i) = a9 (k * 8 + i)) → post (r, a1, a2, a3, a4, a5, a6, a7, a8', a9', a10, a11', a12)) : wX_stepBack_19 post (nI m) (nI b) x r a1 a2 a3 a4 a5 a6 a7 a8 a9 a10 a11 a12 := by
  have hr := h.2.2.1
  have m8 := h.2.1
  obtain ⟨J, hJ, hC⟩ := h.2.2.2.2.2.2.2 m hm
  refine br_c (fun hx => ?_) (fun hx => ?_)
  · unfold wpX_forget
    refine sd_cached hm hr m8 (fun i hi e => br_f (nI_pos (by omega)) (sd_drop (by omega) ?_)) (fun hno => br_t (by decide) ?_)
    · have hd : a11 (m * 8 + i) = 0 := Decidable.byContradiction (fun d => ho ((sd_Co_cell hC hi hb e).2.2 d))
      have hno : ∀ j, j < rm → upd a9 (m * 8 + i) (-1) (m * 8 + j) ≠ nI b := by
        intro j hj
        by_cases g : j = i
        · rw [g, pk_us]
          exact fun z => sd_nm1 b hb z.symm
        · rw [pk_un (by omega)]
          exact fun z => g (hC.2.1 j i b hj hi hb z e)
      refine And.intro (pk_in (m * 16 + b) 48 (by omega) (sd_rowL m b)) (nm_r (e' := upd a8 (m * 16 + b) 0) (by rw [sd_rowL, nI_clamp (by omega)]) (hp _ _ _ ?_ (fun _ => hno) (fun k j hk g hj => pk_un (by omega))))
      exact sd_M_node (n := m) h (fun _ _ _ _ z => z) (fun k j hk g hj => pk_un (by omega)) (fun k j hk g hj => pk_un (by omega)) (fun _ _ _ _ _ => rfl) (fun k j hk g hj => pk_un (by omega)) h.2.2.2.2.2.1 ⟨J, hJ, sd_Co_lk (sd_Co_drop hC hi hd) (fun _ => ⟨ho, hno⟩)⟩
    · refine And.intro (pk_in (m * 16 + b) 48 (by omega) (sd_rowL m b)) (nm_r (e' := upd a8 (m * 16 + b) 0) (by rw [sd_rowL, nI_clamp (by omega)]) (hp _ _ _ ?_ (fun _ => hno) (fun k j hk g hj => rfl)))
      exact sd_M_node (n := m) h (fun _ _ _ _ z => z) (fun k j hk g hj => pk_un (by omega)) (fun _ _ _ _ _ => rfl) (fun _ _ _ _ _ => rfl) (fun _ _ _ _ _ => rfl) h.2.2.2.2.2.1 ⟨J, hJ, sd_Co_lk hC (fun _ => ⟨ho, hno⟩)⟩
  · refine And.intro (pk_in (m * 16 + b) 48 (by omega) (sd_rowL m b)) (nm_r (e' := upd a8 (m * 16 + b) 1) (by rw [sd_rowL, nI_clamp (by omega)]) (hp _ _ _ ?_ (fun z => absurd z hx) (fun k j hk g hj => rfl)))
    exact sd_M_node (n := m) h (fun _ _ _ _ z => z) (fun k j hk g hj => pk_un (by omega)) (fun _ _ _ _ _ => rfl) (fun _ _ _ _ _ => rfl) (fun _ _ _ _ _ => rfl) h.2.2.2.2.2.1 ⟨J, hJ, sd_Co_lk hC (fun z => absurd z (by decide))⟩
theorem sd_stepBack {post : St1 → Prop} {m b : Nat} {x : Int32} (h : sd_M rm ow con hom run r a1 a2 a3 a4 a5 a6 a7 a8 a9 a10 a11 a12) (hm : m < 3) (hb : b < 16)
    (hp : ∀ a2' a3' a4' a5' a6' a7' a8' a9' a11', sd_M rm (sd_st m b con (ow, hom)).1 con (sd_st m b con (ow, hom)).2 run r a1 a2' a3' a4' a5' a6' a7' a8' a9' a10 a11' a12 → (∀ k, a7 k = 0 → a7' k = 0) → (x = 2 → ∀ i, i < rm → a9' (m * 8 + i) ≠ nI b) → (∀ k i, k < 3 → k ≠ m → i < 8 → a9' (k * 8 + i) = a9 (k * 8 + i)) → post (r, a1, a2', a3', a4', a5', a6', a7', a8', a9', a10, a11', a12)) : wpX_stepBack post (r, a1, a2, a3, a4, a5, a6, a7, a8, a9, a10, a11, a12) (nI m) (nI b) x := by
  unfold wpX_stepBack
  obtain ⟨J, hJ, hC⟩ := h.2.2.2.2.2.2.2 m hm
  refine sd_isUns hm hb h.2.2.1 h.2.1 hJ hC (fun g => br_f (by decide) (sd_mkSafe h hm (fun b2 b3 b4 b5 b6 b7 b11 hM h7 => ?_))) (fun g => br_t rfl ?_)
  · refine sd_sb19 hM hm hb (sd_clO_ne hm) (fun c8 c9 c11 hM' hx hf => hp _ _ _ _ _ _ _ _ _ ?_ h7 hx hf)
    rw [sd_st_t g]
    exact hM'
  · refine sd_sb19 h hm hb g (fun c8 c9 c11 hM' hx hf => hp _ _ _ _ _ _ _ _ _ ?_ (fun _ z => z) hx hf)
    rw [sd_st_f g]
    exact hM'
theorem sd_take {post : St1 → Prop} {n b : Nat} {x : Int32} (h : sd_Mt rm ow con hom run (r, a1, a2, a3, a4, a5, a6, a7, a8, a9, a10, a11, a12)) (hn : n < 3) (hb : b < 16) (hx : x = 1 ∨ x = 2)
    (hp : ∀ r' a1' a2' a3' a4' a5' a6' a7' a8' a9' a10' a11' a12', sd_Mt rm (sd_tk n b con (ow, hom) 3).1 con (sd_tk n b con (ow, hom) 3).2 run (r', a1', a2', a3', a4', a5', a6', a7', a8', a9', a10', a11', a12') → a8' (n * 16 + b) ≠ 0 → (x = 2 → ∀ m, m < 3 → m ≠ n → ∀ j, j < rm → a9' (m * 8 + j) ≠ nI b) → ((sd_tk n b con (ow, hom) 3).1 b = n ∨ (sd_tk n b con (ow, hom) 3).1 b = 3) → post (r', a1', a2', a3', a4', a5', a6', a7', a8', a9', a10', a11', a12')) : wpX_take post (r, a1, a2, a3, a4, a5, a6, a7, a8, a9, a10, a11, a12) (nI n) (nI b) x := by
  refine pk_loop (σ := St1) (fun k i s => wX_take_3 post (nI n) (nI b) x k (nI i) s.1 s.2.1 s.2.2.1 s.2.2.2.1 s.2.2.2.2.1 s.2.2.2.2.2.1 s.2.2.2.2.2.2.1 s.2.2.2.2.2.2.2.1 s.2.2.2.2.2.2.2.2.1 s.2.2.2.2.2.2.2.2.2.1 s.2.2.2.2.2.2.2.2.2.2.1 s.2.2.2.2.2.2.2.2.2.2.2.1 s.2.2.2.2.2.2.2.2.2.2.2.2) (fun i s => sd_Mt rm (sd_tk n b con (ow, hom) i).1 con (sd_tk n b con (ow, hom) i).2 run s ∧ (∀ m, m < i → m ≠ n → (sd_tk n b con (ow, hom) i).1 b ≠ m) ∧ (x = 2 → ∀ m, m < i → m ≠ n → ∀ j, j < rm → s.2.2.2.2.2.2.2.2.2.1 (m * 8 + j) ≠ nI b)) 3 0 (r, a1, a2, a3, a4, a5, a6, a7, a8, a9, a10, a11, a12) (by omega) ⟨h, fun m hm => absurd hm (by omega), fun _ m hm => absurd hm (by omega)⟩ ?_ ?_
  · rintro k ⟨r', a1', a2', a3', a4', a5', a6', a7', a8', a9', a10', a11', a12'⟩ ⟨hM, ho, hc⟩
    dsimp only at hc
    obtain ⟨hM1, h7⟩ := sd_Mt_e.mp hM
    have hob : (sd_tk n b con (ow, hom) 3).1 b = n ∨ (sd_tk n b con (ow, hom) 3).1 b = 3 := by
      have g1 := (hM1.2.2.2.2.2.2.1 b hb).1
      rcases Nat.lt_or_ge ((sd_tk n b con (ow, hom) 3).1 b) 3 with g | g
      · exact Or.inl (Decidable.byContradiction (fun z => ho _ g z rfl))
      · exact Or.inr (by omega)
    show wX_take_3 post (nI n) (nI b) x (k + 1) (nI 3) r' a1' a2' a3' a4' a5' a6' a7' a8' a9' a10' a11' a12'
    refine pk_le 3 3 (fun _ => ?_) (fun z => absurd z (by omega))
    rw [sd_rowL n b, nI_clamp (show n * 16 + b < 2 ^ 31 by omega)]
    refine And.intro (pk_in (n * 16 + b) 48 (by omega)) (br_c (fun g => ?_) (fun g => And.intro (pk_in (n * 16 + b) 48 (by omega)) (nm_e ?_)))
    · refine hp r' a1' a2' a3' a4' a5' a6' a7' a8' a9' a10' a11' a12' hM (fun z => ?_) hc hob
      rw [z] at g
      rcases hx with e | e
      · rw [e] at g
        exact absurd g (by decide)
      · rw [e] at g
        exact absurd g (by decide)
    · have x0 : x ≠ 0 := by
        rcases hx with e | e
        · rw [e]; decide
        · rw [e]; decide
      obtain ⟨J, hJ, hC⟩ := hM1.2.2.2.2.2.2.2 n hn
      refine hp _ _ _ _ _ _ _ _ _ _ _ _ _ (sd_Mt_e.mpr ⟨?_, h7⟩) (by rw [pk_us]; exact x0) hc hob
      exact sd_M_node (n := n) hM1 (fun _ _ _ _ z => z) (fun k j hk g hj => pk_un (by omega)) (fun _ _ _ _ _ => rfl) (fun _ _ _ _ _ => rfl) (fun _ _ _ _ _ => rfl) hM1.2.2.2.2.2.1 ⟨J, hJ, sd_Co_lk hC (fun z => absurd z x0)⟩
  · rintro k i ⟨r', a1', a2', a3', a4', a5', a6', a7', a8', a9', a10', a11', a12'⟩ hi ⟨hM, ho, hc⟩ hw
    dsimp only at hc
    obtain ⟨hM1, h7⟩ := sd_Mt_e.mp hM
    show wX_take_3 post (nI n) (nI b) x (k + 1) (nI i) r' a1' a2' a3' a4' a5' a6' a7' a8' a9' a10' a11' a12'
    refine pk_le 3 i (fun z => absurd z (by omega)) (fun _ => pk_eq i n (fun g => nm_r (nI_1 i) (hw (r', a1', a2', a3', a4', a5', a6', a7', a8', a9', a10', a11', a12') ⟨?_, ?_, ?_⟩)) (fun g => ?_))
    · rw [sd_tk_n g]
      exact hM
    · rw [sd_tk_n g]
      intro m hm gm
      exact ho m (by omega) gm
    · intro e m hm gm
      exact hc e m (by omega) gm
    · rw [sd_rowL i b, nI_clamp (show i * 16 + b < 2 ^ 31 by omega)]
      have hnew : ∀ m, m < i + 1 → m ≠ n → (sd_tk n b con (ow, hom) (i + 1)).1 b ≠ m := by
        intro m hm gm
        rw [sd_tk_s g]
        by_cases y : (sd_tk n b con (ow, hom) i).1 b = i
        · rw [sd_st_t y]
          show sd_clO i (sd_tk n b con (ow, hom) i).1 b ≠ m
          rw [sd_clO_t y]
          omega
        · rw [sd_st_f y]
          by_cases e : m = i
          · rw [e]; exact y
          · exact ho m (by omega) gm
      refine And.intro (pk_in (i * 16 + b) 48 (by omega)) (br_c (fun z => nm_r (nI_1 i) (hw (r', a1', a2', a3', a4', a5', a6', a7', a8', a9', a10', a11', a12') ⟨?_, hnew, ?_⟩)) (fun z => sd_stepBack hM1 hi hb (fun b2 b3 b4 b5 b6 b7 b8 b9 b11 hM' h7' hx' hf' => nm_r (nI_1 i) (hw (r', a1', b2, b3, b4, b5, b6, b7, b8, b9, a10', b11, a12') ⟨?_, hnew, ?_⟩))))
      · obtain ⟨J, hJ, hC⟩ := hM1.2.2.2.2.2.2.2 i hi
        rw [sd_tk_s g, sd_st_f (hC.2.2.2.2 b hb z).1]
        exact hM
      · obtain ⟨J, hJ, hC⟩ := hM1.2.2.2.2.2.2.2 i hi
        intro e m hm gm j hj
        by_cases y : m = i
        · rw [y]
          exact (hC.2.2.2.2 b hb z).2 j hj
        · exact hc e m (by omega) gm j hj
      · rw [sd_tk_s g]
        exact sd_Mt_e.mpr ⟨hM', fun m hm => h7' m (h7 m hm)⟩
      · intro e m hm gm j hj
        show b9 (m * 8 + j) ≠ nI b
        by_cases y : m = i
        · rw [y]
          exact hx' e j hj
        · rw [hf' m j (by omega) y (by have := hM1.2.1; omega)]
          exact hc e m (by omega) gm j hj
/-! a cell is made free -/
theorem sd_fc57 {post : Int32 → St1 → Prop} {n i h' : Nat} {z0 : Int32} (h : sd_M rm ow con hom run r a1 a2 a3 a4 a5 a6 a7 a8 a9 a10 a11 a12) (hn : n < 3) (hi : i < rm) (hh : h' < rm) (hz : z0 = nI h') (hc : a9 (n * 8 + i) ≠ -1)
    (hp : ∀ a3' a4' a5' a9' a11' a12', sd_M rm ow con hom run r a1 a2 a3' a4' a5' a6 a7 a8 a9' a10 a11' a12' → a9' (n * 8 + i) = -1 → a11' (n * 8 + i) = 0 → (∀ k j, k < 3 → k ≠ n → j < 8 → a9' (k * 8 + j) = a9 (k * 8 + j)) → (∀ j, j < rm → a9' (n * 8 + j) = a9 (n * 8 + j) ∨ a9' (n * 8 + j) = -1) → post (nI (n * 8 + i)) (r, a1, a2, a3', a4', a5', a6, a7, a8, a9', a10, a11', a12')) :
    wX_freeCell_57 post (nI n) (nI (n * 8 + i)) z0 (nI n) r a1 a2 a3 a4 a5 a6 a7 a8 a9 a10 a11 a12 := by
  have m8 := h.2.1
  obtain ⟨J, hJ, hC⟩ := h.2.2.2.2.2.2.2 n hn
  have h12 : ∀ m, m < 3 → ∃ k, k < rm ∧ upd a12 n z0 m = nI k := by
    intro m hm
    by_cases g : m = n
    · rw [g, pk_us]
      exact ⟨h', hh, hz⟩
    · rw [pk_un g]
      exact h.2.2.2.2.2.1 m hm
  have hcell : ∀ j, j < rm → upd a9 (n * 8 + i) (-1) (n * 8 + j) = a9 (n * 8 + j) ∨ upd a9 (n * 8 + i) (-1) (n * 8 + j) = -1 := by
    intro j hj
    by_cases g : j = i
    · rw [g, pk_us]
      exact Or.inr rfl
    · exact Or.inl (pk_un (by omega))
  refine And.intro (pk_in n 3 hn) (nm_r (e' := upd a12 n z0) (by rw [nI_clamp (by omega)]) (And.intro (pk_in (n * 8 + i) 24 (by omega)) ?_))
  rw [nI_clamp (show n * 8 + i < 2 ^ 31 by omega)]
  refine br_c (fun d => sd_drop (by omega) (hp _ _ _ _ _ _ ?_ pk_us pk_us (fun k j hk g hj => pk_un (by omega)) hcell)) (fun d => And.intro (pk_in (n * 8 + i) 24 (by omega)) (And.intro (pk_in (n * 8 + i) 24 (by omega)) ?_))
  · exact sd_M_node (n := n) h (fun _ _ _ _ z => z) (fun _ _ _ _ _ => rfl) (fun k j hk g hj => pk_un (by omega)) (fun _ _ _ _ _ => rfl) (fun k j hk g hj => pk_un (by omega)) h12 ⟨J, hJ, sd_Co_drop hC hi d⟩
  · rcases hC.1 i hi with y | ⟨b, hb, e, f, _, _⟩
    · exact absurd y.1 hc
    · rw [e, f]
      refine sd_wJ hn hb hJ (fun c3 c4 c5 hJ' hfr => sd_drop (by omega) (hp _ _ _ _ _ _ ?_ pk_us pk_us (fun k j hk g hj => pk_un (by omega)) hcell))
      have hC1 := sd_Co_flush hC hi hb e d
      have hC2 := sd_Co_drop hC1 hi pk_us
      have e11 : upd (upd a11 (n * 8 + i) 0) (n * 8 + i) 0 = upd a11 (n * 8 + i) 0 := by
        funext j
        by_cases g : j = n * 8 + i
        · rw [g, pk_us, pk_us]
        · rw [pk_un g]
      rw [e11] at hC2
      exact sd_M_node (n := n) h hfr (fun _ _ _ _ _ => rfl) (fun k j hk g hj => pk_un (by omega)) (fun _ _ _ _ _ => rfl) (fun k j hk g hj => pk_un (by omega)) h12 ⟨_, hJ', hC2⟩
theorem sd_freeCell {post : Int32 → St1 → Prop} {n : Nat} (h : sd_M rm ow con hom run r a1 a2 a3 a4 a5 a6 a7 a8 a9 a10 a11 a12) (hn : n < 3)
    (hp : ∀ i a3' a4' a5' a9' a11' a12', i < rm → sd_M rm ow con hom run r a1 a2 a3' a4' a5' a6 a7 a8 a9' a10 a11' a12' → a9' (n * 8 + i) = -1 → a11' (n * 8 + i) = 0 → (∀ k j, k < 3 → k ≠ n → j < 8 → a9' (k * 8 + j) = a9 (k * 8 + j)) → (∀ j, j < rm → a9' (n * 8 + j) = a9 (n * 8 + j) ∨ a9' (n * 8 + j) = -1) → post (nI (n * 8 + i)) (r, a1, a2, a3', a4', a5', a6, a7, a8, a9', a10, a11', a12')) :
    wpX_freeCell post (r, a1, a2, a3, a4, a5, a6, a7, a8, a9, a10, a11, a12) (nI n) := by
  have hr := h.2.2.1
  have m8 := h.2.1
  obtain ⟨J, hJ, hC⟩ := h.2.2.2.2.2.2.2 n hn
  obtain ⟨hd, hdr, ehd⟩ := h.2.2.2.2.2.1 n hn
  unfold wpX_freeCell
  refine sd_cached hn hr m8 (fun i hi e => br_f (nI_pos (by omega)) ?_) (fun hno => br_t (by decide) (And.intro (pk_in n 3 hn) ?_))
  · refine hp i _ _ _ _ _ _ hi h e ?_ (fun _ _ _ _ _ => rfl) (fun _ _ => Or.inl rfl)
    rcases hC.1 i hi with y | ⟨b, hb, e', _⟩
    · exact y.2
    · exact absurd (e'.symm.trans e) (sd_nm1 b hb)
  · rw [nI_clamp (show n < 2 ^ 31 by omega), ehd, nI_1]
    refine nm_r (sd_rowC rfl) (And.intro (pk_in n 3 hn) (pk_lt (hd + 1) rm (fun g => And.intro (pk_in n 3 hn) ?_) (fun g => ?_) rfl hr))
    · exact sd_fc57 h hn hdr g rfl (hno hd hdr) (fun c3 c4 c5 c9 c11 c12 => hp hd c3 c4 c5 c9 c11 c12 hdr)
    · exact sd_fc57 (h' := 0) h hn hdr (by omega) rfl (hno hd hdr) (fun c3 c4 c5 c9 c11 c12 => hp hd c3 c4 c5 c9 c11 c12 hdr)
theorem sd_bringIn {post : Int32 → St1 → Prop} {n b : Nat} (h : sd_M rm ow con hom run r a1 a2 a3 a4 a5 a6 a7 a8 a9 a10 a11 a12) (hn : n < 3) (hb : b < 16) (ho : ow b = n ∨ ow b = 3) (hl : a8 (n * 16 + b) ≠ 0)
    (hp : ∀ i a3' a4' a5' a9' a10' a11' a12', i < rm → sd_M rm ow con hom run r a1 a2 a3' a4' a5' a6 a7 a8 a9' a10' a11' a12' → a9' (n * 8 + i) = nI b → a10' (n * 8 + i) = con b → (∀ k j, k < 3 → k ≠ n → j < 8 → a9' (k * 8 + j) = a9 (k * 8 + j)) → post (nI (n * 8 + i)) (r, a1, a2, a3', a4', a5', a6, a7, a8, a9', a10', a11', a12')) :
    wpX_bringIn post (r, a1, a2, a3, a4, a5, a6, a7, a8, a9, a10, a11, a12) (nI n) (nI b) := by
  have hr := h.2.2.1
  have m8 := h.2.1
  obtain ⟨J0, hJ0, hC0⟩ := h.2.2.2.2.2.2.2 n hn
  unfold wpX_bringIn
  refine sd_cached hn hr m8 (fun i hi e => br_f (nI_pos (by omega)) (hp i _ _ _ _ _ _ _ hi h e (sd_Co_cell hC0 hi hb e).1 (fun _ _ _ _ _ => rfl))) (fun hno => br_t (by decide) ?_)
  refine sd_freeCell h hn (fun i b3 b4 b5 b9 b11 b12 hi hM e d hf hcell => ?_)
  obtain ⟨J, hJ, hC⟩ := hM.2.2.2.2.2.2.2 n hn
  have hno' : ∀ j, j < rm → b9 (n * 8 + j) ≠ nI b := by
    intro j hj z
    rcases hcell j hj with y | y
    · exact hno j hj (y.symm.trans z)
    · exact sd_nm1 b hb (z.symm.trans y)
  have hM' : sd_M rm ow con hom run r a1 a2 b3 b4 b5 a6 a7 a8 (upd b9 (n * 8 + i) (nI b)) (upd a10 (n * 8 + i) (con b)) b11 b12 :=
    sd_M_node (n := n) hM (fun _ _ _ _ z => z) (fun _ _ _ _ _ => rfl) (fun k j hk g hj => pk_un (by omega)) (fun k j hk g hj => pk_un (by omega)) (fun _ _ _ _ _ => rfl) hM.2.2.2.2.2.1 ⟨J, hJ, sd_Co_fill hC hi hb d hno' ho hl⟩
  have hf' : ∀ k j, k < 3 → k ≠ n → j < 8 → upd b9 (n * 8 + i) (nI b) (k * 8 + j) = a9 (k * 8 + j) := by
    intro k j hk g hj
    rw [pk_un (by omega)]
    exact hf k j hk g hj
  refine sd_jour hn hb hJ (fun j hj ej _ => And.intro (pk_in (n * 8 + i) 24 (by omega)) (nm_r (e' := upd b9 (n * 8 + i) (nI b)) (by rw [nI_clamp (by omega)]) (br_f (nI_pos (by omega)) (And.intro (pk_in (n * 16 + j) 48 (by omega)) (And.intro (pk_in (n * 8 + i) 24 (by omega)) (nm_r (e' := upd a10 (n * 8 + i) (con b)) ?_ (hp i _ _ _ _ _ _ _ hi hM' pk_us pk_us hf'))))))) (fun ej => And.intro (pk_in (n * 8 + i) 24 (by omega)) (nm_r (e' := upd b9 (n * 8 + i) (nI b)) (by rw [nI_clamp (by omega)]) (br_t (by decide) (And.intro (pk_in b 16 hb) (And.intro (pk_in (n * 8 + i) 24 (by omega)) (nm_r (e' := upd a10 (n * 8 + i) (con b)) ?_ (hp i _ _ _ _ _ _ _ hi hM' pk_us pk_us hf')))))))
  · have hob := hC.2.2.2.1 b hb (by rw [ej]; exact Option.some_ne_none _)
    have k : J b = some (con b) := (hC.2.2.1 b hb hob).elim id (fun ⟨j, hj, e', _⟩ => absurd e' (hno' j hj))
    rw [nI_clamp (show n * 8 + i < 2 ^ 31 by omega), nI_clamp (show n * 16 + j < 2 ^ 31 by omega), ← Option.some.inj (k.symm.trans ej)]
  · have hob : ow b = 3 := by
      rcases ho with y | y
      · have k : J b = some (con b) := (hC.2.2.1 b hb y).elim id (fun ⟨j, hj, e', _⟩ => absurd e' (hno' j hj))
        exact absurd (k.symm.trans ej) (Option.some_ne_none _)
      · exact y
    rw [nI_clamp (show n * 8 + i < 2 ^ 31 by omega), nI_clamp (show b < 2 ^ 31 by omega), hM.2.2.2.2.1 b hb, ← (hM.2.2.2.2.2.2.1 b hb).2.1 hob]
theorem sd_readBlock {post : Int32 → St1 → Prop} {n b : Nat} (h : sd_Mt rm ow con hom run (r, a1, a2, a3, a4, a5, a6, a7, a8, a9, a10, a11, a12)) (hn : n < 3) (hb : b < 16)
    (hp : ∀ s, sd_Mt rm (sd_tk n b con (ow, hom) 3).1 con (sd_tk n b con (ow, hom) 3).2 run s → post (con b) s) : wpX_readBlock post (r, a1, a2, a3, a4, a5, a6, a7, a8, a9, a10, a11, a12) (nI n) (nI b) := by
  unfold wpX_readBlock
  refine sd_take h hn hb (Or.inl rfl) (fun r' a1' a2' a3' a4' a5' a6' a7' a8' a9' a10' a11' a12' hM hl _ ho => ?_)
  obtain ⟨hM1, h7⟩ := sd_Mt_e.mp hM
  refine sd_bringIn hM1 hn hb ho hl (fun i b3 b4 b5 b9 b10 b11 b12 hi hM2 e e10 _ => And.intro (pk_in (n * 8 + i) 24 (by have := hM1.2.1; omega)) ?_)
  rw [nI_clamp (by have := hM1.2.1; omega), e10]
  exact hp _ (sd_Mt_e.mpr ⟨hM2, h7⟩)
theorem sd_writeBlock {post : St1 → Prop} {n b : Nat} {v : Int32} (h : sd_Mt rm ow con hom run (r, a1, a2, a3, a4, a5, a6, a7, a8, a9, a10, a11, a12)) (hn : n < 3) (hb : b < 16) (hu : run n ≠ 0)
    (hp : ∀ s, sd_Mt rm (sd_uN (sd_tk n b con (ow, hom) 3).1 b n) (upd con b v) (sd_tk n b con (ow, hom) 3).2 run s → post s) : wpX_writeBlock post (r, a1, a2, a3, a4, a5, a6, a7, a8, a9, a10, a11, a12) (nI n) (nI b) v := by
  unfold wpX_writeBlock
  refine sd_take h hn hb (Or.inr rfl) (fun r' a1' a2' a3' a4' a5' a6' a7' a8' a9' a10' a11' a12' hM hl hx ho => ?_)
  obtain ⟨hM1, h7⟩ := sd_Mt_e.mp hM
  have m8 := hM1.2.1
  refine sd_bringIn hM1 hn hb ho hl (fun i b3 b4 b5 b9 b10 b11 b12 hi hM2 e e10 hf => And.intro (pk_in (n * 8 + i) 24 (by omega)) (nm_r (e' := upd b10 (n * 8 + i) v) (by rw [nI_clamp (by omega)]) (And.intro (pk_in (n * 8 + i) 24 (by omega)) (nm_r (e' := upd b11 (n * 8 + i) 1) (by rw [nI_clamp (by omega)]) (hp _ (sd_Mt_e.mpr ⟨?_, h7⟩))))))
  refine sd_M_put hM2 hn hi hb ho hu e hl (fun m hm g j hj => ?_)
  rw [hf m j hm g (by omega)]
  exact hx rfl m hm g j hj
end
end
section
/-! the public methods -/
theorem sd_neg (k : Nat) (hk : k ≤ 16) : ¬ nI k < 0 := nI_pos (by omega)
/-- the power is cut: owners and contents after i nodes -/
def sd_pc (hom : Nat → Int32) (p : (Nat → Nat) × (Nat → Int32)) : Nat → (Nat → Nat) × (Nat → Int32)
  | 0 => p
  | i + 1 => (sd_clO i (sd_pc hom p i).1, sd_drC i (sd_pc hom p i).1 (sd_pc hom p i).2 hom)
noncomputable def sd_pr (hom : Nat → Int32) (p : (Nat → Nat) × (Nat → Int32)) : Nat → Int32
  | 0 => 0
  | i + 1 => sd_pr hom p i + nI (sd_cnt (fun b => (sd_pc hom p i).1 b = i) 16)
def sd_p0 (run : Nat → Int32) : Nat → Nat → Int32
  | 0 => run
  | i + 1 => upd (sd_p0 run i) i 0
theorem sd_pc_own {hom : Nat → Int32} {p : (Nat → Nat) × (Nat → Int32)} {b : Nat} (h : p.1 b ≤ 3) : ∀ i, i ≤ 3 → (sd_pc hom p i).1 b ≤ 3 ∧ ∀ m, m < i → (sd_pc hom p i).1 b ≠ m := by
  intro i
  induction i with
  | zero => exact fun _ => ⟨h, fun m hm => absurd hm (by omega)⟩
  | succ i ih =>
    intro hi
    obtain ⟨k1, k2⟩ := ih (by omega)
    show sd_clO i (sd_pc hom p i).1 b ≤ 3 ∧ ∀ m, m < i + 1 → sd_clO i (sd_pc hom p i).1 b ≠ m
    by_cases g : (sd_pc hom p i).1 b = i
    · rw [sd_clO_t g]
      exact ⟨by omega, fun m hm => by omega⟩
    · rw [sd_clO_f g]
      refine ⟨k1, fun m hm => ?_⟩
      by_cases e : m = i
      · rw [e]; exact g
      · exact k2 m (by omega)
theorem sd_pc_G {G : Nat → Int32 → Prop} {hom : Nat → Int32} {p : (Nat → Nat) × (Nat → Int32)} {b : Nat} (h : G b (p.2 b)) (h' : G b (hom b)) : ∀ i, G b ((sd_pc hom p i).2 b) := by
  intro i
  induction i with
  | zero => exact h
  | succ i ih =>
    show G b (sd_drC i (sd_pc hom p i).1 (sd_pc hom p i).2 hom b)
    by_cases g : (sd_pc hom p i).1 b = i
    · rw [sd_drC_t g]; exact h'
    · rw [sd_drC_f g]; exact ih
theorem sd_st_G {G : Nat → Int32 → Prop} {con : Nat → Int32} {m a : Nat} {p : (Nat → Nat) × (Nat → Int32)} {b : Nat} (h : G b (p.2 b)) (h' : G b (con b)) : G b ((sd_st m a con p).2 b) := by
  by_cases g : p.1 a = m
  · rw [sd_st_t g]
    show G b (sd_clH m p.1 con p.2 b)
    by_cases e : p.1 b = m
    · rw [sd_clH_t e]; exact h'
    · rw [sd_clH_f e]; exact h
  · rw [sd_st_f g]; exact h
theorem sd_tk_G {G : Nat → Int32 → Prop} {con : Nat → Int32} {n a : Nat} {p : (Nat → Nat) × (Nat → Int32)} {b : Nat} (h : G b (p.2 b)) (h' : G b (con b)) : ∀ i, G b ((sd_tk n a con p i).2 b) := by
  intro i
  induction i with
  | zero => exact h
  | succ i ih =>
    by_cases g : i = n
    · rw [sd_tk_n g]; exact ih
    · rw [sd_tk_s g]; exact sd_st_G ih h'
section
variable {rm : Nat} {ow : Nat → Nat} {con hom run : Nat → Int32} {r : Int32} {a1 a2 a3 a4 a5 a6 a7 a8 a9 a10 a11 a12 : Nat → Int32}
theorem sd_write {post : Int32 → St1 → Prop} {n b : Nat} {v : Int32} (h : sd_Mt rm ow con hom run (r, a1, a2, a3, a4, a5, a6, a7, a8, a9, a10, a11, a12)) (hn : n < 3) (hb : b < 16) (h0 : run n = 0 → post (-3) (r, a1, a2, a3, a4, a5, a6, a7, a8, a9, a10, a11, a12))
    (h1 : run n ≠ 0 → ∀ s, sd_Mt rm (sd_uN (sd_tk n b con (ow, hom) 3).1 b n) (upd con b v) (sd_tk n b con (ow, hom) 3).2 run s → post (nI (sd_cnt (fun x => sd_uN (sd_tk n b con (ow, hom) 3).1 b n x = n) 16)) s) : wpX_write post (r, a1, a2, a3, a4, a5, a6, a7, a8, a9, a10, a11, a12) (nI n) (nI b) v := by
  unfold wpX_write
  refine sd_badNode hn (br_t rfl (sd_badBlock hb (br_t rfl (And.intro (pk_in n 3 hn) ?_))))
  rw [nI_clamp (by omega), (sd_Mt_e.mp h).1.2.2.2.1 n hn]
  refine br_c h0 (fun g => sd_writeBlock h hn hb g ?_)
  rintro ⟨r', a1', a2', a3', a4', a5', a6', a7', a8', a9', a10', a11', a12'⟩ hs
  obtain ⟨hM, h7⟩ := sd_Mt_e.mp hs
  obtain ⟨J, hJ, hC⟩ := hM.2.2.2.2.2.2.2 n hn
  exact sd_unsCnt hn hM.2.2.1 hM.2.1 hJ hC (h1 g _ hs)
theorem sd_read {post : Int32 → St1 → Prop} {n b : Nat} (h : sd_Mt rm ow con hom run (r, a1, a2, a3, a4, a5, a6, a7, a8, a9, a10, a11, a12)) (hn : n < 3) (hb : b < 16) (h0 : run n = 0 → post (-3) (r, a1, a2, a3, a4, a5, a6, a7, a8, a9, a10, a11, a12))
    (h1 : run n ≠ 0 → ∀ s, sd_Mt rm (sd_tk n b con (ow, hom) 3).1 con (sd_tk n b con (ow, hom) 3).2 run s → post (con b) s) : wpX_read post (r, a1, a2, a3, a4, a5, a6, a7, a8, a9, a10, a11, a12) (nI n) (nI b) := by
  unfold wpX_read
  refine sd_badNode hn (br_t rfl (sd_badBlock hb (br_t rfl (And.intro (pk_in n 3 hn) ?_))))
  rw [nI_clamp (by omega), (sd_Mt_e.mp h).1.2.2.2.1 n hn]
  refine br_c h0 (fun g => sd_readBlock h hn hb ?_)
  rintro ⟨r', a1', a2', a3', a4', a5', a6', a7', a8', a9', a10', a11', a12'⟩ hs
  exact h1 g _ hs
/-- owners and home blocks after a swap's reads and first write -/
def sd_sw1 (n a b : Nat) (con : Nat → Int32) (p : (Nat → Nat) × (Nat → Int32)) : (Nat → Nat) × (Nat → Int32) := (sd_uN (sd_tk n a con (sd_tk n b con (sd_tk n a con p 3) 3) 3).1 a n, (sd_tk n a con (sd_tk n b con (sd_tk n a con p 3) 3) 3).2)
def sd_sw2 (n a b : Nat) (con : Nat → Int32) (p : (Nat → Nat) × (Nat → Int32)) : (Nat → Nat) × (Nat → Int32) := (sd_uN (sd_tk n b (upd con a (con b)) (sd_sw1 n a b con p) 3).1 b n, (sd_tk n b (upd con a (con b)) (sd_sw1 n a b con p) 3).2)
theorem sd_swap {post : Int32 → St1 → Prop} {n a b : Nat} (h : sd_Mt rm ow con hom run (r, a1, a2, a3, a4, a5, a6, a7, a8, a9, a10, a11, a12)) (hn : n < 3) (ha : a < 16) (hb : b < 16) (h0 : run n = 0 → post (-3) (r, a1, a2, a3, a4, a5, a6, a7, a8, a9, a10, a11, a12))
    (h1 : run n ≠ 0 → ∀ s, sd_Mt rm (sd_sw2 n a b con (ow, hom)).1 (upd (upd con a (con b)) b (con a)) (sd_sw2 n a b con (ow, hom)).2 run s → post (nI (sd_cnt (fun x => (sd_sw2 n a b con (ow, hom)).1 x = n) 16)) s) : wpX_swap post (r, a1, a2, a3, a4, a5, a6, a7, a8, a9, a10, a11, a12) (nI n) (nI a) (nI b) := by
  unfold wpX_swap
  refine sd_badNode hn (br_t rfl (sd_badBlock ha (br_t rfl (sd_badBlock hb (br_t rfl (And.intro (pk_in n 3 hn) ?_))))))
  rw [nI_clamp (by omega), (sd_Mt_e.mp h).1.2.2.2.1 n hn]
  refine br_c h0 (fun g => sd_readBlock h hn ha ?_)
  rintro ⟨rx, a1x, a2x, a3x, a4x, a5x, a6x, a7x, a8x, a9x, a10x, a11x, a12x⟩ hx
  refine sd_readBlock hx hn hb ?_
  rintro ⟨ry, a1y, a2y, a3y, a4y, a5y, a6y, a7y, a8y, a9y, a10y, a11y, a12y⟩ hy
  refine sd_writeBlock hy hn ha g ?_
  rintro ⟨rz, a1z, a2z, a3z, a4z, a5z, a6z, a7z, a8z, a9z, a10z, a11z, a12z⟩ hz
  refine sd_writeBlock hz hn hb g ?_
  rintro ⟨r', a1', a2', a3', a4', a5', a6', a7', a8', a9', a10', a11', a12'⟩ hs
  obtain ⟨hM, h7⟩ := sd_Mt_e.mp hs
  obtain ⟨J, hJ, hC⟩ := hM.2.2.2.2.2.2.2 n hn
  exact sd_unsCnt hn hM.2.2.1 hM.2.1 hJ hC (h1 g _ hs)
theorem sd_sync {post : Int32 → St1 → Prop} {n : Nat} (h : sd_Mt rm ow con hom run (r, a1, a2, a3, a4, a5, a6, a7, a8, a9, a10, a11, a12)) (hn : n < 3) (h0 : run n = 0 → post (-3) (r, a1, a2, a3, a4, a5, a6, a7, a8, a9, a10, a11, a12))
    (h1 : run n ≠ 0 → ∀ s, sd_Mt rm (sd_clO n ow) con (sd_clH n ow con hom) run s → post (nI (sd_cnt (fun b => ow b = n) 16)) s) : wpX_sync post (r, a1, a2, a3, a4, a5, a6, a7, a8, a9, a10, a11, a12) (nI n) := by
  unfold wpX_sync
  obtain ⟨hM, h7⟩ := sd_Mt_e.mp h
  refine sd_badNode hn (br_t rfl (And.intro (pk_in n 3 hn) ?_))
  rw [nI_clamp (by omega), hM.2.2.2.1 n hn]
  exact br_c h0 (fun g => sd_mkSafe hM hn (fun b2 b3 b4 b5 b6 b7 b11 hM' h7' => h1 g _ (sd_Mt_e.mpr ⟨hM', fun m hm => h7' m (h7 m hm)⟩)))
theorem sd_crash {post : Int32 → St1 → Prop} {n : Nat} (h : sd_Mt rm ow con hom run (r, a1, a2, a3, a4, a5, a6, a7, a8, a9, a10, a11, a12)) (hn : n < 3) (h0 : run n = 0 → post (-3) (r, a1, a2, a3, a4, a5, a6, a7, a8, a9, a10, a11, a12))
    (h1 : run n ≠ 0 → ∀ s, sd_Mt rm (sd_clO n ow) (sd_drC n ow con hom) hom (upd run n 0) s → post (nI (sd_cnt (fun b => ow b = n) 16)) s) : wpX_crash post (r, a1, a2, a3, a4, a5, a6, a7, a8, a9, a10, a11, a12) (nI n) := by
  unfold wpX_crash
  obtain ⟨hM, h7⟩ := sd_Mt_e.mp h
  obtain ⟨J, hJ, hC⟩ := hM.2.2.2.2.2.2.2 n hn
  refine sd_badNode hn (br_t rfl (And.intro (pk_in n 3 hn) ?_))
  rw [nI_clamp (by omega), hM.2.2.2.1 n hn]
  exact br_c h0 (fun g => sd_unsCnt hn hM.2.2.1 hM.2.1 hJ hC (sd_die0 hM hn (h7 n hn) (fun b1 b3 b7 b8 b9 b11 hM' h7' => h1 g _ (sd_Mt_e.mpr ⟨hM', fun m hm => h7' m (h7 m hm)⟩))))
theorem sd_crashIn0 {post : Int32 → St1 → Prop} {n : Nat} (h : sd_Mt rm ow con hom run (r, a1, a2, a3, a4, a5, a6, a7, a8, a9, a10, a11, a12)) (hn : n < 3) (h0 : run n = 0 → post (-3) (r, a1, a2, a3, a4, a5, a6, a7, a8, a9, a10, a11, a12))
    (h1 : run n ≠ 0 → ∀ s, sd_Mt rm (sd_clO n ow) (sd_drC n ow con hom) hom (upd run n 0) s → post (nI (sd_cnt (fun b => ow b = n) 16)) s) : wpX_crashInSync post (r, a1, a2, a3, a4, a5, a6, a7, a8, a9, a10, a11, a12) (nI n) 0 := by
  unfold wpX_crashInSync
  obtain ⟨hM, h7⟩ := sd_Mt_e.mp h
  obtain ⟨J, hJ, hC⟩ := hM.2.2.2.2.2.2.2 n hn
  refine sd_badNode hn (br_t rfl (And.intro (pk_in n 3 hn) ?_))
  rw [nI_clamp (by omega), hM.2.2.2.1 n hn]
  refine br_c h0 (fun g => sd_unsCnt hn hM.2.2.1 hM.2.1 hJ hC (sd_fillJ hM hn (fun c3 c4 c5 c11 hM2 hd => br_t rfl ?_)))
  exact sd_die0 hM2 hn (h7 n hn) (fun b1 b3 b7 b8 b9 b11 hM' h7' => h1 g _ (sd_Mt_e.mpr ⟨hM', fun m hm => h7' m (h7 m hm)⟩))
theorem sd_crashIn1 {post : Int32 → St1 → Prop} {n : Nat} (h : sd_Mt rm ow con hom run (r, a1, a2, a3, a4, a5, a6, a7, a8, a9, a10, a11, a12)) (hn : n < 3) (h0 : run n = 0 → post (-3) (r, a1, a2, a3, a4, a5, a6, a7, a8, a9, a10, a11, a12))
    (h1 : run n ≠ 0 → ∀ s, sd_Mt rm (sd_clO n ow) con (sd_clH n ow con hom) (upd run n 0) s → post (nI (sd_cnt (fun b => ow b = n) 16)) s) : wpX_crashInSync post (r, a1, a2, a3, a4, a5, a6, a7, a8, a9, a10, a11, a12) (nI n) 1 := by
  unfold wpX_crashInSync
  obtain ⟨hM, h7⟩ := sd_Mt_e.mp h
  obtain ⟨J, hJ, hC⟩ := hM.2.2.2.2.2.2.2 n hn
  refine sd_badNode hn (br_t rfl (And.intro (pk_in n 3 hn) ?_))
  rw [nI_clamp (by omega), hM.2.2.2.1 n hn]
  refine br_c h0 (fun g => sd_unsCnt hn hM.2.2.1 hM.2.1 hJ hC (sd_fillJ hM hn (fun c3 c4 c5 c11 hM2 hd => br_f (by decide) ?_)))
  obtain ⟨J', hJ', hC'⟩ := hM2.2.2.2.2.2.2.2 n hn
  obtain ⟨c, hc, h3, _⟩ := id hJ'
  refine sd_mark hn hc h3 ?_
  refine sd_die1 (run := run) (hom := hom) (ow := ow) (con := con) (rm := rm) hM2 hn hd hc h3 (by rw [pk_us]; decide) pk_us (fun b1 b2 b3 b7 b8 b9 b11 hM' h7' h7n => h1 g _ (sd_Mt_e.mpr ⟨hM', fun m hm => ?_⟩))
  by_cases e : m = n
  · rw [e]; exact h7n
  · exact h7' m e (by rw [pk_un e]; exact h7 m hm)
theorem sd_restart {post : Int32 → St1 → Prop} {n : Nat} (h : sd_Mt rm ow con hom run (r, a1, a2, a3, a4, a5, a6, a7, a8, a9, a10, a11, a12)) (hn : n < 3)
    (h1 : ∀ s, sd_Mt rm ow con hom (upd run n 1) s → post (if run n = 0 then 1 else 0) s) : wpX_restart post (r, a1, a2, a3, a4, a5, a6, a7, a8, a9, a10, a11, a12) (nI n) := by
  unfold wpX_restart
  obtain ⟨hM, h7⟩ := sd_Mt_e.mp h
  have hN : sd_Mt rm ow con hom (upd run n 1) (r, upd a1 n 1, a2, a3, a4, a5, a6, a7, a8, a9, a10, a11, a12) := by
    obtain ⟨m2, m8, hr, g1, h2, h12, hg, hN⟩ := hM
    refine sd_Mt_e.mpr ⟨⟨m2, m8, hr, fun m hm => ?_, h2, h12, fun b hb => ⟨(hg b hb).1, (hg b hb).2.1, fun z => ?_⟩, hN⟩, h7⟩
    · by_cases e : m = n
      · rw [e, pk_us, pk_us]
      · rw [pk_un e, pk_un e]; exact g1 m hm
    · by_cases e : ow b = n
      · rw [e, pk_us]; decide
      · rw [pk_un e]; exact (hg b hb).2.2 z
  refine sd_badNode hn (br_t rfl (And.intro (pk_in n 3 hn) ?_))
  rw [nI_clamp (by omega), hM.2.2.2.1 n hn]
  refine br_c (fun g => And.intro (pk_in n 3 hn) (nm_r (e' := upd a1 n 1) (by rw [nI_clamp (by omega)]) ?_)) (fun g => And.intro (pk_in n 3 hn) (nm_r (e' := upd a1 n 1) (by rw [nI_clamp (by omega)]) ?_))
  · have := h1 _ hN
    rw [if_pos g] at this
    exact this
  · have := h1 _ hN
    rw [if_neg g] at this
    exact this
theorem sd_powerCut {post : Int32 → St1 → Prop} (h : sd_Mt rm ow con hom run (r, a1, a2, a3, a4, a5, a6, a7, a8, a9, a10, a11, a12))
    (h1 : ∀ s, sd_Mt rm (sd_pc hom (ow, con) 3).1 (sd_pc hom (ow, con) 3).2 hom (fun _ => 1) s → post (sd_pr hom (ow, con) 3) s) : wpX_powerCut post (r, a1, a2, a3, a4, a5, a6, a7, a8, a9, a10, a11, a12) := by
  refine pk_loop (σ := St1) (fun k i s => wX_powerCut_4 post k (sd_pr hom (ow, con) i) (nI i) s.1 s.2.1 s.2.2.1 s.2.2.2.1 s.2.2.2.2.1 s.2.2.2.2.2.1 s.2.2.2.2.2.2.1 s.2.2.2.2.2.2.2.1 s.2.2.2.2.2.2.2.2.1 s.2.2.2.2.2.2.2.2.2.1 s.2.2.2.2.2.2.2.2.2.2.1 s.2.2.2.2.2.2.2.2.2.2.2.1 s.2.2.2.2.2.2.2.2.2.2.2.2) (fun i s => sd_Mt rm (sd_pc hom (ow, con) i).1 (sd_pc hom (ow, con) i).2 hom (sd_p0 run i) s) 3 0 (r, a1, a2, a3, a4, a5, a6, a7, a8, a9, a10, a11, a12) (by omega) h ?_ ?_
  · rintro k ⟨r', a1', a2', a3', a4', a5', a6', a7', a8', a9', a10', a11', a12'⟩ hs
    obtain ⟨hM, h7⟩ := sd_Mt_e.mp hs
    show wX_powerCut_4 post (k + 1) (sd_pr hom (ow, con) 3) (nI 3) r' a1' a2' a3' a4' a5' a6' a7' a8' a9' a10' a11' a12'
    refine pk_le 3 3 (fun _ => ?_) (fun z => absurd z (by omega))
    refine pk_loop (fun k i f => wX_powerCut_30 post (sd_pr hom (ow, con) 3) r' k (nI i) f a2' a3' a4' a5' a6' a7' a8' a9' a10' a11' a12') (fun i f => ∀ m, m < i → f m = 1) 3 0 a1' (by omega) (fun m hm => absurd hm (by omega)) ?_ ?_
    · intro k f hf
      obtain ⟨m2, m8, hr, g1, h2, h12, hg, hN⟩ := hM
      exact pk_le 3 3 (fun _ => h1 _ (sd_Mt_e.mpr ⟨⟨m2, m8, hr, hf, h2, h12, fun b hb => ⟨(hg b hb).1, (hg b hb).2.1, fun _ => (show (1 : Int32) ≠ 0 by decide)⟩, hN⟩, h7⟩)) (fun z => absurd z (by omega))
    · intro k i f hi hf hw
      refine pk_le 3 i (fun z => absurd z (by omega)) (fun _ => And.intro (pk_in i 3 hi) (nm_r (e' := upd f i 1) (by rw [nI_clamp (by omega)]) (nm_r (nI_1 i) (hw _ (fun m hm => ?_)))))
      by_cases e : m = i
      · rw [e, pk_us]
      · rw [pk_un e]; exact hf m (by omega)
  · rintro k i ⟨r', a1', a2', a3', a4', a5', a6', a7', a8', a9', a10', a11', a12'⟩ hi hs hw
    obtain ⟨hM, h7⟩ := sd_Mt_e.mp hs
    obtain ⟨J, hJ, hC⟩ := hM.2.2.2.2.2.2.2 i hi
    show wX_powerCut_4 post (k + 1) (sd_pr hom (ow, con) i) (nI i) r' a1' a2' a3' a4' a5' a6' a7' a8' a9' a10' a11' a12'
    refine pk_le 3 i (fun z => absurd z (by omega)) (fun _ => sd_unsCnt hi hM.2.2.1 hM.2.1 hJ hC (nm_e (sd_die0 hM hi (h7 i hi) (fun b1 b3 b7 b8 b9 b11 hM' h7' => nm_r (nI_1 i) ?_))))
    exact hw (r', b1, a2', b3, a4', a5', a6', b7, b8, b9, a10', b11, a12') (sd_Mt_e.mpr ⟨hM', fun m hm => h7' m (h7 m hm)⟩)
end
end
section
/-! one turn of the law: what it makes of the picture, for every object that matches it -/
abbrev sd_Op (ow : Nat → Nat) (con hom run : Nat → Int32) (ow' : Nat → Nat) (con' hom' run' : Nat → Int32) (ret : Int32) (W : (Int32 → St1 → Prop) → St1 → Prop) : Prop :=
  ∀ (rm : Nat) (s : St1) (post : Int32 → St1 → Prop), sd_Mt rm ow con hom run s → (∀ s', sd_Mt rm ow' con' hom' run' s' → post ret s') → W post s
abbrev sd_T (ow : Nat → Nat) (con hom run : Nat → Int32) (o n a b v : Nat) (ow' : Nat → Nat) (con' hom' run' : Nat → Int32) (ret : Int32) : Prop :=
  (∀ G : Nat → Int32 → Prop, (∀ x, x < 16 → G x (con x) ∧ G x (hom x)) → (o ≤ 4 → ¬ ret < 0 → G a (nI v)) → (8 ≤ o → o ≤ 9 → ¬ ret < 0 → G a (con b) ∧ G b (con a)) → ∀ x, x < 16 → G x (con' x) ∧ G x (hom' x))
  ∧ (o = 10 → ¬ ret < 0 → run' n ≠ 0 ∧ ∀ x, x < 16 → ow' x ≠ n) ∧ (o = 15 → nI v &&& 1 = 0 → ∀ x, x < 16 → ow' x = 3)
  ∧ sd_Op ow con hom run ow' con' hom' run' ret (fun post s => wpL_turn post s (nI o) (nI n) (nI a) (nI b) (nI v))
section
variable {ow : Nat → Nat} {con hom run : Nat → Int32} {o n a b v : Nat}
theorem sd_t_write (hn : n < 3) (ha : a < 16) (ho : o ≤ 4) : ∃ ow' con' hom' run' ret, sd_T ow con hom run o n a b v ow' con' hom' run' ret := by
  by_cases g : run n = 0
  · refine ⟨ow, con, hom, run, -3, fun G hG _ _ => hG, fun e => absurd e (by omega), fun e => absurd e (by omega), ?_⟩
    rintro rm ⟨r, a1, a2, a3, a4, a5, a6, a7, a8, a9, a10, a11, a12⟩ post h hp
    exact pk_lt 4 o (fun z => absurd z (by omega)) (fun z => sd_write h hn ha (fun _ => hp _ h) (fun y => absurd g y))
  · refine ⟨sd_uN (sd_tk n a con (ow, hom) 3).1 a n, upd con a (nI v), (sd_tk n a con (ow, hom) 3).2, run, nI (sd_cnt (fun x => sd_uN (sd_tk n a con (ow, hom) 3).1 a n x = n) 16), fun G hG h1 _ x hx => ?_, fun e => absurd e (by omega), fun e => absurd e (by omega), ?_⟩
    rotate_left
    · rintro rm ⟨r, a1, a2, a3, a4, a5, a6, a7, a8, a9, a10, a11, a12⟩ post h hp
      refine pk_lt 4 o (fun z => absurd z (by omega)) (fun z => sd_write h hn ha (fun y => absurd y g) (fun _ => ?_))
      rintro ⟨r', a1', a2', a3', a4', a5', a6', a7', a8', a9', a10', a11', a12'⟩ hs
      exact hp _ hs
    · refine ⟨?_, sd_tk_G (hG x hx).2 (hG x hx).1 3⟩
      by_cases e : x = a
      · rw [e, pk_us]
        exact h1 ho (sd_neg _ (sd_cnt_le _ _))
      · rw [pk_un e]
        exact (hG x hx).1
theorem sd_t_read (hn : n < 3) (ha : a < 16) (ho : 5 ≤ o) (ho' : o ≤ 7) : ∃ ow' con' hom' run' ret, sd_T ow con hom run o n a b v ow' con' hom' run' ret := by
  by_cases g : run n = 0
  · refine ⟨ow, con, hom, run, -3, fun G hG _ _ => hG, fun e => absurd e (by omega), fun e => absurd e (by omega), ?_⟩
    rintro rm ⟨r, a1, a2, a3, a4, a5, a6, a7, a8, a9, a10, a11, a12⟩ post h hp
    exact pk_lt 4 o (fun z => pk_lt 7 o (fun z => absurd z (by omega)) (fun z => sd_read h hn ha (fun _ => hp _ h) (fun y => absurd g y))) (fun z => absurd z (by omega))
  · refine ⟨(sd_tk n a con (ow, hom) 3).1, con, (sd_tk n a con (ow, hom) 3).2, run, con a, fun G hG h1 _ x hx => ?_, fun e => absurd e (by omega), fun e => absurd e (by omega), ?_⟩
    rotate_left
    · rintro rm ⟨r, a1, a2, a3, a4, a5, a6, a7, a8, a9, a10, a11, a12⟩ post h hp
      refine pk_lt 4 o (fun z => pk_lt 7 o (fun z => absurd z (by omega)) (fun z => sd_read h hn ha (fun y => absurd y g) (fun _ => ?_))) (fun z => absurd z (by omega))
      rintro ⟨r', a1', a2', a3', a4', a5', a6', a7', a8', a9', a10', a11', a12'⟩ hs
      exact hp _ hs
    · exact ⟨(hG x hx).1, sd_tk_G (hG x hx).2 (hG x hx).1 3⟩
theorem sd_t_swap (hn : n < 3) (ha : a < 16) (hb : b < 16) (ho : 8 ≤ o) (ho' : o ≤ 9) : ∃ ow' con' hom' run' ret, sd_T ow con hom run o n a b v ow' con' hom' run' ret := by
  by_cases g : run n = 0
  · refine ⟨ow, con, hom, run, -3, fun G hG _ _ => hG, fun e => absurd e (by omega), fun e => absurd e (by omega), ?_⟩
    rintro rm ⟨r, a1, a2, a3, a4, a5, a6, a7, a8, a9, a10, a11, a12⟩ post h hp
    exact pk_lt 4 o (fun z => pk_lt 7 o (fun z => pk_lt 9 o (fun z => absurd z (by omega)) (fun z => sd_swap h hn ha hb (fun _ => hp _ h) (fun y => absurd g y))) (fun z => absurd z (by omega))) (fun z => absurd z (by omega))
  · refine ⟨(sd_sw2 n a b con (ow, hom)).1, upd (upd con a (con b)) b (con a), (sd_sw2 n a b con (ow, hom)).2, run, nI (sd_cnt (fun x => (sd_sw2 n a b con (ow, hom)).1 x = n) 16), fun G hG _ h1 x hx => ?_, fun e => absurd e (by omega), fun e => absurd e (by omega), ?_⟩
    rotate_left
    · rintro rm ⟨r, a1, a2, a3, a4, a5, a6, a7, a8, a9, a10, a11, a12⟩ post h hp
      refine pk_lt 4 o (fun z => pk_lt 7 o (fun z => pk_lt 9 o (fun z => absurd z (by omega)) (fun z => sd_swap h hn ha hb (fun y => absurd y g) (fun _ => ?_))) (fun z => absurd z (by omega))) (fun z => absurd z (by omega))
      rintro ⟨r', a1', a2', a3', a4', a5', a6', a7', a8', a9', a10', a11', a12'⟩ hs
      exact hp _ hs
    · have h2 := h1 ho ho' (sd_neg _ (sd_cnt_le _ _))
      have c1 : ∀ x, x < 16 → G x (upd con a (con b) x) := by
        intro x hx
        by_cases e : x = a
        · rw [e, pk_us]; exact h2.1
        · rw [pk_un e]; exact (hG x hx).1
      refine ⟨?_, ?_⟩
      · by_cases e : x = b
        · rw [e, pk_us]; exact h2.2
        · rw [pk_un e]; exact c1 x hx
      · have s1 : G x ((sd_sw1 n a b con (ow, hom)).2 x) := sd_tk_G (n := n) (a := a) (sd_tk_G (n := n) (a := b) (sd_tk_G (n := n) (a := a) (p := (ow, hom)) (hG x hx).2 (hG x hx).1 3) (hG x hx).1 3) (hG x hx).1 3
        have s2 : G x ((sd_tk n b (upd con a (con b)) (sd_sw1 n a b con (ow, hom)) 3).2 x) := sd_tk_G s1 (c1 x hx) 3
        exact s2
theorem sd_t_sync (hn : n < 3) (ho : o = 10) : ∃ ow' con' hom' run' ret, sd_T ow con hom run o n a b v ow' con' hom' run' ret := by
  by_cases g : run n = 0
  · refine ⟨ow, con, hom, run, -3, fun G hG _ _ => hG, fun _ e => absurd (by decide) e, fun e => absurd e (by omega), ?_⟩
    rintro rm ⟨r, a1, a2, a3, a4, a5, a6, a7, a8, a9, a10, a11, a12⟩ post h hp
    exact pk_lt 4 o (fun z => pk_lt 7 o (fun z => pk_lt 9 o (fun z => pk_eq o 10 (fun z => sd_sync h hn (fun _ => hp _ h) (fun y => absurd g y)) (fun z => absurd ho z)) (fun z => absurd z (by omega))) (fun z => absurd z (by omega))) (fun z => absurd z (by omega))
  · refine ⟨sd_clO n ow, con, sd_clH n ow con hom, run, nI (sd_cnt (fun b => ow b = n) 16), fun G hG _ h1 x hx => ⟨(hG x hx).1, ?_⟩, fun _ _ => ⟨g, fun x hx => sd_clO_ne hn⟩, fun e => absurd e (by omega), ?_⟩
    rotate_left
    · rintro rm ⟨r, a1, a2, a3, a4, a5, a6, a7, a8, a9, a10, a11, a12⟩ post h hp
      refine pk_lt 4 o (fun z => pk_lt 7 o (fun z => pk_lt 9 o (fun z => pk_eq o 10 (fun z => sd_sync h hn (fun y => absurd y g) (fun _ => ?_)) (fun z => absurd ho z)) (fun z => absurd z (by omega))) (fun z => absurd z (by omega))) (fun z => absurd z (by omega))
      rintro ⟨r', a1', a2', a3', a4', a5', a6', a7', a8', a9', a10', a11', a12'⟩ hs
      exact hp _ hs
    · by_cases e : ow x = n
      · rw [sd_clH_t e]; exact (hG x hx).1
      · rw [sd_clH_f e]; exact (hG x hx).2
theorem sd_t_crash (hn : n < 3) (ho : o = 11) : ∃ ow' con' hom' run' ret, sd_T ow con hom run o n a b v ow' con' hom' run' ret := by
  by_cases g : run n = 0
  · refine ⟨ow, con, hom, run, -3, fun G hG _ _ => hG, fun e => absurd e (by omega), fun e => absurd e (by omega), ?_⟩
    rintro rm ⟨r, a1, a2, a3, a4, a5, a6, a7, a8, a9, a10, a11, a12⟩ post h hp
    exact pk_lt 4 o (fun z => pk_lt 7 o (fun z => pk_lt 9 o (fun z => pk_eq o 10 (fun z => absurd z (by omega)) (fun z => pk_eq o 11 (fun z => sd_crash h hn (fun _ => hp _ h) (fun y => absurd g y)) (fun z => absurd ho z))) (fun z => absurd z (by omega))) (fun z => absurd z (by omega))) (fun z => absurd z (by omega))
  · refine ⟨sd_clO n ow, sd_drC n ow con hom, hom, upd run n 0, nI (sd_cnt (fun b => ow b = n) 16), fun G hG _ h1 x hx => ⟨?_, (hG x hx).2⟩, fun e => absurd e (by omega), fun e => absurd e (by omega), ?_⟩
    rotate_left
    · rintro rm ⟨r, a1, a2, a3, a4, a5, a6, a7, a8, a9, a10, a11, a12⟩ post h hp
      refine pk_lt 4 o (fun z => pk_lt 7 o (fun z => pk_lt 9 o (fun z => pk_eq o 10 (fun z => absurd z (by omega)) (fun z => pk_eq o 11 (fun z => sd_crash h hn (fun y => absurd y g) (fun _ => ?_)) (fun z => absurd ho z))) (fun z => absurd z (by omega))) (fun z => absurd z (by omega))) (fun z => absurd z (by omega))
      rintro ⟨r', a1', a2', a3', a4', a5', a6', a7', a8', a9', a10', a11', a12'⟩ hs
      exact hp _ hs
    · by_cases e : ow x = n
      · rw [sd_drC_t e]; exact (hG x hx).2
      · rw [sd_drC_f e]; exact (hG x hx).1
theorem sd_t_crashIn (hn : n < 3) (ho : o = 12) : ∃ ow' con' hom' run' ret, sd_T ow con hom run o n a b v ow' con' hom' run' ret := by
  by_cases g : run n = 0
  · refine ⟨ow, con, hom, run, -3, fun G hG _ _ => hG, fun e => absurd e (by omega), fun e => absurd e (by omega), ?_⟩
    rintro rm ⟨r, a1, a2, a3, a4, a5, a6, a7, a8, a9, a10, a11, a12⟩ post h hp
    exact pk_lt 4 o (fun z => pk_lt 7 o (fun z => pk_lt 9 o (fun z => pk_eq o 10 (fun z => absurd z (by omega)) (fun z => pk_eq o 11 (fun z => absurd z (by omega)) (fun z => pk_eq o 12 (fun z => br_c (fun k => sd_crashIn0 h hn (fun _ => hp _ h) (fun y => absurd g y)) (fun k => sd_crashIn1 h hn (fun _ => hp _ h) (fun y => absurd g y))) (fun z => absurd ho z)))) (fun z => absurd z (by omega))) (fun z => absurd z (by omega))) (fun z => absurd z (by omega))
  · by_cases k : nI v &&& 1 = 0
    · refine ⟨sd_clO n ow, sd_drC n ow con hom, hom, upd run n 0, nI (sd_cnt (fun b => ow b = n) 16), fun G hG _ h1 x hx => ⟨?_, (hG x hx).2⟩, fun e => absurd e (by omega), fun e => absurd e (by omega), ?_⟩
      rotate_left
      · rintro rm ⟨r, a1, a2, a3, a4, a5, a6, a7, a8, a9, a10, a11, a12⟩ post h hp
        refine pk_lt 4 o (fun z => pk_lt 7 o (fun z => pk_lt 9 o (fun z => pk_eq o 10 (fun z => absurd z (by omega)) (fun z => pk_eq o 11 (fun z => absurd z (by omega)) (fun z => pk_eq o 12 (fun z => br_t k (sd_crashIn0 h hn (fun y => absurd y g) (fun _ => ?_))) (fun z => absurd ho z)))) (fun z => absurd z (by omega))) (fun z => absurd z (by omega))) (fun z => absurd z (by omega))
        rintro ⟨r', a1', a2', a3', a4', a5', a6', a7', a8', a9', a10', a11', a12'⟩ hs
        exact hp _ hs
      · by_cases e : ow x = n
        · rw [sd_drC_t e]; exact (hG x hx).2
        · rw [sd_drC_f e]; exact (hG x hx).1
    · refine ⟨sd_clO n ow, con, sd_clH n ow con hom, upd run n 0, nI (sd_cnt (fun b => ow b = n) 16), fun G hG _ h1 x hx => ⟨(hG x hx).1, ?_⟩, fun e => absurd e (by omega), fun e => absurd e (by omega), ?_⟩
      rotate_left
      · rintro rm ⟨r, a1, a2, a3, a4, a5, a6, a7, a8, a9, a10, a11, a12⟩ post h hp
        refine pk_lt 4 o (fun z => pk_lt 7 o (fun z => pk_lt 9 o (fun z => pk_eq o 10 (fun z => absurd z (by omega)) (fun z => pk_eq o 11 (fun z => absurd z (by omega)) (fun z => pk_eq o 12 (fun z => br_f k (sd_crashIn1 h hn (fun y => absurd y g) (fun _ => ?_))) (fun z => absurd ho z)))) (fun z => absurd z (by omega))) (fun z => absurd z (by omega))) (fun z => absurd z (by omega))
        rintro ⟨r', a1', a2', a3', a4', a5', a6', a7', a8', a9', a10', a11', a12'⟩ hs
        exact hp _ hs
      · by_cases e : ow x = n
        · rw [sd_clH_t e]; exact (hG x hx).1
        · rw [sd_clH_f e]; exact (hG x hx).2
theorem sd_t_restart (hn : n < 3) (ho : 13 ≤ o) (ho' : o ≤ 14) : ∃ ow' con' hom' run' ret, sd_T ow con hom run o n a b v ow' con' hom' run' ret := by
  refine ⟨ow, con, hom, upd run n 1, if run n = 0 then 1 else 0, fun G hG _ _ => hG, fun e => absurd e (by omega), fun e => absurd e (by omega), ?_⟩
  rintro rm ⟨r, a1, a2, a3, a4, a5, a6, a7, a8, a9, a10, a11, a12⟩ post h hp
  refine pk_lt 4 o (fun z => pk_lt 7 o (fun z => pk_lt 9 o (fun z => pk_eq o 10 (fun z => absurd z (by omega)) (fun z => pk_eq o 11 (fun z => absurd z (by omega)) (fun z => pk_eq o 12 (fun z => absurd z (by omega)) (fun z => pk_lt 14 o (fun z => absurd z (by omega)) (fun z => sd_restart h hn ?_))))) (fun z => absurd z (by omega))) (fun z => absurd z (by omega))) (fun z => absurd z (by omega))
  rintro ⟨r', a1', a2', a3', a4', a5', a6', a7', a8', a9', a10', a11', a12'⟩ hs
  exact hp _ hs
theorem sd_t_cut (hg : sd_Gl ow con hom run) (ho : o = 15) : ∃ ow' con' hom' run' ret, sd_T ow con hom run o n a b v ow' con' hom' run' ret := by
  by_cases k : nI v &&& 1 = 0
  · refine ⟨(sd_pc hom (ow, con) 3).1, (sd_pc hom (ow, con) 3).2, hom, (fun _ => 1), sd_pr hom (ow, con) 3, fun G hG _ h1 x hx => ⟨sd_pc_G (hG x hx).1 (hG x hx).2 3, (hG x hx).2⟩, fun e => absurd e (by omega), fun _ _ x hx => ?_, ?_⟩
    rotate_left
    · rintro rm ⟨r, a1, a2, a3, a4, a5, a6, a7, a8, a9, a10, a11, a12⟩ post h hp
      refine pk_lt 4 o (fun z => pk_lt 7 o (fun z => pk_lt 9 o (fun z => pk_eq o 10 (fun z => absurd z (by omega)) (fun z => pk_eq o 11 (fun z => absurd z (by omega)) (fun z => pk_eq o 12 (fun z => absurd z (by omega)) (fun z => pk_lt 14 o (fun z => br_t k (sd_powerCut h ?_)) (fun z => absurd z (by omega)))))) (fun z => absurd z (by omega))) (fun z => absurd z (by omega))) (fun z => absurd z (by omega))
      rintro ⟨r', a1', a2', a3', a4', a5', a6', a7', a8', a9', a10', a11', a12'⟩ hs
      exact hp _ hs
    · obtain ⟨k1, k2⟩ := sd_pc_own (hom := hom) (p := (ow, con)) (b := x) (hg x hx).1 3 (by omega)
      have z0 := k2 0 (by omega)
      have z1 := k2 1 (by omega)
      have z2 := k2 2 (by omega)
      omega
  · refine ⟨ow, con, hom, run, 0, fun G hG _ _ => hG, fun e => absurd e (by omega), fun _ e => absurd e k, ?_⟩
    rintro rm ⟨r, a1, a2, a3, a4, a5, a6, a7, a8, a9, a10, a11, a12⟩ post h hp
    exact pk_lt 4 o (fun z => pk_lt 7 o (fun z => pk_lt 9 o (fun z => pk_eq o 10 (fun z => absurd z (by omega)) (fun z => pk_eq o 11 (fun z => absurd z (by omega)) (fun z => pk_eq o 12 (fun z => absurd z (by omega)) (fun z => pk_lt 14 o (fun z => br_f k (hp _ h)) (fun z => absurd z (by omega)))))) (fun z => absurd z (by omega))) (fun z => absurd z (by omega))) (fun z => absurd z (by omega))
theorem sd_turn (hg : sd_Gl ow con hom run) (ho : o < 16) (hn : n < 3) (ha : a < 16) (hb : b < 16) : ∃ ow' con' hom' run' ret, sd_T ow con hom run o n a b v ow' con' hom' run' ret := by
  by_cases h1 : o ≤ 4
  · exact sd_t_write hn ha h1
  · by_cases h2 : o ≤ 7
    · exact sd_t_read hn ha (by omega) h2
    · by_cases h3 : o ≤ 9
      · exact sd_t_swap hn ha hb (by omega) h3
      · by_cases h4 : o = 10
        · exact sd_t_sync hn h4
        · by_cases h5 : o = 11
          · exact sd_t_crash hn h5
          · by_cases h6 : o = 12
            · exact sd_t_crashIn hn h6
            · by_cases h7 : o ≤ 14
              · exact sd_t_restart hn (by omega) h7
              · exact sd_t_cut hg (by omega)
end
end
section
/-! the bits of 'written' -/
theorem sd_sm : ∀ k, k < 64 → ((nI k).toInt64 &&& 63).toBitVec.smod 64 = BitVec.ofNat 64 k := by decide +kernel
theorem sd_one : ∀ k, k < 64 → ((1 : Int64) <<< ((nI k).toInt64 &&& 63)).toBitVec.getLsbD k = true := by decide +kernel
def sd_bt (w : Int64) (k : Nat) : Bool := w.toBitVec.getLsbD k
theorem sd_bt_or (x y : Int64) (k : Nat) : sd_bt (x ||| y) k = (sd_bt x k || sd_bt y k) := by
  show (x ||| y).toBitVec.getLsbD k = _
  rw [Int64.toBitVec_or, BitVec.getLsbD_or]
  rfl
theorem sd_bt_test {w : Int64} {k : Nat} (hk : k < 64) (h : sd_bt w k = true) : ¬ ((w >>> ((nI k).toInt64 &&& 63)) &&& 1) = 0 := by
  intro z
  have t : ((w >>> ((nI k).toInt64 &&& 63)) &&& 1).toBitVec.getLsbD 0 = (0 : Int64).toBitVec.getLsbD 0 := by rw [z]
  rw [Int64.toBitVec_and, Int64.toBitVec_shiftRight, sd_sm k hk, BitVec.getLsbD_and] at t
  have e : (w.toBitVec.sshiftRight' (BitVec.ofNat 64 k)).getLsbD 0 = w.toBitVec.getLsbD k := by
    show (w.toBitVec.sshiftRight (BitVec.ofNat 64 k).toNat).getLsbD 0 = _
    rw [BitVec.toNat_ofNat, Nat.mod_eq_of_lt (by omega), BitVec.getLsbD_sshiftRight]
    simp [hk]
  rw [e, show w.toBitVec.getLsbD k = true from h] at t
  exact absurd t (by decide)
theorem sd_sh (a c : Nat) : 4 * nI a + nI c = nI (4 * a + c) := by
  show nI 4 * nI a + nI c = _
  rw [pk_mul, nI_add]
def sd_G (w : Int64) (b : Nat) (z : Int32) : Prop := ∃ c, c < 4 ∧ z = nI c ∧ sd_bt w (4 * b + c) = true
theorem sd_G_or {w m : Int64} {b : Nat} {z : Int32} (h : sd_G w b z) : sd_G (w ||| m) b z := by
  obtain ⟨c, hc, e, k⟩ := h
  exact ⟨c, hc, e, by rw [sd_bt_or, k, Bool.true_or]⟩
theorem sd_G_or' {w m : Int64} {b : Nat} {z : Int32} (h : sd_G m b z) : sd_G (w ||| m) b z := by
  obtain ⟨c, hc, e, k⟩ := h
  exact ⟨c, hc, e, by rw [sd_bt_or, k, Bool.or_true]⟩
theorem sd_G_new {b c : Nat} (hb : b < 16) (hc : c < 4) : sd_G ((1 : Int64) <<< ((4 * nI b + nI c).toInt64 &&& 63)) b (nI c) := by
  refine ⟨c, hc, rfl, ?_⟩
  rw [sd_sh]
  exact sd_one (4 * b + c) (by omega)
theorem sd_G_0 : ∀ b, b < 16 → sd_bt 1229782938247303441 (4 * b + 0) = true := by decide +kernel
/-! an object is made -/
theorem sd_Mt_new {rm : Nat} {a1 a9 : Nat → Int32} (h2 : 2 ≤ rm) (h8 : rm ≤ 8) (h1 : ∀ n, n < 3 → a1 n = 1) (h9 : ∀ i, i < 24 → a9 i = -1) : sd_Mt rm (fun _ => 3) (fun _ => 0) (fun _ => 0) (fun _ => 1) (nI rm, a1, (fun _ => 0), (fun _ => 0), (fun _ => 0), (fun _ => 0), (fun _ => 0), (fun _ => 0), (fun _ => 0), a9, (fun _ => 0), (fun _ => 0), (fun _ => 0)) := by
  refine sd_Mt_e.mpr ⟨⟨h2, h8, rfl, h1, fun _ _ => rfl, fun _ _ => ⟨0, by omega, rfl⟩, fun b hb => ⟨Nat.le_refl 3, fun _ => rfl, fun z => absurd (show 3 < 3 from z) (by omega)⟩, fun n hn => ⟨fun _ => none, sd_RJ_0 rfl, fun i hi => Or.inl ⟨h9 _ (by omega), rfl⟩, fun i j b hi hj hb e => ?_, fun b hb z => ?_, fun b hb z => absurd rfl z, fun b hb _ => ⟨?_, fun i hi e => ?_⟩⟩⟩, fun _ _ => rfl⟩
  · exact absurd (e.symm.trans (h9 _ (by omega))) (sd_nm1 b hb)
  · have z' : 3 = n := z
    omega
  · show 3 ≠ n
    omega
  · exact absurd (e.symm.trans (h9 _ (by omega))) (sd_nm1 b hb)
theorem sd_in120 {post : St1 → Prop} {mc ms : Nat} {rm : Nat} (h2 : 2 ≤ rm) (h8 : rm ≤ 8) (hp : ∀ rm s, sd_Mt rm (fun _ => 3) (fun _ => 0) (fun _ => 0) (fun _ => 1) s → post s) :
    ∃ fu, wX_init_120 post mc ms 12 247 (nI rm) fu 0 (fun _ => 0) (fun _ => 0) (fun _ => 0) (fun _ => 0) (fun _ => 0) (fun _ => 0) (fun _ => 0) (fun _ => 0) (fun _ => 0) (fun _ => 0) (fun _ => 0) (fun _ => 0) := by
  refine pk_loop (fun k i s => wX_init_120 post mc ms 12 247 (nI rm) k (nI i) (fun _ => 0) (fun _ => 0) (fun _ => 0) (fun _ => 0) (fun _ => 0) (fun _ => 0) (fun _ => 0) (fun _ => 0) s (fun _ => 0) (fun _ => 0) (fun _ => 0)) (fun i s => ∀ j, j < i → s j = -1) 24 0 (fun _ => 0) (by omega) (fun j hj => absurd hj (by omega)) ?_ ?_
  · intro k s hs
    refine pk_le 24 24 (fun _ => ?_) (fun z => absurd z (by omega))
    refine pk_loop (fun k i f => wX_init_141 post mc ms 12 247 (nI rm) k (nI i) f (fun _ => 0) (fun _ => 0) (fun _ => 0) (fun _ => 0) (fun _ => 0) (fun _ => 0) (fun _ => 0) s (fun _ => 0) (fun _ => 0) (fun _ => 0)) (fun i f => ∀ j, j < i → f j = 1) 3 0 (fun _ => 0) (by omega) (fun j hj => absurd hj (by omega)) ?_ ?_
    · intro k f hf
      exact pk_le 3 3 (fun _ => hp rm _ (sd_Mt_new h2 h8 hf hs)) (fun z => absurd z (by omega))
    · intro k i f hi hf hw
      refine pk_le 3 i (fun z => absurd z (by omega)) (fun _ => And.intro (pk_in i 3 hi) (nm_r (e' := upd f i 1) (by rw [nI_clamp (by omega)]) (nm_r (nI_1 i) (hw _ (fun j hj => ?_)))))
      by_cases g : j = i
      · rw [g, pk_us]
      · rw [pk_un g]; exact hf j (by omega)
  · intro k i s hi hs hw
    refine pk_le 24 i (fun z => absurd z (by omega)) (fun _ => And.intro (pk_in i 24 hi) (nm_r (e' := upd s i (-1)) (by rw [nI_clamp (by omega)]) (nm_r (nI_1 i) (hw _ (fun j hj => ?_)))))
    by_cases g : j = i
    · rw [g, pk_us]
    · rw [pk_un g]; exact hs j (by omega)
theorem sd_room {x : Int32} (h : 2 ≤ x) (h' : x ≤ 8) : ∃ rm, 2 ≤ rm ∧ rm ≤ 8 ∧ x = nI rm := by
  have t1 := Int32.le_iff_toInt_le.mp h
  have t2 := Int32.le_iff_toInt_le.mp h'
  have e1 : (2 : Int32).toInt = 2 := by decide
  have e2 : (8 : Int32).toInt = 8 := by decide
  rw [e1] at t1
  rw [e2] at t2
  obtain ⟨j, hj, e⟩ := nI_of (x := x) (fun z => by
    have t3 := Int32.lt_iff_toInt_lt.mp z
    have e3 : (0 : Int32).toInt = 0 := by decide
    rw [e3] at t3
    omega)
  rw [e, nI_toInt hj] at t1 t2
  exact ⟨j, by omega, by omega, e⟩
theorem sd_init {post : St1 → Prop} {mc ms : Nat} {f0 p0 : Int32} (h1 : 12 ≤ mc) (h2 : 247 ≤ ms) (hp : ∀ rm s, sd_Mt rm (fun _ => 3) (fun _ => 0) (fun _ => 0) (fun _ => 1) s → post s) : wpX_init post mc ms f0 p0 := by
  have key : ∀ x : Int32, 2 ≤ x → wX_init_104 post mc ms x 12 247 f0 (fun _ => 0) (fun _ => 0) (fun _ => 0) (fun _ => 0) (fun _ => 0) (fun _ => 0) (fun _ => 0) (fun _ => 0) (fun _ => 0) (fun _ => 0) (fun _ => 0) (fun _ => 0) := by
    intro x hx
    refine br_c (fun g => ?_) (fun g => sd_in120 (rm := 8) (by omega) (by omega) hp)
    obtain ⟨rm, r2, r8, e⟩ := sd_room hx g
    rw [e]
    exact sd_in120 r2 r8 hp
  unfold wpX_init
  refine ⟨by omega, by omega, by omega, by omega, by omega, by omega, by omega, by omega, by omega, by omega, by omega, by omega, by omega, by omega, by omega, by omega, by omega, by omega, by omega, by omega, by omega, by omega, by omega, by omega, ?_⟩
  exact br_c (fun g => key p0 g) (fun g => key 2 (by decide))
end
section
/-! the law's own methods and loops -/
def sd_al (con : Nat → Int32) : Nat → Int64
  | 0 => 0
  | k + 1 => sd_al con k * 4 + (con k).toInt64
theorem sd_al_congr {con con' : Nat → Int32} : ∀ k, (∀ b, b < k → con' b = con b) → sd_al con' k = sd_al con k := by
  intro k
  induction k with
  | zero => exact fun _ => rfl
  | succ k ih =>
    intro h
    show sd_al con' k * 4 + (con' k).toInt64 = sd_al con k * 4 + (con k).toInt64
    rw [ih (fun b hb => h b (by omega)), h k (by omega)]
section
variable {rx ry' : Nat} {ow : Nat → Nat} {con hom run : Nat → Int32} {r : Int32} {a1 a2 a3 a4 a5 a6 a7 a8 a9 a10 a11 a12 : Nat → Int32} {ry : Int32} {a1y a2y a3y a4y a5y a6y a7y a8y a9y a10y a11y a12y : Nat → Int32}
theorem sd_all {post : Int64 → Prop} (h : sd_M rx ow con hom run r a1 a2 a3 a4 a5 a6 a7 a8 a9 a10 a11 a12) (hp : post (sd_al con 16)) : wpL_all post (r, a1, a2, a3, a4, a5, a6, a7, a8, a9, a10, a11, a12) := by
  refine pk_loop (σ := Unit) (fun k i _ => wL_all_4 post r a1 a2 a3 a4 a5 a6 a7 a8 a9 a10 a11 a12 k (sd_al con i) (nI i)) (fun _ _ => True) 16 0 () (by omega) trivial ?_ ?_
  · intro k _ _
    exact pk_le 16 16 (fun _ => hp) (fun z => absurd z (by omega))
  · intro k i _ hi _ hw
    exact pk_le 16 i (fun z => absurd z (by omega)) (fun _ => sd_content h hi (nm_e (nm_r (nI_1 i) (hw () trivial))))
theorem sd_block {post : Int32 → Prop} {b : Nat} {w : Int64} (hx : sd_M rx ow con hom run r a1 a2 a3 a4 a5 a6 a7 a8 a9 a10 a11 a12) (hy : sd_M ry' ow con hom run ry a1y a2y a3y a4y a5y a6y a7y a8y a9y a10y a11y a12y) (hb : b < 16) (hc : sd_G w b (con b)) (hh : sd_G w b (hom b)) (hp : post 1) : wpL_block post (r, a1, a2, a3, a4, a5, a6, a7, a8, a9, a10, a11, a12, ry, a1y, a2y, a3y, a4y, a5y, a6y, a7y, a8y, a9y, a10y, a11y, a12y) (nI b) w := by
  obtain ⟨c, hc4, ec, bc⟩ := hc
  obtain ⟨d, hd4, ed, bd⟩ := hh
  obtain ⟨g1, g2, g3⟩ := hx.2.2.2.2.2.2.1 b hb
  unfold wpL_block
  refine sd_content hx hb (sd_safe hx hb (sd_owner hx hb (sd_content hy hb (br_t rfl (sd_safe hy hb (br_t rfl (sd_owner hy hb (br_t rfl ?_))))))))
  rw [ec, ed, sd_sh, sd_sh]
  refine br_f (nI_pos (by omega)) (pk_lt 3 c (fun z => absurd z (by omega)) (fun _ => br_f (sd_bt_test (by omega) bc) (br_f (nI_pos (by omega)) (pk_lt 3 d (fun z => absurd z (by omega)) (fun _ => br_f (sd_bt_test (by omega) bd) ?_)))))
  by_cases z : ow b < 3
  · rw [sd_ov_t z]
    exact br_f (nI_pos (by omega)) (pk_lt 2 (ow b) (fun y => absurd y (by omega)) (fun _ => sd_up hx z (fun e => absurd e (g3 z)) (fun _ => br_f (by decide) hp)))
  · rw [sd_ov_f z]
    exact br_t (by decide) (br_t rfl (br_t (by rw [← ec, ← ed]; exact g2 (by omega)) hp))
/-- both objects match one picture, and its contents were written -/
abbrev sd_I (rx ry' : Nat) (ow : Nat → Nat) (con hom run : Nat → Int32) (w : Int64) (s t : St1) : Prop := sd_Mt rx ow con hom run s ∧ sd_Mt ry' ow con hom run t ∧ ∀ b, b < 16 → sd_G w b (con b) ∧ sd_G w b (hom b)
variable {post : Int32 → Prop} {L : Nat} {xs : Nat → Int32} {J37 : Int64 → Int32 → Int32 → (Nat → Int32) → (Nat → Int32) → (Nat → Int32) → (Nat → Int32) → (Nat → Int32) → (Nat → Int32) → (Nat → Int32) → (Nat → Int32) → (Nat → Int32) → (Nat → Int32) → (Nat → Int32) → (Nat → Int32) → Int32 → (Nat → Int32) → (Nat → Int32) → (Nat → Int32) → (Nat → Int32) → (Nat → Int32) → (Nat → Int32) → (Nat → Int32) → (Nat → Int32) → (Nat → Int32) → (Nat → Int32) → (Nat → Int32) → (Nat → Int32) → Prop} {w : Int64} {i kc ks : Nat}
theorem sd_371 (hx : sd_M rx ow con hom run r a1 a2 a3 a4 a5 a6 a7 a8 a9 a10 a11 a12) (hy : sd_M ry' ow con hom run ry a1y a2y a3y a4y a5y a6y a7y a8y a9y a10y a11y a12y) (hJ : J37 w (nI (i + 3)) r a1 a2 a3 a4 a5 a6 a7 a8 a9 a10 a11 a12 ry a1y a2y a3y a4y a5y a6y a7y a8y a9y a10y a11y a12y) : ∃ fu, wL_law_371 post L xs J37 w (nI i) kc ks r a1 a2 a3 a4 a5 a6 a7 a8 a9 a10 a11 a12 ry a1y a2y a3y a4y a5y a6y a7y a8y a9y a10y a11y a12y fu 0 := by
  refine pk_loop (σ := Unit) (fun k m _ => wL_law_371 post L xs J37 w (nI i) kc ks r a1 a2 a3 a4 a5 a6 a7 a8 a9 a10 a11 a12 ry a1y a2y a3y a4y a5y a6y a7y a8y a9y a10y a11y a12y k (nI m)) (fun _ _ => True) 3 0 () (by omega) trivial ?_ ?_
  · intro k _ _
    exact pk_le 3 3 (fun _ => nm_r (nI_add i 3) hJ) (fun z => absurd z (by omega))
  · intro k m _ hm _ hw
    refine pk_le 3 m (fun z => absurd z (by omega)) (fun _ => ?_)
    exact sd_up hx hm (fun e => sd_up hy hm (fun _ => br_t rfl (sd_uns hx hm (sd_uns hy hm (br_t rfl (nm_r (nI_1 m) (hw () trivial)))))) (fun e' => absurd e e')) (fun e => sd_up hy hm (fun e' => absurd e' e) (fun _ => br_t rfl (sd_uns hx hm (sd_uns hy hm (br_t rfl (nm_r (nI_1 m) (hw () trivial)))))))
theorem sd_344 (hx : sd_M rx ow con hom run r a1 a2 a3 a4 a5 a6 a7 a8 a9 a10 a11 a12) (hy : sd_M ry' ow con hom run ry a1y a2y a3y a4y a5y a6y a7y a8y a9y a10y a11y a12y) (hJ : J37 w (nI (i + 3)) r a1 a2 a3 a4 a5 a6 a7 a8 a9 a10 a11 a12 ry a1y a2y a3y a4y a5y a6y a7y a8y a9y a10y a11y a12y) : wL_law_344 post L xs J37 w (nI i) (nI (sd_cnt (fun b => ow b < 3) 16)) kc ks r a1 a2 a3 a4 a5 a6 a7 a8 a9 a10 a11 a12 ry a1y a2y a3y a4y a5y a6y a7y a8y a9y a10y a11y a12y := by
  unfold wL_law_344
  refine sd_uns (n := 0) hx (by omega) (sd_uns (n := 1) hx (by omega) (sd_uns (n := 2) hx (by omega) (br_t ?_ (sd_371 hx hy hJ))))
  rw [nI_add, nI_add, sd_cnt_3]
theorem sd_281 {x6 x10 : Int32} (hx : sd_M rx ow con hom run r a1 a2 a3 a4 a5 a6 a7 a8 a9 a10 a11 a12) (hy : sd_M ry' ow con hom run ry a1y a2y a3y a4y a5y a6y a7y a8y a9y a10y a11y a12y) (hG : ∀ b, b < 16 → sd_G w b (con b) ∧ sd_G w b (hom b)) (hcut : x6 = 15 → x10 &&& 1 = 0 → ∀ b, b < 16 → ow b = 3) (hJ : J37 w (nI (i + 3)) r a1 a2 a3 a4 a5 a6 a7 a8 a9 a10 a11 a12 ry a1y a2y a3y a4y a5y a6y a7y a8y a9y a10y a11y a12y) : ∃ fu, wL_law_281 post L xs J37 w (nI i) x6 x10 kc ks r a1 a2 a3 a4 a5 a6 a7 a8 a9 a10 a11 a12 ry a1y a2y a3y a4y a5y a6y a7y a8y a9y a10y a11y a12y fu 0 0 := by
  refine pk_loop (σ := Unit) (fun k m _ => wL_law_281 post L xs J37 w (nI i) x6 x10 kc ks r a1 a2 a3 a4 a5 a6 a7 a8 a9 a10 a11 a12 ry a1y a2y a3y a4y a5y a6y a7y a8y a9y a10y a11y a12y k (nI (sd_cnt (fun b => ow b < 3) m)) (nI m)) (fun _ _ => True) 16 0 () (by omega) trivial ?_ ?_
  · intro k _ _
    refine pk_le 16 16 (fun _ => br_c (fun e => br_c (fun e' => br_t ?_ (sd_344 hx hy hJ)) (fun _ => sd_344 hx hy hJ)) (fun _ => sd_344 hx hy hJ)) (fun z => absurd z (by omega))
    rw [sd_cnt_0 (fun b hb z => by have := hcut e e' b hb; omega)]
    rfl
  · intro k m _ hm _ hw
    have hw' := hw () trivial
    refine pk_le 16 m (fun z => absurd z (by omega)) (fun _ => sd_block hx hy hm (hG m hm).1 (hG m hm).2 (br_f (by decide) (sd_owner hx hm ?_)))
    by_cases z : ow m < 3
    · rw [sd_ov_t z]
      rw [sd_cnt_t (p := fun b => ow b < 3) z] at hw'
      exact br_f (nI_pos (by omega)) (nm_r (nI_1 _) (nm_r (nI_1 _) hw'))
    · rw [sd_ov_f z]
      rw [sd_cnt_f (p := fun b => ow b < 3) z] at hw'
      exact br_t (by decide) (nm_r (nI_1 _) hw')
theorem sd_220 {x6 x10 x13 : Int32} {n : Nat} (hn : n < 3) (hI : sd_I rx ry' ow con hom run w (r, a1, a2, a3, a4, a5, a6, a7, a8, a9, a10, a11, a12) (ry, a1y, a2y, a3y, a4y, a5y, a6y, a7y, a8y, a9y, a10y, a11y, a12y)) (hs : x6 = 10 → ¬ x13 < 0 → run n ≠ 0 ∧ ∀ b, b < 16 → ow b ≠ n) (hcut : x6 = 15 → x10 &&& 1 = 0 → ∀ b, b < 16 → ow b = 3)
    (hJ : ∀ ow con hom run r a1 a2 a3 a4 a5 a6 a7 a8 a9 a10 a11 a12 ry a1y a2y a3y a4y a5y a6y a7y a8y a9y a10y a11y a12y, sd_I rx ry' ow con hom run w (r, a1, a2, a3, a4, a5, a6, a7, a8, a9, a10, a11, a12) (ry, a1y, a2y, a3y, a4y, a5y, a6y, a7y, a8y, a9y, a10y, a11y, a12y) → J37 w (nI (i + 3)) r a1 a2 a3 a4 a5 a6 a7 a8 a9 a10 a11 a12 ry a1y a2y a3y a4y a5y a6y a7y a8y a9y a10y a11y a12y) : wL_law_220 post L xs J37 w (nI i) x6 (nI n) x10 x13 kc ks r a1 a2 a3 a4 a5 a6 a7 a8 a9 a10 a11 a12 ry a1y a2y a3y a4y a5y a6y a7y a8y a9y a10y a11y a12y := by
  obtain ⟨hx, hy, hG⟩ := hI
  obtain ⟨mx, _⟩ := sd_Mt_e.mp hx
  obtain ⟨my, _⟩ := sd_Mt_e.mp hy
  have h0 := sd_281 (post := post) (L := L) (xs := xs) (kc := kc) (ks := ks) (x6 := x6) (x10 := x10) mx my hG hcut (hJ ow con hom run r a1 a2 a3 a4 a5 a6 a7 a8 a9 a10 a11 a12 ry a1y a2y a3y a4y a5y a6y a7y a8y a9y a10y a11y a12y ⟨hx, hy, hG⟩)
  refine br_c (fun e => br_c (fun _ => h0) (fun g => br_c (fun _ => sd_all mx ?_) (fun _ => h0))) (fun _ => h0)
  obtain ⟨hu, ho⟩ := hs e g
  have hcon : ∀ b, b < 16 → sd_drC n ow con hom b = con b := fun b hb => sd_drC_f (ho b hb)
  have hz : sd_cnt (fun b => ow b = n) 16 = 0 := sd_cnt_0 (fun b hb z => ho b hb z)
  refine sd_crash hx hn (fun z => absurd z hu) (fun _ => ?_)
  rintro ⟨rp, a1p, a2p, a3p, a4p, a5p, a6p, a7p, a8p, a9p, a10p, a11p, a12p⟩ hxp
  rw [hz]
  refine br_t rfl (sd_crash hy hn (fun z => absurd z hu) (fun _ => ?_))
  rintro ⟨rq, a1q, a2q, a3q, a4q, a5q, a6q, a7q, a8q, a9q, a10q, a11q, a12q⟩ hyq
  rw [hz]
  obtain ⟨mxp, _⟩ := sd_Mt_e.mp hxp
  obtain ⟨myq, _⟩ := sd_Mt_e.mp hyq
  have hG' : ∀ b, b < 16 → sd_G w b (sd_drC n ow con hom b) ∧ sd_G w b (hom b) := by
    intro b hb
    rw [hcon b hb]
    exact hG b hb
  refine br_t rfl (sd_all mxp (br_t (sd_al_congr 16 hcon) ?_))
  exact sd_281 mxp myq hG' (fun z => absurd (e.symm.trans z) (by decide)) (hJ _ _ _ _ _ _ _ _ _ _ _ _ _ _ _ _ _ _ _ _ _ _ _ _ _ _ _ _ _ _ ⟨hxp, hyq, hG'⟩)
end
end
section
/-! the law -/
theorem sd_cond {L i : Nat} (hL : L ≤ 260) (hi : i ≤ 1000) (h : ¬ Int32.ofNat L - 3 < nI i) : i + 3 ≤ L := by
  have e : (nI L - nI 3).toInt = (L : Int) - (3 : Nat) := pk_sub_toInt (by omega) (by omega)
  have e2 := nI_toInt (n := i) (by omega)
  refine Decidable.byContradiction (fun z => h (Int32.lt_iff_toInt_lt.mpr ?_))
  show (nI L - nI 3).toInt < (nI i).toInt
  rw [e, e2]
  omega
section
variable {rx ry' : Nat} {ow : Nat → Nat} {con hom run : Nat → Int32} {r : Int32} {a1 a2 a3 a4 a5 a6 a7 a8 a9 a10 a11 a12 : Nat → Int32} {ry : Int32} {a1y a2y a3y a4y a5y a6y a7y a8y a9y a10y a11y a12y : Nat → Int32}
variable {post : Int32 → Prop} {L : Nat} {xs : Nat → Int32} {J37 : Int64 → Int32 → Int32 → (Nat → Int32) → (Nat → Int32) → (Nat → Int32) → (Nat → Int32) → (Nat → Int32) → (Nat → Int32) → (Nat → Int32) → (Nat → Int32) → (Nat → Int32) → (Nat → Int32) → (Nat → Int32) → (Nat → Int32) → Int32 → (Nat → Int32) → (Nat → Int32) → (Nat → Int32) → (Nat → Int32) → (Nat → Int32) → (Nat → Int32) → (Nat → Int32) → (Nat → Int32) → (Nat → Int32) → (Nat → Int32) → (Nat → Int32) → (Nat → Int32) → Prop} {w : Int64} {i kc ks : Nat}
theorem sd_179 {x10 ret : Int32} {o n a b ca cb : Nat} (ho : o < 16) (hn : n < 3) (ha : a < 16) (hb : b < 16) (hca : ca < 4) (hcb : cb < 4) (hx : sd_Mt rx ow con hom run (r, a1, a2, a3, a4, a5, a6, a7, a8, a9, a10, a11, a12)) (hy : sd_Mt ry' ow con hom run (ry, a1y, a2y, a3y, a4y, a5y, a6y, a7y, a8y, a9y, a10y, a11y, a12y))
    (hGo : ∀ w', (∀ x z, sd_G w x z → sd_G w' x z) → (8 ≤ o → o ≤ 9 → ¬ ret < 0 → sd_G w' a (nI cb) ∧ sd_G w' b (nI ca)) → ∀ x, x < 16 → sd_G w' x (con x) ∧ sd_G w' x (hom x))
    (hs : o = 10 → ¬ ret < 0 → run n ≠ 0 ∧ ∀ b, b < 16 → ow b ≠ n) (hcut : o = 15 → x10 &&& 1 = 0 → ∀ b, b < 16 → ow b = 3)
    (hJ : ∀ w' ow con hom run r a1 a2 a3 a4 a5 a6 a7 a8 a9 a10 a11 a12 ry a1y a2y a3y a4y a5y a6y a7y a8y a9y a10y a11y a12y, sd_I rx ry' ow con hom run w' (r, a1, a2, a3, a4, a5, a6, a7, a8, a9, a10, a11, a12) (ry, a1y, a2y, a3y, a4y, a5y, a6y, a7y, a8y, a9y, a10y, a11y, a12y) → J37 w' (nI (i + 3)) r a1 a2 a3 a4 a5 a6 a7 a8 a9 a10 a11 a12 ry a1y a2y a3y a4y a5y a6y a7y a8y a9y a10y a11y a12y) : wL_law_179 post L xs J37 w (nI i) (nI o) (nI n) (nI a) (nI b) x10 (nI ca) (nI cb) ret kc ks r a1 a2 a3 a4 a5 a6 a7 a8 a9 a10 a11 a12 ry a1y a2y a3y a4y a5y a6y a7y a8y a9y a10y a11y a12y := by
  have s6 : nI o = 10 → ¬ ret < 0 → run n ≠ 0 ∧ ∀ b, b < 16 → ow b ≠ n := fun e => hs ((nI_eq (a := o) (b := 10) (by omega) (by omega)).mp e)
  have c6 : nI o = 15 → x10 &&& 1 = 0 → ∀ b, b < 16 → ow b = 3 := fun e => hcut ((nI_eq (a := o) (b := 15) (by omega) (by omega)).mp e)
  have same : (8 ≤ o → o ≤ 9 → ret < 0) → wL_law_220 post L xs J37 w (nI i) (nI o) (nI n) x10 ret kc ks r a1 a2 a3 a4 a5 a6 a7 a8 a9 a10 a11 a12 ry a1y a2y a3y a4y a5y a6y a7y a8y a9y a10y a11y a12y := fun h => sd_220 hn ⟨hx, hy, hGo w (fun _ _ z => z) (fun h1 h2 h3 => absurd (h h1 h2) h3)⟩ s6 c6 (hJ w)
  refine pk_lt o 8 (fun z => same (fun h1 h2 => absurd h1 (by omega))) (fun z => pk_lt 9 o (fun z => same (fun h1 h2 => absurd h2 (by omega))) (fun z => br_c (fun hr => same (fun _ _ => hr)) (fun hr => nm_e ?_)))
  exact sd_220 hn ⟨hx, hy, hGo _ (fun _ _ z => sd_G_or z) (fun _ _ _ => ⟨sd_G_or' (sd_G_or (sd_G_new ha hcb)), sd_G_or' (sd_G_or' (sd_G_new hb hca))⟩)⟩ s6 c6 (hJ _)
end
theorem sd_37 {L : Nat} {xs : Nat → Int32} {kc ks rx ry' : Nat} (hL : L ≤ 260) : ∀ (fu i : Nat) (w : Int64) (ow : Nat → Nat) (con hom run : Nat → Int32) r a1 a2 a3 a4 a5 a6 a7 a8 a9 a10 a11 a12 ry a1y a2y a3y a4y a5y a6y a7y a8y a9y a10y a11y a12y, sd_I rx ry' ow con hom run w (r, a1, a2, a3, a4, a5, a6, a7, a8, a9, a10, a11, a12) (ry, a1y, a2y, a3y, a4y, a5y, a6y, a7y, a8y, a9y, a10y, a11y, a12y) → i ≤ L + 3 → L + 5 < i + fu → wL_law_37 (fun r => r = 1) L xs kc ks fu w (nI i) r a1 a2 a3 a4 a5 a6 a7 a8 a9 a10 a11 a12 ry a1y a2y a3y a4y a5y a6y a7y a8y a9y a10y a11y a12y := by
  intro fu
  induction fu with
  | zero =>
    intros
    omega
  | succ fu ih =>
    intro i w ow con hom run r a1 a2 a3 a4 a5 a6 a7 a8 a9 a10 a11 a12 ry a1y a2y a3y a4y a5y a6y a7y a8y a9y a10y a11y a12y hI h2 h3
    obtain ⟨hx, hy, hG⟩ := hI
    obtain ⟨mx, _⟩ := sd_Mt_e.mp hx
    refine br_c (fun _ => rfl) (fun g => ?_)
    have hi := sd_cond hL (by omega) g
    obtain ⟨o, ho, eo⟩ := pk_andE (xs (nI i).toNatClampNeg) (m := 15) 4 (by decide)
    obtain ⟨q, hq, eq⟩ := pk_andE (xs (nI i).toNatClampNeg >>> ((4 : Int32) &&& 31)) (m := 1023) 10 (by decide)
    obtain ⟨a, ha, ea⟩ := pk_andE (xs (nI i + 1).toNatClampNeg) (m := 15) 4 (by decide)
    obtain ⟨b, hb, eb⟩ := pk_andE (xs (nI i + 1).toNatClampNeg >>> ((4 : Int32) &&& 31)) (m := 15) 4 (by decide)
    obtain ⟨v, hv, ev⟩ := pk_andE (xs (nI i + 2).toNatClampNeg) (m := 3) 2 (by decide)
    have hq' : q < 1024 := hq
    have ho' : o < 16 := ho
    have ha' : a < 16 := ha
    have hb' : b < 16 := hb
    have hv' : v < 4 := hv
    have hn : q % 3 < 3 := Nat.mod_lt _ (by decide)
    have en : (xs (nI i).toNatClampNeg >>> ((4 : Int32) &&& 31) &&& 1023) - (xs (nI i).toNatClampNeg >>> ((4 : Int32) &&& 31) &&& 1023) / 3 * 3 = nI (q % 3) := by
      rw [eq]
      exact pk_rem (d := 3) (by omega) (by decide) (by decide)
    refine And.intro (pk_in i L (by omega)) (nm_r eo (And.intro (pk_in i L (by omega)) (And.intro (by decide) (nm_r en (And.intro (pk_in (i + 1) L (by omega) (nI_1 i)) (nm_r ea (And.intro (pk_in (i + 1) L (by omega) (nI_1 i)) (nm_r eb (And.intro (pk_in (i + 2) L (by omega) (nI_add i 2)) (nm_r ev (sd_content mx ha' (sd_content mx hb' ?_))))))))))))
    obtain ⟨ow', con', hom', run', ret, t1, t2, t3, hop⟩ := sd_turn (v := v) mx.2.2.2.2.2.2.1 ho' hn ha' hb'
    refine hop rx (r, a1, a2, a3, a4, a5, a6, a7, a8, a9, a10, a11, a12) _ hx ?_
    rintro ⟨rp, a1p, a2p, a3p, a4p, a5p, a6p, a7p, a8p, a9p, a10p, a11p, a12p⟩ hxp
    refine hop ry' (ry, a1y, a2y, a3y, a4y, a5y, a6y, a7y, a8y, a9y, a10y, a11y, a12y) _ hy ?_
    rintro ⟨rq, a1q, a2q, a3q, a4q, a5q, a6q, a7q, a8q, a9q, a10q, a11q, a12q⟩ hyq
    obtain ⟨ca, hca, eca, bca⟩ := (hG a ha').1
    obtain ⟨cb, hcb, ecb, bcb⟩ := (hG b hb').1
    rw [eca, ecb] at t1
    rw [eca, ecb]
    have hJ : ∀ w' ow con hom run r a1 a2 a3 a4 a5 a6 a7 a8 a9 a10 a11 a12 ry a1y a2y a3y a4y a5y a6y a7y a8y a9y a10y a11y a12y, sd_I rx ry' ow con hom run w' (r, a1, a2, a3, a4, a5, a6, a7, a8, a9, a10, a11, a12) (ry, a1y, a2y, a3y, a4y, a5y, a6y, a7y, a8y, a9y, a10y, a11y, a12y) → wL_law_37 (fun r => r = 1) L xs kc ks fu w' (nI (i + 3)) r a1 a2 a3 a4 a5 a6 a7 a8 a9 a10 a11 a12 ry a1y a2y a3y a4y a5y a6y a7y a8y a9y a10y a11y a12y := fun w' ow con hom run r a1 a2 a3 a4 a5 a6 a7 a8 a9 a10 a11 a12 ry a1y a2y a3y a4y a5y a6y a7y a8y a9y a10y a11y a12y h => ih (i + 3) w' ow con hom run r a1 a2 a3 a4 a5 a6 a7 a8 a9 a10 a11 a12 ry a1y a2y a3y a4y a5y a6y a7y a8y a9y a10y a11y a12y h (by omega) (by omega)
    refine br_t rfl (pk_lt 4 o (fun z => ?_) (fun z => br_c (fun hr => ?_) (fun hr => nm_e ?_)))
    · exact sd_179 ho' hn ha' hb' hca hcb hxp hyq (fun w' hw h89 => t1 (sd_G w') (fun x hx => ⟨hw _ _ (hG x hx).1, hw _ _ (hG x hx).2⟩) (fun z' => absurd z' (by omega)) h89) t2 t3 hJ
    · exact sd_179 ho' hn ha' hb' hca hcb hxp hyq (fun w' hw h89 => t1 (sd_G w') (fun x hx => ⟨hw _ _ (hG x hx).1, hw _ _ (hG x hx).2⟩) (fun _ z' => absurd hr z') h89) t2 t3 hJ
    · exact sd_179 ho' hn ha' hb' hca hcb hxp hyq (fun w' hw h89 => t1 (sd_G w') (fun x hx => ⟨hw _ _ (sd_G_or (hG x hx).1), hw _ _ (sd_G_or (hG x hx).2)⟩) (fun _ _ => hw _ _ (sd_G_or' (sd_G_new ha' hv'))) h89) t2 t3 hJ
theorem sd_26 {L : Nat} {xs : Nat → Int32} {z0 : Int32} {rx : Nat} (hL : L ≤ 260) {r : Int32} {a1 a2 a3 a4 a5 a6 a7 a8 a9 a10 a11 a12 : Nat → Int32} (hx : sd_Mt rx (fun _ => 3) (fun _ => 0) (fun _ => 0) (fun _ => 1) (r, a1, a2, a3, a4, a5, a6, a7, a8, a9, a10, a11, a12)) : wL_law_26 (fun r => r = 1) L xs z0 (1 + 12 + 1) (13 + 247 + 13) r a1 a2 a3 a4 a5 a6 a7 a8 a9 a10 a11 a12 0 := by
  unfold wL_law_26
  refine ⟨12, 247, by omega, by omega, sd_init (by omega) (by omega) ?_⟩
  rintro ry' ⟨ry, a1y, a2y, a3y, a4y, a5y, a6y, a7y, a8y, a9y, a10y, a11y, a12y⟩ hy
  exact ⟨L + 10, sd_37 hL (L + 10) 1 _ _ _ _ _ r a1 a2 a3 a4 a5 a6 a7 a8 a9 a10 a11 a12 ry a1y a2y a3y a4y a5y a6y a7y a8y a9y a10y a11y a12y ⟨hx, hy, fun b hb => ⟨⟨0, by omega, rfl, sd_G_0 b hb⟩, ⟨0, by omega, rfl, sd_G_0 b hb⟩⟩⟩ (by omega) (by omega)⟩
theorem i_vc (xs : Nat → Int32) (L : Nat) (hL : L ≤ 260) : wpL_law (fun r => r = 1) L xs := by
  unfold wpL_law
  refine ⟨12, 247, by omega, by omega, sd_init (by omega) (by omega) ?_⟩
  rintro rx ⟨r, a1, a2, a3, a4, a5, a6, a7, a8, a9, a10, a11, a12⟩ hx
  exact ⟨by omega, by omega, pk_le L 0 (fun _ => sd_26 hL hx) (fun z => And.intro (pk_in 0 L z) (sd_26 hL hx))⟩
end
