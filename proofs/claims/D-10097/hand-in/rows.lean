section
/-! ===== bits of an Int32: the family of kit/laws/BITS.to-paste under names of ours, and rows of our own ===== -/
def il_b (x : Int32) (i : Nat) : Bool := x.toBitVec.getLsbD i
theorem il_ext {x y : Int32} (h : ∀ i, i < 32 → il_b x i = il_b y i) : x = y := Int32.toBitVec_inj.mp (BitVec.eq_of_getLsbD_eq (fun i hi => h i hi))
theorem il_or (x y : Int32) (i : Nat) : il_b (x ||| y) i = (il_b x i || il_b y i) := by unfold il_b; rw [Int32.toBitVec_or, BitVec.getLsbD_or]
theorem il_and (x y : Int32) (i : Nat) : il_b (x &&& y) i = (il_b x i && il_b y i) := by unfold il_b; rw [Int32.toBitVec_and, BitVec.getLsbD_and]
theorem il_xor (x y : Int32) (i : Nat) : il_b (x ^^^ y) i = (il_b x i ^^ il_b y i) := by unfold il_b; rw [Int32.toBitVec_xor, BitVec.getLsbD_xor]
theorem il_big {x : Int32} {i : Nat} (h : 32 ≤ i) : il_b x i = false := BitVec.getLsbD_of_ge _ _ h
theorem il_m1 : ∀ i, i < 32 → il_b (-1) i = true := by decide +kernel
theorem il_0 (i : Nat) : il_b 0 i = false := BitVec.getLsbD_zero
theorem il_sl : ∀ n, n < 32 → ((nI n &&& 31).toBitVec.smod 32).toNat = n := by decide +kernel
theorem il_shl (n : Nat) (hn : n < 32) (x : Int32) {i : Nat} (hi : i < 32) : il_b (x <<< (nI n &&& 31)) i = (decide (n ≤ i) && il_b x (i - n)) := by
  unfold il_b
  rw [Int32.toBitVec_shiftLeft]
  show (x.toBitVec <<< ((nI n &&& 31).toBitVec.smod 32).toNat).getLsbD i = _
  rw [il_sl n hn, BitVec.getLsbD_shiftLeft]
  rcases Nat.lt_or_ge i n with h | h
  · simp [h, Nat.not_le.mpr h]
  · simp [hi, h, Nat.not_lt.mpr h]
theorem il_sshr (n : Nat) (hn : n < 32) (x : Int32) {i : Nat} (hi : i < 32) : il_b (x >>> (nI n &&& 31)) i = if n + i < 32 then il_b x (n + i) else il_b x 31 := by
  unfold il_b
  rw [Int32.toBitVec_shiftRight]
  show (x.toBitVec.sshiftRight ((nI n &&& 31).toBitVec.smod 32).toNat).getLsbD i = _
  rw [il_sl n hn, BitVec.getLsbD_sshiftRight, BitVec.msb_eq_getLsbD_last]
  simp [hi]
theorem il_one : ∀ i, i < 32 → il_b 1 i = decide (i = 0) := by decide +kernel
theorem il_all : ∀ i, i < 32 → il_b 1048575 i = decide (i < 20) := by decide +kernel
theorem il_not (x : Int32) {i : Nat} (hi : i < 32) : il_b (x ^^^ (-1)) i = !(il_b x i) := by
  rw [il_xor, il_m1 i hi, Bool.xor_true]
theorem il_sh1 {n : Nat} (hn : n < 32) {i : Nat} (hi : i < 32) : il_b ((1 : Int32) <<< (nI n &&& 31)) i = decide (i = n) := by
  rw [il_shl n hn _ hi, il_one (i - n) (by omega), Bool.eq_iff_iff]
  simp only [Bool.and_eq_true, decide_eq_true_eq]
  omega
theorem il_bit (x : Int32) {k : Nat} (hk : k < 32) : (x >>> (nI k &&& 31)) &&& 1 = if il_b x k = true then 1 else 0 := by
  apply il_ext
  intro i hi
  rw [il_and, il_sshr k hk x hi, il_one i hi]
  by_cases e : i = 0
  · subst e
    rw [Nat.add_zero, if_pos hk]
    cases il_b x k
    · decide
    · decide
  · rw [decide_eq_false e, Bool.and_false]
    split
    · rw [il_one i hi, decide_eq_false e]
    · rw [il_0]
theorem il_bit1 (x : Int32) {k : Nat} (hk : k < 32) : (x >>> (nI k &&& 31)) &&& 1 = 1 ↔ il_b x k = true := by
  rw [il_bit x hk]
  cases il_b x k
  · decide
  · decide
theorem il_bit0 (x : Int32) {k : Nat} (hk : k < 32) : (x >>> (nI k &&& 31)) &&& 1 = 0 ↔ il_b x k = false := by
  rw [il_bit x hk]
  cases il_b x k
  · decide
  · decide
theorem il_z {x : Int32} : x = 0 ↔ ∀ i, i < 32 → il_b x i = false :=
  ⟨fun e i _ => by rw [e]; exact il_0 i, fun h => il_ext (fun i hi => by rw [h i hi, il_0])⟩
theorem il_nz {x : Int32} (h : ¬ x = 0) : ∃ i, i < 32 ∧ il_b x i = true := by
  apply Classical.byContradiction
  intro hn
  apply h
  apply il_z.mpr
  intro i hi
  cases e : il_b x i
  · rfl
  · exact absurd ⟨i, hi, e⟩ hn
theorem il_new {r y : Int32} : r &&& (y ^^^ (-1)) = 0 ↔ ∀ i, i < 32 → il_b r i = true → il_b y i = true := by
  rw [il_z]
  constructor
  · intro h i hi hr
    have t := h i hi
    rw [il_and, il_not y hi, hr, Bool.true_and] at t
    cases e : il_b y i
    · rw [e] at t; exact absurd t (by decide)
    · rfl
  · intro h i hi
    rw [il_and, il_not y hi]
    cases e : il_b r i
    · rfl
    · rw [h i hi e]; rfl
theorem il_newN {r y : Int32} (h : ¬ r &&& (y ^^^ (-1)) = 0) : ∃ i, i < 32 ∧ il_b r i = true ∧ il_b y i = false := by
  obtain ⟨i, hi, t⟩ := il_nz h
  rw [il_and, il_not y hi, Bool.and_eq_true] at t
  refine ⟨i, hi, t.1, ?_⟩
  cases e : il_b y i
  · rfl
  · rw [e] at t; exact absurd t.2 (by decide)
theorem il_br {x : Int32} {A B : Prop} {k : Nat} (hk : k < 32) (f : il_b x k = true → A) (g : il_b x k = false → B) : ((x >>> (nI k &&& 31)) &&& 1 = 1 → A) ∧ (¬ (x >>> (nI k &&& 31)) &&& 1 = 1 → B) := by
  refine ⟨fun z => f ((il_bit1 x hk).mp z), fun z => g ?_⟩
  cases e : il_b x k
  · rfl
  · exact absurd ((il_bit1 x hk).mpr e) z
theorem il_br0 {x : Int32} {A B : Prop} {k : Nat} (hk : k < 32) (f : il_b x k = false → A) (g : il_b x k = true → B) : ((x >>> (nI k &&& 31)) &&& 1 = 0 → A) ∧ (¬ (x >>> (nI k &&& 31)) &&& 1 = 0 → B) := by
  refine ⟨fun z => f ((il_bit0 x hk).mp z), fun z => g ?_⟩
  cases e : il_b x k
  · exact absurd ((il_bit0 x hk).mpr e) z
  · rfl
theorem il_tf {b : Bool} (h : ¬ b = true) : b = false := by cases b; rfl; exact absurd rfl h
theorem il_ft {b : Bool} (h : b = true) (g : b = false) : False := by rw [h] at g; exact absurd g (by decide)
theorem il_updsame (f : Nat → Int32) (k : Nat) : upd f k (f k) = f := by
  funext j
  by_cases e : j = k
  · rw [e, pk_us]
  · rw [pk_un e]
theorem il_updupd (f : Nat → Int32) (k : Nat) (x y : Int32) : upd (upd f k x) k y = upd f k y := by
  funext j
  by_cases e : j = k
  · rw [e, pk_us, pk_us]
  · rw [pk_un e, pk_un e, pk_un e]
end
section
/-! ===== counting ===== -/
def il_cnt (p : Nat → Bool) : Nat → Nat
  | 0 => 0
  | n + 1 => il_cnt p n + (if p n = true then 1 else 0)
theorem il_cnt_le (p : Nat → Bool) : ∀ n, il_cnt p n ≤ n
  | 0 => Nat.le_refl 0
  | n + 1 => by
    have h := il_cnt_le p n
    show il_cnt p n + (if p n = true then 1 else 0) ≤ n + 1
    split <;> omega
theorem il_cnt_mono {p q : Nat → Bool} : ∀ n, (∀ i, i < n → p i = true → q i = true) → il_cnt p n ≤ il_cnt q n
  | 0, _ => Nat.le_refl 0
  | n + 1, h => by
    have t := il_cnt_mono n (fun i hi => h i (by omega))
    show il_cnt p n + (if p n = true then 1 else 0) ≤ il_cnt q n + (if q n = true then 1 else 0)
    by_cases e : p n = true
    · rw [if_pos e, if_pos (h n (by omega) e)]; omega
    · rw [if_neg e]; omega
theorem il_cnt_lt {p q : Nat → Bool} : ∀ n, (∀ i, i < n → p i = true → q i = true) → ∀ k, k < n → p k = false → q k = true → il_cnt p n < il_cnt q n
  | 0, _, k, hk, _, _ => absurd hk (by omega)
  | n + 1, h, k, hk, hp, hq => by
    show il_cnt p n + (if p n = true then 1 else 0) < il_cnt q n + (if q n = true then 1 else 0)
    by_cases e : k = n
    · have t := il_cnt_mono n (fun i hi => h i (Nat.lt_succ_of_lt hi))
      rw [← e, hp, if_pos hq, if_neg (by decide)]
      rw [← e] at t
      omega
    · have t := il_cnt_lt n (fun i hi => h i (Nat.lt_succ_of_lt hi)) k (by omega) hp hq
      by_cases g : p n = true
      · rw [if_pos g, if_pos (h n (Nat.lt_succ_self n) g)]; omega
      · rw [if_neg g]; omega
theorem il_cnt_pos {p : Nat → Bool} {n k : Nat} (hk : k < n) (h : p k = true) : 1 ≤ il_cnt p n := by
  have t := il_cnt_lt (p := fun _ => false) (q := p) n (fun i _ z => absurd z (by decide)) k hk rfl h
  omega
/-- how many of the 12 times 20 bits are set -/
def il_C (l : Nat → Int32) : Nat := il_cnt (fun k => il_b (l (k / 20)) (k % 20)) 240
theorem il_C_le (l : Nat → Int32) : il_C l ≤ 240 := il_cnt_le _ 240
theorem il_C_mono {l l' : Nat → Int32} (h : ∀ x v, x < 12 → v < 32 → il_b (l x) v = true → il_b (l' x) v = true) : il_C l ≤ il_C l' :=
  il_cnt_mono 240 (fun i hi => h (i / 20) (i % 20) (by omega) (by omega))
theorem il_C_lt {l l' : Nat → Int32} (h : ∀ x v, x < 12 → v < 32 → il_b (l x) v = true → il_b (l' x) v = true) {x v : Nat} (hx : x < 12) (hv : v < 20) (h0 : il_b (l x) v = false) (h1 : il_b (l' x) v = true) : il_C l < il_C l' := by
  have e1 : (x * 20 + v) / 20 = x := by omega
  have e2 : (x * 20 + v) % 20 = v := by omega
  refine il_cnt_lt 240 (fun i hi => h (i / 20) (i % 20) (by omega) (by omega)) (x * 20 + v) (by omega) ?_ ?_
  · show il_b (l ((x * 20 + v) / 20)) ((x * 20 + v) % 20) = false
    rw [e1, e2]; exact h0
  · show il_b (l' ((x * 20 + v) / 20)) ((x * 20 + v) % 20) = true
    rw [e1, e2]; exact h1
/-! ===== the liveness equations ===== -/
/-- what is due at block x in variable v, if P says where v is live -/
def il_F (a1 a3 a4 : Nat → Int32) (v : Nat) (P : Nat → Prop) (x : Nat) : Prop :=
  il_b (a3 x) v = true ∨ ((∃ c, c < 12 ∧ il_b (a1 x) c = true ∧ P c) ∧ il_b (a4 x) v = false)
/-- block x holds all that is due -/
def il_up (a1 a3 a4 l : Nat → Int32) (x : Nat) : Prop :=
  ∀ v, v < 32 → il_F a1 a3 a4 v (fun c => il_b (l c) v = true) x → il_b (l x) v = true
/-- nothing is live without need -/
def il_low (a1 a3 a4 l : Nat → Int32) : Prop :=
  ∀ v, v < 32 → ∀ P : Nat → Prop, (∀ x, x < 12 → il_F a1 a3 a4 v P x → P x) → ∀ x, x < 12 → il_b (l x) v = true → P x
def il_tr (a1 a2 : Nat → Int32) : Prop := ∀ x y, x < 12 → y < 12 → il_b (a1 x) y = il_b (a2 y) x
def il_20 (a3 : Nat → Int32) : Prop := ∀ x v, x < 12 → 20 ≤ v → il_b (a3 x) v = false
def il_inv (a1 a2 a3 a4 l : Nat → Int32) : Prop :=
  il_tr a1 a2 ∧ il_20 a3 ∧ il_low a1 a3 a4 l ∧ ∀ x, x < 12 → il_up a1 a3 a4 l x
theorem il_F_mono {a1 a3 a4 : Nat → Int32} {v : Nat} {P Q : Nat → Prop} {x : Nat} (h : ∀ c, c < 12 → P c → Q c) (hf : il_F a1 a3 a4 v P x) : il_F a1 a3 a4 v Q x := by
  rcases hf with z | ⟨⟨c, hc, he, hp⟩, hs⟩
  · exact Or.inl z
  · exact Or.inr ⟨⟨c, hc, he, h c hc hp⟩, hs⟩
theorem il_F_eq {a1 a3 a4 b1 b3 b4 : Nat → Int32} {v : Nat} {P : Nat → Prop} {x : Nat} (h1 : ∀ c, c < 12 → il_b (a1 x) c = il_b (b1 x) c) (h3 : a3 x = b3 x) (h4 : a4 x = b4 x) (hf : il_F a1 a3 a4 v P x) : il_F b1 b3 b4 v P x := by
  rcases hf with z | ⟨⟨c, hc, he, hp⟩, hs⟩
  · exact Or.inl (by rw [← h3]; exact z)
  · exact Or.inr ⟨⟨c, hc, by rw [← h1 c hc]; exact he, hp⟩, by rw [← h4]; exact hs⟩
theorem il_live20 {a1 a3 a4 l : Nat → Int32} (h3 : il_20 a3) (hl : il_low a1 a3 a4 l) : ∀ x v, x < 12 → 20 ≤ v → v < 32 → il_b (l x) v = false := by
  intro x v hx h20 hv
  apply il_tf
  intro hb
  refine hl v hv (fun _ => False) ?_ x hx hb
  intro y hy hf
  rcases hf with z | ⟨⟨c, _, _, hp⟩, _⟩
  · exact il_ft z (h3 y v hy h20)
  · exact hp
theorem il_F20 {a1 a3 a4 l : Nat → Int32} (h3 : il_20 a3) (hl : ∀ x v, x < 12 → 20 ≤ v → v < 32 → il_b (l x) v = false) {x v : Nat} (hx : x < 12) (hv : v < 32) (hf : il_F a1 a3 a4 v (fun c => il_b (l c) v = true) x) : v < 20 := by
  rcases Nat.lt_or_ge v 20 with z | z
  · exact z
  · rcases hf with g | ⟨⟨c, hc, _, hp⟩, _⟩
    · exact (il_ft g (h3 x v hx z)).elim
    · exact (il_ft hp (hl c v hc z hv)).elim
theorem il_fix {a1 a2 a3 a4 l : Nat → Int32} (h : il_inv a1 a2 a3 a4 l) {x v : Nat} (hx : x < 12) (hv : v < 32) : il_b (l x) v = true ↔ il_F a1 a3 a4 v (fun c => il_b (l c) v = true) x := by
  obtain ⟨_, _, hl, hu⟩ := h
  constructor
  · intro hb
    refine hl v hv (fun y => il_F a1 a3 a4 v (fun c => il_b (l c) v = true) y) ?_ x hx hb
    intro y hy hf
    exact il_F_mono (fun c hc hp => hu c hc v hv hp) hf
  · exact hu x hx v hv
theorem il_uniq1 {a1 a2 a3 a4 l b1 b2 m : Nat → Int32} (ha : il_inv a1 a2 a3 a4 l) (hb : il_inv b1 b2 a3 a4 m) (h1 : ∀ x y, x < 12 → y < 12 → il_b (a1 x) y = il_b (b1 x) y) {x v : Nat} (hx : x < 12) (hv : v < 32) (h : il_b (l x) v = true) : il_b (m x) v = true :=
  ha.2.2.1 v hv (fun y => il_b (m y) v = true) (fun y hy hf => hb.2.2.2 y hy v hv (il_F_eq (fun c hc => h1 y c hy hc) rfl rfl hf)) x hx h
theorem il_uniq {a1 a2 a3 a4 l b1 b2 m : Nat → Int32} (ha : il_inv a1 a2 a3 a4 l) (hb : il_inv b1 b2 a3 a4 m) (h1 : ∀ x y, x < 12 → y < 12 → il_b (a1 x) y = il_b (b1 x) y) {x : Nat} (hx : x < 12) : l x = m x :=
  il_ext (fun v hv => Bool.eq_iff_iff.mpr ⟨il_uniq1 ha hb h1 hx hv, il_uniq1 hb ha (fun y c hy hc => (h1 y c hy hc).symm) hx hv⟩)
theorem il_inv0 : il_inv (fun _ => 0) (fun _ => 0) (fun _ => 0) (fun _ => 0) (fun _ => 0) := by
  refine ⟨fun x y _ _ => by rw [il_0, il_0], fun x v _ _ => il_0 v, fun v hv P hP x hx hb => (il_ft hb (il_0 v)).elim, fun x hx v hv hf => ?_⟩
  rcases hf with g | ⟨⟨c, hc, g, hp⟩, _⟩
  · exact (il_ft g (il_0 v)).elim
  · exact (il_ft g (il_0 c)).elim
/-! ===== one store into live ===== -/
theorem il_low_step {a1 a3 a4 l : Nat → Int32} {i : Nat} {r : Int32} (hi : i < 12) (hl : il_low a1 a3 a4 l) (hr : ∀ v, v < 32 → il_b r v = true → il_F a1 a3 a4 v (fun c => il_b (l c) v = true) i) : il_low a1 a3 a4 (upd l i (l i ||| r)) := by
  intro v hv P hP x hx hb
  by_cases e : x = i
  · subst e
    rw [pk_us, il_or, Bool.or_eq_true] at hb
    rcases hb with z | z
    · exact hl v hv P hP x hx z
    · exact hP x hx (il_F_mono (fun c hc hp => hl v hv P hP c hc hp) (hr v hv z))
  · rw [pk_un e] at hb
    exact hl v hv P hP x hx hb
theorem il_mono_step {l : Nat → Int32} {i : Nat} {r : Int32} {x v : Nat} (h : il_b (l x) v = true) : il_b (upd l i (l i ||| r) x) v = true := by
  by_cases e : x = i
  · subst e
    rw [pk_us, il_or, h, Bool.true_or]
  · rw [pk_un e]; exact h
theorem il_F_step {a1 a3 a4 l : Nat → Int32} {i y v : Nat} {z : Int32} (hy : il_b (a1 y) i = false) (hf : il_F a1 a3 a4 v (fun c => il_b (upd l i z c) v = true) y) : il_F a1 a3 a4 v (fun c => il_b (l c) v = true) y := by
  rcases hf with g | ⟨⟨c, hc, he, hp⟩, hs⟩
  · exact Or.inl g
  · refine Or.inr ⟨⟨c, hc, he, ?_⟩, hs⟩
    by_cases e : c = i
    · subst e
      exact (il_ft he hy).elim
    · have hp' : il_b (upd l i z c) v = true := hp
      rw [pk_un e] at hp'
      exact hp'
theorem il_C_step {a1 a3 a4 l : Nat → Int32} {i : Nat} {r : Int32} (hi : i < 12) (h3 : il_20 a3) (hl : ∀ x v, x < 12 → 20 ≤ v → v < 32 → il_b (l x) v = false) (hr : ∀ v, v < 32 → il_b r v = true → il_F a1 a3 a4 v (fun c => il_b (l c) v = true) i) (hn : ¬ r &&& (l i ^^^ (-1)) = 0) : il_C l < il_C (upd l i (l i ||| r)) := by
  obtain ⟨v, hv, h1, h0⟩ := il_newN hn
  refine il_C_lt (fun x w _ _ h => il_mono_step h) hi (il_F20 h3 hl hi hv (hr v hv h1)) h0 ?_
  rw [pk_us, il_or, h1, Bool.or_true]
end
section
/-! ===== methods that only read ===== -/
theorem il_bad {post : Int32 → Prop} {a1 a2 a3 a4 a5 : Nat → Int32} {b : Nat} (hb : b < 12) (h : post 0) : wpX_bad post (a1, a2, a3, a4, a5) (nI b) :=
  br_f (nI_pos (by omega)) (pk_lt b 12 (fun _ => h) (fun z => absurd hb (by omega)))
theorem il_badV {post : Int32 → Prop} {a1 a2 a3 a4 a5 : Nat → Int32} {b : Nat} (hb : b < 20) (h : post 0) : wpX_badVariable post (a1, a2, a3, a4, a5) (nI b) :=
  br_f (nI_pos (by omega)) (pk_lt b 20 (fun _ => h) (fun z => absurd hb (by omega)))
/-- r is what is live at the end of block b -/
def il_E (a1 l : Nat → Int32) (b : Nat) (r : Int32) : Prop := ∀ v, v < 32 → (il_b r v = true ↔ ∃ c, c < 12 ∧ il_b (a1 b) c = true ∧ il_b (l c) v = true)
def il_EI (a1 l : Nat → Int32) (b i : Nat) (r : Int32) : Prop := ∀ v, v < 32 → (il_b r v = true ↔ ∃ c, c < i ∧ il_b (a1 b) c = true ∧ il_b (l c) v = true)
theorem il_EI0 {a1 l : Nat → Int32} {b : Nat} : il_EI a1 l b 0 0 := by
  intro v hv
  rw [il_0]
  exact ⟨fun z => absurd z (by decide), fun ⟨c, hc, _⟩ => absurd hc (by omega)⟩
theorem il_EI1 {a1 l : Nat → Int32} {b i : Nat} {r : Int32} (h : il_EI a1 l b i r) (hc : il_b (a1 b) i = true) : il_EI a1 l b (i + 1) (r ||| l i) := by
  intro v hv
  rw [il_or, Bool.or_eq_true, h v hv]
  constructor
  · rintro (⟨c, h1, h2, h3⟩ | z)
    · exact ⟨c, by omega, h2, h3⟩
    · exact ⟨i, by omega, hc, z⟩
  · rintro ⟨c, h1, h2, h3⟩
    by_cases e : c = i
    · subst e; exact Or.inr h3
    · exact Or.inl ⟨c, by omega, h2, h3⟩
theorem il_EI2 {a1 l : Nat → Int32} {b i : Nat} {r : Int32} (h : il_EI a1 l b i r) (hc : il_b (a1 b) i = false) : il_EI a1 l b (i + 1) r := by
  intro v hv
  rw [h v hv]
  constructor
  · rintro ⟨c, h1, h2, h3⟩
    exact ⟨c, by omega, h2, h3⟩
  · rintro ⟨c, h1, h2, h3⟩
    by_cases e : c = i
    · subst e; exact (il_ft h2 hc).elim
    · exact ⟨c, by omega, h2, h3⟩
theorem il_E_eq {a1 l b1 m : Nat → Int32} {b : Nat} {r s : Int32} (hr : il_E a1 l b r) (hs : il_E b1 m b s) (h1 : ∀ c, c < 12 → il_b (a1 b) c = il_b (b1 b) c) (h5 : ∀ c, c < 12 → l c = m c) : r = s := by
  apply il_ext
  intro v hv
  rw [Bool.eq_iff_iff, hr v hv, hs v hv]
  constructor
  · rintro ⟨c, g1, g2, g3⟩
    exact ⟨c, g1, by rw [← h1 c g1]; exact g2, by rw [← h5 c g1]; exact g3⟩
  · rintro ⟨c, g1, g2, g3⟩
    exact ⟨c, g1, by rw [h1 c g1]; exact g2, by rw [h5 c g1]; exact g3⟩
theorem il_atEnd {post : Int32 → Prop} {a1 a2 a3 a4 a5 : Nat → Int32} {b : Nat} (hb : b < 12) (H : ∀ r, il_E a1 a5 b r → post r) : wpX_atEnd post (a1, a2, a3, a4, a5) (nI b) := by
  show ∃ fu4 : Nat, wX_atEnd_4 post (nI b) a1 a2 a3 a4 a5 fu4 0 0
  refine pk_loop (fun n i s => wX_atEnd_4 post (nI b) a1 a2 a3 a4 a5 n s (nI i)) (fun i s => il_EI a1 a5 b i s) 12 0 (0 : Int32) (by omega) il_EI0 ?_ ?_
  · intro n s h
    exact pk_le 12 12 (fun _ => H s h) (fun z => absurd z (by omega))
  · intro n i s hi h hw
    show wX_atEnd_4 post (nI b) a1 a2 a3 a4 a5 (n + 1) s (nI i)
    refine pk_le 12 i (fun z => absurd z (by omega)) (fun _ => ⟨pk_in b 12 hb, ?_⟩)
    rw [nI_clamp (show b < 2 ^ 31 by omega), nI_clamp (show i < 2 ^ 31 by omega)]
    exact il_br (by omega) (fun hc => ⟨pk_in i 12 hi, nm_e (nm_r (nI_1 i) (hw _ (il_EI1 h hc)))⟩) (fun hc => nm_r (nI_1 i) (hw _ (il_EI2 h hc)))
theorem il_due {post : Int32 → Prop} {a1 a2 a3 a4 a5 : Nat → Int32} {b : Nat} (hb : b < 12) (H : ∀ r, (∀ v, v < 32 → (il_b r v = true ↔ il_F a1 a3 a4 v (fun c => il_b (a5 c) v = true) b)) → post r) : wpX_due post (a1, a2, a3, a4, a5) (nI b) := by
  unfold wpX_due
  dsimp only
  refine ⟨pk_in b 12 hb, il_atEnd hb (fun r hr => ⟨pk_in b 12 hb, ?_⟩)⟩
  rw [nI_clamp (show b < 2 ^ 31 by omega)]
  apply H
  intro v hv
  rw [il_or, il_and, il_not _ hv, Bool.or_eq_true, Bool.and_eq_true, hr v hv, Bool.not_eq_true']
  exact Iff.rfl
/-! ===== the component's behind: a set closed under predecessors ===== -/
def il_cl (a2 : Nat → Int32) (s : Int32) : Prop := ∀ x y, x < 12 → y < 12 → il_b s x = true → il_b (a2 x) y = true → il_b s y = true
theorem il_bh15 {post : Int32 → Prop} {J : Int32 → Int32 → Prop} {x3 : Int32} {a1 a2 a3 a4 a5 : Nat → Int32} {s0 : Int32}
    (H : ∀ s, (∀ y, y < 32 → il_b s0 y = true → il_b s y = true) → (il_cl a2 s0 → il_cl a2 s) → ((∀ y, y < 12 → il_b s y = true → il_b s0 y = true) → il_cl a2 s0) → J s (x3 + 1)) :
    ∃ n, wX_behind_15 post J x3 a1 a2 a3 a4 a5 n s0 0 := by
  refine pk_loop (fun n i s => wX_behind_15 post J x3 a1 a2 a3 a4 a5 n s (nI i)) (fun i s => (∀ y, y < 32 → il_b s0 y = true → il_b s y = true) ∧ (il_cl a2 s0 → il_cl a2 s) ∧ (∀ x y, x < i → y < 12 → il_b s0 x = true → il_b (a2 x) y = true → il_b s y = true)) 12 0 s0 (by omega) ?_ ?_ ?_
  · exact ⟨fun _ _ h => h, fun h => h, fun x y hx => absurd hx (by omega)⟩
  · intro n s h
    obtain ⟨h1, h2, h3⟩ := h
    exact pk_le 12 12 (fun _ => nm_e (H s h1 h2 (fun g x y hx hy h4 h5 => g y hy (h3 x y hx hy h4 h5)))) (fun z => absurd z (by omega))
  · intro n i s hi h hw
    obtain ⟨h1, h2, h3⟩ := h
    show wX_behind_15 post J x3 a1 a2 a3 a4 a5 (n + 1) s (nI i)
    refine pk_le 12 i (fun z => absurd z (by omega)) (fun _ => ?_)
    rw [nI_clamp (show i < 2 ^ 31 by omega)]
    refine il_br (by omega) (fun hc => ⟨pk_in i 12 hi, nm_e (nm_r (nI_1 i) (hw _ ⟨?_, ?_, ?_⟩))⟩) (fun hc => nm_r (nI_1 i) (hw _ ⟨h1, h2, ?_⟩))
    · intro y hy hs
      rw [il_or, h1 y hy hs, Bool.true_or]
    · intro g x y hx hy hs ha
      have gs := h2 g
      rw [il_or, Bool.or_eq_true] at hs ⊢
      rcases hs with z | z
      · exact Or.inl (gs x y hx hy z ha)
      · exact Or.inl (gs x y hx hy (gs i x hi hx hc z) ha)
    · intro x y hx hy hs ha
      rw [il_or, Bool.or_eq_true]
      by_cases e : x = i
      · subst e; exact Or.inr ha
      · exact Or.inl (h3 x y (by omega) hy hs ha)
    · intro x y hx hy hs ha
      by_cases e : x = i
      · subst e; exact (il_ft (h1 x (by omega) hs) hc).elim
      · exact h3 x y (by omega) hy hs ha
theorem il_behind {post : Int32 → Prop} {a1 a2 a3 a4 a5 : Nat → Int32} {b : Nat} (hb : b < 12) (H : ∀ r, il_b r b = true → il_cl a2 r → post r) : wpX_behind post (a1, a2, a3, a4, a5) (nI b) := by
  unfold wpX_behind
  dsimp only
  refine nm_e ?_
  have hb0 : il_b ((1 : Int32) <<< (nI b &&& 31)) b = true := by
    rw [il_sh1 (by omega) (by omega)]
    exact decide_eq_true rfl
  refine pk_loop (fun n i s => wX_behind_6 post a1 a2 a3 a4 a5 n s (nI i)) (fun i s => il_b s b = true ∧ (il_cl a2 s ∨ i + 1 ≤ il_cnt (il_b s) 12)) 12 0 ((1 : Int32) <<< (nI b &&& 31)) (by omega) ?_ ?_ ?_
  · exact ⟨hb0, Or.inr (il_cnt_pos hb hb0)⟩
  · intro n s h
    obtain ⟨h1, h2⟩ := h
    refine pk_le 12 12 (fun _ => H s h1 ?_) (fun z => absurd z (by omega))
    rcases h2 with z | z
    · exact z
    · have := il_cnt_le (il_b s) 12
      omega
  · intro n i s hi h hw
    obtain ⟨h1, h2⟩ := h
    show wX_behind_6 post a1 a2 a3 a4 a5 (n + 1) s (nI i)
    refine pk_le 12 i (fun z => absurd z (by omega)) (fun _ => il_bh15 (fun s' g1 g2 g3 => ?_))
    rw [nI_1]
    refine hw s' ⟨g1 b (by omega) h1, ?_⟩
    rcases h2 with z | z
    · exact Or.inl (g2 z)
    · by_cases e : ∀ y, y < 12 → il_b s' y = true → il_b s y = true
      · exact Or.inl (g2 (g3 e))
      · right
        have ⟨y, hy⟩ := Classical.not_forall.mp e
        have ⟨hy1, hy2⟩ := Classical.not_imp.mp hy
        have ⟨hy3, hy4⟩ := Classical.not_imp.mp hy2
        have t := il_cnt_lt (p := il_b s) (q := il_b s') 12 (fun k hk => g1 k (by omega)) y hy1 (il_tf hy4) hy3
        omega
/-! ===== questions ===== -/
theorem il_liveIn {post : Int32 → Prop} {a1 a2 a3 a4 a5 : Nat → Int32} {b : Nat} (hb : b < 12) (h : post (a5 b)) : wpX_liveIn post (a1, a2, a3, a4, a5) (nI b) := by
  unfold wpX_liveIn
  dsimp only
  refine il_bad hb (br_t rfl ⟨pk_in b 12 hb, ?_⟩)
  rw [nI_clamp (show b < 2 ^ 31 by omega)]
  exact h
theorem il_liveOut {post : Int32 → Prop} {a1 a2 a3 a4 a5 : Nat → Int32} {b : Nat} (hb : b < 12) (H : ∀ r, il_E a1 a5 b r → post r) : wpX_liveOut post (a1, a2, a3, a4, a5) (nI b) := by
  unfold wpX_liveOut
  dsimp only
  exact il_bad hb (br_t rfl (il_atEnd hb H))
theorem il_hasArc {post : Int32 → Prop} {a1 a2 a3 a4 a5 : Nat → Int32} {b c : Nat} (hb : b < 12) (hc : c < 12) (h1 : il_b (a1 b) c = true → post 1) (h0 : il_b (a1 b) c = false → post 0) : wpX_hasArc post (a1, a2, a3, a4, a5) (nI b) (nI c) := by
  unfold wpX_hasArc
  dsimp only
  refine il_bad hb (br_t rfl (il_bad hc (br_t rfl ⟨pk_in b 12 hb, ?_⟩)))
  rw [nI_clamp (show b < 2 ^ 31 by omega)]
  exact il_br (by omega) h1 h0
theorem il_lbehind {post : Int32 → Prop} {a1 a2 a3 a4 a5 : Nat → Int32} {b : Nat} (hb : b < 12) (H : ∀ r, il_E a1 a5 b r → post r) : wpL_behind post (a1, a2, a3, a4, a5) (nI b) := by
  show ∃ fu4 : Nat, wL_behind_4 post (nI b) a1 a2 a3 a4 a5 fu4 0 0
  refine pk_loop (fun n i s => wL_behind_4 post (nI b) a1 a2 a3 a4 a5 n s (nI i)) (fun i s => il_EI a1 a5 b i s) 12 0 (0 : Int32) (by omega) il_EI0 ?_ ?_
  · intro n s h
    exact pk_le 12 12 (fun _ => H s h) (fun z => absurd z (by omega))
  · intro n i s hi h hw
    show wL_behind_4 post (nI b) a1 a2 a3 a4 a5 (n + 1) s (nI i)
    refine pk_le 12 i (fun z => absurd z (by omega)) (fun _ => il_hasArc hb hi (fun hc => ?_) (fun hc => ?_))
    · exact br_f (by decide) (il_liveIn hi (nm_e (nm_r (nI_1 i) (hw _ (il_EI1 h hc)))))
    · exact br_t rfl (nm_r (nI_1 i) (hw _ (il_EI2 h hc)))
theorem il_liveBlocks {post : Int32 → Prop} {a1 a2 a3 a4 a5 : Nat → Int32} {v : Nat} (hv : v < 20) (H : ∀ r, (∀ y, y < 12 → il_b r y = il_b (a5 y) v) → post r) : wpX_liveBlocks post (a1, a2, a3, a4, a5) (nI v) := by
  unfold wpX_liveBlocks
  dsimp only
  refine il_badV hv (br_t rfl ?_)
  refine pk_loop (fun n i s => wX_liveBlocks_14 post (nI v) a1 a2 a3 a4 a5 n s (nI i)) (fun i s => ∀ y, y < 12 → il_b s y = (decide (y < i) && il_b (a5 y) v)) 12 0 (0 : Int32) (by omega) ?_ ?_ ?_
  · intro y hy
    rw [il_0]
    rfl
  · intro n s h
    refine pk_le 12 12 (fun _ => H s (fun y hy => ?_)) (fun z => absurd z (by omega))
    rw [h y hy, decide_eq_true hy, Bool.true_and]
  · intro n i s hi h hw
    show wX_liveBlocks_14 post (nI v) a1 a2 a3 a4 a5 (n + 1) s (nI i)
    refine pk_le 12 i (fun z => absurd z (by omega)) (fun _ => ⟨pk_in i 12 hi, ?_⟩)
    rw [nI_clamp (show i < 2 ^ 31 by omega)]
    refine il_br (by omega) (fun hc => nm_e (nm_r (nI_1 i) (hw _ (fun y hy => ?_)))) (fun hc => nm_r (nI_1 i) (hw _ (fun y hy => ?_)))
    · rw [il_or, h y hy, il_sh1 (by omega) (by omega)]
      by_cases e : y = i
      · subst e
        rw [hc, decide_eq_true rfl, Bool.or_true, decide_eq_true (Nat.lt_succ_self y)]
        rfl
      · rw [decide_eq_false e, Bool.or_false]
        congr 1
        rw [Bool.eq_iff_iff, decide_eq_true_eq, decide_eq_true_eq]
        omega
    · rw [h y hy]
      by_cases e : y = i
      · subst e
        rw [hc, Bool.and_false, Bool.and_false]
      · congr 1
        rw [Bool.eq_iff_iff, decide_eq_true_eq, decide_eq_true_eq]
        omega
end
section
/-! ===== spread ===== -/
theorem il_sp23 {post : St1 → Prop} {J : Int32 → Int32 → (Nat → Int32) → (Nat → Int32) → (Nat → Int32) → (Nat → Int32) → (Nat → Int32) → Prop} {op x3 : Int32} {a1 a2 a3 a4 l0 : Nat → Int32} {R : Nat}
    (htr : il_tr a1 a2) (h3 : il_20 a3) (hlow : il_low a1 a3 a4 l0) (hup : ∀ y, y < 12 → il_up a1 a3 a4 l0 y ∨ il_b op y = true) (hR : R ≤ il_C l0)
    (H : ∀ nx l, il_low a1 a3 a4 l → (∀ y, y < 12 → il_up a1 a3 a4 l y ∨ il_b nx y = true) → (¬ nx = 0 → R + 1 ≤ il_C l) → J nx (x3 + 1) a1 a2 a3 a4 l) :
    ∃ n, wX_spread_23 post J op x3 n 0 0 a1 a2 a3 a4 l0 := by
  refine pk_loop (fun n i (s : Int32 × (Nat → Int32)) => wX_spread_23 post J op x3 n s.1 (nI i) a1 a2 a3 a4 s.2)
    (fun i s => il_low a1 a3 a4 s.2 ∧ (∀ y, y < 12 → il_up a1 a3 a4 s.2 y ∨ (i ≤ y ∧ il_b op y = true) ∨ il_b s.1 y = true) ∧ R ≤ il_C s.2 ∧ (¬ s.1 = 0 → R + 1 ≤ il_C s.2)) 12 0 ((0 : Int32), l0) (by omega) ?_ ?_ ?_
  · refine ⟨hlow, fun y hy => ?_, hR, fun z => absurd rfl z⟩
    rcases hup y hy with z | z
    · exact Or.inl z
    · exact Or.inr (Or.inl ⟨by omega, z⟩)
  · intro n s h
    obtain ⟨nx, l⟩ := s
    have g1 : il_low a1 a3 a4 l := h.1
    have g2 : ∀ y, y < 12 → il_up a1 a3 a4 l y ∨ (12 ≤ y ∧ il_b op y = true) ∨ il_b nx y = true := h.2.1
    have g4 : ¬ nx = 0 → R + 1 ≤ il_C l := h.2.2.2
    show wX_spread_23 post J op x3 (n + 1) nx (nI 12) a1 a2 a3 a4 l
    refine pk_le 12 12 (fun _ => nm_e (H nx l g1 (fun y hy => ?_) g4)) (fun z => absurd z (by omega))
    rcases g2 y hy with z | z | z
    · exact Or.inl z
    · exact absurd z.1 (by omega)
    · exact Or.inr z
  · intro n i s hi h hw
    obtain ⟨nx, l⟩ := s
    have g1 : il_low a1 a3 a4 l := h.1
    have g2 : ∀ y, y < 12 → il_up a1 a3 a4 l y ∨ (i ≤ y ∧ il_b op y = true) ∨ il_b nx y = true := h.2.1
    have g3 : R ≤ il_C l := h.2.2.1
    have g4 : ¬ nx = 0 → R + 1 ≤ il_C l := h.2.2.2
    show wX_spread_23 post J op x3 (n + 1) nx (nI i) a1 a2 a3 a4 l
    refine pk_le 12 i (fun z => absurd z (by omega)) (fun _ => ?_)
    refine il_br (by omega) (fun hc => il_due hi (fun r hr => ⟨pk_in i 12 hi, ?_⟩)) (fun hc => nm_r (nI_1 i) (hw (nx, l) ⟨g1, fun y hy => ?_, g3, g4⟩))
    · rw [nI_clamp (show i < 2 ^ 31 by omega)]
      refine br_c (fun hz => nm_r (nI_1 i) (hw (nx, l) ⟨g1, fun y hy => ?_, g3, g4⟩)) (fun hz => ⟨pk_in i 12 hi, pk_in i 12 hi, nm_e ⟨pk_in i 12 hi, nm_e (nm_r (nI_1 i) (hw (nx ||| a2 i, upd l i (l i ||| r)) ?_))⟩⟩)
      · by_cases e : y = i
        · subst e
          exact Or.inl (fun v hv hf => il_new.mp hz v hv ((hr v hv).mpr hf))
        · rcases g2 y hy with z | z | z
          · exact Or.inl z
          · exact Or.inr (Or.inl ⟨by omega, z.2⟩)
          · exact Or.inr (Or.inr z)
      · have hr' : ∀ v, v < 32 → il_b r v = true → il_F a1 a3 a4 v (fun c => il_b (l c) v = true) i := fun v hv => (hr v hv).mp
        have hC := il_C_step hi h3 (il_live20 h3 g1) hr' hz
        refine ⟨il_low_step hi g1 hr', fun y hy => ?_, ?_, fun _ => ?_⟩
        · show il_up a1 a3 a4 (upd l i (l i ||| r)) y ∨ (i + 1 ≤ y ∧ il_b op y = true) ∨ il_b (nx ||| a2 i) y = true
          cases hed : il_b (a1 y) i
          · by_cases e : y = i
            · subst e
              refine Or.inl (fun v hv hf => ?_)
              rw [pk_us, il_or, (hr v hv).mpr (il_F_step hed hf), Bool.or_true]
            · rcases g2 y hy with z | z | z
              · refine Or.inl (fun v hv hf => ?_)
                rw [pk_un e]
                exact z v hv (il_F_step hed hf)
              · exact Or.inr (Or.inl ⟨by omega, z.2⟩)
              · exact Or.inr (Or.inr (by rw [il_or, z, Bool.true_or]))
          · refine Or.inr (Or.inr ?_)
            rw [il_or, ← htr y i hy hi, hed, Bool.or_true]
        · show R ≤ il_C (upd l i (l i ||| r))
          omega
        · show R + 1 ≤ il_C (upd l i (l i ||| r))
          omega
    · show il_up a1 a3 a4 l y ∨ (i + 1 ≤ y ∧ il_b op y = true) ∨ il_b nx y = true
      rcases g2 y hy with z | z | z
      · exact Or.inl z
      · by_cases e : y = i
        · subst e
          exact (il_ft z.2 hc).elim
        · exact Or.inr (Or.inl ⟨by omega, z.2⟩)
      · exact Or.inr (Or.inr z)
theorem il_spread {post : St1 → Prop} {a1 a2 a3 a4 a5 : Nat → Int32} {b : Nat} (hb : b < 12) (htr : il_tr a1 a2) (h3 : il_20 a3) (hlow : il_low a1 a3 a4 a5) (hup : ∀ y, y < 12 → y ≠ b → il_up a1 a3 a4 a5 y)
    (H : ∀ l, il_inv a1 a2 a3 a4 l → post (a1, a2, a3, a4, l)) : wpX_spread post (a1, a2, a3, a4, a5) (nI b) := by
  unfold wpX_spread
  dsimp only
  refine nm_e ?_
  refine pk_loop (fun n i (s : Int32 × (Nat → Int32)) => wX_spread_6 post n s.1 (nI i) a1 a2 a3 a4 s.2)
    (fun i s => il_low a1 a3 a4 s.2 ∧ (∀ y, y < 12 → il_up a1 a3 a4 s.2 y ∨ il_b s.1 y = true) ∧ (¬ s.1 = 0 → i ≤ il_C s.2)) 241 0 ((1 : Int32) <<< (nI b &&& 31), a5) (by omega) ?_ ?_ ?_
  · refine ⟨hlow, fun y hy => ?_, fun _ => Nat.zero_le _⟩
    show il_up a1 a3 a4 a5 y ∨ il_b ((1 : Int32) <<< (nI b &&& 31)) y = true
    by_cases e : y = b
    · right
      rw [il_sh1 (by omega) (by omega)]
      exact decide_eq_true e
    · exact Or.inl (hup y hy e)
  · intro n s h
    obtain ⟨op, l⟩ := s
    have g1 : il_low a1 a3 a4 l := h.1
    have g2 : ∀ y, y < 12 → il_up a1 a3 a4 l y ∨ il_b op y = true := h.2.1
    have g4 : ¬ op = 0 → 241 ≤ il_C l := h.2.2
    show wX_spread_6 post (n + 1) op (nI 241) a1 a2 a3 a4 l
    have e0 : op = 0 := Classical.byContradiction (fun z => by
      have t1 := g4 z
      have t2 := il_C_le l
      omega)
    refine pk_le 241 241 (fun _ => H l ⟨htr, h3, g1, fun y hy => ?_⟩) (fun z => absurd z (by omega))
    rcases g2 y hy with z | z
    · exact z
    · rw [e0] at z
      exact (il_ft z (il_0 y)).elim
  · intro n i s hi h hw
    obtain ⟨op, l⟩ := s
    have g1 : il_low a1 a3 a4 l := h.1
    have g2 : ∀ y, y < 12 → il_up a1 a3 a4 l y ∨ il_b op y = true := h.2.1
    have g4 : ¬ op = 0 → i ≤ il_C l := h.2.2
    show wX_spread_6 post (n + 1) op (nI i) a1 a2 a3 a4 l
    refine pk_le 241 i (fun z => absurd z (by omega)) (fun _ => br_c (fun e0 => H l ⟨htr, h3, g1, fun y hy => ?_⟩) (fun ne => il_sp23 htr h3 g1 g2 (g4 ne) (fun nx l' k1 k2 k3 => ?_)))
    · rcases g2 y hy with z | z
      · exact z
      · rw [e0] at z
        exact (il_ft z (il_0 y)).elim
    · rw [nI_1]
      exact hw (nx, l') ⟨k1, k2, k3⟩
end
section
/-! ===== shrink ===== -/
theorem il_n10 : ¬ (1 : Int32) = 0 := by decide
/-- of the variables 'lost', block x holds all that is due -/
def il_sat (a1 a3 a4 : Nat → Int32) (lost : Int32) (l : Nat → Int32) (x : Nat) : Prop :=
  ∀ v, v < 32 → il_b lost v = true → il_F a1 a3 a4 v (fun c => il_b (l c) v = true) x → il_b (l x) v = true
theorem il_sh24 {post : St1 → Prop} {lost reg : Int32} {a1 a2 a3 a4 l0 : Nat → Int32}
    (H : ∀ l, (∀ x, x < 12 → il_b reg x = true → l x = l0 x &&& (lost ^^^ (-1))) → (∀ x, x < 12 → il_b reg x = false → l x = l0 x) → ∃ fu72 : Nat, wX_shrink_72 post lost reg fu72 1 0 a1 a2 a3 a4 l) :
    ∃ n, wX_shrink_24 post lost reg n 0 a1 a2 a3 a4 l0 := by
  refine pk_loop (fun n i s => wX_shrink_24 post lost reg n (nI i) a1 a2 a3 a4 s)
    (fun i l => (∀ x, x < i → il_b reg x = true → l x = l0 x &&& (lost ^^^ (-1))) ∧ (∀ x, x < i → il_b reg x = false → l x = l0 x) ∧ (∀ x, i ≤ x → l x = l0 x)) 12 0 l0 (by omega) ?_ ?_ ?_
  · exact ⟨fun x hx => absurd hx (by omega), fun x hx => absurd hx (by omega), fun _ _ => rfl⟩
  · intro n l h
    obtain ⟨h1, h2, _⟩ := h
    exact pk_le 12 12 (fun _ => H l h1 h2) (fun z => absurd z (by omega))
  · intro n i l hi h hw
    obtain ⟨h1, h2, h3⟩ := h
    show wX_shrink_24 post lost reg (n + 1) (nI i) a1 a2 a3 a4 l
    refine pk_le 12 i (fun z => absurd z (by omega)) (fun _ => ?_)
    rw [nI_clamp (show i < 2 ^ 31 by omega)]
    refine il_br (by omega) (fun hc => ⟨pk_in i 12 hi, pk_in i 12 hi, nm_e (nm_r (nI_1 i) (hw _ ⟨fun x hx hr => ?_, fun x hx hr => ?_, fun x hx => ?_⟩))⟩) (fun hc => nm_r (nI_1 i) (hw _ ⟨fun x hx hr => ?_, fun x hx hr => ?_, fun x hx => h3 x (by omega)⟩))
    · by_cases e : x = i
      · subst e
        rw [pk_us, h3 x (by omega)]
      · rw [pk_un e]
        exact h1 x (by omega) hr
    · by_cases e : x = i
      · subst e
        exact (il_ft hc hr).elim
      · rw [pk_un e]
        exact h2 x (by omega) hr
    · rw [pk_un (by omega)]
      exact h3 x (by omega)
    · by_cases e : x = i
      · subst e
        exact (il_ft hr hc).elim
      · exact h1 x (by omega) hr
    · by_cases e : x = i
      · subst e
        exact h3 x (by omega)
      · exact h2 x (by omega) hr
theorem il_sh92 {post : St1 → Prop} {J : Int32 → Int32 → (Nat → Int32) → (Nat → Int32) → (Nat → Int32) → (Nat → Int32) → (Nat → Int32) → Prop} {lost reg x6 : Int32} {a1 a2 a3 a4 l0 : Nat → Int32} {R : Nat} (K : (Nat → Int32) → Prop)
    (h3 : il_20 a3) (hK : ∀ l i r, K l → i < 12 → il_b reg i = true → (∀ v, v < 32 → il_b r v = true → il_F a1 a3 a4 v (fun c => il_b (l c) v = true) i ∧ il_b lost v = true) → K (upd l i (l i ||| r)))
    (hK20 : ∀ l, K l → ∀ x v, x < 12 → 20 ≤ v → v < 32 → il_b (l x) v = false) (h0 : K l0) (hR : R ≤ il_C l0)
    (H : ∀ m l, K l → (m = 0 → ∀ x, x < 12 → il_b reg x = true → il_sat a1 a3 a4 lost l x) → (¬ m = 0 → R + 1 ≤ il_C l) → J m (x6 + 1) a1 a2 a3 a4 l) :
    ∃ n, wX_shrink_92 post J lost reg x6 n 0 11 a1 a2 a3 a4 l0 := by
  have e11 : nI 12 + (-1) = (11 : Int32) := by decide
  have t := pk_loopD (fun n i (s : Int32 × (Nat → Int32)) => wX_shrink_92 post J lost reg x6 n s.1 (nI i + (-1)) a1 a2 a3 a4 s.2)
    (fun i s => i ≤ 12 ∧ K s.2 ∧ (s.1 = 0 → ∀ x, i ≤ x → x < 12 → il_b reg x = true → il_sat a1 a3 a4 lost s.2 x) ∧ (¬ s.1 = 0 → R + 1 ≤ il_C s.2) ∧ R ≤ il_C s.2) ?_ ?_ 12 ((0 : Int32), l0)
    ⟨Nat.le_refl 12, h0, fun _ x h1 h2 => absurd h1 (by omega), fun z => absurd rfl z, hR⟩
  · have t' : wX_shrink_92 post J lost reg x6 13 0 (nI 12 + (-1)) a1 a2 a3 a4 l0 := t
    rw [e11] at t'
    exact ⟨13, t'⟩
  · intro n s h
    obtain ⟨m, l⟩ := s
    have g1 : K l := h.2.1
    have g2 : m = 0 → ∀ x, 0 ≤ x → x < 12 → il_b reg x = true → il_sat a1 a3 a4 lost l x := h.2.2.1
    have g3 : ¬ m = 0 → R + 1 ≤ il_C l := h.2.2.2.1
    show wX_shrink_92 post J lost reg x6 (n + 1) m (nI 0 + (-1)) a1 a2 a3 a4 l
    exact br_t (by decide) (nm_e (H m l g1 (fun z x hx => g2 z x (Nat.zero_le x) hx) g3))
  · intro n i s h hw
    obtain ⟨m, l⟩ := s
    have g0 : i + 1 ≤ 12 := h.1
    have g1 : K l := h.2.1
    have g2 : m = 0 → ∀ x, i + 1 ≤ x → x < 12 → il_b reg x = true → il_sat a1 a3 a4 lost l x := h.2.2.1
    have g3 : ¬ m = 0 → R + 1 ≤ il_C l := h.2.2.2.1
    have g4 : R ≤ il_C l := h.2.2.2.2
    have hi : i < 12 := by omega
    show wX_shrink_92 post J lost reg x6 (n + 1) m (nI (i + 1) + (-1)) a1 a2 a3 a4 l
    rw [pk_m1]
    refine br_f (nI_pos (by omega)) ?_
    refine il_br (by omega) (fun hc => il_due hi (fun r hr => nm_e ⟨pk_in i 12 hi, ?_⟩)) (fun hc => nm_e (hw (m, l) ⟨by omega, g1, fun z x h1 h2 hg => ?_, g3, g4⟩))
    · rw [nI_clamp (show i < 2 ^ 31 by omega)]
      have hr' : ∀ v, v < 32 → il_b (r &&& lost) v = true → il_F a1 a3 a4 v (fun c => il_b (l c) v = true) i ∧ il_b lost v = true := by
        intro v hv z
        rw [il_and, Bool.and_eq_true] at z
        exact ⟨(hr v hv).mp z.1, z.2⟩
      refine br_c (fun hz => nm_e (hw (m, l) ⟨by omega, g1, fun z x h1 h2 hg => ?_, g3, g4⟩)) (fun hz => ⟨pk_in i 12 hi, pk_in i 12 hi, nm_e (nm_e (hw (1, upd l i (l i ||| (r &&& lost))) ⟨by omega, hK l i _ g1 hi hc hr', fun z => absurd z il_n10, fun _ => ?_, ?_⟩))⟩)
      · by_cases e : x = i
        · subst e
          intro v hv hl hf
          refine il_new.mp hz v hv ?_
          rw [il_and, (hr v hv).mpr hf, hl]
          rfl
        · exact g2 z x (by omega) h2 hg
      · show R + 1 ≤ il_C (upd l i (l i ||| (r &&& lost)))
        have hC := il_C_step hi h3 (hK20 l g1) (fun v hv z => (hr' v hv z).1) hz
        omega
      · show R ≤ il_C (upd l i (l i ||| (r &&& lost)))
        have hC := il_C_step hi h3 (hK20 l g1) (fun v hv z => (hr' v hv z).1) hz
        omega
    · by_cases e : x = i
      · subst e
        exact (il_ft hg hc).elim
      · exact g2 z x (by omega) h2 hg
theorem il_sh72 {post : St1 → Prop} {lost reg : Int32} {a1 a2 a3 a4 l0 : Nat → Int32} (K : (Nat → Int32) → Prop)
    (h3 : il_20 a3) (hK : ∀ l i r, K l → i < 12 → il_b reg i = true → (∀ v, v < 32 → il_b r v = true → il_F a1 a3 a4 v (fun c => il_b (l c) v = true) i ∧ il_b lost v = true) → K (upd l i (l i ||| r)))
    (hK20 : ∀ l, K l → ∀ x v, x < 12 → 20 ≤ v → v < 32 → il_b (l x) v = false) (h0 : K l0)
    (H : ∀ l, K l → (∀ x, x < 12 → il_b reg x = true → il_sat a1 a3 a4 lost l x) → post (a1, a2, a3, a4, l)) :
    ∃ n, wX_shrink_72 post lost reg n 1 0 a1 a2 a3 a4 l0 := by
  refine pk_loop (fun n i (s : Int32 × (Nat → Int32)) => wX_shrink_72 post lost reg n s.1 (nI i) a1 a2 a3 a4 s.2)
    (fun i s => K s.2 ∧ (s.1 = 0 → ∀ x, x < 12 → il_b reg x = true → il_sat a1 a3 a4 lost s.2 x) ∧ (¬ s.1 = 0 → i ≤ il_C s.2)) 241 0 ((1 : Int32), l0) (by omega) ?_ ?_ ?_
  · exact ⟨h0, fun z => absurd z il_n10, fun _ => Nat.zero_le _⟩
  · intro n s h
    obtain ⟨m, l⟩ := s
    have g1 : K l := h.1
    have g2 : m = 0 → ∀ x, x < 12 → il_b reg x = true → il_sat a1 a3 a4 lost l x := h.2.1
    have g4 : ¬ m = 0 → 241 ≤ il_C l := h.2.2
    show wX_shrink_72 post lost reg (n + 1) m (nI 241) a1 a2 a3 a4 l
    have e0 : m = 0 := Classical.byContradiction (fun z => by
      have t1 := g4 z
      have t2 := il_C_le l
      omega)
    exact pk_le 241 241 (fun _ => H l g1 (g2 e0)) (fun z => absurd z (by omega))
  · intro n i s hi h hw
    obtain ⟨m, l⟩ := s
    have g1 : K l := h.1
    have g2 : m = 0 → ∀ x, x < 12 → il_b reg x = true → il_sat a1 a3 a4 lost l x := h.2.1
    have g4 : ¬ m = 0 → i ≤ il_C l := h.2.2
    show wX_shrink_72 post lost reg (n + 1) m (nI i) a1 a2 a3 a4 l
    refine pk_le 241 i (fun z => absurd z (by omega)) (fun _ => br_c (fun e0 => H l g1 (g2 e0)) (fun ne => il_sh92 K h3 hK hK20 g1 (g4 ne) (fun m' l' k1 k2 k3 => ?_)))
    rw [nI_1]
    exact hw (m', l') ⟨k1, k2, k3⟩
/-! the change of the equations at block b -/
theorem il_lowA {o1 o3 o4 a1 a3 a4 l : Nat → Int32} {b v : Nat} (hv : v < 32)
    (ho : ∀ x, x < 12 → x ≠ b → o1 x = a1 x ∧ o3 x = a3 x ∧ o4 x = a4 x) (hlow : il_low o1 o3 o4 l) (hup : ∀ x, x < 12 → il_up o1 o3 o4 l x)
    (hm : il_b (l b) v = false ∨ ∀ P, il_F o1 o3 o4 v P b → il_F a1 a3 a4 v P b) (P : Nat → Prop) (hP : ∀ x, x < 12 → il_F a1 a3 a4 v P x → P x) (x : Nat) (hx : x < 12) (hb : il_b (l x) v = true) : P x := by
  refine (hlow v hv (fun y => il_b (l y) v = true ∧ P y) ?_ x hx hb).2
  intro y hy hf
  have f1 : il_b (l y) v = true := hup y hy v hv (il_F_mono (fun c hc hp => hp.1) hf)
  refine ⟨f1, hP y hy ?_⟩
  have f2 := il_F_mono (Q := P) (fun c hc hp => hp.2) hf
  by_cases e : y = b
  · subst e
    rcases hm with z | z
    · exact (il_ft f1 z).elim
    · exact z P f2
  · obtain ⟨e1, e3, e4⟩ := ho y hy e
    exact il_F_eq (fun c _ => by rw [e1]) e3 e4 f2
theorem il_lowB {o1 o3 o4 a1 a2 a3 a4 l : Nat → Int32} {b v : Nat} {reg : Int32} (hv : v < 32) (htr : il_tr a1 a2) (hreg : il_b reg b = true) (hcl : il_cl a2 reg)
    (ho : ∀ x, x < 12 → x ≠ b → o1 x = a1 x ∧ o3 x = a3 x ∧ o4 x = a4 x) (hlow : il_low o1 o3 o4 l)
    (P : Nat → Prop) (hP : ∀ x, x < 12 → il_F a1 a3 a4 v P x → P x) (x : Nat) (hx : x < 12) (hr : il_b reg x = false) (hb : il_b (l x) v = true) : P x := by
  have t : il_b reg x = true ∨ P x := by
    refine hlow v hv (fun y => il_b reg y = true ∨ P y) ?_ x hx hb
    intro y hy hf
    cases hy2 : il_b reg y
    · right
      have ne : y ≠ b := by
        intro e
        subst e
        exact il_ft hreg hy2
      obtain ⟨e1, e3, e4⟩ := ho y hy ne
      apply hP y hy
      rcases hf with z | ⟨⟨c, hc, he, hp⟩, hs⟩
      · exact Or.inl (by rw [← e3]; exact z)
      · refine Or.inr ⟨⟨c, hc, by rw [← e1]; exact he, ?_⟩, by rw [← e4]; exact hs⟩
        rcases hp with z | z
        · rw [e1] at he
          exact (il_ft (hcl c y hc hy z (by rw [← htr y c hy hc]; exact he)) hy2).elim
        · exact z
    · exact Or.inl rfl
  rcases t with z | z
  · exact (il_ft z hr).elim
  · exact z
theorem il_shrink {post : St1 → Prop} {o1 o3 o4 a1 a2 a3 a4 a5 : Nat → Int32} {b : Nat} {sm : Int32} (hb : b < 12) (htr : il_tr a1 a2) (h3 : il_20 a3)
    (ho : ∀ x, x < 12 → x ≠ b → o1 x = a1 x ∧ o3 x = a3 x ∧ o4 x = a4 x) (hlow : il_low o1 o3 o4 a5) (hup : ∀ x, x < 12 → il_up o1 o3 o4 a5 x)
    (hm : ∀ v, v < 32 → il_b sm v = false → il_b (a5 b) v = false ∨ ∀ P, il_F o1 o3 o4 v P b → il_F a1 a3 a4 v P b)
    (H : ∀ l, il_low a1 a3 a4 l → (∀ x, x < 12 → x ≠ b → il_up a1 a3 a4 l x) →
      (∀ v, v < 32 → il_b sm v = true → (il_b (a5 b) v = true → il_F a1 a3 a4 v (fun c => il_b (l c) v = true) b → il_b (l b) v = true) ∧ (il_b (a5 b) v = false → ∀ x, x < 12 → il_b (l x) v = il_b (a5 x) v)) → post (a1, a2, a3, a4, l)) :
    wpX_shrink post (a1, a2, a3, a4, a5) (nI b) sm := by
  unfold wpX_shrink
  dsimp only
  refine ⟨pk_in b 12 hb, ?_⟩
  rw [nI_clamp (show b < 2 ^ 31 by omega)]
  refine nm_e (br_c (fun hz => ?_) (fun hz => il_behind hb (fun reg hreg hcl => il_sh24 (fun l1 hl1 hl2 => ?_))))
  · have hz' := il_z.mp hz
    have hor : ∀ v, v < 32 → il_b (a5 b) v = false ∨ ∀ P, il_F o1 o3 o4 v P b → il_F a1 a3 a4 v P b := by
      intro v hv
      cases e : il_b sm v
      · exact hm v hv e
      · have t := hz' v hv
        rw [il_and, e, Bool.true_and] at t
        exact Or.inl t
    refine H a5 (fun v hv P hP x hx hx2 => il_lowA hv ho hlow hup (hor v hv) P hP x hx hx2) (fun x hx ne v hv hf => ?_) (fun v hv hs => ⟨fun z => ?_, fun _ _ _ => rfl⟩)
    · obtain ⟨e1, e3, e4⟩ := ho x hx ne
      exact hup x hx v hv (il_F_eq (fun c _ => by rw [e1]) e3.symm e4.symm hf)
    · have t := hz' v hv
      rw [il_and, hs, z] at t
      exact absurd t (by decide)
  · have hlost : ∀ v, v < 32 → il_b (sm &&& a5 b) v = false → il_b (a5 b) v = false ∨ ∀ P, il_F o1 o3 o4 v P b → il_F a1 a3 a4 v P b := by
      intro v hv hf
      cases e : il_b sm v
      · exact hm v hv e
      · rw [il_and, e, Bool.true_and] at hf
        exact Or.inl hf
    have hl1v : ∀ v, v < 32 → il_b (sm &&& a5 b) v = false → ∀ x, x < 12 → il_b (l1 x) v = il_b (a5 x) v := by
      intro v hv hf x hx
      cases e : il_b reg x
      · rw [hl2 x hx e]
      · rw [hl1 x hx e, il_and, il_not _ hv, hf]
        simp
    refine il_sh72 (fun l => il_low a1 a3 a4 l ∧ (∀ x, x < 12 → il_b reg x = false → l x = a5 x) ∧ (∀ v, v < 32 → il_b (sm &&& a5 b) v = false → ∀ x, x < 12 → il_b (l x) v = il_b (a5 x) v)) h3 ?_ ?_ ?_ ?_
    · intro l i r hk hi hri hr
      obtain ⟨k1, k2, k3⟩ := hk
      refine ⟨il_low_step hi k1 (fun v hv z => (hr v hv z).1), fun x hx hrx => ?_, fun v hv hf x hx => ?_⟩
      · have ne : x ≠ i := by
          intro e
          subst e
          exact il_ft hri hrx
        rw [pk_un ne]
        exact k2 x hx hrx
      · by_cases e : x = i
        · subst e
          have hrv : il_b r v = false := il_tf (fun z => il_ft (hr v hv z).2 hf)
          rw [pk_us, il_or, hrv, Bool.or_false]
          exact k3 v hv hf x hx
        · rw [pk_un e]
          exact k3 v hv hf x hx
    · intro l hk
      exact il_live20 h3 hk.1
    · refine ⟨fun v hv P hP x hx hx2 => ?_, hl2, hl1v⟩
      cases hf : il_b (sm &&& a5 b) v
      · rw [hl1v v hv hf x hx] at hx2
        exact il_lowA hv ho hlow hup (hlost v hv hf) P hP x hx hx2
      · cases e : il_b reg x
        · rw [hl2 x hx e] at hx2
          exact il_lowB hv htr hreg hcl ho hlow P hP x hx e hx2
        · rw [hl1 x hx e, il_and, il_not _ hv, hf] at hx2
          simp at hx2
    · intro l hk hsat
      obtain ⟨k1, k2, k3⟩ := hk
      refine H l k1 (fun x hx ne v hv hf => ?_) (fun v hv hs => ⟨fun z hf => ?_, fun z => ?_⟩)
      · obtain ⟨e1, e3, e4⟩ := ho x hx ne
        cases hl : il_b (sm &&& a5 b) v
        · rw [k3 v hv hl x hx]
          refine hup x hx v hv (il_F_eq (fun c _ => by rw [e1]) e3.symm e4.symm (il_F_mono (fun c hc hp => ?_) hf))
          show il_b (a5 c) v = true
          rw [← k3 v hv hl c hc]
          exact hp
        · cases e : il_b reg x
          · rw [k2 x hx e]
            refine hup x hx v hv (il_F_eq (a1 := a1) (a3 := a3) (a4 := a4) (fun c _ => by rw [e1]) e3.symm e4.symm ?_)
            rcases hf with g | ⟨⟨c, hc, he, hp⟩, hs⟩
            · exact Or.inl g
            · refine Or.inr ⟨⟨c, hc, he, ?_⟩, hs⟩
              have hrc : il_b reg c = false := il_tf (fun z => il_ft (hcl c x hc hx z (by rw [← htr x c hx hc]; exact he)) e)
              show il_b (a5 c) v = true
              rw [← k2 c hc hrc]
              exact hp
          · exact hsat x hx e v hv hl hf
      · exact hsat b hb hreg v hv (by rw [il_and, hs, z]; rfl) hf
      · exact k3 v hv (by rw [il_and, z, Bool.and_false])
end
section
/-! ===== arcs ===== -/
/-- to and from behind part(a, b) -/
def il_pp (a b : Nat) (q : (Nat → Int32) × (Nat → Int32)) : (Nat → Int32) × (Nat → Int32) :=
  if il_b (q.1 a) b = true then (upd q.1 a (q.1 a &&& (((1 : Int32) <<< (nI b &&& 31)) ^^^ (-1))), upd q.2 b (q.2 b &&& (((1 : Int32) <<< (nI a &&& 31)) ^^^ (-1)))) else q
/-- to and from behind join(a, b) -/
def il_pj (a b : Nat) (q : (Nat → Int32) × (Nat → Int32)) : (Nat → Int32) × (Nat → Int32) :=
  if il_b (q.1 a) b = true then q else (upd q.1 a (q.1 a ||| ((1 : Int32) <<< (nI b &&& 31))), upd q.2 b (q.2 b ||| ((1 : Int32) <<< (nI a &&& 31))))
theorem il_off {x : Int32} {n i : Nat} (hn : n < 32) (hi : i < 32) : il_b (x &&& (((1 : Int32) <<< (nI n &&& 31)) ^^^ (-1))) i = (il_b x i && !decide (i = n)) := by
  rw [il_and, il_not _ hi, il_sh1 hn hi]
theorem il_on {x : Int32} {n i : Nat} (hn : n < 32) (hi : i < 32) : il_b (x ||| ((1 : Int32) <<< (nI n &&& 31))) i = (il_b x i || decide (i = n)) := by
  rw [il_or, il_sh1 hn hi]
theorem il_tr_off {a1 a2 : Nat → Int32} {a b : Nat} (ha : a < 12) (hb : b < 12) (h : il_tr a1 a2) : il_tr (upd a1 a (a1 a &&& (((1 : Int32) <<< (nI b &&& 31)) ^^^ (-1)))) (upd a2 b (a2 b &&& (((1 : Int32) <<< (nI a &&& 31)) ^^^ (-1)))) := by
  intro x y hx hy
  have t := h x y hx hy
  by_cases e : x = a
  · subst e
    by_cases g : y = b
    · subst g
      rw [pk_us, pk_us, il_off (by omega) (by omega), il_off (by omega) (by omega), t]
      simp
    · rw [pk_us, pk_un g, il_off (by omega) (by omega), t]
      simp [g]
  · by_cases g : y = b
    · subst g
      rw [pk_un e, pk_us, il_off (by omega) (by omega), t]
      simp [e]
    · rw [pk_un e, pk_un g]
      exact t
theorem il_tr_on {a1 a2 : Nat → Int32} {a b : Nat} (ha : a < 12) (hb : b < 12) (h : il_tr a1 a2) : il_tr (upd a1 a (a1 a ||| ((1 : Int32) <<< (nI b &&& 31)))) (upd a2 b (a2 b ||| ((1 : Int32) <<< (nI a &&& 31)))) := by
  intro x y hx hy
  have t := h x y hx hy
  by_cases e : x = a
  · subst e
    by_cases g : y = b
    · subst g
      rw [pk_us, pk_us, il_on (by omega) (by omega), il_on (by omega) (by omega), t]
      simp
    · rw [pk_us, pk_un g, il_on (by omega) (by omega), t]
      simp [g]
  · by_cases g : y = b
    · subst g
      rw [pk_un e, pk_us, il_on (by omega) (by omega), t]
      simp [e]
    · rw [pk_un e, pk_un g]
      exact t
theorem il_part {post : St1 → Prop} {q : (Nat → Int32) × (Nat → Int32)} {a3 a4 l : Nat → Int32} {a b : Nat} (ha : a < 12) (hb : b < 12) (hi : il_inv q.1 q.2 a3 a4 l)
    (H : ∀ l', il_inv (il_pp a b q).1 (il_pp a b q).2 a3 a4 l' → post ((il_pp a b q).1, (il_pp a b q).2, a3, a4, l')) : wpX_part post (q.1, q.2, a3, a4, l) (nI a) (nI b) := by
  obtain ⟨a1, a2⟩ := q
  have hi' : il_inv a1 a2 a3 a4 l := hi
  obtain ⟨htr, h3, hlow, hup⟩ := hi'
  show wpX_part post (a1, a2, a3, a4, l) (nI a) (nI b)
  unfold wpX_part
  dsimp only
  refine ⟨pk_in a 12 ha, ?_⟩
  rw [nI_clamp (show a < 2 ^ 31 by omega), nI_clamp (show b < 2 ^ 31 by omega)]
  refine il_br (by omega) (fun hc => ⟨pk_in a 12 ha, pk_in a 12 ha, nm_e ⟨pk_in b 12 hb, pk_in b 12 hb, nm_e ?_⟩⟩) (fun hc => ?_)
  · have e : il_pp a b (a1, a2) = (upd a1 a (a1 a &&& (((1 : Int32) <<< (nI b &&& 31)) ^^^ (-1))), upd a2 b (a2 b &&& (((1 : Int32) <<< (nI a &&& 31)) ^^^ (-1)))) := if_pos hc
    rw [e] at H
    have htr' := il_tr_off ha hb htr
    have l20 := il_live20 h3 hlow
    have hF : ∀ v P, il_F (upd a1 a (a1 a &&& (((1 : Int32) <<< (nI b &&& 31)) ^^^ (-1)))) a3 a4 v P a → il_F a1 a3 a4 v P a := by
      intro v P hf
      rcases hf with g | ⟨⟨c, h1, h2, hp⟩, hs⟩
      · exact Or.inl g
      · rw [pk_us, il_off (by omega) (by omega), Bool.and_eq_true] at h2
        exact Or.inr ⟨⟨c, h1, h2.1, hp⟩, hs⟩
    refine il_shrink (o1 := a1) (o3 := a3) (o4 := a4) ha htr' h3 (fun x hx ne => ⟨(pk_un ne).symm, rfl, rfl⟩) hlow hup (fun v hv hs => ?_) (fun l' k1 k2 k3 => H l' ⟨htr', h3, k1, fun x hx => ?_⟩)
    · rw [il_all v hv] at hs
      exact Or.inl (l20 a v ha (by have := of_decide_eq_false hs; omega) hv)
    · by_cases e2 : x = a
      · subst e2
        intro v hv hf
        have v20 := il_F20 h3 (il_live20 h3 k1) hx hv hf
        obtain ⟨k4, k5⟩ := k3 v hv (by rw [il_all v hv]; exact decide_eq_true v20)
        cases g : il_b (l x) v
        · have k6 := k5 g
          have t : il_b (l x) v = true := hup x hx v hv (hF v _ (il_F_mono (fun c hc hp => by show il_b (l c) v = true; rw [← k6 c hc]; exact hp) hf))
          exact (il_ft t g).elim
        · exact k4 g hf
      · exact k2 x hx e2
  · have e : il_pp a b (a1, a2) = (a1, a2) := if_neg (by rw [hc]; decide)
    rw [e] at H
    exact H l hi
theorem il_join {post : St1 → Prop} {q : (Nat → Int32) × (Nat → Int32)} {a3 a4 l : Nat → Int32} {a b : Nat} (ha : a < 12) (hb : b < 12) (hi : il_inv q.1 q.2 a3 a4 l)
    (H : ∀ l', il_inv (il_pj a b q).1 (il_pj a b q).2 a3 a4 l' → post ((il_pj a b q).1, (il_pj a b q).2, a3, a4, l')) : wpX_join post (q.1, q.2, a3, a4, l) (nI a) (nI b) := by
  obtain ⟨a1, a2⟩ := q
  have hi' : il_inv a1 a2 a3 a4 l := hi
  obtain ⟨htr, h3, hlow, hup⟩ := hi'
  show wpX_join post (a1, a2, a3, a4, l) (nI a) (nI b)
  unfold wpX_join
  dsimp only
  refine ⟨pk_in a 12 ha, ?_⟩
  rw [nI_clamp (show a < 2 ^ 31 by omega), nI_clamp (show b < 2 ^ 31 by omega)]
  refine il_br0 (by omega) (fun hc => ⟨pk_in a 12 ha, pk_in a 12 ha, nm_e ⟨pk_in b 12 hb, pk_in b 12 hb, nm_e ?_⟩⟩) (fun hc => ?_)
  · have e : il_pj a b (a1, a2) = (upd a1 a (a1 a ||| ((1 : Int32) <<< (nI b &&& 31))), upd a2 b (a2 b ||| ((1 : Int32) <<< (nI a &&& 31)))) := if_neg (by rw [hc]; decide)
    rw [e] at H
    have htr' := il_tr_on ha hb htr
    refine il_spread ha htr' h3 (fun v hv P hP x hx hbx => hlow v hv P (fun y hy hf => hP y hy ?_) x hx hbx) (fun y hy ne v hv hf => hup y hy v hv ?_) (fun l' k => H l' k)
    · rcases hf with g | ⟨⟨c, h1, h2, hp⟩, hs⟩
      · exact Or.inl g
      · refine Or.inr ⟨⟨c, h1, ?_, hp⟩, hs⟩
        by_cases e2 : y = a
        · subst e2
          rw [pk_us, il_on (by omega) (by omega), h2, Bool.true_or]
        · rw [pk_un e2]
          exact h2
    · exact il_F_eq (fun c _ => by rw [pk_un ne]) rfl rfl hf
  · have e : il_pj a b (a1, a2) = (a1, a2) := if_pos hc
    rw [e] at H
    exact H l hi
/-- what arc(a, b, on) makes of to and from -/
def il_pa (a b : Nat) (on : Int32) (q : (Nat → Int32) × (Nat → Int32)) : (Nat → Int32) × (Nat → Int32) := if on = 0 then il_pp a b q else il_pj a b q
theorem il_arc {post : Int32 → St1 → Prop} {q : (Nat → Int32) × (Nat → Int32)} {a3 a4 l : Nat → Int32} {a b : Nat} {on : Int32} (ha : a < 12) (hb : b < 12) (hi : il_inv q.1 q.2 a3 a4 l)
    (H : ∀ l', il_inv (il_pa a b on q).1 (il_pa a b on q).2 a3 a4 l' → post (if il_b (q.1 a) b = true then 1 else 0) ((il_pa a b on q).1, (il_pa a b on q).2, a3, a4, l')) : wpX_arc post (q.1, q.2, a3, a4, l) (nI a) (nI b) on := by
  unfold wpX_arc
  dsimp only
  refine il_bad ha (br_t rfl (il_bad hb (br_t rfl ⟨pk_in a 12 ha, ?_⟩)))
  rw [nI_clamp (show a < 2 ^ 31 by omega)]
  refine nm_r (il_bit _ (by omega)) (br_c (fun hz => ?_) (fun hz => ?_))
  · have e : il_pa a b on q = il_pp a b q := if_pos hz
    rw [e] at H
    exact il_part ha hb hi H
  · have e : il_pa a b on q = il_pj a b q := if_neg hz
    rw [e] at H
    exact il_join ha hb hi H
/-! ===== uses and sets ===== -/
theorem il_change {post : St1 → Prop} {a1 a2 a3 a4 l : Nat → Int32} {b : Nat} {nu ns : Int32} (hb : b < 12) (hi : il_inv a1 a2 a3 a4 l) (hnu : ∀ v, 20 ≤ v → il_b nu v = false)
    (H : ∀ l', il_inv a1 a2 (upd a3 b nu) (upd a4 b ns) l' → post (a1, a2, upd a3 b nu, upd a4 b ns, l')) : wpX_change post (a1, a2, a3, a4, l) (nI b) nu ns := by
  obtain ⟨htr, h3, hlow, hup⟩ := hi
  have h3' : il_20 (upd a3 b nu) := by
    intro x v hx hv
    by_cases e : x = b
    · rw [e, pk_us]
      exact hnu v hv
    · rw [pk_un e]
      exact h3 x v hx hv
  unfold wpX_change
  dsimp only
  refine ⟨pk_in b 12 hb, pk_in b 12 hb, ?_⟩
  rw [nI_clamp (show b < 2 ^ 31 by omega)]
  refine nm_e ⟨pk_in b 12 hb, nm_e ⟨pk_in b 12 hb, nm_e ?_⟩⟩
  refine il_shrink (o1 := a1) (o3 := a3) (o4 := a4) hb htr h3' (fun x hx ne => ⟨rfl, (pk_un ne).symm, (pk_un ne).symm⟩) hlow hup (fun v hv hs => Or.inr (fun P hf => ?_)) (fun l' k1 k2 _ => il_spread hb htr h3' k1 k2 (fun l2 k => H l2 k))
  rw [il_or, il_and, il_and, il_not _ hv, il_not _ hv, Bool.or_eq_false_iff] at hs
  obtain ⟨s1, s2⟩ := hs
  rcases hf with g | ⟨hc, g⟩
  · refine Or.inl ?_
    rw [pk_us]
    rw [g, Bool.true_and] at s1
    cases e : il_b nu v
    · rw [e] at s1
      exact absurd s1 (by decide)
    · rfl
  · refine Or.inr ⟨hc, ?_⟩
    rw [pk_us]
    rw [g] at s2
    cases e : il_b ns v
    · rfl
    · rw [e] at s2
      exact absurd s2 (by decide)
/-- bit v of x set by 'on' -/
def il_sv (v : Nat) (on x : Int32) : Int32 :=
  if on = 0 then x &&& (((1 : Int32) <<< (nI v &&& 31)) ^^^ (-1)) else (x &&& (((1 : Int32) <<< (nI v &&& 31)) ^^^ (-1))) ||| ((1 : Int32) <<< (nI v &&& 31))
theorem il_sv_bit {v i : Nat} {on x : Int32} (hv : v < 32) (hi : i < 32) : il_b (il_sv v on x) i = if i = v then !decide (on = 0) else il_b x i := by
  unfold il_sv
  by_cases e : on = 0
  · rw [if_pos e, il_off hv hi]
    by_cases g : i = v
    · simp [g, e]
    · simp [g]
  · rw [if_neg e, il_on hv hi, il_off hv hi]
    by_cases g : i = v
    · simp [g, e]
    · simp [g]
theorem il_sv20 {v : Nat} {on x : Int32} (hv : v < 20) (hx : ∀ i, 20 ≤ i → il_b x i = false) : ∀ i, 20 ≤ i → il_b (il_sv v on x) i = false := by
  intro i hi
  rcases Nat.lt_or_ge i 32 with z | z
  · rw [il_sv_bit (by omega) z, if_neg (by omega)]
    exact hx i hi
  · exact il_big z
theorem il_set {post : Int32 → St1 → Prop} {a1 a2 a3 a4 l : Nat → Int32} {b v : Nat} {on : Int32} (hb : b < 12) (hv : v < 20) (hi : il_inv a1 a2 a3 a4 l)
    (H : ∀ l', il_inv a1 a2 a3 (upd a4 b (il_sv v on (a4 b))) l' → post (if il_b (a4 b) v = true then 1 else 0) (a1, a2, a3, upd a4 b (il_sv v on (a4 b)), l')) : wpX_set post (a1, a2, a3, a4, l) (nI b) (nI v) on := by
  have h20 : ∀ i, 20 ≤ i → il_b (a3 b) i = false := fun i h => hi.2.1 b i hb h
  unfold wpX_set
  dsimp only
  refine il_bad hb (br_t rfl (il_badV hv (br_t rfl ⟨pk_in b 12 hb, ?_⟩)))
  rw [nI_clamp (show b < 2 ^ 31 by omega)]
  refine nm_r (il_bit _ (by omega)) ⟨pk_in b 12 hb, nm_e ⟨pk_in b 12 hb, br_c (fun hz => ?_) (fun hz => ?_)⟩⟩
  · have e : il_sv v on (a4 b) = a4 b &&& (((1 : Int32) <<< (nI v &&& 31)) ^^^ (-1)) := if_pos hz
    rw [e] at H
    unfold wX_set_67
    refine il_change hb hi h20 (fun l' k => ?_)
    rw [il_updsame] at k ⊢
    exact H l' k
  · have e : il_sv v on (a4 b) = (a4 b &&& (((1 : Int32) <<< (nI v &&& 31)) ^^^ (-1))) ||| ((1 : Int32) <<< (nI v &&& 31)) := if_neg hz
    rw [e] at H
    unfold wX_set_67
    refine il_change hb hi h20 (fun l' k => ?_)
    rw [il_updsame] at k ⊢
    exact H l' k
theorem il_use {post : Int32 → St1 → Prop} {a1 a2 a3 a4 l : Nat → Int32} {b v : Nat} {on : Int32} (hb : b < 12) (hv : v < 20) (hi : il_inv a1 a2 a3 a4 l)
    (H : ∀ r l', il_inv a1 a2 (upd a3 b (il_sv v on (a3 b))) a4 l' → post r (a1, a2, upd a3 b (il_sv v on (a3 b)), a4, l')) : wpX_use post (a1, a2, a3, a4, l) (nI b) (nI v) on := by
  have h20 : ∀ i, 20 ≤ i → il_b (il_sv v on (a3 b)) i = false := il_sv20 hv (fun i h => hi.2.1 b i hb h)
  unfold wpX_use
  dsimp only
  refine il_bad hb (br_t rfl (il_badV hv (br_t rfl ⟨pk_in b 12 hb, ?_⟩)))
  rw [nI_clamp (show b < 2 ^ 31 by omega)]
  refine nm_e ⟨pk_in b 12 hb, nm_e (br_c (fun hz => ?_) (fun hz => ?_))⟩
  · have e : il_sv v on (a3 b) = a3 b &&& (((1 : Int32) <<< (nI v &&& 31)) ^^^ (-1)) := if_pos hz
    rw [e] at H h20
    unfold wX_use_61
    refine ⟨pk_in b 12 hb, ?_⟩
    rw [nI_clamp (show b < 2 ^ 31 by omega)]
    refine il_change hb hi h20 (fun l' k => ?_)
    rw [il_updsame] at k ⊢
    exact H _ l' k
  · have e : il_sv v on (a3 b) = (a3 b &&& (((1 : Int32) <<< (nI v &&& 31)) ^^^ (-1))) ||| ((1 : Int32) <<< (nI v &&& 31)) := if_neg hz
    rw [e] at H h20
    unfold wX_use_61
    refine ⟨pk_in b 12 hb, ?_⟩
    rw [nI_clamp (show b < 2 ^ 31 by omega)]
    refine il_change hb hi h20 (fun l' k => ?_)
    rw [il_updsame] at k ⊢
    exact H _ l' k
theorem il_block {post : Int32 → St1 → Prop} {a1 a2 a3 a4 l : Nat → Int32} {b : Nat} {x y : Int32} (hb : b < 12) (hi : il_inv a1 a2 a3 a4 l)
    (H : ∀ r l', il_inv a1 a2 (upd a3 b (x &&& 1048575)) (upd a4 b (y &&& 1048575)) l' → post r (a1, a2, upd a3 b (x &&& 1048575), upd a4 b (y &&& 1048575), l')) : wpX_block post (a1, a2, a3, a4, l) (nI b) (x &&& 1048575) (y &&& 1048575) := by
  have h20 : ∀ i, 20 ≤ i → il_b (x &&& 1048575) i = false := by
    intro i h
    rcases Nat.lt_or_ge i 32 with z | z
    · rw [il_and, il_all i z, decide_eq_false (by omega), Bool.and_false]
    · exact il_big z
  obtain ⟨j, hj, ej⟩ := pk_andE x (m := 1048575) 20 (by decide)
  obtain ⟨k, hk, ek⟩ := pk_andE y (m := 1048575) 20 (by decide)
  unfold wpX_block
  dsimp only
  refine il_bad hb (br_t rfl (br_f (by rw [ej]; exact nI_pos (by omega)) (pk_lt 1048575 j (fun z => absurd z (by omega)) (fun _ => br_f (by rw [ek]; exact nI_pos (by omega)) (pk_le k 1048575 (fun _ => ?_) (fun z => absurd z (by omega)) ek)) (hy := ej))))
  exact il_change hb hi h20 (fun l' k => H _ l' k)
/-! ===== cutOff, takeOver ===== -/
def il_pc (b : Nat) (q : (Nat → Int32) × (Nat → Int32)) : Nat → (Nat → Int32) × (Nat → Int32)
  | 0 => q
  | i + 1 => il_pp i b (il_pp b i (il_pc b q i))
theorem il_cutOff {post : Int32 → St1 → Prop} {q : (Nat → Int32) × (Nat → Int32)} {a3 a4 l : Nat → Int32} {b : Nat} (hb : b < 12) (hi : il_inv q.1 q.2 a3 a4 l)
    (H : ∀ r l', il_inv (il_pc b q 12).1 (il_pc b q 12).2 a3 a4 l' → post r ((il_pc b q 12).1, (il_pc b q 12).2, a3, a4, l')) : wpX_cutOff post (q.1, q.2, a3, a4, l) (nI b) := by
  unfold wpX_cutOff
  dsimp only
  refine il_bad hb (br_t rfl ?_)
  refine pk_loop (fun n i (s : Int32 × (Nat → Int32)) => wX_cutOff_14 post (nI b) n s.1 (nI i) (il_pc b q i).1 (il_pc b q i).2 a3 a4 s.2) (fun i s => il_inv (il_pc b q i).1 (il_pc b q i).2 a3 a4 s.2) 12 0 ((0 : Int32), l) (by omega) hi ?_ ?_
  · intro n s h
    obtain ⟨m, l'⟩ := s
    show wX_cutOff_14 post (nI b) (n + 1) m (nI 12) (il_pc b q 12).1 (il_pc b q 12).2 a3 a4 l'
    exact pk_le 12 12 (fun _ => H m l' h) (fun z => absurd z (by omega))
  · intro n i s hi h hw
    obtain ⟨m, l'⟩ := s
    show wX_cutOff_14 post (nI b) (n + 1) m (nI i) (il_pc b q i).1 (il_pc b q i).2 a3 a4 l'
    refine pk_le 12 i (fun z => absurd z (by omega)) (fun _ => ⟨pk_in b 12 hb, nm_e (il_part hb hi h (fun l2 h2 => ⟨pk_in i 12 hi, nm_e (il_part hi hb h2 (fun l3 h3 => ?_))⟩))⟩)
    exact nm_r (nI_1 i) (hw (_, l3) h3)
def il_pt (b c : Nat) (q : (Nat → Int32) × (Nat → Int32)) : Nat → (Nat → Int32) × (Nat → Int32)
  | 0 => q
  | i + 1 => if il_b ((il_pt b c q i).1 c) i = true then il_pj b i (il_pp c i (il_pt b c q i)) else il_pt b c q i
theorem il_takeOver {post : Int32 → St1 → Prop} {q : (Nat → Int32) × (Nat → Int32)} {a3 a4 l : Nat → Int32} {b c : Nat} (hb : b < 12) (hc : c < 12) (hi : il_inv q.1 q.2 a3 a4 l)
    (H0 : b = c → ∀ r, post r (q.1, q.2, a3, a4, l))
    (H : b ≠ c → ∀ r l', il_inv (il_pt b c q 12).1 (il_pt b c q 12).2 a3 a4 l' → post r ((il_pt b c q 12).1, (il_pt b c q 12).2, a3, a4, l')) : wpX_takeOver post (q.1, q.2, a3, a4, l) (nI b) (nI c) := by
  unfold wpX_takeOver
  dsimp only
  refine il_bad hb (br_t rfl (il_bad hc (br_t rfl (pk_eq b c (fun e => H0 e _) (fun ne => ?_)))))
  refine pk_loop (fun n i (s : Int32 × (Nat → Int32)) => wX_takeOver_28 post (nI b) (nI c) n s.1 (nI i) (il_pt b c q i).1 (il_pt b c q i).2 a3 a4 s.2) (fun i s => il_inv (il_pt b c q i).1 (il_pt b c q i).2 a3 a4 s.2) 12 0 ((0 : Int32), l) (by omega) hi ?_ ?_
  · intro n s h
    obtain ⟨m, l'⟩ := s
    show wX_takeOver_28 post (nI b) (nI c) (n + 1) m (nI 12) (il_pt b c q 12).1 (il_pt b c q 12).2 a3 a4 l'
    exact pk_le 12 12 (fun _ => H ne m l' h) (fun z => absurd z (by omega))
  · intro n i s hi h hw
    obtain ⟨m, l'⟩ := s
    show wX_takeOver_28 post (nI b) (nI c) (n + 1) m (nI i) (il_pt b c q i).1 (il_pt b c q i).2 a3 a4 l'
    refine pk_le 12 i (fun z => absurd z (by omega)) (fun _ => ⟨pk_in c 12 hc, ?_⟩)
    rw [nI_clamp (show c < 2 ^ 31 by omega)]
    refine il_br (by omega) (fun ha => ?_) (fun ha => ?_)
    · have e : il_pt b c q (i + 1) = il_pj b i (il_pp c i (il_pt b c q i)) := if_pos ha
      have hw' : ∀ (m2 : Int32) (l2 : Nat → Int32), il_inv (il_pt b c q (i + 1)).1 (il_pt b c q (i + 1)).2 a3 a4 l2 → wX_takeOver_28 post (nI b) (nI c) n m2 (nI (i + 1)) (il_pt b c q (i + 1)).1 (il_pt b c q (i + 1)).2 a3 a4 l2 := fun m2 l2 k => hw (m2, l2) k
      rw [e] at hw'
      exact il_part hc hi h (fun l2 h2 => ⟨pk_in b 12 hb, nm_e (il_join hb hi h2 (fun l3 h3 => nm_r (nI_1 i) (hw' _ l3 h3)))⟩)
    · have e : il_pt b c q (i + 1) = il_pt b c q i := if_neg (by rw [ha]; decide)
      have hw' : ∀ (m2 : Int32) (l2 : Nat → Int32), il_inv (il_pt b c q (i + 1)).1 (il_pt b c q (i + 1)).2 a3 a4 l2 → wX_takeOver_28 post (nI b) (nI c) n m2 (nI (i + 1)) (il_pt b c q (i + 1)).1 (il_pt b c q (i + 1)).2 a3 a4 l2 := fun m2 l2 k => hw (m2, l2) k
      rw [e] at hw'
      exact nm_r (nI_1 i) (hw' m l' h)
end
section
/-! ===== turn, setsOf ===== -/
theorem il_mod {x m : Int32} (k d : Nat) (hm : m.toBitVec.toNat = 2 ^ k - 1) (hk : 2 ^ k < 2 ^ 31) (h0 : 0 < d) (hd : d < 2 ^ 31) : ∃ j, j < d ∧ (x &&& m) - (x &&& m) / nI d * nI d = nI j := by
  obtain ⟨j, hj, e⟩ := pk_andE x k hm
  exact ⟨j % d, Nat.mod_lt _ h0, by rw [e]; exact pk_rem (by omega) h0 hd⟩
theorem il_turn (p1 p2 : Int32) : ∃ G K : (Nat → Int32) × (Nat → Int32) → (Nat → Int32) × (Nat → Int32),
    ((p1 &&& 15 ≤ 5 ∨ 13 ≤ p1 &&& 15) → ∀ w, K w = w) ∧ ((¬ p1 &&& 15 ≤ 5 ∧ ¬ 13 ≤ p1 &&& 15) → ∀ q, G q = q) ∧
    ∀ (q w : (Nat → Int32) × (Nat → Int32)) (l : Nat → Int32) (post : Int32 → St1 → Prop), il_inv q.1 q.2 w.1 w.2 l → (∀ r l', il_inv (G q).1 (G q).2 (K w).1 (K w).2 l' → post r ((G q).1, (G q).2, (K w).1, (K w).2, l')) → wpL_turn post (q.1, q.2, w.1, w.2, l) p1 p2 := by
  obtain ⟨o, ho, eo⟩ := pk_andE p1 (m := 15) 4 (by decide)
  obtain ⟨a, ha, ea⟩ := il_mod (x := p2) (m := 15) 4 12 (by decide) (by decide) (by decide) (by decide)
  obtain ⟨b, hb, eb⟩ := il_mod (x := p2 >>> ((4 : Int32) &&& 31)) (m := 15) 4 12 (by decide) (by decide) (by decide) (by decide)
  obtain ⟨v, hv, ev⟩ := il_mod (x := p2 >>> ((4 : Int32) &&& 31)) (m := 31) 5 20 (by decide) (by decide) (by decide) (by decide)
  have ho' : o < 16 := ho
  have n12 : ¬ (12 : Int32) = 0 := by decide
  have n20 : ¬ (20 : Int32) = 0 := by decide
  have c5 : ∀ n : Nat, n < 16 → (nI n ≤ 5 ↔ n ≤ 5) := fun n hn => nI_leI (b := 5) (by omega) (by omega)
  have c13 : ∀ n : Nat, n < 16 → ((13 : Int32) ≤ nI n ↔ 13 ≤ n) := fun n hn => nI_leI (a := 13) (by omega) (by omega)
  rw [eo, c5 o ho', c13 o ho']
  by_cases h6 : o < 6
  · refine ⟨il_pa a b ((p2 >>> ((9 : Int32) &&& 31)) &&& 3), fun w => w, fun _ _ => rfl, fun z => absurd z.1 (by omega), fun q w l post hi H => ?_⟩
    unfold wpL_turn
    dsimp only
    refine nm_r eo ⟨n12, nm_r ea ⟨n12, nm_r eb ⟨n20, nm_r ev (nm_e (pk_le 6 o (fun z => absurd z (by omega)) (fun _ => ?_)))⟩⟩⟩
    exact il_arc ha hb hi (fun l' k => H _ l' k)
  by_cases h9 : o < 9
  · refine ⟨fun q => q, fun w => (upd w.1 a (il_sv v (((p2 >>> ((9 : Int32) &&& 31)) &&& 3) &&& 1) (w.1 a)), w.2), fun z => absurd z (by omega), fun _ _ => rfl, fun q w l post hi H => ?_⟩
    unfold wpL_turn
    dsimp only
    refine nm_r eo ⟨n12, nm_r ea ⟨n12, nm_r eb ⟨n20, nm_r ev (nm_e (pk_le 6 o (fun _ => pk_le 9 o (fun z => absurd z (by omega)) (fun _ => ?_)) (fun z => absurd z (by omega))))⟩⟩⟩
    exact il_use ha hv hi (fun r l' k => H _ l' k)
  by_cases h12 : o < 12
  · refine ⟨fun q => q, fun w => (w.1, upd w.2 a (il_sv v (((p2 >>> ((9 : Int32) &&& 31)) &&& 3) &&& 1) (w.2 a))), fun z => absurd z (by omega), fun _ _ => rfl, fun q w l post hi H => ?_⟩
    unfold wpL_turn
    dsimp only
    refine nm_r eo ⟨n12, nm_r ea ⟨n12, nm_r eb ⟨n20, nm_r ev (nm_e (pk_le 6 o (fun _ => pk_le 9 o (fun _ => pk_le 12 o (fun z => absurd z (by omega)) (fun _ => ?_)) (fun z => absurd z (by omega))) (fun z => absurd z (by omega))))⟩⟩⟩
    exact il_set ha hv hi (fun l' k => H _ l' k)
  by_cases h13 : o = 12
  · refine ⟨fun q => q, fun w => (upd w.1 a ((p2 >>> ((4 : Int32) &&& 31)) &&& 1048575), upd w.2 a ((p2 >>> ((9 : Int32) &&& 31)) &&& 1048575)), fun z => absurd z (by omega), fun _ _ => rfl, fun q w l post hi H => ?_⟩
    unfold wpL_turn
    dsimp only
    refine nm_r eo ⟨n12, nm_r ea ⟨n12, nm_r eb ⟨n20, nm_r ev (nm_e (pk_le 6 o (fun _ => pk_le 9 o (fun _ => pk_le 12 o (fun _ => pk_eq o 12 (fun _ => ?_) (fun z => absurd h13 z)) (fun z => absurd z (by omega))) (fun z => absurd z (by omega))) (fun z => absurd z (by omega))))⟩⟩⟩
    exact il_block ha hi (fun r l' k => H _ l' k)
  by_cases h14 : o = 13
  · refine ⟨fun q => il_pc a q 12, fun w => w, fun _ _ => rfl, fun z => absurd z.2 (by omega), fun q w l post hi H => ?_⟩
    unfold wpL_turn
    dsimp only
    refine nm_r eo ⟨n12, nm_r ea ⟨n12, nm_r eb ⟨n20, nm_r ev (nm_e (pk_le 6 o (fun _ => pk_le 9 o (fun _ => pk_le 12 o (fun _ => pk_eq o 12 (fun z => absurd z h13) (fun _ => pk_eq o 13 (fun _ => ?_) (fun z => absurd h14 z))) (fun z => absurd z (by omega))) (fun z => absurd z (by omega))) (fun z => absurd z (by omega))))⟩⟩⟩
    exact il_cutOff ha hi (fun r l' k => H _ l' k)
  · refine ⟨fun q => if a = b then q else il_pt a b q 12, fun w => w, fun _ _ => rfl, fun z => absurd z.2 (by omega), fun q w l post hi H => ?_⟩
    unfold wpL_turn
    dsimp only
    refine nm_r eo ⟨n12, nm_r ea ⟨n12, nm_r eb ⟨n20, nm_r ev (nm_e (pk_le 6 o (fun _ => pk_le 9 o (fun _ => pk_le 12 o (fun _ => pk_eq o 12 (fun z => absurd z h13) (fun _ => pk_eq o 13 (fun z => absurd z h14) (fun _ => ?_))) (fun z => absurd z (by omega))) (fun z => absurd z (by omega))) (fun z => absurd z (by omega))))⟩⟩⟩
    refine il_takeOver ha hb hi (fun e r => ?_) (fun ne r l' k => ?_)
    · have H' := H r l
      dsimp only at H'
      rw [if_pos e] at H'
      exact H' hi
    · have H' := H r l'
      dsimp only at H'
      rw [if_neg ne] at H'
      exact H' k
theorem il_sv_back {v : Nat} {x : Int32} (hv : v < 32) : il_sv v (if il_b x v = true then 1 else 0) (il_sv v 1 x) = x := by
  apply il_ext
  intro i hi
  rw [il_sv_bit hv hi]
  by_cases e : i = v
  · rw [if_pos e, e]
    cases il_b x v
    · decide
    · decide
  · rw [if_neg e, il_sv_bit hv hi, if_neg e]
theorem il_setsOf {post : Int32 → St1 → Prop} {a1 a2 a3 a4 l : Nat → Int32} {b : Nat} (hb : b < 12) (hi : il_inv a1 a2 a3 a4 l)
    (H : ∀ r l', (∀ y, y < 32 → il_b r y = (decide (y < 20) && il_b (a4 b) y)) → il_inv a1 a2 a3 a4 l' → post r (a1, a2, a3, a4, l')) : wpL_setsOf post (a1, a2, a3, a4, l) (nI b) := by
  show ∃ fu4 : Nat, wL_setsOf_4 post (nI b) fu4 0 0 a1 a2 a3 a4 l
  refine pk_loop (fun n i (s : Int32 × (Nat → Int32)) => wL_setsOf_4 post (nI b) n s.1 (nI i) a1 a2 a3 a4 s.2) (fun i s => (∀ y, y < 32 → il_b s.1 y = (decide (y < i) && il_b (a4 b) y)) ∧ il_inv a1 a2 a3 a4 s.2) 20 0 ((0 : Int32), l) (by omega) ?_ ?_ ?_
  · refine ⟨fun y hy => ?_, hi⟩
    show il_b 0 y = _
    rw [il_0]
    rfl
  · intro n s h
    obtain ⟨m, l'⟩ := s
    show wL_setsOf_4 post (nI b) (n + 1) m (nI 20) a1 a2 a3 a4 l'
    exact pk_le 20 20 (fun _ => H m l' h.1 h.2) (fun z => absurd z (by omega))
  · intro n i s hi h hw
    obtain ⟨m, l'⟩ := s
    have g1 : ∀ y, y < 32 → il_b m y = (decide (y < i) && il_b (a4 b) y) := h.1
    have g2 : il_inv a1 a2 a3 a4 l' := h.2
    show wL_setsOf_4 post (nI b) (n + 1) m (nI i) a1 a2 a3 a4 l'
    refine pk_le 20 i (fun z => absurd z (by omega)) (fun _ => il_set hb hi g2 (fun l2 k2 => il_set hb hi k2 (fun l3 k3 => ?_)))
    rw [pk_us, il_updupd, il_sv_back (by omega), il_updsame] at k3
    rw [pk_us, il_updupd, il_sv_back (by omega), il_updsame]
    cases hc : il_b (a4 b) i
    · refine br_f (by decide) (nm_r (nI_1 i) (hw (m, l3) ⟨fun y hy => ?_, k3⟩))
      show il_b m y = (decide (y < i + 1) && il_b (a4 b) y)
      rw [g1 y hy]
      by_cases e : y = i
      · subst e
        rw [hc, Bool.and_false, Bool.and_false]
      · congr 1
        rw [Bool.eq_iff_iff, decide_eq_true_eq, decide_eq_true_eq]
        omega
    · refine br_t (by decide) (nm_e (nm_r (nI_1 i) (hw (m ||| ((1 : Int32) <<< (nI i &&& 31)), l3) ⟨fun y hy => ?_, k3⟩)))
      show il_b (m ||| ((1 : Int32) <<< (nI i &&& 31))) y = (decide (y < i + 1) && il_b (a4 b) y)
      rw [il_on (by omega) hy, g1 y hy]
      by_cases e : y = i
      · subst e
        rw [hc, decide_eq_true rfl, Bool.or_true, decide_eq_true (Nat.lt_succ_self y)]
        rfl
      · rw [decide_eq_false e, Bool.or_false]
        congr 1
        rw [Bool.eq_iff_iff, decide_eq_true_eq, decide_eq_true_eq]
        omega
end
section
/-! ===== the law ===== -/
theorem il_l273 {post : Int32 → Prop} {L : Nat} {xs : Nat → Int32} {J : Int32 → (Nat → Int32) → (Nat → Int32) → (Nat → Int32) → (Nat → Int32) → (Nat → Int32) → (Nat → Int32) → (Nat → Int32) → (Nat → Int32) → (Nat → Int32) → (Nat → Int32) → (Nat → Int32) → (Nat → Int32) → (Nat → Int32) → (Nat → Int32) → (Nat → Int32) → Prop} {x8 : Int32} {kc ks b : Nat} {a1 a2 a3 a4 a5 m1 m2 m3 m4 m5 u1 u2 u3 u4 u5 : Nat → Int32} (hb : b < 12)
    (H : J (nI (b + 1)) a1 a2 a3 a4 a5 m1 m2 m3 m4 m5 u1 u2 u3 u4 u5) : ∃ n, wL_law_273 post L xs J x8 (nI b) (a5 b) kc ks a1 a2 a3 a4 a5 m1 m2 m3 m4 m5 u1 u2 u3 u4 u5 n 0 := by
  refine pk_loop (σ := Unit) (fun n i _ => wL_law_273 post L xs J x8 (nI b) (a5 b) kc ks a1 a2 a3 a4 a5 m1 m2 m3 m4 m5 u1 u2 u3 u4 u5 n (nI i)) (fun _ _ => True) 20 0 () (by omega) trivial ?_ ?_
  · intro n s h
    exact pk_le 20 20 (fun _ => nm_r (nI_1 b) H) (fun z => absurd z (by omega))
  · intro n i s hi h hw
    show wL_law_273 post L xs J x8 (nI b) (a5 b) kc ks a1 a2 a3 a4 a5 m1 m2 m3 m4 m5 u1 u2 u3 u4 u5 (n + 1) (nI i)
    refine pk_le 20 i (fun z => absurd z (by omega)) (fun _ => il_liveBlocks hi (fun r hr => br_t ?_ (nm_r (nI_1 i) (hw () trivial))))
    rw [il_bit _ (by omega), il_bit _ (by omega), hr b hb]
theorem il_l171 {L : Nat} {xs : Nat → Int32} {kc ks : Nat} {a1 a2 a3 a4 a5 m1 m2 m5 u5 : Nat → Int32} (hl : il_inv a1 a2 a3 a4 a5) (hm : il_inv m1 m2 a3 a4 m5) (hu : il_inv (fun _ => 0) (fun _ => 0) a3 a4 u5)
    (h1 : ∀ x y, x < 12 → y < 12 → il_b (a1 x) y = il_b (m1 x) y) :
    ∃ n, wL_law_171 (fun r => r = 1) L xs 1 kc ks n 0 a1 a2 a3 a4 a5 m1 m2 a3 a4 m5 (fun _ => 0) (fun _ => 0) a3 a4 u5 := by
  refine pk_loop (fun n i s => wL_law_171 (fun r => r = 1) L xs 1 kc ks n (nI i) a1 a2 a3 a4 a5 m1 m2 a3 a4 m5 (fun _ => 0) (fun _ => 0) a3 a4 s) (fun _ s => il_inv (fun _ => 0) (fun _ => 0) a3 a4 s) 12 0 u5 (by omega) hu ?_ ?_
  · intro n s h
    exact pk_le 12 12 (fun _ => rfl) (fun z => absurd z (by omega))
  · intro n i s hi h hw
    show wL_law_171 (fun r => r = 1) L xs 1 kc ks (n + 1) (nI i) a1 a2 a3 a4 a5 m1 m2 a3 a4 m5 (fun _ => 0) (fun _ => 0) a3 a4 s
    have hlm : ∀ c, c < 12 → m5 c = a5 c := fun c hc => (il_uniq hl hm h1 hc).symm
    have hsu : ∀ v, v < 32 → il_b (s i) v = il_b (a3 i) v := by
      intro v hv
      rw [Bool.eq_iff_iff, il_fix h hi hv]
      constructor
      · intro hf
        rcases hf with g | ⟨⟨c, hc, g, hp⟩, _⟩
        · exact g
        · exact (il_ft g (il_0 c)).elim
      · exact fun g => Or.inl g
    refine pk_le 12 i (fun z => absurd z (by omega)) (fun _ => il_liveIn hi (il_liveOut hi (fun r8 e8 => il_liveIn hi (il_setsOf hi h (fun r10 s' e10 hs' => il_lbehind hi (fun r26 e26 => br_t ?_ (br_t ?_ (il_liveIn hi (br_t (hlm i hi) (il_liveOut hi (fun r31 e31 => br_t ?_ (br_t rfl (il_l273 hi (hw s' hs'))))))))))))))
    · exact il_E_eq e8 e26 (fun _ _ => rfl) (fun _ _ => rfl)
    · apply il_ext
      intro v hv
      rw [il_or, il_and, il_not _ hv, hsu v hv, e10 v hv, Bool.eq_iff_iff, il_fix hl hi hv, Bool.or_eq_true, Bool.and_eq_true, e8 v hv]
      constructor
      · intro hf
        have v20 := il_F20 hl.2.1 (il_live20 hl.2.1 hl.2.2.1) hi hv hf
        rcases hf with g | ⟨g, g4⟩
        · exact Or.inl g
        · refine Or.inr ⟨g, ?_⟩
          rw [g4, Bool.and_false]
          rfl
      · intro hf
        rcases hf with g | ⟨⟨c, hc, g1, g2⟩, g4⟩
        · exact Or.inl g
        · refine Or.inr ⟨⟨c, hc, g1, g2⟩, ?_⟩
          rcases Nat.lt_or_ge v 20 with z | z
          · rw [decide_eq_true z, Bool.true_and] at g4
            cases e : il_b (a4 i) v
            · rfl
            · rw [e] at g4
              exact absurd g4 (by decide)
          · exact (il_ft g2 (il_live20 hl.2.1 hl.2.2.1 c v hc z hv)).elim
    · exact il_E_eq e31 e8 (fun c hc => (h1 i c hi hc).symm) hlm
/-- an arc laid and taken again: the bits are as before, and it was there between -/
theorem il_arc2 {a c : Nat} (ha : a < 12) (hc : c < 12) (q : (Nat → Int32) × (Nat → Int32)) :
    (∀ x y, x < 12 → y < 12 → il_b (q.1 x) y = il_b ((il_pa a c (if il_b (q.1 a) c = true then 1 else 0) (il_pa a c 1 q)).1 x) y) ∧ il_b ((il_pa a c 1 q).1 a) c = true := by
  have e1 : il_pa a c 1 q = il_pj a c q := if_neg (by decide)
  rw [e1]
  cases h : il_b (q.1 a) c
  · have e2 : il_pj a c q = (upd q.1 a (q.1 a ||| ((1 : Int32) <<< (nI c &&& 31))), upd q.2 c (q.2 c ||| ((1 : Int32) <<< (nI a &&& 31)))) := if_neg (by rw [h]; decide)
    have hb1 : il_b ((il_pj a c q).1 a) c = true := by
      rw [e2]
      show il_b (upd q.1 a (q.1 a ||| ((1 : Int32) <<< (nI c &&& 31))) a) c = true
      rw [pk_us, il_on (by omega) (by omega), decide_eq_true rfl, Bool.or_true]
    refine ⟨fun x y hx hy => ?_, hb1⟩
    have e3 : il_pa a c (if false = true then 1 else 0) (il_pj a c q) = il_pp a c (il_pj a c q) := if_pos (by decide)
    rw [e3]
    have e4 : (il_pp a c (il_pj a c q)).1 = upd (il_pj a c q).1 a ((il_pj a c q).1 a &&& (((1 : Int32) <<< (nI c &&& 31)) ^^^ (-1))) := by
      unfold il_pp
      rw [if_pos hb1]
    rw [e4, e2]
    show il_b (q.1 x) y = il_b (upd (upd q.1 a (q.1 a ||| ((1 : Int32) <<< (nI c &&& 31)))) a ((upd q.1 a (q.1 a ||| ((1 : Int32) <<< (nI c &&& 31)))) a &&& (((1 : Int32) <<< (nI c &&& 31)) ^^^ (-1))) x) y
    by_cases e : x = a
    · subst e
      rw [pk_us, pk_us, il_off (by omega) (by omega), il_on (by omega) (by omega)]
      by_cases g : y = c
      · subst g
        rw [h]
        simp
      · simp [g]
    · rw [pk_un e, pk_un e]
  · have e2 : il_pj a c q = q := if_pos h
    have e3 : il_pa a c (if true = true then 1 else 0) q = il_pj a c q := if_neg (by decide)
    rw [e2, e3, e2]
    exact ⟨fun _ _ _ _ => rfl, h⟩
theorem il_l41 {L : Nat} {xs : Nat → Int32} {x4 : Int32} {kc ks : Nat} (hL : L ≤ 260) :
    ∃ n, wL_law_41 (fun r => r = 1) L xs x4 kc ks n 1 (fun _ => 0) (fun _ => 0) (fun _ => 0) (fun _ => 0) (fun _ => 0) (fun _ => 0) (fun _ => 0) (fun _ => 0) (fun _ => 0) (fun _ => 0) (fun _ => 0) (fun _ => 0) (fun _ => 0) (fun _ => 0) (fun _ => 0) := by
  obtain ⟨a, ha, ea⟩ := il_mod (x := x4) (m := 15) 4 12 (by decide) (by decide) (by decide) (by decide)
  obtain ⟨c, hc, ec⟩ := il_mod (x := x4 >>> ((4 : Int32) &&& 31)) (m := 15) 4 12 (by decide) (by decide) (by decide) (by decide)
  have n12 : ¬ (12 : Int32) = 0 := by decide
  have step : ∀ (n t : Nat) (q w : (Nat → Int32) × (Nat → Int32)) (l m u : Nat → Int32), t ≤ 130 → il_inv q.1 q.2 w.1 w.2 l → il_inv q.1 q.2 w.1 w.2 m → il_inv (fun _ => 0) (fun _ => 0) w.1 w.2 u →
      (2 * t + 1 + 1 < L → ∀ (q' w' : (Nat → Int32) × (Nat → Int32)) (l' m' u' : Nat → Int32), il_inv q'.1 q'.2 w'.1 w'.2 l' → il_inv q'.1 q'.2 w'.1 w'.2 m' → il_inv (fun _ => 0) (fun _ => 0) w'.1 w'.2 u' →
        wL_law_41 (fun r => r = 1) L xs x4 kc ks n (nI (2 * (t + 1) + 1)) q'.1 q'.2 w'.1 w'.2 l' q'.1 q'.2 w'.1 w'.2 m' (fun _ => 0) (fun _ => 0) w'.1 w'.2 u') →
      wL_law_41 (fun r => r = 1) L xs x4 kc ks (n + 1) (nI (2 * t + 1)) q.1 q.2 w.1 w.2 l q.1 q.2 w.1 w.2 m (fun _ => 0) (fun _ => 0) w.1 w.2 u := by
    intro n t q w l m u ht hl hm hu hw
    have e2 : nI (2 * t + 1) + 2 = nI (2 * (t + 1) + 1) := nI_add (2 * t + 1) 2
    refine pk_le L (2 * t + 1 + 1) (fun _ => ?_) (fun z => ?_) (hy := nI_1 _)
    · refine ⟨n12, nm_r ea ⟨n12, nm_r ec (il_arc ha hc hm (fun m1 k1 => il_arc ha hc k1 (fun m2 k2 => ?_)))⟩⟩
      obtain ⟨g1, g2⟩ := il_arc2 ha hc q
      rw [if_pos g2]
      exact il_l171 hl k2 hu g1
    · have i1 : vp_in (nI (2 * t + 1)) L := pk_in (2 * t + 1) L (by omega)
      have i2 : vp_in (nI (2 * t + 1) + 1) L := pk_in (2 * t + 1 + 1) L (by omega) (nI_1 _)
      have hw' := hw z
      rw [← e2] at hw'
      obtain ⟨G, K, hK, hG, hT⟩ := il_turn (xs (nI (2 * t + 1)).toNatClampNeg) (xs (nI (2 * t + 1) + 1).toNatClampNeg)
      refine ⟨i1, nm_e ⟨i1, i2, hT q w l _ hl (fun r l' kl => ⟨i1, i2, hT q w m _ hm (fun r2 m' km => br_c (fun z5 => nm_e ?_) (fun z5 => br_c (fun z13 => nm_e ?_) (fun z13 => ⟨i1, i2, ?_⟩)))⟩)⟩⟩
      · have e := hK (Or.inl z5) w
        rw [e] at kl km ⊢
        exact hw' (G q) w l' m' u kl km hu
      · have e := hK (Or.inr z13) w
        rw [e] at kl km ⊢
        exact hw' (G q) w l' m' u kl km hu
      · refine hT ((fun _ => 0), (fun _ => 0)) w u _ hu (fun r3 u' ku => nm_e ?_)
        rw [hG ⟨z5, z13⟩ ((fun _ => 0), (fun _ => 0))] at ku ⊢
        exact hw' (G q) (K w) l' m' u' kl km ku
  exact pk_loop (fun n t (s : ((Nat → Int32) × (Nat → Int32)) × ((Nat → Int32) × (Nat → Int32)) × (Nat → Int32) × (Nat → Int32) × (Nat → Int32)) => wL_law_41 (fun r => r = 1) L xs x4 kc ks n (nI (2 * t + 1)) s.1.1 s.1.2 s.2.1.1 s.2.1.2 s.2.2.1 s.1.1 s.1.2 s.2.1.1 s.2.1.2 s.2.2.2.1 (fun _ => 0) (fun _ => 0) s.2.1.1 s.2.1.2 s.2.2.2.2)
    (fun t s => il_inv s.1.1 s.1.2 s.2.1.1 s.2.1.2 s.2.2.1 ∧ il_inv s.1.1 s.1.2 s.2.1.1 s.2.1.2 s.2.2.2.1 ∧ il_inv (fun _ => 0) (fun _ => 0) s.2.1.1 s.2.1.2 s.2.2.2.2) 130 0 (((fun _ => 0), (fun _ => 0)), ((fun _ => 0), (fun _ => 0)), (fun _ => 0), (fun _ => 0), (fun _ => 0)) (by omega) ⟨il_inv0, il_inv0, il_inv0⟩
    (fun n s h => step n 130 s.1 s.2.1 s.2.2.1 s.2.2.2.1 s.2.2.2.2 (by omega) h.1 h.2.1 h.2.2 (fun z => absurd z (by omega)))
    (fun n t s ht h hw => step n t s.1 s.2.1 s.2.2.1 s.2.2.2.1 s.2.2.2.2 (by omega) h.1 h.2.1 h.2.2 (fun _ q' w' l' m' u' k1 k2 k3 => hw (q', w', l', m', u') ⟨k1, k2, k3⟩))
theorem i_vc (xs : Nat → Int32) (L : Nat) (hL : L ≤ 260) : wpL_law (fun r => r = 1) L xs := by
  unfold wpL_law
  refine ⟨5, 60, by omega, by omega, by omega, by omega, by omega, by omega, by omega, by omega, by omega, by omega, by omega, by omega, ?_⟩
  refine ⟨by omega, by omega, 5, 60, by omega, by omega, by omega, by omega, by omega, by omega, by omega, by omega, by omega, by omega, by omega, by omega, ?_⟩
  refine ⟨by omega, by omega, 5, 60, by omega, by omega, by omega, by omega, by omega, by omega, by omega, by omega, by omega, by omega, by omega, by omega, ?_⟩
  refine pk_le L 0 (fun _ => il_l41 hL) (fun z => ⟨pk_in 0 L z, nm_e (il_l41 hL)⟩)
end
