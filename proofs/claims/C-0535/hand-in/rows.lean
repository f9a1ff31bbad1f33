section
theorem pk_us {f : Nat → Int32} {k : Nat} {x : Int32} : upd f k x k = x := if_pos rfl
theorem pk_un {f : Nat → Int32} {k j : Nat} {x : Int32} (h : j ≠ k) : upd f k x j = f j := if_neg h
theorem pk_sub {a b : Nat} (h : b ≤ a) : nI a - nI b = nI (a - b) := by
  obtain ⟨c, rfl⟩ : ∃ c, a = c + b := ⟨a - b, by omega⟩
  rw [← nI_add, Int32.add_sub_cancel, Nat.add_sub_cancel]
theorem pk_mul (a b : Nat) : nI a * nI b = nI (a * b) := (Int32.ofNat_mul a b).symm
theorem pk_div {a d : Nat} (ha : a < 2 ^ 31) (h0 : 0 < d) (hd : d < 2 ^ 31) : nI a / nI d = nI (a / d) := by
  apply Int32.toInt_inj.mp
  rw [lg_idiv_nonneg (by rw [nI_toInt ha]; omega) (by rw [nI_toInt hd]; omega), nI_toInt ha, nI_toInt hd, nI_toInt (Nat.lt_of_le_of_lt (Nat.div_le_self a d) ha)]
  first | rfl | exact (Int.natCast_ediv _ _).symm
theorem pk_rem {a d : Nat} (ha : a < 2 ^ 31) (h0 : 0 < d) (hd : d < 2 ^ 31) : nI a - nI a / nI d * nI d = nI (a % d) := by
  rw [pk_div ha h0 hd, pk_mul, pk_sub (Nat.div_mul_le_self a d)]
  exact congrArg nI (by have := Nat.div_add_mod' a d; omega)
theorem pk_le {x y : Int32} {A B : Prop} (a b : Nat) (f : a ≤ b → A) (g : b < a → B) (hx : x = nI a := by rfl) (hy : y = nI b := by rfl) (ha : a < 2 ^ 31 := by omega) (hb : b < 2 ^ 31 := by omega) : (x ≤ y → A) ∧ (¬ x ≤ y → B) := by
  subst hx hy
  rw [nI_leI ha hb]
  exact ⟨f, fun z => g (by omega)⟩
theorem pk_lt {x y : Int32} {A B : Prop} (a b : Nat) (f : a < b → A) (g : b ≤ a → B) (hx : x = nI a := by rfl) (hy : y = nI b := by rfl) (ha : a < 2 ^ 31 := by omega) (hb : b < 2 ^ 31 := by omega) : (x < y → A) ∧ (¬ x < y → B) := by
  subst hx hy
  rw [nI_ltI ha hb]
  exact ⟨f, fun z => g (by omega)⟩
theorem pk_eq {x y : Int32} {A B : Prop} (a b : Nat) (f : a = b → A) (g : a ≠ b → B) (hx : x = nI a := by rfl) (hy : y = nI b := by rfl) (ha : a < 2 ^ 31 := by omega) (hb : b < 2 ^ 31 := by omega) : (x = y → A) ∧ (¬ x = y → B) := by
  subst hx hy
  rw [nI_eq ha hb]
  exact ⟨f, g⟩
theorem pk_in {x : Int32} (n N : Nat) (h : n < N) (hx : x = nI n := by rfl) (hN : N < 2 ^ 31 := by omega) : vp_in x N := by
  subst hx
  exact vp_in_nI h hN
theorem pk_cl {x : Int32} (n : Nat) (hx : x = nI n := by rfl) (h : n < 2 ^ 31 := by omega) : x.toNatClampNeg = n := by
  subst hx
  exact nI_clamp h
end
section
/-! the layout: the records' names in the order of their addresses -/
def bh_ad (F : Nat → Nat) : List Nat → Nat → Nat
  | [], _ => 0
  | x :: t, i => if i = x then 0 else F x + 1 + bh_ad F t i
def bh_tot (F : Nat → Nat) : List Nat → Nat
  | [] => 0
  | x :: t => F x + 1 + bh_tot F t
theorem bh_ad_hd (F : Nat → Nat) (x : Nat) (t : List Nat) : bh_ad F (x :: t) x = 0 := if_pos rfl
theorem bh_ad_tl (F : Nat → Nat) {x i : Nat} (t : List Nat) (h : i ≠ x) : bh_ad F (x :: t) i = F x + 1 + bh_ad F t i := if_neg h
theorem bh_tot_app (F : Nat → Nat) (P Q : List Nat) : bh_tot F (P ++ Q) = bh_tot F P + bh_tot F Q := by
  induction P with
  | nil => show bh_tot F Q = 0 + bh_tot F Q; omega
  | cons x t ih => show F x + 1 + bh_tot F (t ++ Q) = F x + 1 + bh_tot F t + bh_tot F Q; omega
theorem bh_tot_1 (F : Nat → Nat) (P : List Nat) (x : Nat) : bh_tot F (P ++ [x]) = bh_tot F P + F x + 1 := by
  rw [bh_tot_app]; show _ + (F x + 1 + 0) = _; omega
theorem bh_ad_l (F : Nat → Nat) (P Q : List Nat) {i : Nat} (h : i ∈ P) : bh_ad F (P ++ Q) i = bh_ad F P i := by
  induction P with
  | nil => cases h
  | cons x t ih =>
    by_cases e : i = x
    · subst e; show bh_ad F (i :: (t ++ Q)) i = _; rw [bh_ad_hd, bh_ad_hd]
    · show bh_ad F (x :: (t ++ Q)) i = _
      rw [bh_ad_tl F _ e, bh_ad_tl F _ e, ih ((List.mem_cons.mp h).resolve_left e)]
theorem bh_ad_r (F : Nat → Nat) (P Q : List Nat) {i : Nat} (h : i ∉ P) : bh_ad F (P ++ Q) i = bh_tot F P + bh_ad F Q i := by
  induction P with
  | nil => show bh_ad F Q i = 0 + bh_ad F Q i; omega
  | cons x t ih =>
    have e : i ≠ x := fun e => h (List.mem_cons.mpr (Or.inl e))
    have e2 : i ∉ t := fun e => h (List.mem_cons.mpr (Or.inr e))
    show bh_ad F (x :: (t ++ Q)) i = F x + 1 + bh_tot F t + _
    rw [bh_ad_tl F _ e, ih e2]; omega
theorem bh_ad_at (F : Nat → Nat) {P : List Nat} (Q : List Nat) {x : Nat} (h : x ∉ P) : bh_ad F (P ++ x :: Q) x = bh_tot F P := by
  rw [bh_ad_r F P _ h, bh_ad_hd]; rfl
theorem bh_ad_lt (F : Nat → Nat) {L : List Nat} {i : Nat} (h : i ∈ L) : bh_ad F L i + F i + 1 ≤ bh_tot F L := by
  induction L with
  | nil => cases h
  | cons x t ih =>
    by_cases e : i = x
    · subst e; rw [bh_ad_hd]; show _ ≤ F i + 1 + bh_tot F t; omega
    · have := ih ((List.mem_cons.mp h).resolve_left e)
      rw [bh_ad_tl F _ e]; show _ ≤ F x + 1 + bh_tot F t; omega
theorem bh_ad_sep (F : Nat → Nat) {L : List Nat} {i j : Nat} (hi : i ∈ L) (hj : j ∈ L) (h : i ≠ j) : bh_ad F L i + F i + 1 ≤ bh_ad F L j ∨ bh_ad F L j + F j + 1 ≤ bh_ad F L i := by
  induction L with
  | nil => cases hi
  | cons x t ih =>
    by_cases e : i = x
    · subst e
      left; rw [bh_ad_hd, bh_ad_tl F _ (Ne.symm h)]; omega
    · by_cases e2 : j = x
      · subst e2
        right; rw [bh_ad_hd, bh_ad_tl F _ e]; omega
      · rw [bh_ad_tl F _ e, bh_ad_tl F _ e2]
        have := ih ((List.mem_cons.mp hi).resolve_left e) ((List.mem_cons.mp hj).resolve_left e2)
        omega
theorem bh_ad_inj (F : Nat → Nat) {L : List Nat} {i j : Nat} (hi : i ∈ L) (hj : j ∈ L) (h : bh_ad F L i = bh_ad F L j) : i = j := by
  by_cases e : i = j
  · exact e
  · have := bh_ad_sep F hi hj e; omega
theorem bh_ad_cg {F G : Nat → Nat} {L : List Nat} (h : ∀ i, i ∈ L → F i = G i) (i : Nat) : bh_ad F L i = bh_ad G L i := by
  induction L with
  | nil => rfl
  | cons x t ih =>
    by_cases e : i = x
    · subst e; rw [bh_ad_hd, bh_ad_hd]
    · rw [bh_ad_tl F _ e, bh_ad_tl G _ e, ih (fun j hj => h j (List.mem_cons_of_mem _ hj)), h x List.mem_cons_self]
theorem bh_tot_cg {F G : Nat → Nat} {L : List Nat} (h : ∀ i, i ∈ L → F i = G i) : bh_tot F L = bh_tot G L := by
  induction L with
  | nil => rfl
  | cons x t ih =>
    show F x + 1 + _ = G x + 1 + _
    rw [ih (fun j hj => h j (List.mem_cons_of_mem _ hj)), h x List.mem_cons_self]
theorem bh_tot_fl (F : Nat → Nat) (m : Nat → Bool) (P : List Nat) : bh_tot F (P.filter m) ≤ bh_tot F P := by
  induction P with
  | nil => exact Nat.le_refl _
  | cons x t ih =>
    by_cases e : m x = true
    · rw [List.filter_cons_of_pos e]; show F x + 1 + _ ≤ F x + 1 + _; omega
    · rw [List.filter_cons_of_neg e]; show _ ≤ F x + 1 + _; omega
theorem bh_pig {n : Nat} {V : List Nat} (h : V.Nodup) (hV : ∀ i, i ∈ V → i < n) : V.length ≤ n := by
  have := List.Nodup.length_le_of_subset h (l₂ := List.range n) (fun i hi => List.mem_range.mpr (hV i hi))
  rwa [List.length_range] at this
/-! the sum over all names -/
def bh_us (F : Nat → Nat) (L : List Nat) : Nat → Nat
  | 0 => 0
  | n + 1 => bh_us F L n + (if n ∈ L then F n + 1 else 0)
theorem bh_us_nil (F : Nat → Nat) (n : Nat) : bh_us F [] n = 0 := by
  induction n with
  | zero => rfl
  | succ n ih =>
    show bh_us F [] n + (if n ∈ [] then F n + 1 else 0) = 0
    rw [ih, if_neg List.not_mem_nil]
theorem bh_us_cons (F : Nat → Nat) {x : Nat} {t : List Nat} (h : x ∉ t) (n : Nat) : bh_us F (x :: t) n = bh_us F t n + (if x < n then F x + 1 else 0) := by
  induction n with
  | zero => rfl
  | succ n ih =>
    show bh_us F (x :: t) n + (if n ∈ x :: t then F n + 1 else 0) = bh_us F t n + (if n ∈ t then F n + 1 else 0) + _
    rw [ih]
    by_cases e : n = x
    · subst e
      rw [if_pos List.mem_cons_self, if_neg h, if_neg (Nat.lt_irrefl _), if_pos (Nat.lt_succ_self _)]
    · have e1 : (n ∈ x :: t) ↔ n ∈ t := ⟨fun z => (List.mem_cons.mp z).resolve_left e, List.mem_cons_of_mem _⟩
      have e2 : x < n ↔ x < n + 1 := by omega
      simp only [e1, ← e2]
      omega
theorem bh_us_tot (F : Nat → Nat) {n : Nat} {L : List Nat} (h : L.Nodup) (hL : ∀ i, i ∈ L → i < n) : bh_us F L n = bh_tot F L := by
  induction L with
  | nil => exact bh_us_nil F n
  | cons x t ih =>
    have hn := List.nodup_cons.mp h
    rw [bh_us_cons F hn.1, ih hn.2 (fun i hi => hL i (List.mem_cons_of_mem _ hi)), if_pos (hL x List.mem_cons_self)]
    show _ = F x + 1 + _
    omega
/-! a slot of the component and a slot of the reference -/
def bh_V (L : List Nat) (A : Nat → Nat) (rx wx ry cy : Int32) : Prop :=
  (rx = 0 ∧ ry = 0 ∧ wx = cy) ∨ (rx = 1 ∧ ry = 1 ∧ ∃ j, j ∈ L ∧ wx = nI (A j) ∧ cy = nI j)
def bh_N (L : List Nat) (F : Nat → Nat) : Prop := L.Nodup ∧ (∀ i, i ∈ L → i < 36 ∧ 1 ≤ F i ∧ F i ≤ 6) ∧ bh_tot F L ≤ 72
def bh_O (L : List Nat) (F : Nat → Nat) (fo : Nat → Int32) : Prop := ∀ i, i < 36 → fo i = nI (if i ∈ L then F i else 0)
def bh_G (L : List Nat) (F : Nat → Nat) (held heldR rf ct : Nat → Int32) : Prop := ∀ r, r < 6 → bh_V L (bh_ad F L) (heldR r) (held r) (rf r) (ct r)
def bh_H (L : List Nat) (F : Nat → Nat) (word : Nat → Int32) : Prop := ∀ i, i ∈ L → word (bh_ad F L i) = nI (F i)
def bh_D (L : List Nat) (F : Nat → Nat) (word refers rf ct : Nat → Int32) : Prop := ∀ i f, i ∈ L → f < F i → bh_V L (bh_ad F L) (refers (bh_ad F L i + 1 + f)) (word (bh_ad F L i + 1 + f)) (rf (6 + 6 * i + f)) (ct (6 + 6 * i + f))
theorem bh_01 : ¬ (1 : Int32) = 0 := by decide
theorem bh_n0 : vp_nar .boolean 0 = 0 := rfl
theorem bh_n1 : vp_nar .boolean 1 = 1 := rfl
theorem bh_V01 {L : List Nat} {A : Nat → Nat} {rx wx ry cy : Int32} (h : bh_V L A rx wx ry cy) : rx = ry ∧ (rx = 0 ∨ rx = 1) := by
  rcases h with ⟨a, b, _⟩ | ⟨a, b, _⟩
  · exact ⟨a.trans b.symm, Or.inl a⟩
  · exact ⟨a.trans b.symm, Or.inr a⟩
theorem bh_Vn {L : List Nat} {A : Nat → Nat} {rx wx ry cy : Int32} (h : bh_V L A rx wx ry cy) : vp_nar .boolean rx = rx ∧ vp_nar .boolean ry = ry := by
  rcases h with ⟨a, b, _⟩ | ⟨a, b, _⟩ <;> rw [a, b] <;> exact ⟨rfl, rfl⟩
theorem bh_Vr {L : List Nat} {A : Nat → Nat} {rx wx ry cy : Int32} (h : bh_V L A rx wx ry cy) (hn : ¬ rx = 0) : ry = 1 ∧ ∃ j, j ∈ L ∧ wx = nI (A j) ∧ cy = nI j := by
  rcases h with ⟨a, _, _⟩ | ⟨_, b, c⟩
  · exact absurd a hn
  · exact ⟨b, c⟩
theorem bh_Vy {L : List Nat} {A : Nat → Nat} {rx wx ry cy : Int32} (h : bh_V L A rx wx ry cy) : ry = 0 ∨ (ry = 1 ∧ ∃ j, j ∈ L ∧ cy = nI j) := by
  rcases h with ⟨_, b, _⟩ | ⟨_, b, j, h1, _, h2⟩
  · exact Or.inl b
  · exact Or.inr ⟨b, j, h1, h2⟩
theorem bh_Vm {L M : List Nat} {A B : Nat → Nat} {rx wx ry cy : Int32} (h : bh_V L A rx wx ry cy) (hs : ∀ j, j ∈ L → j ∈ M) (he : ∀ j, j ∈ L → A j = B j) : bh_V M B rx wx ry cy := by
  rcases h with h | ⟨a, b, j, h1, h2, h3⟩
  · exact Or.inl h
  · exact Or.inr ⟨a, b, j, hs j h1, by rw [← he j h1]; exact h2, h3⟩
theorem bh_al {L : List Nat} {F : Nat → Nat} (hN : bh_N L F) {i : Nat} (hi : i ∈ L) : bh_ad F L i + F i + 1 ≤ 72 := Nat.le_trans (bh_ad_lt F hi) hN.2.2
theorem bh_len {L : List Nat} {F : Nat → Nat} (hN : bh_N L F) : L.length ≤ 36 := bh_pig hN.1 (fun i hi => (hN.2.1 i hi).1)
theorem bh_inI {a b : Nat} (ha : a < 72) (hb : b < 72) (h : nI a = nI b) : a = b := (nI_eq (by omega) (by omega)).mp h
/-! what is reached: the least set -/
def bh_rt (L : List Nat) (rf ct : Nat → Int32) (i : Nat) : Prop := i ∈ L ∧ ∃ r, r < 6 ∧ rf r = 1 ∧ ct r = nI i
def bh_sc (L : List Nat) (F : Nat → Nat) (rf ct : Nat → Int32) (i j : Nat) : Prop := j ∈ L ∧ ∃ f, f < F i ∧ rf (6 + 6 * i + f) = 1 ∧ ct (6 + 6 * i + f) = nI j
def bh_Rc (L : List Nat) (F : Nat → Nat) (rf ct : Nat → Int32) (i : Nat) : Prop := ∀ S : Nat → Prop, (∀ a, bh_rt L rf ct a → S a) → (∀ a b, S a → bh_sc L F rf ct a b → S b) → S i
theorem bh_Rc_rt {L : List Nat} {F : Nat → Nat} {rf ct : Nat → Int32} {i : Nat} (h : bh_rt L rf ct i) : bh_Rc L F rf ct i := fun _ h1 _ => h1 i h
theorem bh_Rc_sc {L : List Nat} {F : Nat → Nat} {rf ct : Nat → Int32} {i j : Nat} (h : bh_Rc L F rf ct i) (hs : bh_sc L F rf ct i j) : bh_Rc L F rf ct j := fun S h1 h2 => h2 i j (h S h1 h2) hs
noncomputable def bh_m (L : List Nat) (F : Nat → Nat) (rf ct : Nat → Int32) (i : Nat) : Bool := @decide (bh_Rc L F rf ct i) (Classical.propDecidable _)
theorem bh_m_t {L : List Nat} {F : Nat → Nat} {rf ct : Nat → Int32} {i : Nat} : bh_m L F rf ct i = true ↔ bh_Rc L F rf ct i := @decide_eq_true_iff _ (Classical.propDecidable _)
theorem bh_m_f {L : List Nat} {F : Nat → Nat} {rf ct : Nat → Int32} {i : Nat} : bh_m L F rf ct i = false ↔ ¬ bh_Rc L F rf ct i := by
  rw [← bh_m_t]; cases bh_m L F rf ct i <;> simp
theorem bh_N_fl {L : List Nat} {F : Nat → Nat} (hN : bh_N L F) (m : Nat → Bool) : bh_N (L.filter m) F :=
  ⟨List.Nodup.sublist List.filter_sublist hN.1, fun i hi => hN.2.1 i (List.mem_filter.mp hi).1, Nat.le_trans (bh_tot_fl F m L) hN.2.2⟩
end
section
/-! the component's marking: V the records that were ever reached, the first w of st those still to be looked through -/
def bh_On (A : Nat → Nat) (w : Nat) (st : Nat → Int32) (i : Nat) : Prop := ∃ j, j < w ∧ st j = nI (A i)
def bh_MI (L : List Nat) (F : Nat → Nat) (rf ct : Nat → Int32) (s : Nat) (V : List Nat) (w : Nat) (st rch : Nat → Int32) : Prop :=
  V.Nodup ∧ (∀ i, i ∈ V → i ∈ L ∧ bh_Rc L F rf ct i) ∧ (∀ i, i ∈ L → (rch (bh_ad F L i) = 0 ↔ i ∉ V)) ∧ (∀ j, j < w → ∃ i, i ∈ V ∧ st j = nI (bh_ad F L i)) ∧ V.length = s + w
def bh_Ex (A : Nat → Nat) (V : List Nat) (w : Nat) (st : Nat → Int32) (V' : List Nat) (w' : Nat) (st' : Nat → Int32) : Prop :=
  (∀ i, i ∈ V → i ∈ V') ∧ (∀ i, bh_On A w st i → bh_On A w' st' i) ∧ (∀ i, i ∈ V' → i ∈ V ∨ bh_On A w' st' i)
section
variable {L : List Nat} {F : Nat → Nat} {rf ct : Nat → Int32} {top brk : Int32} {word refers held heldR bA bB : Nat → Int32}
theorem bh_MI_len {s w : Nat} {V : List Nat} {st rch : Nat → Int32} (hN : bh_N L F) (hM : bh_MI L F rf ct s V w st rch) : s + w ≤ 36 := by
  have := bh_pig hM.1 (fun i hi => (hN.2.1 i (hM.2.1 i hi).1).1)
  have := hM.2.2.2.2
  omega
theorem bh_xreach {s w k : Nat} {V : List Nat} {st rch : Nat → Int32} {post : SX → Prop} (hN : bh_N L F) (hM : bh_MI L F rf ct s V w st rch) (hk : k ∈ L) (hr : bh_Rc L F rf ct k) {x : Int32} (hx : x = nI (bh_ad F L k))
    (K : ∀ (V' : List Nat) (w' : Nat) (st' rch' : Nat → Int32), bh_MI L F rf ct s V' w' st' rch' → bh_Ex (bh_ad F L) V w st V' w' st' → k ∈ V' → post (top, nI w', brk, word, refers, held, heldR, rch', st', bA, bB)) :
    wpX_reach post (top, nI w, brk, word, refers, held, heldR, rch, st, bA, bB) x := by
  subst hx
  have hl := bh_MI_len hN hM
  obtain ⟨h1, h2, h3, h4, h5⟩ := hM
  have hA := bh_al hN hk
  have hc : (nI (bh_ad F L k)).toNatClampNeg = bh_ad F L k := nI_clamp (by omega)
  have hi : vp_in (nI (bh_ad F L k)) 72 := vp_in_nI (by omega) (by omega)
  refine And.intro hi (br_c (fun z => ?_) (fun z => ?_))
  · rw [hc] at z
    have kn : k ∉ V := (h3 k hk).mp z
    refine ⟨hi, nm_r (e' := upd rch (bh_ad F L k) 1) (by rw [hc]; rfl) ⟨vp_in_nI (by omega) (by omega), nm_r (e' := upd st w (nI (bh_ad F L k))) (by rw [nI_clamp (by omega)]) (nm_r (nI_1 w) (K (k :: V) (w + 1) _ _ ⟨?_, ?_, ?_, ?_, ?_⟩ ⟨?_, ?_, ?_⟩ List.mem_cons_self))⟩⟩
    · exact List.nodup_cons.mpr ⟨kn, h1⟩
    · intro i hi
      rcases List.mem_cons.mp hi with e | e
      · subst e; exact ⟨hk, hr⟩
      · exact h2 i e
    · intro i hiL
      by_cases e : i = k
      · subst e
        rw [pk_us]
        exact ⟨fun c => absurd c bh_01, fun c => absurd List.mem_cons_self c⟩
      · rw [pk_un (fun c => e (bh_ad_inj F hiL hk c)), h3 i hiL]
        exact ⟨fun c d => c ((List.mem_cons.mp d).resolve_left e), fun c d => c (List.mem_cons_of_mem _ d)⟩
    · intro j hj
      by_cases e : j = w
      · subst e; exact ⟨k, List.mem_cons_self, pk_us⟩
      · obtain ⟨i, a, b⟩ := h4 j (by omega)
        exact ⟨i, List.mem_cons_of_mem _ a, by rw [pk_un e]; exact b⟩
    · show V.length + 1 = _; omega
    · exact fun i h => List.mem_cons_of_mem _ h
    · intro i ⟨j, hj, e⟩
      exact ⟨j, by omega, by rw [pk_un (by omega)]; exact e⟩
    · intro i h
      rcases List.mem_cons.mp h with e | e
      · subst e; exact Or.inr ⟨w, by omega, pk_us⟩
      · exact Or.inl e
  · rw [hc] at z
    exact K V w st rch ⟨h1, h2, h3, h4, h5⟩ ⟨fun _ h => h, fun _ h => h, fun _ h => Or.inl h⟩ (Classical.byContradiction fun c => z ((h3 k hk).mpr c))
/-- what is looked through: c up to field f -/
def bh_gr (L : List Nat) (F : Nat → Nat) (rf ct : Nat → Int32) (c f : Nat) (V : List Nat) (w : Nat) (st : Nat → Int32) : Prop :=
  ∀ i, i ∈ V → bh_On (bh_ad F L) w st i ∨ (∀ j, bh_sc L F rf ct i j → j ∈ V) ∨ (i = c ∧ ∀ g, g < f → ∀ j, j ∈ L → rf (6 + 6 * c + g) = 1 → ct (6 + 6 * c + g) = nI j → j ∈ V)
def bh_g0 (L : List Nat) (F : Nat → Nat) (rf ct : Nat → Int32) (V : List Nat) (w : Nat) (st : Nat → Int32) : Prop :=
  ∀ i, i ∈ V → bh_On (bh_ad F L) w st i ∨ (∀ j, bh_sc L F rf ct i j → j ∈ V)
theorem bh_gr_up {c f w w' : Nat} {V V' : List Nat} {st st' : Nat → Int32} (h : bh_gr L F rf ct c f V w st) (e : bh_Ex (bh_ad F L) V w st V' w' st') (hc : c ∈ V')
    (hf : ∀ j, j ∈ L → rf (6 + 6 * c + f) = 1 → ct (6 + 6 * c + f) = nI j → j ∈ V') : bh_gr L F rf ct c (f + 1) V' w' st' := by
  intro i hi
  rcases e.2.2 i hi with a | a
  · rcases h i a with b | b | ⟨b, d⟩
    · exact Or.inl (e.2.1 i b)
    · exact Or.inr (Or.inl (fun j hj => e.1 j (b j hj)))
    · refine Or.inr (Or.inr ⟨b, fun g hg j h1 h2 h3 => ?_⟩)
      by_cases q : g = f
      · subst q; exact hf j h1 h2 h3
      · exact e.1 j (d g (by omega) j h1 h2 h3)
  · exact Or.inl a
theorem bh_x98 {post : SX → Prop} {J : Int32 → Int32 → Int32 → Int32 → (Nat → Int32) → (Nat → Int32) → (Nat → Int32) → (Nat → Int32) → (Nat → Int32) → (Nat → Int32) → (Nat → Int32) → (Nat → Int32) → Prop} {x1 : Int32} {c s : Nat} (hN : bh_N L F) (hH : bh_H L F word) (hD : bh_D L F word refers rf ct) :
    ∀ (d f n : Nat) (V : List Nat) (w : Nat) (st rch : Nat → Int32), f + d = F c → d < n → c ∈ V → bh_MI L F rf ct s V w st rch → bh_gr L F rf ct c f V w st →
      (∀ (V' : List Nat) (w' : Nat) (st' rch' : Nat → Int32), bh_MI L F rf ct s V' w' st' rch' → (∀ i, i ∈ V → i ∈ V') → bh_gr L F rf ct c (F c) V' w' st' → J (x1 + 1) top (nI w') brk word refers held heldR rch' st' bA bB) →
      wX_markReached_98 post J x1 (nI (bh_ad F L c)) n (nI (bh_ad F L c + 1 + f)) top (nI w) brk word refers held heldR rch st bA bB := by
  intro d
  induction d with
  | zero =>
    intro f n V w st rch hf hn hc hM hg K
    cases n with
    | zero => omega
    | succ n =>
      have hcL := (hM.2.1 c hc).1
      have hA := bh_al hN hcL
      have hw : word (nI (bh_ad F L c)).toNatClampNeg = nI (F c) := by rw [nI_clamp (by omega)]; exact hH c hcL
      have ef : f = F c := by omega
      subst ef
      refine And.intro (vp_in_nI (by omega) (by omega)) (br_t ?_ (nm_e (K V w st rch hM (fun _ h => h) hg)))
      rw [hw, nI_add]
      exact nI_lt (by omega) (by omega)
  | succ d ih =>
    intro f n V w st rch hf hn hc hM hg K
    cases n with
    | zero => omega
    | succ n =>
      have hcL := (hM.2.1 c hc).1
      have hA := bh_al hN hcL
      have hw : word (nI (bh_ad F L c)).toNatClampNeg = nI (F c) := by rw [nI_clamp (by omega)]; exact hH c hcL
      have hx : (nI (bh_ad F L c + 1 + f)).toNatClampNeg = bh_ad F L c + 1 + f := nI_clamp (by omega)
      have hi : vp_in (nI (bh_ad F L c + 1 + f)) 72 := vp_in_nI (by omega) (by omega)
      have hv := hD c f hcL (by omega)
      refine And.intro (vp_in_nI (by omega) (by omega)) (br_f ?_ ⟨hi, br_c (fun z => nm_r (nI_1 _) ?_) (fun z => ⟨hi, ?_⟩)⟩)
      · rw [hw, nI_add]
        exact nI_nlt (by omega) (by omega)
      · rw [hx] at z
        refine ih (f + 1) n V w st rch (by omega) (by omega) hc hM (bh_gr_up hg ⟨fun _ h => h, fun _ h => h, fun _ h => Or.inl h⟩ hc ?_) K
        intro j hj h1 h2
        rw [(bh_V01 hv).1, h1] at z
        exact absurd z bh_01
      · rw [hx] at z
        obtain ⟨h1, k, hk, e1, e2⟩ := bh_Vr hv z
        refine bh_xreach hN hM hk (bh_Rc_sc (hM.2.1 c hc).2 ⟨hk, f, by omega, h1, e2⟩) (by rw [hx]; exact e1) ?_
        intro V' w' st' rch' hM' hE hk'
        refine nm_r (nI_1 _) ?_
        refine ih (f + 1) n V' w' st' rch' (by omega) (by omega) (hE.1 c hc) hM' (bh_gr_up hg hE (hE.1 c hc) ?_) (fun V2 w2 st2 rch2 g1 g2 g3 => K V2 w2 st2 rch2 g1 (fun i hi => g2 i (hE.1 i hi)) g3)
        intro j hj h3 h4
        have : j = k := bh_inI (by have := (hN.2.1 j hj).1; omega) (by have := (hN.2.1 k hk).1; omega) (h4.symm.trans e2)
        subst this; exact hk'
theorem bh_x61 {post : SX → Prop} (hN : bh_N L F) (hH : bh_H L F word) (hD : bh_D L F word refers rf ct)
    (K : ∀ (V : List Nat) (st rch : Nat → Int32), (∀ i, i ∈ V → i ∈ L ∧ bh_Rc L F rf ct i) → (∀ i, i ∈ L → (rch (bh_ad F L i) = 0 ↔ i ∉ V)) → (∀ i, bh_rt L rf ct i → i ∈ V) → (∀ i j, i ∈ V → bh_sc L F rf ct i j → j ∈ V) → post (top, nI 0, brk, word, refers, held, heldR, rch, st, bA, bB)) :
    ∀ (d s n : Nat) (V : List Nat) (w : Nat) (st rch : Nat → Int32), s + d = 37 → d < n → bh_MI L F rf ct s V w st rch → bh_g0 L F rf ct V w st → (∀ i, bh_rt L rf ct i → i ∈ V) →
      wX_markReached_61 post n (nI s) top (nI w) brk word refers held heldR rch st bA bB := by
  intro d
  induction d with
  | zero =>
    intro s n V w st rch hs hn hM hg hr
    have := bh_MI_len hN hM
    omega
  | succ d ih =>
    intro s n V w st rch hs hn hM hg hr
    have hl := bh_MI_len hN hM
    cases n with
    | zero => omega
    | succ n =>
      refine br_f (nI_ge (b := 37) (by omega) (by omega)) ?_
      cases w with
      | zero =>
        refine br_t (nI_le (b := 0) (Nat.le_refl _) (by omega)) (K V st rch hM.2.1 hM.2.2.1 hr ?_)
        intro i j hi hj
        rcases hg i hi with ⟨q, hq, _⟩ | h
        · omega
        · exact h j hj
      | succ w =>
        obtain ⟨c, hc, ec⟩ := hM.2.2.2.1 w (by omega)
        refine br_f (nI_nle (by omega) (by omega)) (nm_r (nI_pred w) ⟨vp_in_nI (by omega) (by omega), nm_r (e' := nI (bh_ad F L c)) (by rw [nI_clamp (by omega)]; exact ec) (nm_r (nI_1 _) ⟨F c + 1, ?_⟩)⟩)
        have hcL := (hM.2.1 c hc).1
        refine bh_x98 hN hH hD (F c) 0 (F c + 1) V w st rch (by omega) (by omega) hc (s := s + 1) ⟨hM.1, hM.2.1, hM.2.2.1, fun j hj => hM.2.2.2.1 j (by omega), by have := hM.2.2.2.2; omega⟩ ?_ ?_
        · intro i hi
          rcases hg i hi with ⟨j, hj, e⟩ | h
          · by_cases q : j = w
            · subst q
              refine Or.inr (Or.inr ⟨bh_ad_inj F (hM.2.1 i hi).1 hcL (bh_inI ?_ ?_ (e.symm.trans ec)), fun g hg => by omega⟩)
              · have := bh_al hN (hM.2.1 i hi).1; omega
              · have := bh_al hN hcL; omega
            · exact Or.inl ⟨j, by omega, e⟩
          · exact Or.inr (Or.inl h)
        · intro V' w' st' rch' hM' hV hg'
          rw [nI_1]
          refine ih (s + 1) n V' w' st' rch' (by omega) (by omega) hM' ?_ (fun i hi => hV i (hr i hi))
          intro i hi
          rcases hg' i hi with a | a | ⟨a, b⟩
          · exact Or.inl a
          · exact Or.inr a
          · subst a
            refine Or.inr ?_
            intro j ⟨hj, f, hf, h1, h2⟩
            exact b f hf j hj h1 h2
end
end
section
section
variable {L : List Nat} {F : Nat → Nat} {rf ct : Nat → Int32} {top brk : Int32} {word refers held heldR bA bB : Nat → Int32}
theorem bh_x28 {post : SX → Prop} (hN : bh_N L F) (hG : bh_G L F held heldR rf ct) (hH : bh_H L F word) (hD : bh_D L F word refers rf ct)
    (K : ∀ (V : List Nat) (st rch : Nat → Int32), (∀ i, i ∈ V → i ∈ L ∧ bh_Rc L F rf ct i) → (∀ i, i ∈ L → (rch (bh_ad F L i) = 0 ↔ i ∉ V)) → (∀ i, bh_rt L rf ct i → i ∈ V) → (∀ i j, i ∈ V → bh_sc L F rf ct i j → j ∈ V) → post (top, nI 0, brk, word, refers, held, heldR, rch, st, bA, bB)) :
    ∀ (d r n : Nat) (V : List Nat) (w : Nat) (st rch : Nat → Int32), r + d = 6 → d < n → bh_MI L F rf ct 0 V w st rch → (∀ i, i ∈ V → bh_On (bh_ad F L) w st i) → (∀ q, q < r → ∀ j, j ∈ L → rf q = 1 → ct q = nI j → j ∈ V) →
      wX_markReached_28 post n (nI r) top (nI w) brk word refers held heldR rch st bA bB := by
  intro d
  induction d with
  | zero =>
    intro r n V w st rch hr hn hM hO hq
    cases n with
    | zero => omega
    | succ n =>
      have e : r = 6 := by omega
      subst e
      refine br_t (nI_le (b := 6) (Nat.le_refl _) (by omega)) ⟨38, ?_⟩
      exact bh_x61 hN hH hD K 37 0 38 V w st rch (by omega) (by omega) hM (fun i hi => Or.inl (hO i hi)) (fun i hi => by
        obtain ⟨h1, q, h2, h3, h4⟩ := hi
        exact hq q h2 i h1 h3 h4)
  | succ d ih =>
    intro r n V w st rch hr hn hM hO hq
    cases n with
    | zero => omega
    | succ n =>
      have hx : (nI r).toNatClampNeg = r := nI_clamp (by omega)
      have hi : vp_in (nI r) 6 := vp_in_nI (by omega) (by omega)
      have hv := hG r (by omega)
      refine br_f (nI_ge (b := 6) (by omega) (by omega)) ⟨hi, br_c (fun z => nm_r (nI_1 _) ?_) (fun z => ⟨hi, ?_⟩)⟩
      · rw [hx] at z
        refine ih (r + 1) n V w st rch (by omega) (by omega) hM hO ?_
        intro q hq' j hj h1 h2
        by_cases e : q = r
        · subst e
          rw [(bh_V01 hv).1, h1] at z
          exact absurd z bh_01
        · exact hq q (by omega) j hj h1 h2
      · rw [hx] at z
        obtain ⟨h1, k, hk, e1, e2⟩ := bh_Vr hv z
        refine bh_xreach hN hM hk (bh_Rc_rt ⟨hk, r, by omega, h1, e2⟩) (by rw [hx]; exact e1) ?_
        intro V' w' st' rch' hM' hE hk'
        refine nm_r (nI_1 _) ?_
        refine ih (r + 1) n V' w' st' rch' (by omega) (by omega) hM' ?_ ?_
        · intro i hi
          rcases hE.2.2 i hi with a | a
          · exact hE.2.1 i (hO i a)
          · exact a
        · intro q hq' j hj h3 h4
          by_cases e : q = r
          · subst e
            have : j = k := bh_inI (by have := (hN.2.1 j hj).1; omega) (by have := (hN.2.1 k hk).1; omega) (h4.symm.trans e2)
            subst this; exact hk'
          · exact hE.1 j (hq q (by omega) j hj h3 h4)
theorem bh_x2 {post : SX → Prop} {wt : Int32} {st : Nat → Int32}
    (K : ∀ rch : Nat → Int32, (∀ a, a < 72 → rch a = 0) → ∃ n28 : Nat, wX_markReached_28 post n28 0 top 0 brk word refers held heldR rch st bA bB) :
    ∀ (d a n : Nat) (rch : Nat → Int32), a + d = 72 → d < n → (∀ b, b < a → rch b = 0) → wX_markReached_2 post top wt brk n (nI a) word refers held heldR rch st bA bB := by
  intro d
  induction d with
  | zero =>
    intro a n rch ha hn hr
    cases n with
    | zero => omega
    | succ n =>
      have e : a = 72 := by omega
      subst e
      exact br_t (nI_le (b := 72) (Nat.le_refl _) (by omega)) (K rch hr)
  | succ d ih =>
    intro a n rch ha hn hr
    cases n with
    | zero => omega
    | succ n =>
      refine br_f (nI_ge (b := 72) (by omega) (by omega)) ⟨vp_in_nI (by omega) (by omega), nm_r (e' := upd rch a 0) (by rw [nI_clamp (by omega)]; rfl) (nm_r (nI_1 _) (ih (a + 1) n _ (by omega) (by omega) ?_))⟩
      intro b hb
      by_cases e : b = a
      · subst e; exact pk_us
      · rw [pk_un e]; exact hr b (by omega)
theorem bh_xmark {post : SX → Prop} {wt : Int32} {rch st : Nat → Int32} (hN : bh_N L F) (hG : bh_G L F held heldR rf ct) (hH : bh_H L F word) (hD : bh_D L F word refers rf ct)
    (K : ∀ st' rch' : Nat → Int32, (∀ i, i ∈ L → (rch' (bh_ad F L i) = 0 ↔ bh_m L F rf ct i = false)) → post (top, nI 0, brk, word, refers, held, heldR, rch', st', bA, bB)) :
    wpX_markReached post (top, wt, brk, word, refers, held, heldR, rch, st, bA, bB) := by
  refine Exists.intro 73 ?_
  refine bh_x2 ?_ 72 0 73 rch (by omega) (by omega) (fun b hb => by omega)
  intro rch1 h1
  refine Exists.intro 7 ?_
  refine bh_x28 hN hG hH hD ?_ 6 0 7 [] 0 st rch1 (by omega) (by omega) ⟨List.nodup_nil, fun i hi => absurd hi List.not_mem_nil, ?_, fun j hj => by omega, rfl⟩ (fun i hi => absurd hi List.not_mem_nil) (fun q hq => by omega)
  · intro V st2 rch2 hs hr hroot hcl
    refine K st2 rch2 (fun i hi => ?_)
    rw [hr i hi, bh_m_f]
    exact ⟨fun h c => h (c (fun j => j ∈ V) hroot (fun a b => hcl a b)), fun h c => h (hs i c).2⟩
  · intro i hi
    exact ⟨fun _ => List.not_mem_nil, fun _ => h1 _ (by have := bh_al hN hi; omega)⟩
end
end
section
/-! the breaks: address a moves to a' -/
def bh_B (b : Nat) (bA bB : Nat → Int32) (a a' : Nat) : Prop :=
  ∃ c, c ≤ b ∧ (∀ j, j < c → ∃ t, bA j = nI t ∧ t ≤ a) ∧ (∀ j, c ≤ j → j < b → ∃ t, bA j = nI t ∧ a < t ∧ t < 72) ∧ (c = 0 → a' = a) ∧ (0 < c → ∃ g, bB (c - 1) = nI g ∧ a = a' + g)
section
variable {L : List Nat} {F : Nat → Nat} {rf ct : Nat → Int32} {top wt brk : Int32} {word refers held heldR rch st : Nat → Int32}
theorem bh_m57 {post : Int32 → Prop} {bA bB : Nat → Int32} {a a' c : Nat} (hc : c ≤ 36) (h0 : c = 0 → a' = a) (h1 : 0 < c → ∃ g, bB (c - 1) = nI g ∧ a = a' + g) (hp : post (nI a')) :
    wX_movedAddress_57 post (nI a) (nI c) top wt brk word refers held heldR rch st bA bB := by
  cases c with
  | zero =>
    have e := h0 rfl
    subst e
    exact br_t rfl hp
  | succ c =>
    obtain ⟨g, e1, e2⟩ := h1 (by omega)
    have e3 : bB c = nI g := e1
    refine br_f (nI_ne0 (by omega) (by omega)) ?_
    rw [nI_pred, nI_clamp (by omega), e3, e2, pk_sub (by omega), Nat.add_sub_cancel]
    exact ⟨vp_in_nI (by omega) (by omega), hp⟩
theorem bh_m10 {post : Int32 → Prop} {bA bB : Nat → Int32} {a a' b c : Nat} (hb : b ≤ 36) (ha : a < 72) (hc : c ≤ b) (hlo : ∀ j, j < c → ∃ t, bA j = nI t ∧ t ≤ a) (hhi : ∀ j, c ≤ j → j < b → ∃ t, bA j = nI t ∧ a < t ∧ t < 72) (h0 : c = 0 → a' = a) (h1 : 0 < c → ∃ g, bB (c - 1) = nI g ∧ a = a' + g) (hp : post (nI a')) :
    ∀ (d s n lo hi : Nat), s + d = 7 → d < n → lo ≤ c → c ≤ hi → hi ≤ b → hi < lo + 2 ^ d → wX_movedAddress_10 post (nI a) top wt brk word refers held heldR rch st bA bB n (nI lo) (nI hi) (nI s) := by
  intro d
  induction d with
  | zero =>
    intro s n lo hi hs hn hl hh hb2 hd
    cases n with
    | zero => omega
    | succ n =>
      have e1 : s = 7 := by omega
      have e2 : lo = c := by omega
      subst e1 e2
      exact br_t (nI_le (b := 7) (Nat.le_refl _) (by omega)) (bh_m57 (by omega) h0 h1 hp)
  | succ d ih =>
    intro s n lo hi hs hn hl hh hb2 hd
    cases n with
    | zero => omega
    | succ n =>
      have hdd : 2 ^ (d + 1) = 2 * 2 ^ d := by rw [Nat.pow_succ]; omega
      refine br_f (nI_ge (b := 7) (by omega) (by omega)) (pk_le hi lo (fun h => ?_) (fun h => ?_))
      · have e2 : lo = c := by omega
        subst e2
        exact bh_m57 (by omega) h0 h1 hp
      · have em : (nI lo + nI hi) / 2 = nI ((lo + hi) / 2) := by
          rw [nI_add]; exact pk_div (d := 2) (by omega) (by omega) (by omega)
        refine ⟨by decide, nm_r em ⟨vp_in_nI (by omega) (by omega), ?_⟩⟩
        rw [nI_clamp (n := (lo + hi) / 2) (by omega)]
        by_cases q : (lo + hi) / 2 < c
        · obtain ⟨t, e1, e2⟩ := hlo _ q
          rw [e1]
          exact br_f (nI_nlt e2 (by omega)) (nm_r (nI_1 _) (nm_r (nI_1 _) (ih (s + 1) n _ _ (by omega) (by omega) (by omega) hh hb2 (by omega))))
        · obtain ⟨t, e1, e2, e3⟩ := hhi _ (by omega) (by omega : (lo + hi) / 2 < b)
          rw [e1]
          exact br_t (nI_lt e2 (by omega)) (nm_r (nI_1 _) (ih (s + 1) n _ _ (by omega) (by omega) hl (by omega) (by omega) (by omega)))
theorem bh_moved {post : Int32 → Prop} {bA bB : Nat → Int32} {a a' b : Nat} (hb : b ≤ 36) (ha : a < 72) (h : bh_B b bA bB a a') {x : Int32} (hx : x = nI a) (hp : post (nI a')) :
    wpX_movedAddress post (top, wt, nI b, word, refers, held, heldR, rch, st, bA, bB) x := by
  subst hx
  obtain ⟨c, hc, h1, h2, h3, h4⟩ := h
  exact Exists.intro 8 (bh_m10 hb ha hc h1 h2 h3 h4 hp 7 0 8 0 b (by omega) (by omega) (by omega) hc (Nat.le_refl _) (by omega))
theorem bh_B_up {b t : Nat} {bA bB : Nat → Int32} {a a' : Nat} {y : Int32} (h : bh_B b bA bB a a') (ht : a < t) (h72 : t < 72) : bh_B (b + 1) (upd bA b (nI t)) (upd bB b y) a a' := by
  obtain ⟨c, hc, h1, h2, h3, h4⟩ := h
  refine ⟨c, by omega, ?_, ?_, h3, ?_⟩
  · intro j hj
    rw [pk_un (by omega)]; exact h1 j hj
  · intro j h5 h6
    by_cases e : j = b
    · subst e; rw [pk_us]; exact ⟨t, rfl, ht, h72⟩
    · rw [pk_un e]; exact h2 j h5 (by omega)
  · intro h5
    rw [pk_un (by omega)]; exact h4 h5
theorem bh_x14 {post : SX → Prop} {m : Nat → Bool} (hN : bh_N L F) (hH : bh_H L F word) (hm : ∀ i, i ∈ L → (rch (bh_ad F L i) = 0 ↔ m i = false))
    (K : ∀ (b : Nat) (bA bB : Nat → Int32), b ≤ 36 → (∀ i, i ∈ L → m i = true → bh_B b bA bB (bh_ad F L i) (bh_ad F (L.filter m) i)) → post (nI (bh_tot F L), wt, nI b, word, refers, held, heldR, rch, st, bA, bB)) :
    ∀ (Q P : List Nat) (n g b : Nat) (x2 : Int32) (bA bB : Nat → Int32), L = P ++ Q → Q.length < n → b ≤ P.length → bh_tot F P = bh_tot F (P.filter m) + g → (∀ j, j < b → ∃ t, bA j = nI t ∧ t < bh_tot F P) →
      (∀ i, i ∈ P → m i = true → bh_B b bA bB (bh_ad F L i) (bh_ad F (L.filter m) i)) →
      (x2 = 0 → (b = 0 → g = 0) ∧ (0 < b → bB (b - 1) = nI g)) →
      wX_listBreaks_14 post (nI (bh_tot F L)) wt n (nI g) x2 (nI (bh_tot F P)) (nI P.length) (nI b) word refers held heldR rch st bA bB := by
  have hlen := bh_len hN
  intro Q
  induction Q with
  | nil =>
    intro P n g b x2 bA bB hL hn hb hg hj hi hz
    cases n with
    | zero => omega
    | succ n =>
      rw [List.append_nil] at hL
      subst hL
      exact br_f (nI_ge (b := 37) (by omega) (by omega)) (br_t (nI_le (Nat.le_refl _) (by have := hN.2.2; omega)) (K b bA bB (by omega) hi))
  | cons x Q ih =>
    intro P n g b x2 bA bB hL hn hb hg hj hi hz
    cases n with
    | zero => omega
    | succ n =>
      have hxL : x ∈ L := by rw [hL]; exact List.mem_append_right _ List.mem_cons_self
      have hPl : P.length + Q.length + 1 = L.length := by rw [hL, List.length_append]; show _ = _ + (Q.length + 1); omega
      have hxP : x ∉ P := by
        have := hN.1
        rw [hL] at this
        exact fun c => (List.nodup_append.mp this).2.2 x c x List.mem_cons_self rfl
      have hax : bh_ad F L x = bh_tot F P := by rw [hL]; exact bh_ad_at F Q hxP
      have ha'x : m x = true → bh_ad F (L.filter m) x = bh_tot F (P.filter m) := by
        intro e
        rw [hL, List.filter_append, List.filter_cons_of_pos e]
        exact bh_ad_at F _ (fun c => hxP (List.mem_filter.mp c).1)
      have hlt := bh_ad_lt F hxL
      have h72 := hN.2.2
      have hc : (nI (bh_tot F P)).toNatClampNeg = bh_tot F P := nI_clamp (by omega)
      have hin : vp_in (nI (bh_tot F P)) 72 := vp_in_nI (by omega) (by omega)
      have hw : word (nI (bh_tot F P)).toNatClampNeg + 1 = nI (F x + 1) := by rw [hc, ← hax, hH x hxL, nI_1]
      have hL' : L = (P ++ [x]) ++ Q := hL.trans (List.append_cons P x Q)
      have et : bh_tot F (P ++ [x]) = bh_tot F P + (F x + 1) := by rw [bh_tot_1]; omega
      have el : (P ++ [x]).length = P.length + 1 := List.length_append
      have ea : nI (bh_tot F P) + nI (F x + 1) = nI (bh_tot F (P ++ [x])) := by rw [nI_add, et]
      have es : nI P.length + 1 = nI (P ++ [x]).length := by rw [nI_1, el]
      refine br_f (nI_ge (b := 37) (by omega) (by omega)) (br_f (nI_ge (by omega) (by omega)) ⟨hin, nm_r hw ⟨hin, br_c (fun z => ?_) (fun z => ?_)⟩⟩)
      · rw [hc, ← hax] at z
        have mx := (hm x hxL).mp z
        have ef : (P ++ [x]).filter m = P.filter m := by rw [List.filter_append, List.filter_cons_of_neg (by rw [mx]; exact Bool.false_ne_true), List.filter_nil, List.append_nil]
        refine nm_r (nI_add g (F x + 1)) (nm_r ea (nm_r es ?_))
        refine ih (P ++ [x]) n _ b 1 bA bB hL' (by show Q.length < n; have : (x :: Q).length = Q.length + 1 := rfl; omega) (by omega) (by rw [ef, et]; omega) ?_ ?_ ?_
        · intro j h; obtain ⟨t, e1, e2⟩ := hj j h; exact ⟨t, e1, by omega⟩
        · intro i h hmi
          rcases List.mem_append.mp h with h | h
          · exact hi i h hmi
          · rw [List.mem_singleton.mp h, mx] at hmi; exact absurd hmi Bool.false_ne_true
        · intro c; exact absurd c bh_01
      · rw [hc, ← hax] at z
        have mx : m x = true := by
          cases e : m x
          · exact absurd ((hm x hxL).mpr e) z
          · rfl
        have ef : (P ++ [x]).filter m = P.filter m ++ [x] := by rw [List.filter_append, List.filter_cons_of_pos mx, List.filter_nil]
        have ef2 : bh_tot F ((P ++ [x]).filter m) = bh_tot F (P.filter m) + (F x + 1) := by rw [ef, bh_tot_1]; omega
        have ha' := ha'x mx
        have hQ : Q.length < n := by have : (x :: Q).length = Q.length + 1 := rfl; omega
        refine br_c (fun z2 => nm_r ea (nm_r es ?_)) (fun z2 => ?_)
        · obtain ⟨hz1, hz2⟩ := hz z2
          refine ih (P ++ [x]) n g b x2 bA bB hL' hQ (by omega) (by omega) ?_ ?_ ?_
          · intro j h; obtain ⟨t, e1, e2⟩ := hj j h; exact ⟨t, e1, by omega⟩
          · intro i h hmi
            rcases List.mem_append.mp h with h | h
            · exact hi i h hmi
            · rw [List.mem_singleton.mp h]
              refine ⟨b, Nat.le_refl _, ?_, fun j h1 h2 => by omega, ?_, ?_⟩
              · intro j h; obtain ⟨t, e1, e2⟩ := hj j h; exact ⟨t, e1, by omega⟩
              · intro h; have := hz1 h; omega
              · intro h; exact ⟨g, hz2 h, by omega⟩
          · exact hz
        · have hbi : vp_in (nI b) 40 := vp_in_nI (by omega) (by omega)
          have hbc : (nI b).toNatClampNeg = b := nI_clamp (by omega)
          refine ⟨hbi, nm_r (e' := upd bA b (nI (bh_tot F P))) (by rw [hbc]) ⟨hbi, nm_r (e' := upd bB b (nI g)) (by rw [hbc]) (nm_r (nI_1 b) (nm_r ea (nm_r es ?_)))⟩⟩
          refine ih (P ++ [x]) n g (b + 1) 0 _ _ hL' hQ (by omega) (by omega) ?_ ?_ ?_
          · intro j h
            by_cases e : j = b
            · subst e; exact ⟨bh_tot F P, pk_us, by omega⟩
            · obtain ⟨t, e1, e2⟩ := hj j (by omega)
              exact ⟨t, by rw [pk_un e]; exact e1, by omega⟩
          · intro i h hmi
            rcases List.mem_append.mp h with h | h
            · refine bh_B_up (hi i h hmi) ?_ (by omega)
              have := bh_ad_lt F h
              rw [hL, bh_ad_l F P _ h]; omega
            · rw [List.mem_singleton.mp h]
              refine ⟨b + 1, Nat.le_refl _, ?_, fun j h1 h2 => by omega, fun h => by omega, fun _ => ⟨g, pk_us, by omega⟩⟩
              intro j h
              by_cases e : j = b
              · subst e; exact ⟨bh_tot F P, pk_us, by omega⟩
              · obtain ⟨t, e1, e2⟩ := hj j (by omega)
                exact ⟨t, by rw [pk_un e]; exact e1, by omega⟩
          · intro _
            exact ⟨fun h => by omega, fun _ => pk_us⟩
theorem bh_xlist {post : SX → Prop} {m : Nat → Bool} {bA bB : Nat → Int32} (hN : bh_N L F) (hH : bh_H L F word) (hm : ∀ i, i ∈ L → (rch (bh_ad F L i) = 0 ↔ m i = false))
    (K : ∀ (b : Nat) (bA bB : Nat → Int32), b ≤ 36 → (∀ i, i ∈ L → m i = true → bh_B b bA bB (bh_ad F L i) (bh_ad F (L.filter m) i)) → post (nI (bh_tot F L), wt, nI b, word, refers, held, heldR, rch, st, bA, bB)) :
    wpX_listBreaks post (nI (bh_tot F L), wt, brk, word, refers, held, heldR, rch, st, bA, bB) :=
  Exists.intro (L.length + 1) (bh_x14 hN hH hm K L [] (L.length + 1) 0 0 0 bA bB rfl (by omega) (by omega) rfl (fun j h => by omega) (fun i h => absurd h List.not_mem_nil) (fun _ => ⟨fun _ => rfl, fun h => by omega⟩))
end
end
section
/-! mending the fields, and sliding down -/
def bh_mv (L : List Nat) (F : Nat → Nat) (m : Nat → Bool) (b : Nat) (bA bB : Nat → Int32) : Prop := b ≤ 36 ∧ ∀ i, i ∈ L → m i = true → bh_B b bA bB (bh_ad F L i) (bh_ad F (L.filter m) i)
section
variable {L : List Nat} {F : Nat → Nat} {rf ct : Nat → Int32} {m : Nat → Bool} {b : Nat} {top wt brk : Int32} {word refers held heldR rch st bA bB : Nat → Int32}
theorem bh_V_mv {rx wx ry cy y : Int32} (h : bh_V L (bh_ad F L) rx wx ry cy) (hn : ¬ rx = 0) (hy : ∀ j, j ∈ L → wx = nI (bh_ad F L j) → cy = nI j → m j = true ∧ y = nI (bh_ad F (L.filter m) j)) : bh_V (L.filter m) (bh_ad F (L.filter m)) rx y ry cy := by
  rcases h with ⟨a, _, _⟩ | ⟨a, b, j, h1, h2, h3⟩
  · exact absurd a hn
  · exact Or.inr ⟨a, b, j, List.mem_filter.mpr ⟨h1, (hy j h1 h2 h3).1⟩, (hy j h1 h2 h3).2, h3⟩
theorem bh_V_0 {M : List Nat} {A B : Nat → Nat} {rx wx ry cy : Int32} (h : bh_V L A rx wx ry cy) (hn : rx = 0) : bh_V M B rx wx ry cy := by
  rcases h with h | ⟨a, _, _⟩
  · exact Or.inl h
  · rw [hn] at a; exact absurd a.symm bh_01
theorem bh_x32 {post : SX → Prop} {J : Int32 → Int32 → (Nat → Int32) → (Nat → Int32) → (Nat → Int32) → (Nat → Int32) → (Nat → Int32) → (Nat → Int32) → (Nat → Int32) → (Nat → Int32) → Prop} {x2 : Int32} {c : Nat} {word1 : Nat → Int32} (hN : bh_N L F) (hc : c ∈ L) (hm : ∀ i, i ∈ L → (rch (bh_ad F L i) = 0 ↔ m i = false)) (hB : bh_mv L F m b bA bB)
    (hcl : m c = true → ∀ j, bh_sc L F rf ct c j → m j = true)
    (hD : ∀ f, f < F c → bh_V L (bh_ad F L) (refers (bh_ad F L c + 1 + f)) (word1 (bh_ad F L c + 1 + f)) (rf (6 + 6 * c + f)) (ct (6 + 6 * c + f)))
    (K : ∀ word2 : Nat → Int32, (∀ a, a < bh_ad F L c + 1 ∨ bh_ad F L c + 1 + F c ≤ a → word2 a = word1 a) → (m c = true → ∀ f, f < F c → bh_V (L.filter m) (bh_ad F (L.filter m)) (refers (bh_ad F L c + 1 + f)) (word2 (bh_ad F L c + 1 + f)) (rf (6 + 6 * c + f)) (ct (6 + 6 * c + f))) →
      J (nI (bh_ad F L c + (F c + 1))) (x2 + 1) word2 refers held heldR rch st bA bB) :
    ∀ (d f n : Nat) (word2 : Nat → Int32), f + d = F c → d < n → (∀ a, a < bh_ad F L c + 1 ∨ bh_ad F L c + 1 + f ≤ a → word2 a = word1 a) → (m c = true → ∀ g, g < f → bh_V (L.filter m) (bh_ad F (L.filter m)) (refers (bh_ad F L c + 1 + g)) (word2 (bh_ad F L c + 1 + g)) (rf (6 + 6 * c + g)) (ct (6 + 6 * c + g))) →
      wX_mendFields_32 post J (nI (bh_ad F L c)) x2 (nI (F c + 1)) top wt (nI b) n (nI (bh_ad F L c + 1 + f)) word2 refers held heldR rch st bA bB := by
  have hA := bh_al hN hc
  intro d
  induction d with
  | zero =>
    intro f n word2 hf hn h1 h2
    cases n with
    | zero => omega
    | succ n =>
      have e : f = F c := by omega
      subst e
      refine br_t ?_ (nm_r (nI_add _ _) (nm_e (K word2 h1 h2)))
      rw [nI_add]; exact nI_le (by omega) (by omega)
  | succ d ih =>
    intro f n word2 hf hn h1 h2
    cases n with
    | zero => omega
    | succ n =>
      have hac : (nI (bh_ad F L c)).toNatClampNeg = bh_ad F L c := nI_clamp (by omega)
      have hx : (nI (bh_ad F L c + 1 + f)).toNatClampNeg = bh_ad F L c + 1 + f := nI_clamp (by omega)
      have hi : vp_in (nI (bh_ad F L c + 1 + f)) 72 := vp_in_nI (by omega) (by omega)
      have hv := hD f (by omega)
      have ew : word2 (bh_ad F L c + 1 + f) = word1 (bh_ad F L c + 1 + f) := h1 _ (Or.inr (Nat.le_refl _))
      refine br_f (by rw [nI_add]; exact nI_ge (by omega) (by omega)) ⟨vp_in_nI (by omega) (by omega), br_c (fun z => nm_r (nI_1 _) ?_) (fun z => ⟨hi, br_c (fun z2 => nm_r (nI_1 _) ?_) (fun z2 => ⟨hi, ?_⟩)⟩)⟩
      · rw [hac] at z
        have mc := (hm c hc).mp z
        exact ih (f + 1) n word2 (by omega) (by omega) (fun a ha => h1 a (by omega)) (fun h => by rw [mc] at h; exact absurd h Bool.false_ne_true)
      · rw [hx] at z2
        refine ih (f + 1) n word2 (by omega) (by omega) (fun a ha => h1 a (by omega)) (fun h g hg => ?_)
        by_cases e : g = f
        · subst e; rw [ew]; exact bh_V_0 hv z2
        · exact h2 h g (by omega)
      · rw [hac] at z
        rw [hx] at z2
        have mc : m c = true := by
          cases e : m c
          · exact absurd ((hm c hc).mpr e) z
          · rfl
        obtain ⟨q1, j, hj, e1, e2⟩ := bh_Vr hv z2
        have mj : m j = true := hcl mc j ⟨hj, f, by omega, q1, e2⟩
        refine bh_moved hB.1 (a := bh_ad F L j) (a' := bh_ad F (L.filter m) j) (by have := bh_al hN hj; omega) (hB.2 j hj mj) (by rw [hx, ew]; exact e1) ?_
        refine ⟨hi, nm_r (e' := upd word2 (bh_ad F L c + 1 + f) (nI (bh_ad F (L.filter m) j))) (by rw [hx]) (nm_r (nI_1 _) ?_)⟩
        refine ih (f + 1) n _ (by omega) (by omega) (fun a ha => ?_) (fun h g hg => ?_)
        · rw [pk_un (by omega)]; exact h1 a (by omega)
        · by_cases e : g = f
          · subst e
            rw [pk_us]
            refine bh_V_mv hv z2 (fun i hi g1 g2 => ?_)
            have : i = j := bh_inI (by have := (hN.2.1 i hi).1; omega) (by have := (hN.2.1 j hj).1; omega) (g2.symm.trans e2)
            subst this
            exact ⟨mj, rfl⟩
          · rw [pk_un (by omega)]; exact h2 h g (by omega)
theorem bh_x4 {post : SX → Prop} (hN : bh_N L F) (hH : bh_H L F word) (hD : bh_D L F word refers rf ct) (hm : ∀ i, i ∈ L → (rch (bh_ad F L i) = 0 ↔ m i = false)) (hB : bh_mv L F m b bA bB)
    (hcl : ∀ i j, i ∈ L → m i = true → bh_sc L F rf ct i j → m j = true)
    (K : ∀ word2 : Nat → Int32, bh_H L F word2 → (∀ i f, i ∈ L → m i = true → f < F i → bh_V (L.filter m) (bh_ad F (L.filter m)) (refers (bh_ad F L i + 1 + f)) (word2 (bh_ad F L i + 1 + f)) (rf (6 + 6 * i + f)) (ct (6 + 6 * i + f))) →
      post (nI (bh_tot F L), wt, nI b, word2, refers, held, heldR, rch, st, bA, bB)) :
    ∀ (Q P : List Nat) (n : Nat) (word2 : Nat → Int32), L = P ++ Q → Q.length < n → bh_H L F word2 → (∀ a, bh_tot F P ≤ a → word2 a = word a) →
      (∀ i f, i ∈ P → m i = true → f < F i → bh_V (L.filter m) (bh_ad F (L.filter m)) (refers (bh_ad F L i + 1 + f)) (word2 (bh_ad F L i + 1 + f)) (rf (6 + 6 * i + f)) (ct (6 + 6 * i + f))) →
      wX_mendFields_4 post (nI (bh_tot F L)) wt (nI b) n (nI (bh_tot F P)) (nI P.length) word2 refers held heldR rch st bA bB := by
  have hlen := bh_len hN
  have h72 := hN.2.2
  intro Q
  induction Q with
  | nil =>
    intro P n word2 hL hn h1 h2 h3
    cases n with
    | zero => omega
    | succ n =>
      rw [List.append_nil] at hL
      subst hL
      exact br_f (nI_ge (b := 37) (by omega) (by omega)) (br_t (nI_le (Nat.le_refl _) (by omega)) (K word2 h1 h3))
  | cons x Q ih =>
    intro P n word2 hL hn h1 h2 h3
    cases n with
    | zero => omega
    | succ n =>
      have hxL : x ∈ L := by rw [hL]; exact List.mem_append_right _ List.mem_cons_self
      have hPl : P.length + Q.length + 1 = L.length := by rw [hL, List.length_append]; show _ = _ + (Q.length + 1); omega
      have hxP : x ∉ P := by
        have := hN.1
        rw [hL] at this
        exact fun c => (List.nodup_append.mp this).2.2 x c x List.mem_cons_self rfl
      have hax : bh_ad F L x = bh_tot F P := by rw [hL]; exact bh_ad_at F Q hxP
      have hlt := bh_ad_lt F hxL
      have hL' : L = (P ++ [x]) ++ Q := hL.trans (List.append_cons P x Q)
      have et : bh_tot F (P ++ [x]) = bh_ad F L x + (F x + 1) := by rw [bh_tot_1, hax]; omega
      have el : (P ++ [x]).length = P.length + 1 := List.length_append
      have hc : (nI (bh_ad F L x)).toNatClampNeg = bh_ad F L x := nI_clamp (by omega)
      have hw : word2 (nI (bh_ad F L x)).toNatClampNeg + 1 = nI (F x + 1) := by rw [hc, h1 x hxL, nI_1]
      rw [← hax] at h2 ⊢
      refine br_f (nI_ge (b := 37) (by omega) (by omega)) (br_f (nI_ge (by omega) (by omega)) ⟨vp_in_nI (by omega) (by omega), nm_r hw (nm_r (nI_1 _) ⟨F x + 1, ?_⟩)⟩)
      refine bh_x32 (word1 := word2) (rf := rf) (ct := ct) (m := m) hN hxL hm hB (fun h j => hcl x j hxL h) ?_ ?_ (F x) 0 (F x + 1) word2 (by omega) (by omega) (fun _ _ => rfl) (fun _ g hg => by omega)
      · intro f hf
        rw [h2 _ (by omega)]
        exact hD x f hxL hf
      · intro word3 g1 g2
        rw [nI_1, ← el, ← et]
        refine ih (P ++ [x]) n word3 hL' (by have : (x :: Q).length = Q.length + 1 := rfl; omega) ?_ ?_ ?_
        · intro i hi
          by_cases e : i = x
          · subst e; rw [g1 _ (by omega)]; exact h1 i hi
          · have := bh_ad_sep F hi hxL e
            rw [g1 _ (by omega)]; exact h1 i hi
        · intro a ha
          rw [g1 _ (by omega)]; exact h2 a (by omega)
        · intro i f hi hmi hf
          rcases List.mem_append.mp hi with h | h
          · have hiL : i ∈ L := by rw [hL]; exact List.mem_append_left _ h
            have hne : i ≠ x := fun e => hxP (e ▸ h)
            have := bh_ad_sep F hiL hxL hne
            rw [g1 _ (by omega)]; exact h3 i f h hmi hf
          · have e := List.mem_singleton.mp h
            subst e
            exact g2 hmi f hf
theorem bh_xmend {post : SX → Prop} (hN : bh_N L F) (hH : bh_H L F word) (hD : bh_D L F word refers rf ct) (hm : ∀ i, i ∈ L → (rch (bh_ad F L i) = 0 ↔ m i = false)) (hB : bh_mv L F m b bA bB)
    (hcl : ∀ i j, i ∈ L → m i = true → bh_sc L F rf ct i j → m j = true)
    (K : ∀ word2 : Nat → Int32, bh_H L F word2 → (∀ i f, i ∈ L → m i = true → f < F i → bh_V (L.filter m) (bh_ad F (L.filter m)) (refers (bh_ad F L i + 1 + f)) (word2 (bh_ad F L i + 1 + f)) (rf (6 + 6 * i + f)) (ct (6 + 6 * i + f))) →
      post (nI (bh_tot F L), wt, nI b, word2, refers, held, heldR, rch, st, bA, bB)) :
    wpX_mendFields post (nI (bh_tot F L), wt, nI b, word, refers, held, heldR, rch, st, bA, bB) :=
  Exists.intro (L.length + 1) (bh_x4 hN hH hD hm hB hcl K L [] (L.length + 1) word rfl (by omega) hH (fun _ _ => rfl) (fun i f h => absurd h List.not_mem_nil))
end
end
section
section
variable {L : List Nat} {F : Nat → Nat} {m : Nat → Bool} {top wt brk : Int32} {held heldR rch st bA bB : Nat → Int32}
theorem bh_x46 {post : SX → Prop} {J : Int32 → Int32 → Int32 → (Nat → Int32) → (Nat → Int32) → (Nat → Int32) → (Nat → Int32) → (Nat → Int32) → (Nat → Int32) → (Nat → Int32) → (Nat → Int32) → Prop} {x3 x4 : Int32} {to fr z : Nat} {word1 refers1 : Nat → Int32} (h1 : to ≤ fr) (h2 : fr + z ≤ 72)
    (K : ∀ word2 refers2 : Nat → Int32, (∀ a, a < to ∨ to + z ≤ a → word2 a = word1 a ∧ refers2 a = refers1 a) → (∀ k, k < z → word2 (to + k) = word1 (fr + k) ∧ refers2 (to + k) = vp_nar .boolean (refers1 (fr + k))) → J (nI (to + z)) (nI (fr + z)) (x4 + 1) word2 refers2 held heldR rch st bA bB) :
    ∀ (d k n : Nat) (word2 refers2 : Nat → Int32), k + d = z → d < n → (∀ a, a < to ∨ to + k ≤ a → word2 a = word1 a ∧ refers2 a = refers1 a) → (∀ q, q < k → word2 (to + q) = word1 (fr + q) ∧ refers2 (to + q) = vp_nar .boolean (refers1 (fr + q))) →
      wX_slideDown_46 post J (nI to) (nI fr) x3 x4 (nI z) top wt brk n (nI k) word2 refers2 held heldR rch st bA bB := by
  intro d
  induction d with
  | zero =>
    intro k n word2 refers2 hk hn g1 g2
    cases n with
    | zero => omega
    | succ n =>
      have e : k = z := by omega
      subst e
      exact br_t (nI_le (Nat.le_refl _) (by omega)) (nm_r (nI_add _ _) (nm_r (nI_add _ _) (nm_e (K word2 refers2 g1 g2))))
  | succ d ih =>
    intro k n word2 refers2 hk hn g1 g2
    cases n with
    | zero => omega
    | succ n =>
      have e1 : (nI fr + nI k).toNatClampNeg = fr + k := by rw [nI_add]; exact nI_clamp (by omega)
      have e2 : (nI to + nI k).toNatClampNeg = to + k := by rw [nI_add]; exact nI_clamp (by omega)
      have i1 : vp_in (nI fr + nI k) 72 := by rw [nI_add]; exact vp_in_nI (by omega) (by omega)
      have i2 : vp_in (nI to + nI k) 72 := by rw [nI_add]; exact vp_in_nI (by omega) (by omega)
      have w1 := g1 (fr + k) (by omega)
      refine br_f (nI_ge (by omega) (by omega)) ⟨i1, ⟨i2, nm_r (e' := upd word2 (to + k) (word1 (fr + k))) (by rw [e1, e2, w1.1]) ⟨i1, ⟨i2, nm_r (e' := upd refers2 (to + k) (vp_nar .boolean (refers1 (fr + k)))) (by rw [e1, e2, w1.2]) (nm_r (nI_1 k) ?_)⟩⟩⟩⟩
      refine ih (k + 1) n _ _ (by omega) (by omega) ?_ ?_
      · intro a ha
        rw [pk_un (by omega), pk_un (by omega)]; exact g1 a (by omega)
      · intro q hq
        by_cases e : q = k
        · subst e; rw [pk_us, pk_us]; exact ⟨rfl, rfl⟩
        · rw [pk_un (by omega), pk_un (by omega)]; exact g2 q (by omega)
theorem bh_x12 {post : SX → Prop} {word refers : Nat → Int32} (hN : bh_N L F) (hH : bh_H L F word) (hm : ∀ i, i ∈ L → (rch (bh_ad F L i) = 0 ↔ m i = false))
    (K : ∀ word2 refers2 : Nat → Int32, (∀ i k, i ∈ L → m i = true → k < F i + 1 → word2 (bh_ad F (L.filter m) i + k) = word (bh_ad F L i + k) ∧ refers2 (bh_ad F (L.filter m) i + k) = vp_nar .boolean (refers (bh_ad F L i + k))) →
      post (nI (bh_tot F (L.filter m)), wt, brk, word2, refers2, held, heldR, rch, st, bA, bB)) :
    ∀ (Q P : List Nat) (n : Nat) (word2 refers2 : Nat → Int32), L = P ++ Q → Q.length < n → (∀ a, bh_tot F P ≤ a → word2 a = word a ∧ refers2 a = refers a) →
      (∀ i k, i ∈ P → m i = true → k < F i + 1 → word2 (bh_ad F (L.filter m) i + k) = word (bh_ad F L i + k) ∧ refers2 (bh_ad F (L.filter m) i + k) = vp_nar .boolean (refers (bh_ad F L i + k))) →
      wX_slideDown_12 post (nI (bh_tot F L)) top wt brk n (nI (bh_tot F (P.filter m))) (nI (bh_tot F P)) (nI P.length) word2 refers2 held heldR rch st bA bB := by
  have hlen := bh_len hN
  have h72 := hN.2.2
  intro Q
  induction Q with
  | nil =>
    intro P n word2 refers2 hL hn h1 h2
    cases n with
    | zero => omega
    | succ n =>
      rw [List.append_nil] at hL
      subst hL
      exact br_f (nI_ge (b := 37) (by omega) (by omega)) (br_t (nI_le (Nat.le_refl _) (by omega)) (K word2 refers2 h2))
  | cons x Q ih =>
    intro P n word2 refers2 hL hn h1 h2
    cases n with
    | zero => omega
    | succ n =>
      have hxL : x ∈ L := by rw [hL]; exact List.mem_append_right _ List.mem_cons_self
      have hPl : P.length + Q.length + 1 = L.length := by rw [hL, List.length_append]; show _ = _ + (Q.length + 1); omega
      have hxP : x ∉ P := by
        have := hN.1
        rw [hL] at this
        exact fun c => (List.nodup_append.mp this).2.2 x c x List.mem_cons_self rfl
      have hax : bh_ad F L x = bh_tot F P := by rw [hL]; exact bh_ad_at F Q hxP
      have hlt := bh_ad_lt F hxL
      have hL' : L = (P ++ [x]) ++ Q := hL.trans (List.append_cons P x Q)
      have et : bh_tot F (P ++ [x]) = bh_tot F P + (F x + 1) := by rw [bh_tot_1]; omega
      have el : (P ++ [x]).length = P.length + 1 := List.length_append
      have hfl := bh_tot_fl F m P
      have hc : (nI (bh_tot F P)).toNatClampNeg = bh_tot F P := nI_clamp (by omega)
      have hin : vp_in (nI (bh_tot F P)) 72 := vp_in_nI (by omega) (by omega)
      have hw : word2 (nI (bh_tot F P)).toNatClampNeg + 1 = nI (F x + 1) := by rw [hc, (h1 _ (Nat.le_refl _)).1, ← hax, hH x hxL, nI_1]
      have hQ : Q.length < n := by have : (x :: Q).length = Q.length + 1 := rfl; omega
      refine br_f (nI_ge (b := 37) (by omega) (by omega)) (br_f (nI_ge (by omega) (by omega)) ⟨hin, nm_r hw ⟨hin, br_c (fun z => ?_) (fun z => ?_)⟩⟩)
      · rw [hc, ← hax] at z
        have mx := (hm x hxL).mp z
        have ef : (P ++ [x]).filter m = P.filter m := by rw [List.filter_append, List.filter_cons_of_neg (by rw [mx]; exact Bool.false_ne_true), List.filter_nil, List.append_nil]
        refine nm_r (e' := nI (bh_tot F (P ++ [x]))) (by rw [nI_add, et]) (nm_r (e' := nI (P ++ [x]).length) (by rw [nI_1, el]) ?_)
        rw [← ef]
        refine ih (P ++ [x]) n word2 refers2 hL' hQ (fun a ha => h1 a (by omega)) ?_
        intro i k hi hmi hk
        rcases List.mem_append.mp hi with h | h
        · exact h2 i k h hmi hk
        · rw [List.mem_singleton.mp h, mx] at hmi; exact absurd hmi Bool.false_ne_true
      · rw [hc, ← hax] at z
        have mx : m x = true := by
          cases e : m x
          · exact absurd ((hm x hxL).mpr e) z
          · rfl
        have ef : (P ++ [x]).filter m = P.filter m ++ [x] := by rw [List.filter_append, List.filter_cons_of_pos mx, List.filter_nil]
        have ef2 : bh_tot F ((P ++ [x]).filter m) = bh_tot F (P.filter m) + (F x + 1) := by rw [ef, bh_tot_1]; omega
        have ha' : bh_ad F (L.filter m) x = bh_tot F (P.filter m) := by
          rw [hL, List.filter_append, List.filter_cons_of_pos mx]
          exact bh_ad_at F _ (fun c => hxP (List.mem_filter.mp c).1)
        refine Exists.intro (F x + 2) ?_
        refine bh_x46 (word1 := word2) (refers1 := refers2) hfl (by omega) ?_ (F x + 1) 0 (F x + 2) word2 refers2 (by omega) (by omega) (fun _ _ => ⟨rfl, rfl⟩) (fun q hq => by omega)
        · intro word3 refers3 g1 g2
          rw [nI_1, ← el, ← et, ← ef2]
          refine ih (P ++ [x]) n word3 refers3 hL' hQ ?_ ?_
          · intro a ha
            have := g1 a (by omega)
            rw [this.1, this.2]; exact h1 a (by omega)
          · intro i k hi hmi hk
            rcases List.mem_append.mp hi with h | h
            · have hiF : i ∈ P.filter m := List.mem_filter.mpr ⟨h, hmi⟩
              have e3 : bh_ad F (L.filter m) i = bh_ad F (P.filter m) i := by rw [hL, List.filter_append]; exact bh_ad_l F _ _ hiF
              have := bh_ad_lt F hiF
              have g := g1 (bh_ad F (L.filter m) i + k) (by omega)
              rw [g.1, g.2]; exact h2 i k h hmi hk
            · have e := List.mem_singleton.mp h
              subst e
              have q := h1 (bh_tot F P + k) (by omega)
              rw [ha', (g2 k hk).1, (g2 k hk).2, hax, q.1, q.2]
              exact ⟨rfl, rfl⟩
theorem bh_xslide {post : SX → Prop} {word refers : Nat → Int32} (hN : bh_N L F) (hH : bh_H L F word) (hm : ∀ i, i ∈ L → (rch (bh_ad F L i) = 0 ↔ m i = false))
    (K : ∀ word2 refers2 : Nat → Int32, (∀ i k, i ∈ L → m i = true → k < F i + 1 → word2 (bh_ad F (L.filter m) i + k) = word (bh_ad F L i + k) ∧ refers2 (bh_ad F (L.filter m) i + k) = vp_nar .boolean (refers (bh_ad F L i + k))) →
      post (nI (bh_tot F (L.filter m)), wt, brk, word2, refers2, held, heldR, rch, st, bA, bB)) :
    wpX_slideDown post (nI (bh_tot F L), wt, brk, word, refers, held, heldR, rch, st, bA, bB) :=
  Exists.intro (L.length + 1) (bh_x12 hN hH hm K L [] (L.length + 1) word refers rfl (by omega) (fun _ _ => ⟨rfl, rfl⟩) (fun i k h => absurd h List.not_mem_nil))
end
end
section
section
variable {L : List Nat} {F : Nat → Nat} {rf ct : Nat → Int32} {m : Nat → Bool} {b : Nat} {top wt brk : Int32} {word refers heldR rch st bA bB : Nat → Int32}
/-- the registers are mended, then the fields, and what is left slides down -/
theorem bh_x10 {post : SX → Prop} {held : Nat → Int32} (hN : bh_N L F) (hG : bh_G L F held heldR rf ct) (hH : bh_H L F word) (hD : bh_D L F word refers rf ct) (hm : ∀ i, i ∈ L → (rch (bh_ad F L i) = 0 ↔ m i = false)) (hB : bh_mv L F m b bA bB) (hr : ∀ i, bh_rt L rf ct i → m i = true) (hcl : ∀ i j, i ∈ L → m i = true → bh_sc L F rf ct i j → m j = true)
    (K : ∀ word2 refers2 held2 : Nat → Int32, bh_G (L.filter m) F held2 heldR rf ct → bh_H (L.filter m) F word2 → bh_D (L.filter m) F word2 refers2 rf ct → post (nI (bh_tot F (L.filter m)), wt, nI b, word2, refers2, held2, heldR, rch, st, bA, bB)) :
    ∀ (d r n : Nat) (held2 : Nat → Int32), r + d = 6 → d < n → (∀ q, r ≤ q → held2 q = held q) → (∀ q, q < r → bh_V (L.filter m) (bh_ad F (L.filter m)) (heldR q) (held2 q) (rf q) (ct q)) →
      wX_squeeze_10 post (nI (bh_tot F L)) wt (nI b) n (nI r) word refers held2 heldR rch st bA bB := by
  intro d
  induction d with
  | zero =>
    intro r n held2 h1 hn h2 h3
    cases n with
    | zero => omega
    | succ n =>
      have e : r = 6 := by omega
      subst e
      refine br_t (nI_le (b := 6) (Nat.le_refl _) (by omega)) (bh_xmend hN hH hD hm hB hcl ?_)
      intro word2 hH2 hD2
      dsimp only
      refine bh_xslide hN hH2 hm ?_
      intro word3 refers3 g3
      dsimp only
      refine K word3 refers3 held2 h3 ?_ ?_
      · intro i hi
        obtain ⟨hiL, hmi⟩ := List.mem_filter.mp hi
        have := (g3 i 0 hiL hmi (by omega)).1
        rw [Nat.add_zero, Nat.add_zero] at this
        rw [this]; exact hH2 i hiL
      · intro i f hi hf
        obtain ⟨hiL, hmi⟩ := List.mem_filter.mp hi
        have q := g3 i (1 + f) hiL hmi (by omega)
        have v := hD2 i f hiL hmi hf
        rw [← Nat.add_assoc, ← Nat.add_assoc] at q
        rw [q.1, q.2, (bh_Vn v).1]
        exact v
  | succ d ih =>
    intro r n held2 h1 hn h2 h3
    cases n with
    | zero => omega
    | succ n =>
      have hx : (nI r).toNatClampNeg = r := nI_clamp (by omega)
      have hi : vp_in (nI r) 6 := vp_in_nI (by omega) (by omega)
      have hv := hG r (by omega)
      have ew := h2 r (Nat.le_refl _)
      refine br_f (nI_ge (b := 6) (by omega) (by omega)) ⟨hi, br_c (fun z => nm_r (nI_1 _) ?_) (fun z => ⟨hi, ?_⟩)⟩
      · rw [hx] at z
        refine ih (r + 1) n held2 (by omega) (by omega) (fun q hq => h2 q (by omega)) (fun q hq => ?_)
        by_cases e : q = r
        · subst e; rw [ew]; exact bh_V_0 hv z
        · exact h3 q (by omega)
      · rw [hx] at z
        obtain ⟨q1, j, hj, e1, e2⟩ := bh_Vr hv z
        have mj : m j = true := hr j ⟨hj, r, by omega, q1, e2⟩
        refine bh_moved hB.1 (a := bh_ad F L j) (a' := bh_ad F (L.filter m) j) (by have := bh_al hN hj; omega) (hB.2 j hj mj) (by rw [hx, ew]; exact e1) ?_
        refine ⟨hi, nm_r (e' := upd held2 r (nI (bh_ad F (L.filter m) j))) (by rw [hx]) (nm_r (nI_1 _) ?_)⟩
        refine ih (r + 1) n _ (by omega) (by omega) (fun q hq => ?_) (fun q hq => ?_)
        · rw [pk_un (by omega)]; exact h2 q (by omega)
        · by_cases e : q = r
          · subst e
            rw [pk_us]
            refine bh_V_mv hv z (fun i hi g1 g2 => ?_)
            have : i = j := bh_inI (by have := (hN.2.1 i hi).1; omega) (by have := (hN.2.1 j hj).1; omega) (g2.symm.trans e2)
            subst this
            exact ⟨mj, rfl⟩
          · rw [pk_un e]; exact h3 q (by omega)
/-- the squeeze: what is left is what is reached, in the same order -/
theorem bh_xsq {post : SX → Prop} {held : Nat → Int32} (hN : bh_N L F) (hG : bh_G L F held heldR rf ct) (hH : bh_H L F word) (hD : bh_D L F word refers rf ct)
    (K : ∀ (wt brk : Int32) (word refers held rch st bA bB : Nat → Int32), bh_G (L.filter (bh_m L F rf ct)) F held heldR rf ct → bh_H (L.filter (bh_m L F rf ct)) F word → bh_D (L.filter (bh_m L F rf ct)) F word refers rf ct → post (nI (bh_tot F (L.filter (bh_m L F rf ct))), wt, brk, word, refers, held, heldR, rch, st, bA, bB)) :
    wpX_squeeze post (nI (bh_tot F L), wt, brk, word, refers, held, heldR, rch, st, bA, bB) := by
  unfold wpX_squeeze
  dsimp only
  refine bh_xmark hN hG hH hD ?_
  intro st1 rch1 hm
  dsimp only
  refine bh_xlist hN hH hm ?_
  intro b bA1 bB1 hb hB
  dsimp only
  refine Exists.intro 7 (bh_x10 hN hG hH hD hm ⟨hb, hB⟩ (fun i hi => bh_m_t.mpr (bh_Rc_rt hi)) (fun i j hi h hs => bh_m_t.mpr (bh_Rc_sc (bh_m_t.mp h) hs)) ?_ 6 0 7 held (by omega) (by omega) (fun _ _ => rfl) (fun q hq => by omega))
  intro word2 refers2 held2 h1 h2 h3
  exact K _ _ word2 refers2 held2 rch1 st1 bA1 bB1 h1 h2 h3
end
end
section
/-! the reference: what is used, an unused name -/
section
variable {L : List Nat} {F : Nat → Nat} {rf ct fo rY : Nat → Int32}
theorem bh_us_t {i : Nat} (h : i ∈ L) : bh_us F L (i + 1) = bh_us F L i + (F i + 1) := by
  show bh_us F L i + (if i ∈ L then F i + 1 else 0) = _
  rw [if_pos h]
theorem bh_us_f {i : Nat} (h : i ∉ L) : bh_us F L (i + 1) = bh_us F L i := by
  show bh_us F L i + (if i ∈ L then F i + 1 else 0) = _
  rw [if_neg h]; rfl
theorem bh_yus4 {post : Int32 → Prop} (hN : bh_N L F) (hO : bh_O L F fo) (hp : post (nI (bh_tot F L))) :
    ∀ d i n : Nat, i + d = 36 → d < n → wY_used_4 post rf ct fo rY n (nI (bh_us F L i)) (nI i) := by
  intro d
  induction d with
  | zero =>
    intro i n h hn
    cases n with
    | zero => omega
    | succ n =>
      have e : i = 36 := by omega
      subst e
      refine br_t (nI_le (b := 36) (Nat.le_refl _) (by omega)) ?_
      rw [bh_us_tot F hN.1 (fun i hi => (hN.2.1 i hi).1)]; exact hp
  | succ d ih =>
    intro i n h hn
    cases n with
    | zero => omega
    | succ n =>
      have hc : (nI i).toNatClampNeg = i := nI_clamp (by omega)
      have hi : vp_in (nI i) 36 := vp_in_nI (by omega) (by omega)
      refine br_f (nI_ge (b := 36) (by omega) (by omega)) ⟨hi, ?_⟩
      rw [hc, hO i (by omega)]
      by_cases q : i ∈ L
      · have hF := hN.2.1 i q
        rw [if_pos q]
        refine br_f (nI_nle (by omega) (by omega)) ⟨hi, nm_r (e' := nI (bh_us F L (i + 1))) ?_ (nm_r (nI_1 i) (ih (i + 1) n (by omega) (by omega)))⟩
        rw [nI_1, nI_add, bh_us_t q]
      · rw [if_neg q]
        refine br_t (nI_le (b := 0) (Nat.le_refl _) (by omega)) (nm_r (nI_1 i) ?_)
        rw [← bh_us_f (F := F) q]
        exact ih (i + 1) n (by omega) (by omega)
theorem bh_yused {post : Int32 → Prop} (hN : bh_N L F) (hO : bh_O L F fo) (hp : post (nI (bh_tot F L))) : wpY_used post (rf, ct, fo, rY) :=
  Exists.intro 37 (bh_yus4 hN hO hp 36 0 37 (by omega) (by omega))
theorem bh_yun2 {post : Int32 → Prop} (hN : bh_N L F) (hO : bh_O L F fo) (h70 : bh_tot F L ≤ 70) (K : ∀ i, i < 36 → i ∉ L → post (nI i)) :
    ∀ d i n : Nat, i + d = 36 → d < n → 2 * i ≤ bh_us F L i → wY_unused_2 post rf ct fo rY n (nI i) := by
  intro d
  induction d with
  | zero =>
    intro i n h hn hu
    have e : i = 36 := by omega
    subst e
    rw [bh_us_tot F hN.1 (fun i hi => (hN.2.1 i hi).1)] at hu
    omega
  | succ d ih =>
    intro i n h hn hu
    cases n with
    | zero => omega
    | succ n =>
      have hc : (nI i).toNatClampNeg = i := nI_clamp (by omega)
      refine br_f (nI_ge (b := 36) (by omega) (by omega)) ⟨vp_in_nI (by omega) (by omega), ?_⟩
      rw [hc, hO i (by omega)]
      by_cases q : i ∈ L
      · have hF := hN.2.1 i q
        rw [if_pos q]
        refine br_f (nI_ne0 (by omega) (by omega)) (nm_r (nI_1 i) (ih (i + 1) n (by omega) (by omega) ?_))
        rw [bh_us_t q]; omega
      · rw [if_neg q]
        exact br_t nI_0 (K i (by omega) q)
theorem bh_yunused {post : Int32 → Prop} (hN : bh_N L F) (hO : bh_O L F fo) (h70 : bh_tot F L ≤ 70) (K : ∀ i, i < 36 → i ∉ L → post (nI i)) : wpY_unused post (rf, ct, fo, rY) :=
  Exists.intro 37 (bh_yun2 hN hO h70 K 36 0 37 (by omega) (by omega) (Nat.le_refl _))
end
end
section
/-! the reference's marking: rounds -/
def bh_Y1 (L : List Nat) (rf ct : Nat → Int32) (p : Nat) : Prop := rf p = 0 ∨ (rf p = 1 ∧ ∃ j, j ∈ L ∧ ct p = nI j)
def bh_Y (L : List Nat) (F : Nat → Nat) (rf ct : Nat → Int32) : Prop := (∀ r, r < 6 → bh_Y1 L rf ct r) ∧ ∀ i f, i ∈ L → f < F i → bh_Y1 L rf ct (6 + 6 * i + f)
def bh_YI (L : List Nat) (F : Nat → Nat) (rf ct : Nat → Int32) (V : List Nat) (rY : Nat → Int32) : Prop := V.Nodup ∧ (∀ i, i ∈ V → i ∈ L ∧ bh_Rc L F rf ct i) ∧ ∀ i, i < 36 → (rY i = 0 ↔ i ∉ V)
def bh_hd (F : Nat → Nat) (V : List Nat) (p : Nat) : Prop := p < 6 ∨ ((p - 6) / 6 ∈ V ∧ (p - 6) % 6 < F ((p - 6) / 6))
def bh_dn (L : List Nat) (F : Nat → Nat) (rf ct : Nat → Int32) (V : List Nat) (p : Nat) : Prop := bh_hd F V p → ∀ j, j ∈ L → rf p = 1 → ct p = nI j → j ∈ V
section
variable {L : List Nat} {F : Nat → Nat} {rf ct fo : Nat → Int32}
theorem bh_split {p : Nat} (h : ¬ p < 6) : p = 6 + 6 * ((p - 6) / 6) + (p - 6) % 6 := by omega
theorem bh_hd_Y {V : List Nat} {rY : Nat → Int32} {p : Nat} (hY : bh_Y L F rf ct) (hI : bh_YI L F rf ct V rY) (h : bh_hd F V p) : bh_Y1 L rf ct p := by
  by_cases q : p < 6
  · exact hY.1 p q
  · rcases h with h | ⟨h1, h2⟩
    · exact absurd h q
    · rw [bh_split q]; exact hY.2 _ _ (hI.2.1 _ h1).1 h2
theorem bh_hd_R {V : List Nat} {rY : Nat → Int32} {p j : Nat} (hI : bh_YI L F rf ct V rY) (h : bh_hd F V p) (hj : j ∈ L) (h1 : rf p = 1) (h2 : ct p = nI j) : bh_Rc L F rf ct j := by
  by_cases q : p < 6
  · exact bh_Rc_rt ⟨hj, p, q, h1, h2⟩
  · rcases h with h | ⟨h3, h4⟩
    · exact absurd h q
    · rw [bh_split q] at h1 h2
      exact bh_Rc_sc (hI.2.1 _ h3).2 ⟨hj, _, h4, h1, h2⟩
theorem bh_YI_len {V : List Nat} {rY : Nat → Int32} (hN : bh_N L F) (hI : bh_YI L F rf ct V rY) : V.length ≤ 36 := bh_pig hI.1 (fun i hi => (hN.2.1 i (hI.2.1 i hi).1).1)
theorem bh_y94_0 {post : SY → Prop} {J K : Int32 → Int32 → (Nat → Int32) → (Nat → Int32) → (Nat → Int32) → (Nat → Int32) → Prop} {x1 x2 : Int32} {p : Nat} {rY : Nat → Int32} (h : K x1 (nI (p + 1)) rf ct fo rY) : wY_mark_94 post J K x1 x2 (nI p) 0 rf ct fo rY :=
  br_t rfl (nm_r (nI_1 p) h)
theorem bh_y94_1 {post : SY → Prop} {J K : Int32 → Int32 → (Nat → Int32) → (Nat → Int32) → (Nat → Int32) → (Nat → Int32) → Prop} {x1 x2 : Int32} {p : Nat} {V : List Nat} {rY : Nat → Int32} (hN : bh_N L F) (hY : bh_Y L F rf ct) (hI : bh_YI L F rf ct V rY) (hp : p < 222) (hh : bh_hd F V p)
    (h1 : bh_dn L F rf ct V p → K x1 (nI (p + 1)) rf ct fo rY) (h2 : ∀ (V' : List Nat) (rY' : Nat → Int32), bh_YI L F rf ct V' rY' → V.length < V'.length → K 1 (nI (p + 1)) rf ct fo rY') : wY_mark_94 post J K x1 x2 (nI p) 1 rf ct fo rY := by
  have hc : (nI p).toNatClampNeg = p := nI_clamp (by omega)
  have hi : vp_in (nI p) 222 := vp_in_nI hp (by omega)
  refine br_f bh_01 ⟨hi, ?_⟩
  rw [hc]
  rcases bh_hd_Y hY hI hh with e | ⟨e1, j, hj, e2⟩
  · refine br_t e (nm_r (nI_1 p) (h1 ?_))
    intro _ j _ h3 _
    rw [e] at h3; exact absurd h3.symm bh_01
  · have hj36 := (hN.2.1 j hj).1
    have hjc : (nI j).toNatClampNeg = j := nI_clamp (by omega)
    have hji : vp_in (nI j) 36 := vp_in_nI hj36 (by omega)
    rw [e1, e2, hjc]
    refine br_f bh_01 ⟨hi, ⟨hji, br_c (fun z => ?_) (fun z => ?_)⟩⟩
    · have jn := (hI.2.2 j hj36).mp z
      refine ⟨hi, ⟨hji, nm_r (e' := upd rY j 1) rfl (nm_r (nI_1 p) (h2 (j :: V) _ ⟨List.nodup_cons.mpr ⟨jn, hI.1⟩, ?_, ?_⟩ (Nat.lt_succ_self _)))⟩⟩
      · intro i hi'
        rcases List.mem_cons.mp hi' with e | e
        · subst e; exact ⟨hj, bh_hd_R hI hh hj e1 e2⟩
        · exact hI.2.1 i e
      · intro i hi'
        by_cases e : i = j
        · subst e
          rw [pk_us]
          exact ⟨fun c => absurd c bh_01, fun c => absurd List.mem_cons_self c⟩
        · rw [pk_un e, hI.2.2 i hi']
          exact ⟨fun c d => c ((List.mem_cons.mp d).resolve_left e), fun c d => c (List.mem_cons_of_mem _ d)⟩
    · refine nm_r (nI_1 p) (h1 ?_)
      intro _ k hk _ h4
      have : k = j := bh_inI (by have := (hN.2.1 k hk).1; omega) (by omega) (h4.symm.trans e2)
      subst this
      exact Classical.byContradiction fun c => z ((hI.2.2 k hj36).mpr c)
theorem bh_y39 {post : SY → Prop} {J : Int32 → Int32 → (Nat → Int32) → (Nat → Int32) → (Nat → Int32) → (Nat → Int32) → Prop} {x2 : Int32} {l : Nat} (hN : bh_N L F) (hO : bh_O L F fo) (hY : bh_Y L F rf ct)
    (K : ∀ (V : List Nat) (x1 : Int32) (rY : Nat → Int32), bh_YI L F rf ct V rY → ((x1 = 0 ∧ ∀ q, q < 222 → bh_dn L F rf ct V q) ∨ (x1 = 1 ∧ l < V.length)) → J x1 (x2 + 1) rf ct fo rY) :
    ∀ (d p n : Nat) (V : List Nat) (x1 : Int32) (rY : Nat → Int32), p + d = 222 → d < n → bh_YI L F rf ct V rY → ((x1 = 0 ∧ l ≤ V.length ∧ ∀ q, q < p → bh_dn L F rf ct V q) ∨ (x1 = 1 ∧ l < V.length)) →
      wY_mark_39 post J x2 n x1 (nI p) rf ct fo rY := by
  intro d
  induction d with
  | zero =>
    intro p n V x1 rY hp hn hI h
    cases n with
    | zero => omega
    | succ n =>
      have e : p = 222 := by omega
      subst e
      refine br_t (nI_le (b := 222) (Nat.le_refl _) (by omega)) (nm_e (K V x1 rY hI ?_))
      rcases h with ⟨a, b, c⟩ | h
      · exact Or.inl ⟨a, c⟩
      · exact Or.inr h
  | succ d ih =>
    intro p n V x1 rY hp hn hI h
    cases n with
    | zero => omega
    | succ n =>
      have k1 : bh_dn L F rf ct V p → wY_mark_39 post J x2 n x1 (nI (p + 1)) rf ct fo rY := by
        intro hd
        refine ih (p + 1) n V x1 rY (by omega) (by omega) hI ?_
        rcases h with ⟨a, b, c⟩ | h
        · refine Or.inl ⟨a, b, fun q hq => ?_⟩
          by_cases e : q = p
          · subst e; exact hd
          · exact c q (by omega)
        · exact Or.inr h
      have k2 : ∀ (V' : List Nat) (rY' : Nat → Int32), bh_YI L F rf ct V' rY' → V.length < V'.length → wY_mark_39 post J x2 n 1 (nI (p + 1)) rf ct fo rY' := by
        intro V' rY' hI' hl
        refine ih (p + 1) n V' 1 rY' (by omega) (by omega) hI' (Or.inr ⟨rfl, ?_⟩)
        rcases h with ⟨_, b, _⟩ | ⟨_, b⟩ <;> omega
      refine br_f (nI_ge (b := 222) (by omega) (by omega)) (pk_lt p 6 (fun q => ?_) (fun q => ?_))
      · exact bh_y94_1 hN hY hI (by omega) (Or.inl q) k1 k2
      · have e0 : nI p - 6 = nI (p - 6) := pk_sub (b := 6) q
        have e1 : nI (p - 6) / 6 = nI ((p - 6) / 6) := pk_div (d := 6) (by omega) (by omega) (by omega)
        have e2 : nI (p - 6) - nI ((p - 6) / 6) * 6 = nI ((p - 6) % 6) := by
          rw [← e1]; exact pk_rem (d := 6) (by omega) (by omega) (by omega)
        have hb : (p - 6) / 6 < 36 := by omega
        have hc : (nI ((p - 6) / 6)).toNatClampNeg = (p - 6) / 6 := nI_clamp (by omega)
        have hi : vp_in (nI ((p - 6) / 6)) 36 := vp_in_nI hb (by omega)
        rw [e0, e1, e2, hc]
        refine ⟨by decide, hi, br_c (fun z => ?_) (fun z => ⟨by decide, by decide, hi, ?_⟩)⟩
        · refine bh_y94_0 (k1 ?_)
          intro hh
          rcases hh with hh | hh
          · omega
          · exact absurd hh.1 ((hI.2.2 _ hb).mp z)
        · have iV : (p - 6) / 6 ∈ V := Classical.byContradiction fun c => z ((hI.2.2 _ hb).mpr c)
          have iL := (hI.2.1 _ iV).1
          have hF := hN.2.1 _ iL
          rw [hO _ hb, if_pos iL]
          refine pk_le (F ((p - 6) / 6)) ((p - 6) % 6) (fun w => ?_) (fun w => ?_)
          · refine bh_y94_0 (k1 ?_)
            intro hh
            rcases hh with hh | hh
            · omega
            · have := hh.2; omega
          · exact bh_y94_1 hN hY hI (by omega) (Or.inr ⟨iV, w⟩) k1 k2
theorem bh_y25 {post : SY → Prop} (hN : bh_N L F) (hO : bh_O L F fo) (hY : bh_Y L F rf ct)
    (K : ∀ (V : List Nat) (rY : Nat → Int32), bh_YI L F rf ct V rY → (∀ q, q < 222 → bh_dn L F rf ct V q) → post (rf, ct, fo, rY)) :
    ∀ (d s n : Nat) (V : List Nat) (x1 : Int32) (rY : Nat → Int32), s + d = 37 → d < n → bh_YI L F rf ct V rY → ((x1 = 0 ∧ ∀ q, q < 222 → bh_dn L F rf ct V q) ∨ (x1 = 1 ∧ s ≤ V.length)) →
      wY_mark_25 post n x1 (nI s) rf ct fo rY := by
  intro d
  induction d with
  | zero =>
    intro s n V x1 rY hs hn hI h
    cases n with
    | zero => omega
    | succ n =>
      have e : s = 37 := by omega
      subst e
      refine br_t (nI_le (b := 37) (Nat.le_refl _) (by omega)) ?_
      rcases h with ⟨_, b⟩ | ⟨_, b⟩
      · exact K V rY hI b
      · have := bh_YI_len hN hI; omega
  | succ d ih =>
    intro s n V x1 rY hs hn hI h
    cases n with
    | zero => omega
    | succ n =>
      refine br_f (nI_ge (b := 37) (by omega) (by omega)) ?_
      rcases h with ⟨a, b⟩ | ⟨a, b⟩
      · exact br_t a (K V rY hI b)
      · refine br_f (by rw [a]; exact bh_01) ⟨223, ?_⟩
        refine bh_y39 (l := V.length) hN hO hY ?_ 222 0 223 V 0 rY (by omega) (by omega) hI (Or.inl ⟨rfl, Nat.le_refl _, fun q hq => by omega⟩)
        intro V' x1' rY' hI' h'
        rw [nI_1]
        refine ih (s + 1) n V' x1' rY' (by omega) (by omega) hI' ?_
        rcases h' with h' | ⟨a', b'⟩
        · exact Or.inl h'
        · exact Or.inr ⟨a', by omega⟩
theorem bh_y2 {post : SY → Prop} (K : ∀ rY : Nat → Int32, (∀ i, i < 36 → rY i = 0) → ∃ n25 : Nat, wY_mark_25 post n25 1 0 rf ct fo rY) :
    ∀ (d a n : Nat) (rY : Nat → Int32), a + d = 36 → d < n → (∀ i, i < a → rY i = 0) → wY_mark_2 post n (nI a) rf ct fo rY := by
  intro d
  induction d with
  | zero =>
    intro a n rY ha hn hr
    cases n with
    | zero => omega
    | succ n =>
      have e : a = 36 := by omega
      subst e
      exact br_t (nI_le (b := 36) (Nat.le_refl _) (by omega)) (K rY hr)
  | succ d ih =>
    intro a n rY ha hn hr
    cases n with
    | zero => omega
    | succ n =>
      refine br_f (nI_ge (b := 36) (by omega) (by omega)) ⟨vp_in_nI (by omega) (by omega), nm_r (e' := upd rY a 0) (by rw [nI_clamp (by omega)]; rfl) (nm_r (nI_1 _) (ih (a + 1) n _ (by omega) (by omega) ?_))⟩
      intro b hb
      by_cases e : b = a
      · subst e; exact pk_us
      · rw [pk_un e]; exact hr b (by omega)
theorem bh_ymark {post : SY → Prop} {rY : Nat → Int32} (hN : bh_N L F) (hO : bh_O L F fo) (hY : bh_Y L F rf ct)
    (K : ∀ rY : Nat → Int32, (∀ i, i < 36 → (rY i = 0 ↔ i ∉ L.filter (bh_m L F rf ct))) → post (rf, ct, fo, rY)) : wpY_mark post (rf, ct, fo, rY) := by
  refine Exists.intro 37 ?_
  refine bh_y2 ?_ 36 0 37 rY (by omega) (by omega) (fun i h => by omega)
  intro rY1 h1
  refine Exists.intro 38 ?_
  refine bh_y25 hN hO hY ?_ 37 0 38 [] 1 rY1 (by omega) (by omega) ⟨List.nodup_nil, fun i hi => absurd hi List.not_mem_nil, fun i hi => ⟨fun _ => List.not_mem_nil, fun _ => h1 i hi⟩⟩ (Or.inr ⟨rfl, by omega⟩)
  intro V rY2 hI hd
  refine K rY2 (fun i hi => ?_)
  rw [hI.2.2 i hi]
  have hcl : ∀ j, bh_Rc L F rf ct j → j ∈ V := by
    intro j hj
    refine hj (fun j => j ∈ V) ?_ ?_
    · intro a ⟨h2, r, h3, h4, h5⟩
      exact hd r (by omega) (Or.inl h3) a h2 h4 h5
    · intro a c ha ⟨h2, f, h3, h4, h5⟩
      have ha' := hN.2.1 a (hI.2.1 a ha).1
      have q1 : (6 + 6 * a + f - 6) / 6 = a := by omega
      have q2 : (6 + 6 * a + f - 6) % 6 = f := by omega
      refine hd (6 + 6 * a + f) (by omega) (Or.inr ?_) c h2 h4 h5
      rw [q1, q2]; exact ⟨ha, h3⟩
  refine not_congr ⟨fun h => List.mem_filter.mpr ⟨(hI.2.1 i h).1, bh_m_t.mpr (hI.2.1 i h).2⟩, fun h => hcl i (bh_m_t.mp (List.mem_filter.mp h).2)⟩
theorem bh_y6 {post : Int32 → SY → Prop} {M : List Nat} {rY : Nat → Int32} (hN : bh_N M F) (hO : bh_O L F fo) (hs : ∀ i, i ∈ M → i ∈ L) (hr : ∀ i, i < 36 → (rY i = 0 ↔ i ∉ M))
    (K : ∀ fo' : Nat → Int32, bh_O M F fo' → post (nI (bh_tot F M)) (rf, ct, fo', rY)) :
    ∀ (d i n : Nat) (fo' : Nat → Int32), i + d = 36 → d < n → (∀ q, q < i → fo' q = nI (if q ∈ M then F q else 0)) → (∀ q, i ≤ q → fo' q = fo q) → wY_collect_6 post n (nI i) rf ct fo' rY := by
  intro d
  induction d with
  | zero =>
    intro i n fo' h hn h1 h2
    cases n with
    | zero => omega
    | succ n =>
      have e : i = 36 := by omega
      subst e
      exact br_t (nI_le (b := 36) (Nat.le_refl _) (by omega)) (bh_yused hN h1 (K fo' h1))
  | succ d ih =>
    intro i n fo' h hn h1 h2
    cases n with
    | zero => omega
    | succ n =>
      have hc : (nI i).toNatClampNeg = i := nI_clamp (by omega)
      have hi : vp_in (nI i) 36 := vp_in_nI (by omega) (by omega)
      refine br_f (nI_ge (b := 36) (by omega) (by omega)) ⟨hi, br_c (fun z => ⟨hi, nm_r (e' := upd fo' i 0) (by rw [hc]) (nm_r (nI_1 i) ?_)⟩) (fun z => nm_r (nI_1 i) ?_)⟩
      · rw [hc] at z
        have im := (hr i (by omega)).mp z
        refine ih (i + 1) n _ (by omega) (by omega) (fun q hq => ?_) (fun q hq => ?_)
        · by_cases e : q = i
          · subst e; rw [pk_us, if_neg im, nI_0]
          · rw [pk_un e]; exact h1 q (by omega)
        · rw [pk_un (by omega)]; exact h2 q (by omega)
      · rw [hc] at z
        have im : i ∈ M := Classical.byContradiction fun c => z ((hr i (by omega)).mpr c)
        refine ih (i + 1) n _ (by omega) (by omega) (fun q hq => ?_) (fun q hq => h2 q (by omega))
        by_cases e : q = i
        · subst e
          rw [h2 q (Nat.le_refl _), hO q (by omega), if_pos im, if_pos (hs q im)]
        · exact h1 q (by omega)
theorem bh_ycol {post : Int32 → SY → Prop} {rY : Nat → Int32} (hN : bh_N L F) (hO : bh_O L F fo) (hY : bh_Y L F rf ct)
    (K : ∀ fo' rY' : Nat → Int32, bh_O (L.filter (bh_m L F rf ct)) F fo' → post (nI (bh_tot F (L.filter (bh_m L F rf ct)))) (rf, ct, fo', rY')) : wpY_collect post (rf, ct, fo, rY) := by
  unfold wpY_collect
  dsimp only
  refine bh_ymark hN hO hY ?_
  intro rY1 hr
  dsimp only
  exact Exists.intro 37 (bh_y6 (bh_N_fl hN _) hO (fun i hi => (List.mem_filter.mp hi).1) hr (fun fo' h => K fo' rY1 h) 36 0 37 fo (by omega) (by omega) (fun q hq => by omega) (fun _ _ => rfl))
end
end
section
/-! a new record, on both sides -/
section
variable {L : List Nat} {F : Nat → Nat} {wt brk : Int32} {word refers held heldR rch st bA bB rf ct fo rY : Nat → Int32} {dst z T : Nat}
theorem bh_x77 {post : Int32 → SX → Prop} {top : Int32} {word1 refers1 : Nat → Int32} (hd : dst < 6) (hz : T + z + 1 ≤ 72)
    (K : ∀ word2 refers2 : Nat → Int32, (∀ a, a < T + 1 → word2 a = word1 a ∧ refers2 a = refers1 a) → (∀ g, g < z → word2 (T + 1 + g) = 0 ∧ refers2 (T + 1 + g) = 0) →
      post 0 (nI (T + z + 1), wt, brk, word2, refers2, upd held dst (nI T), upd heldR dst 1, rch, st, bA, bB)) :
    ∀ (d f n : Nat) (word2 refers2 : Nat → Int32), f + d = z → d < n → (∀ a, a < T + 1 → word2 a = word1 a ∧ refers2 a = refers1 a) → (∀ g, g < f → word2 (T + 1 + g) = 0 ∧ refers2 (T + 1 + g) = 0) →
      wX_make_77 post (nI dst) (nI z) (nI T) top wt brk n (nI (T + 1 + f)) word2 refers2 held heldR rch st bA bB := by
  intro d
  induction d with
  | zero =>
    intro f n word2 refers2 hf hn h1 h2
    cases n with
    | zero => omega
    | succ n =>
      have e : f = z := by omega
      subst e
      have hc : (nI dst).toNatClampNeg = dst := nI_clamp (by omega)
      have hi : vp_in (nI dst) 6 := vp_in_nI hd (by omega)
      exact br_t (by rw [nI_add]; exact nI_lt (by omega) (by omega)) (nm_r (e' := nI (T + f + 1)) (by rw [nI_add, nI_1]) ⟨hi, nm_r (e' := upd held dst (nI T)) (by rw [hc]) ⟨hi, nm_r (e' := upd heldR dst 1) (by rw [hc]; rfl) (K word2 refers2 h1 h2)⟩⟩)
  | succ d ih =>
    intro f n word2 refers2 hf hn h1 h2
    cases n with
    | zero => omega
    | succ n =>
      have hc : (nI (T + 1 + f)).toNatClampNeg = T + 1 + f := nI_clamp (by omega)
      have hi : vp_in (nI (T + 1 + f)) 72 := vp_in_nI (by omega) (by omega)
      refine br_f (by rw [nI_add]; exact nI_nlt (by omega) (by omega)) ⟨hi, nm_r (e' := upd word2 (T + 1 + f) 0) (by rw [hc]) ⟨hi, nm_r (e' := upd refers2 (T + 1 + f) 0) (by rw [hc]; rfl) (nm_r (nI_1 _) ?_)⟩⟩
      refine ih (f + 1) n _ _ (by omega) (by omega) (fun a ha => ?_) (fun g hg => ?_)
      · rw [pk_un (by omega), pk_un (by omega)]; exact h1 a ha
      · by_cases e : g = f
        · subst e; exact ⟨pk_us, pk_us⟩
        · rw [pk_un (by omega), pk_un (by omega)]; exact h2 g (by omega)
theorem bh_x37 {post : Int32 → SX → Prop} (hd : dst < 6) (hz : z ≤ 6) (hT : T ≤ 72)
    (K1 : z + 1 ≤ 72 - T → ∀ word2 refers2 : Nat → Int32, (∀ a, a < T → word2 a = word a ∧ refers2 a = refers a) → word2 T = nI z → (∀ g, g < z → word2 (T + 1 + g) = 0 ∧ refers2 (T + 1 + g) = 0) →
      post 0 (nI (T + z + 1), wt, brk, word2, refers2, upd held dst (nI T), upd heldR dst 1, rch, st, bA, bB))
    (K2 : 72 - T < z + 1 → post (-2) (nI T, wt, brk, word, refers, held, heldR, rch, st, bA, bB)) :
    wX_make_37 post (nI dst) (nI z) (nI T) wt brk word refers held heldR rch st bA bB := by
  have e1 : (72 : Int32) - nI T = nI (72 - T) := pk_sub (a := 72) hT
  refine pk_le (z + 1) (72 - T) (fun h => ?_) K2 (nI_1 z) e1
  have hc : (nI T).toNatClampNeg = T := nI_clamp (by omega)
  have hi : vp_in (nI T) 72 := vp_in_nI (by omega) (by omega)
  refine ⟨hi, nm_r (e' := upd word T (nI z)) (by rw [hc]) ⟨hi, nm_r (e' := upd refers T 0) (by rw [hc]; rfl) (nm_r (nI_1 _) ⟨z + 1, ?_⟩)⟩⟩
  refine bh_x77 (word1 := upd word T (nI z)) (refers1 := upd refers T 0) hd (by omega) ?_ z 0 (z + 1) _ _ (by omega) (by omega) (fun _ _ => ⟨rfl, rfl⟩) (fun g hg => by omega)
  intro word2 refers2 h1 h2
  refine K1 h word2 refers2 (fun a ha => ?_) ?_ h2
  · rw [(h1 a (by omega)).1, (h1 a (by omega)).2, pk_un (by omega), pk_un (by omega)]; exact ⟨rfl, rfl⟩
  · rw [(h1 T (by omega)).1, pk_us]
theorem bh_yset {post : SY → Prop} {x y c : Int32} {p : Nat} (hx : x = nI p) (hp : p < 222) (hy : vp_nar .boolean y = y) (h : post (upd rf p y, upd ct p c, fo, rY)) : wpY_set post (rf, ct, fo, rY) x y c := by
  subst hx
  have hc : (nI p).toNatClampNeg = p := nI_clamp (by omega)
  have hi : vp_in (nI p) 222 := vp_in_nI hp (by omega)
  exact And.intro hi (nm_r (e' := upd rf p y) (by rw [hc, hy]) ⟨hi, nm_r (e' := upd ct p c) (by rw [hc]) h⟩)
theorem bh_ytake {post : SY → Prop} {x : Int32} {p q : Nat} (hx : x = nI p) (hp : p < 222) {x2 : Int32} (hx2 : x2 = nI q) (hq : q < 222) (hy : vp_nar .boolean (rf q) = rf q) (h : post (upd rf p (rf q), upd ct p (ct q), fo, rY)) : wpY_take post (rf, ct, fo, rY) x x2 := by
  subst hx2
  have hc : (nI q).toNatClampNeg = q := nI_clamp (by omega)
  have hi : vp_in (nI q) 222 := vp_in_nI hq (by omega)
  refine And.intro hi ⟨hi, ?_⟩
  rw [hc]
  exact bh_yset hx hp hy h
theorem bh_y69 {post : Int32 → SY → Prop} {i : Nat} (hd : dst < 6) (hi : i < 36)
    (K : ∀ rf2 ct2 : Nat → Int32, (∀ p, p < 6 + 6 * i ∨ 6 + 6 * i + 6 ≤ p → rf2 p = rf p ∧ ct2 p = ct p) → (∀ g, g < 6 → rf2 (6 + 6 * i + g) = 0 ∧ ct2 (6 + 6 * i + g) = 0) → post 0 (upd rf2 dst 1, upd ct2 dst (nI i), fo, rY)) :
    ∀ (d f n : Nat) (rf2 ct2 : Nat → Int32), f + d = 6 → d < n → (∀ p, p < 6 + 6 * i ∨ 6 + 6 * i + f ≤ p → rf2 p = rf p ∧ ct2 p = ct p) → (∀ g, g < f → rf2 (6 + 6 * i + g) = 0 ∧ ct2 (6 + 6 * i + g) = 0) →
      wY_make_69 post (nI dst) (nI i) n (nI f) rf2 ct2 fo rY := by
  intro d
  induction d with
  | zero =>
    intro f n rf2 ct2 hf hn h1 h2
    cases n with
    | zero => omega
    | succ n =>
      have e : f = 6 := by omega
      subst e
      exact br_t (nI_le (b := 6) (Nat.le_refl _) (by omega)) (bh_yset rfl (by omega) bh_n1 (K rf2 ct2 h1 h2))
  | succ d ih =>
    intro f n rf2 ct2 hf hn h1 h2
    cases n with
    | zero => omega
    | succ n =>
      have e : (6 : Int32) + 6 * nI i + nI f = nI (6 + 6 * i + f) := by
        rw [show (6 : Int32) * nI i = nI (6 * i) from pk_mul 6 i, show (6 : Int32) + nI (6 * i) = nI (6 + 6 * i) from nI_add 6 (6 * i), nI_add]
      refine br_f (nI_ge (b := 6) (by omega) (by omega)) (bh_yset e (by omega) bh_n0 ?_)
      refine nm_r (nI_1 f) ?_
      refine ih (f + 1) n _ _ (by omega) (by omega) (fun p hp => ?_) (fun g hg => ?_)
      · rw [pk_un (by omega), pk_un (by omega)]; exact h1 p (by omega)
      · by_cases e : g = f
        · subst e; exact ⟨pk_us, pk_us⟩
        · rw [pk_un (by omega), pk_un (by omega)]; exact h2 g (by omega)
theorem bh_y38 {post : Int32 → SY → Prop} (hN : bh_N L F) (hO : bh_O L F fo) (hd : dst < 6) (hz1 : 1 ≤ z) (hz : z ≤ 6)
    (K1 : z + 1 ≤ 72 - bh_tot F L → ∀ i, i < 36 → i ∉ L → ∀ rf2 ct2 : Nat → Int32, (∀ p, p < 6 + 6 * i ∨ 6 + 6 * i + 6 ≤ p → rf2 p = rf p ∧ ct2 p = ct p) → (∀ g, g < 6 → rf2 (6 + 6 * i + g) = 0 ∧ ct2 (6 + 6 * i + g) = 0) →
      post 0 (upd rf2 dst 1, upd ct2 dst (nI i), upd fo i (nI z), rY))
    (K2 : 72 - bh_tot F L < z + 1 → post (-2) (rf, ct, fo, rY)) :
    wY_make_38 post (nI dst) (nI z) rf ct fo rY := by
  have e1 : (72 : Int32) - nI (bh_tot F L) = nI (72 - bh_tot F L) := pk_sub (a := 72) hN.2.2
  unfold wY_make_38
  refine bh_yused hN hO ?_
  refine pk_le (z + 1) (72 - bh_tot F L) (fun h => ?_) K2 (nI_1 z) e1
  refine bh_yunused hN hO (by omega) ?_
  intro i hi hiL
  refine ⟨vp_in_nI hi (by omega), nm_r (e' := upd fo i (nI z)) (by rw [nI_clamp (by omega)]) ⟨7, ?_⟩⟩
  exact bh_y69 hd hi (K1 h i hi hiL) 6 0 7 rf ct (by omega) (by omega) (fun _ _ => ⟨rfl, rfl⟩) (fun g hg => by omega)
end
/-! the relation, for a given layout -/
def bh_T (L : List Nat) (F : Nat → Nat) (top : Int32) (word refers held heldR rf ct fo : Nat → Int32) : Prop :=
  bh_N L F ∧ top = nI (bh_tot F L) ∧ bh_O L F fo ∧ bh_G L F held heldR rf ct ∧ bh_H L F word ∧ bh_D L F word refers rf ct
def bh_S (top : Int32) (word refers held heldR rf ct fo : Nat → Int32) : Prop := ∃ L F, bh_T L F top word refers held heldR rf ct fo
section
variable {L : List Nat} {F : Nat → Nat} {top : Int32} {word refers held heldR rf ct fo : Nat → Int32}
theorem bh_T_Y (h : bh_T L F top word refers held heldR rf ct fo) : bh_Y L F rf ct := by
  obtain ⟨_, _, _, hG, _, hD⟩ := h
  exact ⟨fun r hr => bh_Vy (hG r hr), fun i f hi hf => bh_Vy (hD i f hi hf)⟩
theorem bh_setreg {r : Nat} {x w y c : Int32} (h : bh_T L F top word refers held heldR rf ct fo) (hr : r < 6) (hV : bh_V L (bh_ad F L) x w y c) : bh_T L F top word refers (upd held r w) (upd heldR r x) (upd rf r y) (upd ct r c) fo := by
  obtain ⟨hN, hT, hO, hG, hH, hD⟩ := h
  refine ⟨hN, hT, hO, ?_, hH, ?_⟩
  · intro q hq
    by_cases e : q = r
    · subst e; rw [pk_us, pk_us, pk_us, pk_us]; exact hV
    · rw [pk_un e, pk_un e, pk_un e, pk_un e]; exact hG q hq
  · intro i f hi hf
    rw [pk_un (f := rf) (by omega), pk_un (f := ct) (by omega)]; exact hD i f hi hf
theorem bh_setfld {i f : Nat} {x w y c : Int32} (h : bh_T L F top word refers held heldR rf ct fo) (hi : i ∈ L) (hf : f < F i) (hV : bh_V L (bh_ad F L) x w y c) : bh_T L F top (upd word (bh_ad F L i + 1 + f) w) (upd refers (bh_ad F L i + 1 + f) x) held heldR (upd rf (6 + 6 * i + f) y) (upd ct (6 + 6 * i + f) c) fo := by
  obtain ⟨hN, hT, hO, hG, hH, hD⟩ := h
  refine ⟨hN, hT, hO, ?_, ?_, ?_⟩
  · intro q hq
    rw [pk_un (by omega), pk_un (by omega)]; exact hG q hq
  · intro j hj
    have : bh_ad F L j ≠ bh_ad F L i + 1 + f := by
      by_cases e : j = i
      · subst e; omega
      · have := bh_ad_sep F hj hi e; omega
    rw [pk_un this]; exact hH j hj
  · intro j g hj hg
    by_cases e : j = i
    · subst e
      by_cases e2 : g = f
      · subst e2; rw [pk_us, pk_us, pk_us, pk_us]; exact hV
      · rw [pk_un (by omega), pk_un (by omega), pk_un (by omega), pk_un (by omega)]; exact hD j g hj hg
    · have h1 := bh_ad_sep F hj hi e
      have h2 := (hN.2.1 j hj).2.2
      have h3 := (hN.2.1 i hi).2.2
      rw [pk_un (by omega), pk_un (by omega), pk_un (by omega), pk_un (by omega)]; exact hD j g hj hg
theorem bh_setnew {i z dst : Nat} {word2 refers2 rf2 ct2 : Nat → Int32} (h : bh_T L F top word refers held heldR rf ct fo) (hd : dst < 6) (hi : i < 36) (hiL : i ∉ L) (hz1 : 1 ≤ z) (hz : z ≤ 6) (hz2 : z + 1 ≤ 72 - bh_tot F L)
    (w1 : ∀ a, a < bh_tot F L → word2 a = word a ∧ refers2 a = refers a) (w2 : word2 (bh_tot F L) = nI z) (w3 : ∀ g, g < z → word2 (bh_tot F L + 1 + g) = 0 ∧ refers2 (bh_tot F L + 1 + g) = 0)
    (y1 : ∀ p, p < 6 + 6 * i ∨ 6 + 6 * i + 6 ≤ p → rf2 p = rf p ∧ ct2 p = ct p) (y2 : ∀ g, g < 6 → rf2 (6 + 6 * i + g) = 0 ∧ ct2 (6 + 6 * i + g) = 0) :
    bh_T (L ++ [i]) (fun j => if j = i then z else F j) (nI (bh_tot F L + z + 1)) word2 refers2 (upd held dst (nI (bh_tot F L))) (upd heldR dst 1) (upd rf2 dst 1) (upd ct2 dst (nI i)) (upd fo i (nI z)) := by
  obtain ⟨hN, hT, hO, hG, hH, hD⟩ := h
  have hne : ∀ j, j ∈ L → j ≠ i := fun j hj e => hiL (e ▸ hj)
  have hF : ∀ j, j ∈ L → (fun j => if j = i then z else F j) j = F j := fun j hj => if_neg (hne j hj)
  have hFi : (fun j => if j = i then z else F j) i = z := if_pos rfl
  generalize (fun j => if j = i then z else F j) = G at hF hFi ⊢
  have t1 : bh_tot G L = bh_tot F L := bh_tot_cg hF
  have t2 : bh_tot G (L ++ [i]) = bh_tot F L + z + 1 := by rw [bh_tot_1, t1, hFi]
  have a1 : ∀ j, j ∈ L → bh_ad F L j = bh_ad G (L ++ [i]) j := fun j hj => by rw [bh_ad_l G L _ hj]; exact (bh_ad_cg hF j).symm
  have a2 : bh_ad G (L ++ [i]) i = bh_tot F L := by rw [bh_ad_at G [] hiL, t1]
  have hL : ∀ j, j ∈ L → j ∈ L ++ [i] := fun j hj => List.mem_append_left _ hj
  have hiL2 : i ∈ L ++ [i] := List.mem_append_right _ List.mem_cons_self
  refine ⟨⟨?_, ?_, by omega⟩, by rw [t2], ?_, ?_, ?_, ?_⟩
  · refine List.nodup_append.mpr ⟨hN.1, List.nodup_cons.mpr ⟨List.not_mem_nil, List.nodup_nil⟩, fun a ha b hb => ?_⟩
    rw [List.mem_singleton.mp hb]; exact hne a ha
  · intro j hj
    rcases List.mem_append.mp hj with h | h
    · rw [hF j h]; exact hN.2.1 j h
    · rw [List.mem_singleton.mp h, hFi]; exact ⟨hi, hz1, hz⟩
  · intro q hq
    by_cases e : q = i
    · subst e; rw [pk_us, if_pos hiL2, hFi]
    · rw [pk_un e, hO q hq]
      by_cases m : q ∈ L
      · rw [if_pos m, if_pos (hL q m), hF q m]
      · rw [if_neg m, if_neg (fun c => (List.mem_append.mp c).elim m (fun c => e (List.mem_singleton.mp c)))]
  · intro r hr
    by_cases e : r = dst
    · subst e; rw [pk_us, pk_us, pk_us, pk_us]
      exact Or.inr ⟨rfl, rfl, i, hiL2, by rw [a2], rfl⟩
    · rw [pk_un e, pk_un e, pk_un e, pk_un e, (y1 r (by omega)).1, (y1 r (by omega)).2]
      exact bh_Vm (hG r hr) hL a1
  · intro j hj
    rcases List.mem_append.mp hj with h | h
    · have := bh_ad_lt F h
      rw [← a1 j h, hF j h, (w1 _ (by omega)).1]; exact hH j h
    · rw [List.mem_singleton.mp h, a2, hFi]; exact w2
  · intro j f hj hf
    rcases List.mem_append.mp hj with h | h
    · rw [hF j h] at hf
      have g1 := bh_ad_lt F h
      have g2 := hN.2.1 j h
      have g3 := hne j h
      rw [← a1 j h, (w1 _ (by omega)).1, (w1 _ (by omega)).2, pk_un (by omega), pk_un (by omega), (y1 _ (by omega)).1, (y1 _ (by omega)).2]
      exact bh_Vm (hD j f h hf) hL a1
    · have e := List.mem_singleton.mp h
      subst e
      rw [hFi] at hf
      rw [a2, (w3 f hf).1, (w3 f hf).2, pk_un (by omega), pk_un (by omega), (y2 f (by omega)).1, (y2 f (by omega)).2]
      exact Or.inl ⟨rfl, rfl, rfl⟩
end
end
section
/-- the relation at the head of a turn: one layout for both stores -/
def i_Rel (_ : Nat) (u : SX) (v : SY) : Prop := bh_S u.1 u.2.2.2.1 u.2.2.2.2.1 u.2.2.2.2.2.1 u.2.2.2.2.2.2.1 v.1 v.2.1 v.2.2.1
theorem i_up {k : Nat} {u : SX} {v : SY} (h : i_Rel k u v) : i_Rel (k + 4) u v := h
theorem i_vc0 : wpX_init (fun u => wpY_init (fun v => i_Rel 0 u v)) := by
  refine ⟨[], fun _ => 0, ⟨List.nodup_nil, fun i h => absurd h List.not_mem_nil, Nat.zero_le _⟩, rfl, ?_, ?_, fun i h => absurd h List.not_mem_nil, fun i f h => absurd h List.not_mem_nil⟩
  · intro i hi
    exact ((congrArg nI (if_neg List.not_mem_nil)).trans nI_0).symm
  · intro r hr
    exact Or.inl ⟨rfl, rfl, rfl⟩
/-! registers -/
def bh_bad (v : Int32) : Prop := v < 0 ∨ 5 < v
theorem bh_reg (v : Int32) : (∃ r, r < 6 ∧ v = nI r) ∨ bh_bad v := by
  by_cases h : v < 0
  · exact Or.inr (Or.inl h)
  · obtain ⟨j, hj, rfl⟩ := nI_of h
    by_cases h2 : j < 6
    · exact Or.inl ⟨j, h2, rfl⟩
    · exact Or.inr (Or.inr (nI_lt (a := 5) (by omega) hj))
theorem bh_xreg1 {post : Int32 → Prop} {r : Nat} (hr : r < 6) (h : post 1) : wpX_isRegister post (nI r) :=
  br_f (nI_pos (by omega)) (br_f (nI_nlt (b := r) (a := 5) (by omega) (by omega)) h)
theorem bh_xreg0 {post : Int32 → Prop} {v : Int32} (hv : bh_bad v) (h : post 0) : wpX_isRegister post v := by
  rcases hv with hv | hv
  · exact br_t hv h
  · by_cases q : v < 0
    · exact br_t q h
    · exact br_f q (br_t hv h)
theorem bh_ybad0 {post : Int32 → Prop} {r : Nat} (hr : r < 6) (h : post 0) : wpY_bad post (nI r) :=
  br_f (nI_pos (by omega)) (br_t (nI_le (a := r) (b := 5) (by omega) (by omega)) h)
theorem bh_ybad1 {post : Int32 → Prop} {v : Int32} (hv : bh_bad v) (h : post 1) : wpY_bad post v := by
  rcases hv with hv | hv
  · exact br_t hv h
  · by_cases q : v < 0
    · exact br_t q h
    · exact br_f q (br_f (Int32.not_le.mpr hv) h)
theorem bh_m1z : ¬ (0 : Int32) ≤ -1 := by decide
theorem i_vc_number {k : Nat} {u : SX} {v : SY} (I : i_Rel k u v) (hk : k + 4 ≤ 2048) (v1 : Int32) (v2 : Int32) : wpX_number (fun r u' => wpY_number (fun r' v' => r' = r ∧ i_Rel (k + 4) u' v') v v1 v2) u v1 v2 := by
  obtain ⟨top, wt, brk, word, refers, held, heldR, rch, st, bA, bB⟩ := u
  obtain ⟨rf, ct, fo, rY⟩ := v
  have I0 := I
  obtain ⟨L, F, hT⟩ := I
  have hT : bh_T L F top word refers held heldR rf ct fo := hT
  unfold wpX_number wpY_number
  dsimp only
  rcases bh_reg v1 with ⟨r, hr, rfl⟩ | hv
  · have hc : (nI r).toNatClampNeg = r := nI_clamp (by omega)
    have hi : vp_in (nI r) 6 := vp_in_nI hr (by omega)
    refine bh_xreg1 hr (br_f bh_01 ⟨hi, nm_r (e' := upd held r v2) (by rw [hc]) ⟨hi, nm_r (e' := upd heldR r 0) (by rw [hc]; rfl) ?_⟩⟩)
    refine bh_ybad0 hr (br_t rfl (bh_yset rfl (by omega) bh_n0 ?_))
    exact ⟨rfl, L, F, bh_setreg hT hr (Or.inl ⟨rfl, rfl, rfl⟩)⟩
  · exact bh_xreg0 hv (br_t rfl (bh_ybad1 hv (br_f bh_01 ⟨rfl, I0⟩)))
theorem i_vc_move {k : Nat} {u : SX} {v : SY} (I : i_Rel k u v) (hk : k + 4 ≤ 2048) (v1 : Int32) (v2 : Int32) : wpX_move (fun r u' => wpY_move (fun r' v' => r' = r ∧ i_Rel (k + 4) u' v') v v1 v2) u v1 v2 := by
  obtain ⟨top, wt, brk, word, refers, held, heldR, rch, st, bA, bB⟩ := u
  obtain ⟨rf, ct, fo, rY⟩ := v
  have I0 := I
  obtain ⟨L, F, hT⟩ := I
  have hT : bh_T L F top word refers held heldR rf ct fo := hT
  unfold wpX_move wpY_move
  dsimp only
  rcases bh_reg v1 with ⟨r, hr, rfl⟩ | hv
  · rcases bh_reg v2 with ⟨q, hq, rfl⟩ | hv
    · have hc : (nI r).toNatClampNeg = r := nI_clamp (by omega)
      have hi : vp_in (nI r) 6 := vp_in_nI hr (by omega)
      have hcq : (nI q).toNatClampNeg = q := nI_clamp (by omega)
      have hiq : vp_in (nI q) 6 := vp_in_nI hq (by omega)
      have hV := hT.2.2.2.1 q hq
      refine bh_xreg1 hr (br_f bh_01 (bh_xreg1 hq (br_f bh_01 ⟨hiq, ⟨hi, nm_r (e' := upd held r (held q)) (by rw [hc, hcq]) ⟨hiq, ⟨hi, nm_r (e' := upd heldR r (heldR q)) (by rw [hc, hcq, (bh_Vn hV).1]) ?_⟩⟩⟩⟩)))
      refine bh_ybad0 hr (br_t rfl (bh_ybad0 hq (br_t rfl (bh_ytake rfl (by omega) rfl (by omega) (bh_Vn hV).2 ?_))))
      exact ⟨rfl, L, F, bh_setreg hT hr hV⟩
    · exact bh_xreg1 hr (br_f bh_01 (bh_xreg0 hv (br_t rfl (bh_ybad0 hr (br_t rfl (bh_ybad1 hv (br_f bh_01 ⟨rfl, I0⟩)))))))
  · exact bh_xreg0 hv (br_t rfl (bh_ybad1 hv (br_f bh_01 ⟨rfl, I0⟩)))
/-- a field, on both sides -/
theorem bh_field {L : List Nat} {F : Nat → Nat} {top wt brk : Int32} {word refers held heldR rch st bA bB rf ct fo rY : Nat → Int32} {t : Nat} (hT : bh_T L F top word refers held heldR rf ct fo) (ht : t < 6) (x : Int32) :
    ((∀ post : Int32 → Prop, post 0 → wpX_hasField post (top, wt, brk, word, refers, held, heldR, rch, st, bA, bB) (nI t) x) ∧ (∀ post : Int32 → Prop, post (-1) → wpY_place post (rf, ct, fo, rY) (nI t) x)) ∨
    ∃ j f, j ∈ L ∧ f < F j ∧ held t + 1 + x = nI (bh_ad F L j + 1 + f) ∧ (∀ post : Int32 → Prop, post 1 → wpX_hasField post (top, wt, brk, word, refers, held, heldR, rch, st, bA, bB) (nI t) x) ∧ (∀ post : Int32 → Prop, post (nI (6 + 6 * j + f)) → wpY_place post (rf, ct, fo, rY) (nI t) x) := by
  obtain ⟨hN, _, hO, hG, hH, hD⟩ := hT
  have hc : (nI t).toNatClampNeg = t := nI_clamp (by omega)
  have hi : vp_in (nI t) 6 := vp_in_nI ht (by omega)
  have hi2 : vp_in (nI t) 222 := vp_in_nI (by omega) (by omega)
  rcases hG t ht with ⟨a, b, _⟩ | ⟨a, b, j, hj, e1, e2⟩
  · exact Or.inl ⟨fun post h => And.intro hi (br_t (by rw [hc]; exact a) h), fun post h => And.intro hi2 (br_t (by rw [hc]; exact b) h)⟩
  · have a' : ¬ heldR (nI t).toNatClampNeg = 0 := by rw [hc, a]; exact bh_01
    have b' : ¬ rf (nI t).toNatClampNeg = 0 := by rw [hc, b]; exact bh_01
    have hA := bh_al hN hj
    have hj36 := hN.2.1 j hj
    have hin : vp_in (held (nI t).toNatClampNeg) 72 := by rw [hc, e1]; exact vp_in_nI (by omega) (by omega)
    have hinY : vp_in (ct (nI t).toNatClampNeg) 36 := by rw [hc, e2]; exact vp_in_nI (by omega) (by omega)
    have hw : word (held (nI t).toNatClampNeg).toNatClampNeg = nI (F j) := by rw [hc, e1, nI_clamp (by omega)]; exact hH j hj
    have hf : fo (ct (nI t).toNatClampNeg).toNatClampNeg = nI (F j) := by rw [hc, e2, nI_clamp (by omega), hO j hj36.1, if_pos hj]
    by_cases h0 : x < 0
    · exact Or.inl ⟨fun post h => And.intro hi (br_f a' (br_t h0 h)), fun post h => And.intro hi2 (br_f b' (br_t h0 h))⟩
    · obtain ⟨f, hf31, rfl⟩ := nI_of h0
      by_cases hlt : f < F j
      · refine Or.inr ⟨j, f, hj, hlt, by rw [e1, nI_1, nI_add], ?_, ?_⟩
        · intro post h
          refine And.intro hi (br_f a' (br_f h0 ⟨hi, ⟨hin, br_f ?_ h⟩⟩))
          rw [hw]; exact nI_ge hlt (by omega)
        · intro post h
          refine And.intro hi2 (br_f b' (br_f h0 ⟨hi2, ⟨hinY, br_t ?_ ⟨hi2, ?_⟩⟩⟩))
          · rw [hf]; exact nI_lt hlt (by omega)
          · rw [hc, e2, show (6 : Int32) * nI j = nI (6 * j) from pk_mul 6 j, show (6 : Int32) + nI (6 * j) = nI (6 + 6 * j) from nI_add 6 (6 * j), nI_add]
            exact h
      · refine Or.inl ⟨?_, ?_⟩
        · intro post h
          refine And.intro hi (br_f a' (br_f h0 ⟨hi, ⟨hin, br_t ?_ h⟩⟩))
          rw [hw]; exact nI_le (by omega) hf31
        · intro post h
          refine And.intro hi2 (br_f b' (br_f h0 ⟨hi2, ⟨hinY, br_f ?_ h⟩⟩))
          rw [hf]; exact nI_nlt (by omega) hf31
theorem i_vc_store {k : Nat} {u : SX} {v : SY} (I : i_Rel k u v) (hk : k + 4 ≤ 2048) (v1 : Int32) (v2 : Int32) (v3 : Int32) : wpX_store (fun r u' => wpY_store (fun r' v' => r' = r ∧ i_Rel (k + 4) u' v') v v1 v2 v3) u v1 v2 v3 := by
  obtain ⟨top, wt, brk, word, refers, held, heldR, rch, st, bA, bB⟩ := u
  obtain ⟨rf, ct, fo, rY⟩ := v
  have I0 := I
  obtain ⟨L, F, hT⟩ := I
  have hT : bh_T L F top word refers held heldR rf ct fo := hT
  unfold wpX_store wpY_store
  dsimp only
  rcases bh_reg v1 with ⟨r, hr, rfl⟩ | hv
  · rcases bh_reg v3 with ⟨q, hq, rfl⟩ | hv
    · have hc : (nI r).toNatClampNeg = r := nI_clamp (by omega)
      have hi : vp_in (nI r) 6 := vp_in_nI hr (by omega)
      have hcq : (nI q).toNatClampNeg = q := nI_clamp (by omega)
      have hiq : vp_in (nI q) 6 := vp_in_nI hq (by omega)
      have hV := hT.2.2.2.1 q hq
      rcases bh_field (wt := wt) (brk := brk) (rch := rch) (st := st) (bA := bA) (bB := bB) (rY := rY) hT hr v2 with ⟨hX, hY⟩ | ⟨j, f, hj, hf, ea, hX, hY⟩
      · exact bh_xreg1 hr (br_f bh_01 (bh_xreg1 hq (br_f bh_01 (hX _ (br_t rfl (bh_ybad0 hr (br_t rfl (bh_ybad0 hq (br_t rfl (hY _ (br_f bh_m1z ⟨rfl, I0⟩)))))))))))
      · have hA := bh_al hT.1 hj
        have hj36 := hT.1.2.1 j hj
        have hc4 : (nI (bh_ad F L j + 1 + f)).toNatClampNeg = bh_ad F L j + 1 + f := nI_clamp (by omega)
        have hi4 : vp_in (nI (bh_ad F L j + 1 + f)) 72 := vp_in_nI (by omega) (by omega)
        refine bh_xreg1 hr (br_f bh_01 (bh_xreg1 hq (br_f bh_01 (hX _ (br_f bh_01 ⟨hi, nm_r (e' := nI (bh_ad F L j + 1 + f)) (by rw [hc]; exact ea) ⟨hiq, ⟨hi4, nm_r (e' := upd word (bh_ad F L j + 1 + f) (held q)) (by rw [hc4, hcq]) ⟨hiq, ⟨hi4, nm_r (e' := upd refers (bh_ad F L j + 1 + f) (heldR q)) (by rw [hc4, hcq, (bh_Vn hV).1]) ?_⟩⟩⟩⟩⟩)))))
        refine bh_ybad0 hr (br_t rfl (bh_ybad0 hq (br_t rfl (hY _ (br_t (nI_pos' (by omega)) (bh_ytake rfl (by omega) rfl (by omega) (bh_Vn hV).2 ?_))))))
        exact ⟨rfl, L, F, bh_setfld hT hj hf hV⟩
    · exact bh_xreg1 hr (br_f bh_01 (bh_xreg0 hv (br_t rfl (bh_ybad0 hr (br_t rfl (bh_ybad1 hv (br_f bh_01 ⟨rfl, I0⟩)))))))
  · exact bh_xreg0 hv (br_t rfl (bh_ybad1 hv (br_f bh_01 ⟨rfl, I0⟩)))
theorem i_vc_load {k : Nat} {u : SX} {v : SY} (I : i_Rel k u v) (hk : k + 4 ≤ 2048) (v1 : Int32) (v2 : Int32) (v3 : Int32) : wpX_load (fun r u' => wpY_load (fun r' v' => r' = r ∧ i_Rel (k + 4) u' v') v v1 v2 v3) u v1 v2 v3 := by
  obtain ⟨top, wt, brk, word, refers, held, heldR, rch, st, bA, bB⟩ := u
  obtain ⟨rf, ct, fo, rY⟩ := v
  have I0 := I
  obtain ⟨L, F, hT⟩ := I
  have hT : bh_T L F top word refers held heldR rf ct fo := hT
  unfold wpX_load wpY_load
  dsimp only
  rcases bh_reg v1 with ⟨r, hr, rfl⟩ | hv
  · rcases bh_reg v2 with ⟨q, hq, rfl⟩ | hv
    · have hc : (nI r).toNatClampNeg = r := nI_clamp (by omega)
      have hi : vp_in (nI r) 6 := vp_in_nI hr (by omega)
      have hcq : (nI q).toNatClampNeg = q := nI_clamp (by omega)
      have hiq : vp_in (nI q) 6 := vp_in_nI hq (by omega)
      rcases bh_field (wt := wt) (brk := brk) (rch := rch) (st := st) (bA := bA) (bB := bB) (rY := rY) hT hq v3 with ⟨hX, hY⟩ | ⟨j, f, hj, hf, ea, hX, hY⟩
      · exact bh_xreg1 hr (br_f bh_01 (bh_xreg1 hq (br_f bh_01 (hX _ (br_t rfl (bh_ybad0 hr (br_t rfl (bh_ybad0 hq (br_t rfl (hY _ (br_f bh_m1z ⟨rfl, I0⟩)))))))))))
      · have hA := bh_al hT.1 hj
        have hj36 := hT.1.2.1 j hj
        have hV := hT.2.2.2.2.2 j f hj hf
        have hc4 : (nI (bh_ad F L j + 1 + f)).toNatClampNeg = bh_ad F L j + 1 + f := nI_clamp (by omega)
        have hi4 : vp_in (nI (bh_ad F L j + 1 + f)) 72 := vp_in_nI (by omega) (by omega)
        refine bh_xreg1 hr (br_f bh_01 (bh_xreg1 hq (br_f bh_01 (hX _ (br_f bh_01 ⟨hiq, nm_r (e' := nI (bh_ad F L j + 1 + f)) (by rw [hcq]; exact ea) ⟨hi4, ⟨hi, nm_r (e' := upd held r (word (bh_ad F L j + 1 + f))) (by rw [hc4, hc]) ⟨hi4, ⟨hi, nm_r (e' := upd heldR r (refers (bh_ad F L j + 1 + f))) (by rw [hc4, hc, (bh_Vn hV).1]) ?_⟩⟩⟩⟩⟩)))))
        refine bh_ybad0 hr (br_t rfl (bh_ybad0 hq (br_t rfl (hY _ (br_t (nI_pos' (by omega)) (bh_ytake rfl (by omega) rfl (by omega) (bh_Vn hV).2 ?_))))))
        exact ⟨rfl, L, F, bh_setreg hT hr hV⟩
    · exact bh_xreg1 hr (br_f bh_01 (bh_xreg0 hv (br_t rfl (bh_ybad0 hr (br_t rfl (bh_ybad1 hv (br_f bh_01 ⟨rfl, I0⟩)))))))
  · exact bh_xreg0 hv (br_t rfl (bh_ybad1 hv (br_f bh_01 ⟨rfl, I0⟩)))
end
section
theorem i_vc_collect {k : Nat} {u : SX} {v : SY} (I : i_Rel k u v) (hk : k + 4 ≤ 2048) : wpX_collect (fun r u' => wpY_collect (fun r' v' => r' = r ∧ i_Rel (k + 4) u' v') v) u := by
  obtain ⟨top, wt, brk, word, refers, held, heldR, rch, st, bA, bB⟩ := u
  obtain ⟨rf, ct, fo, rY⟩ := v
  obtain ⟨L, F, hT⟩ := I
  have hT : bh_T L F top word refers held heldR rf ct fo := hT
  have hY := bh_T_Y hT
  obtain ⟨hN, rfl, hO, hG, hH, hD⟩ := hT
  unfold wpX_collect
  dsimp only
  refine bh_xsq hN hG hH hD ?_
  intro wt1 brk1 word1 refers1 held1 rch1 st1 bA1 bB1 hG1 hH1 hD1
  dsimp only
  refine bh_ycol hN hO hY ?_
  intro fo1 rY1 hO1
  exact ⟨rfl, _, F, bh_N_fl hN _, rfl, hO1, hG1, hH1, hD1⟩
theorem i_vc_make {k : Nat} {u : SX} {v : SY} (I : i_Rel k u v) (hk : k + 4 ≤ 2048) (v1 : Int32) (v2 : Int32) : wpX_make (fun r u' => wpY_make (fun r' v' => r' = r ∧ i_Rel (k + 4) u' v') v v1 v2) u v1 v2 := by
  obtain ⟨top, wt, brk, word, refers, held, heldR, rch, st, bA, bB⟩ := u
  obtain ⟨rf, ct, fo, rY⟩ := v
  have I0 := I
  obtain ⟨L, F, hT⟩ := I
  have hT : bh_T L F top word refers held heldR rf ct fo := hT
  have hY := bh_T_Y hT
  have hT0 := hT
  obtain ⟨hN, rfl, hO, hG, hH, hD⟩ := hT
  unfold wpX_make wpY_make
  dsimp only
  rcases bh_reg v1 with ⟨r, hr, rfl⟩ | hv
  · by_cases h1 : v2 < 1
    · exact bh_xreg1 hr (br_f bh_01 (br_t h1 (bh_ybad0 hr (br_t rfl (br_t h1 ⟨rfl, I0⟩)))))
    · by_cases h6 : v2 ≤ 6
      · have h0 : ¬ v2 < 0 := fun c => h1 (Int32.lt_trans c (by decide))
        obtain ⟨z, hz31, rfl⟩ := nI_of h0
        have hz : z ≤ 6 := (nI_leI (b := 6) hz31 (by omega)).mp h6
        have hz1 : 1 ≤ z := by
          have : ¬ z < 1 := fun c => h1 (nI_lt (b := 1) c (by omega))
          omega
        have h72 := hN.2.2
        have e1 : (72 : Int32) - nI (bh_tot F L) = nI (72 - bh_tot F L) := pk_sub (a := 72) h72
        refine bh_xreg1 hr (br_f bh_01 (br_f h1 (br_t h6 (pk_le (z + 1) (72 - bh_tot F L) (fun q => ?_) (fun q => ?_) (nI_1 z) e1))))
        · refine bh_x37 hr hz h72 (fun _ word2 refers2 w1 w2 w3 => ?_) (fun c => by omega)
          refine bh_ybad0 hr (br_t rfl (br_f h1 (br_t h6 (bh_yused hN hO (pk_le (z + 1) (72 - bh_tot F L) (fun _ => ?_) (fun c => by omega) (nI_1 z) e1)))))
          refine bh_y38 hN hO hr hz1 hz (fun _ i hi hiL rf2 ct2 y1 y2 => ?_) (fun c => by omega)
          exact ⟨rfl, _, _, bh_setnew hT0 hr hi hiL hz1 hz q w1 w2 w3 y1 y2⟩
        · refine bh_xsq hN hG hH hD ?_
          intro wt1 brk1 word1 refers1 held1 rch1 st1 bA1 bB1 hG1 hH1 hD1
          have hN1 := bh_N_fl hN (bh_m L F rf ct)
          dsimp only
          refine bh_x37 hr hz hN1.2.2 (fun p word2 refers2 w1 w2 w3 => ?_) (fun p => ?_)
          · refine bh_ybad0 hr (br_t rfl (br_f h1 (br_t h6 (bh_yused hN hO (pk_le (z + 1) (72 - bh_tot F L) (fun c => by omega) (fun _ => ?_) (nI_1 z) e1)))))
            refine bh_ycol hN hO hY ?_
            intro fo1 rY1 hO1
            refine bh_y38 hN1 hO1 hr hz1 hz (fun _ i hi hiL rf2 ct2 y1 y2 => ?_) (fun c => by omega)
            exact ⟨rfl, _, _, bh_setnew ⟨hN1, rfl, hO1, hG1, hH1, hD1⟩ hr hi hiL hz1 hz p w1 w2 w3 y1 y2⟩
          · refine bh_ybad0 hr (br_t rfl (br_f h1 (br_t h6 (bh_yused hN hO (pk_le (z + 1) (72 - bh_tot F L) (fun c => by omega) (fun _ => ?_) (nI_1 z) e1)))))
            refine bh_ycol hN hO hY ?_
            intro fo1 rY1 hO1
            refine bh_y38 hN1 hO1 hr hz1 hz (fun c => by omega) (fun _ => ?_)
            exact ⟨rfl, _, F, hN1, rfl, hO1, hG1, hH1, hD1⟩
      · exact bh_xreg1 hr (br_f bh_01 (br_f h1 (br_f h6 (bh_ybad0 hr (br_t rfl (br_f h1 (br_f h6 ⟨rfl, I0⟩)))))))
  · exact bh_xreg0 hv (br_t rfl (bh_ybad1 hv (br_f bh_01 ⟨rfl, I0⟩)))
end
section
theorem i_vc_fields {k : Nat} {u : SX} {v : SY} (I : i_Rel k u v) (hk : k + 4 ≤ 2048) (v1 : Int32) : wpX_fields (fun r => wpY_fields (fun r' => r' = r ∧ i_Rel (k + 4) u v) v v1) u v1 := by
  obtain ⟨top, wt, brk, word, refers, held, heldR, rch, st, bA, bB⟩ := u
  obtain ⟨rf, ct, fo, rY⟩ := v
  have I0 := I
  obtain ⟨L, F, hT⟩ := I
  have hT : bh_T L F top word refers held heldR rf ct fo := hT
  obtain ⟨hN, _, hO, hG, hH, hD⟩ := hT
  unfold wpX_fields wpY_fields
  dsimp only
  rcases bh_reg v1 with ⟨r, hr, rfl⟩ | hv
  · have hc : (nI r).toNatClampNeg = r := nI_clamp (by omega)
    have hi : vp_in (nI r) 6 := vp_in_nI hr (by omega)
    have hi2 : vp_in (nI r) 222 := vp_in_nI (by omega) (by omega)
    rcases hG r hr with ⟨a, b, _⟩ | ⟨a, b, j, hj, e1, e2⟩
    · exact bh_xreg1 hr (br_f bh_01 ⟨hi, br_t (by rw [hc]; exact a) (bh_ybad0 hr (br_t rfl ⟨hi2, br_t (by rw [hc]; exact b) ⟨rfl, I0⟩⟩))⟩)
    · have hA := bh_al hN hj
      have hj36 := hN.2.1 j hj
      refine bh_xreg1 hr (br_f bh_01 ⟨hi, br_f (by rw [hc, a]; exact bh_01) ⟨hi, ⟨by rw [hc, e1]; exact vp_in_nI (by omega) (by omega), ?_⟩⟩⟩)
      refine bh_ybad0 hr (br_t rfl ⟨hi2, br_f (by rw [hc, b]; exact bh_01) ⟨hi2, ⟨by rw [hc, e2]; exact vp_in_nI (by omega) (by omega), ?_, I0⟩⟩⟩)
      rw [hc, e1, e2, nI_clamp (by omega), nI_clamp (by omega), hH j hj, hO j hj36.1, if_pos hj]
  · exact bh_xreg0 hv (br_t rfl (bh_ybad1 hv (br_f bh_01 ⟨rfl, I0⟩)))
theorem i_vc_value {k : Nat} {u : SX} {v : SY} (I : i_Rel k u v) (hk : k + 4 ≤ 2048) (v1 : Int32) : wpX_value (fun r => wpY_value (fun r' => r' = r ∧ i_Rel (k + 4) u v) v v1) u v1 := by
  obtain ⟨top, wt, brk, word, refers, held, heldR, rch, st, bA, bB⟩ := u
  obtain ⟨rf, ct, fo, rY⟩ := v
  have I0 := I
  obtain ⟨L, F, hT⟩ := I
  have hT : bh_T L F top word refers held heldR rf ct fo := hT
  obtain ⟨hN, _, hO, hG, hH, hD⟩ := hT
  unfold wpX_value wpY_value
  dsimp only
  rcases bh_reg v1 with ⟨r, hr, rfl⟩ | hv
  · have hc : (nI r).toNatClampNeg = r := nI_clamp (by omega)
    have hi : vp_in (nI r) 6 := vp_in_nI hr (by omega)
    have hi2 : vp_in (nI r) 222 := vp_in_nI (by omega) (by omega)
    rcases hG r hr with ⟨a, b, e⟩ | ⟨a, b, _⟩
    · exact bh_xreg1 hr (br_f bh_01 ⟨hi, br_t (by rw [hc]; exact a) ⟨hi, bh_ybad0 hr (br_t rfl ⟨hi2, br_t (by rw [hc]; exact b) ⟨hi2, by rw [hc, e], I0⟩⟩)⟩⟩)
    · exact bh_xreg1 hr (br_f bh_01 ⟨hi, br_f (by rw [hc, a]; exact bh_01) (bh_ybad0 hr (br_t rfl ⟨hi2, br_f (by rw [hc, b]; exact bh_01) ⟨rfl, I0⟩⟩))⟩)
  · exact bh_xreg0 hv (br_t rfl (bh_ybad1 hv (br_f bh_01 ⟨rfl, I0⟩)))
theorem i_vc_same {k : Nat} {u : SX} {v : SY} (I : i_Rel k u v) (hk : k + 4 ≤ 2048) (v1 : Int32) (v2 : Int32) : wpX_same (fun r => wpY_same (fun r' => r' = r ∧ i_Rel (k + 4) u v) v v1 v2) u v1 v2 := by
  obtain ⟨top, wt, brk, word, refers, held, heldR, rch, st, bA, bB⟩ := u
  obtain ⟨rf, ct, fo, rY⟩ := v
  have I0 := I
  obtain ⟨L, F, hT⟩ := I
  have hT : bh_T L F top word refers held heldR rf ct fo := hT
  obtain ⟨hN, _, hO, hG, hH, hD⟩ := hT
  unfold wpX_same wpY_same
  dsimp only
  rcases bh_reg v1 with ⟨r, hr, rfl⟩ | hv
  · rcases bh_reg v2 with ⟨q, hq, rfl⟩ | hv
    · have hc : (nI r).toNatClampNeg = r := nI_clamp (by omega)
      have hi : vp_in (nI r) 6 := vp_in_nI hr (by omega)
      have hcq : (nI q).toNatClampNeg = q := nI_clamp (by omega)
      have hiq : vp_in (nI q) 6 := vp_in_nI hq (by omega)
      have hi2 : vp_in (nI r) 222 := vp_in_nI (by omega) (by omega)
      have hiq2 : vp_in (nI q) 222 := vp_in_nI (by omega) (by omega)
      have g1 := hG r hr
      have g2 := hG q hq
      have er : heldR r = rf r := (bh_V01 g1).1
      have eqq : heldR q = rf q := (bh_V01 g2).1
      refine bh_xreg1 hr (br_f bh_01 (bh_xreg1 hq (br_f bh_01 ⟨hi, hiq, ?_⟩)))
      rw [hc, hcq, er, eqq]
      by_cases h : rf r = rf q
      · have hiff : held r = held q ↔ ct r = ct q := by
          rcases g1 with ⟨_, b1, c1⟩ | ⟨_, b1, i, hi1, c1, d1⟩
          · rcases g2 with ⟨_, b2, c2⟩ | ⟨_, b2, _⟩
            · rw [c1, c2]
            · rw [b1, b2] at h; exact absurd h.symm bh_01
          · rcases g2 with ⟨_, b2, c2⟩ | ⟨_, b2, j, hj1, c2, d2⟩
            · rw [b1, b2] at h; exact absurd h bh_01
            · have l1 := bh_al hN hi1
              have l2 := bh_al hN hj1
              have l3 := (hN.2.1 i hi1).1
              have l4 := (hN.2.1 j hj1).1
              rw [c1, c2, d1, d2]
              constructor
              · intro e; rw [bh_ad_inj F hi1 hj1 (bh_inI (by omega) (by omega) e)]
              · intro e; rw [bh_inI (by omega) (by omega) e]
        by_cases h2 : held r = held q
        · refine br_t h ⟨hi, hiq, br_t h2 ?_⟩
          refine bh_ybad0 hr (br_t rfl (bh_ybad0 hq (br_t rfl ⟨hi2, hiq2, ?_⟩)))
          exact br_t h ⟨hi2, hiq2, br_t (hiff.mp h2) ⟨rfl, I0⟩⟩
        · refine br_t h ⟨hi, hiq, br_f h2 ?_⟩
          refine bh_ybad0 hr (br_t rfl (bh_ybad0 hq (br_t rfl ⟨hi2, hiq2, ?_⟩)))
          exact br_t h ⟨hi2, hiq2, br_f (fun c => h2 (hiff.mpr c)) ⟨rfl, I0⟩⟩
      · refine br_f h ?_
        refine bh_ybad0 hr (br_t rfl (bh_ybad0 hq (br_t rfl ⟨hi2, hiq2, ?_⟩)))
        exact br_f h ⟨rfl, I0⟩
    · exact bh_xreg1 hr (br_f bh_01 (bh_xreg0 hv (br_t rfl (bh_ybad0 hr (br_t rfl (bh_ybad1 hv (br_f bh_01 ⟨rfl, I0⟩)))))))
  · exact bh_xreg0 hv (br_t rfl (bh_ybad1 hv (br_f bh_01 ⟨rfl, I0⟩)))
theorem i_vc_used {k : Nat} {u : SX} {v : SY} (I : i_Rel k u v) (hk : k + 4 ≤ 2048) : wpX_used (fun r => wpY_used (fun r' => r' = r ∧ i_Rel (k + 4) u v) v) u := by
  obtain ⟨top, wt, brk, word, refers, held, heldR, rch, st, bA, bB⟩ := u
  obtain ⟨rf, ct, fo, rY⟩ := v
  have I0 := I
  obtain ⟨L, F, hT⟩ := I
  have hT : bh_T L F top word refers held heldR rf ct fo := hT
  obtain ⟨hN, rfl, hO, hG, hH, hD⟩ := hT
  unfold wpX_used
  dsimp only
  exact bh_yused hN hO ⟨rfl, I0⟩
end
