section
/-! numbers: zI, arrays by integers -/
theorem pk_us {f : Nat → Int32} {k : Nat} {x : Int32} : upd f k x k = x := if_pos rfl
theorem pk_un {f : Nat → Int32} {k j : Nat} {x : Int32} (h : j ≠ k) : upd f k x j = f j := if_neg h
def zI (x : Int) : Int32 := Int32.ofInt x
theorem zI_nat (n : Nat) : nI n = zI (n : Int) := Int32.ofInt_eq_ofNat.symm
theorem zI_add (x y : Int) : zI x + zI y = zI (x + y) := (Int32.ofInt_add x y).symm
theorem zI_sub (x y : Int) : zI x - zI y = zI (x - y) := (Int32.ofInt_sub x y).symm
theorem zI_mul (x y : Int) : zI x * zI y = zI (x * y) := (Int32.ofInt_mul x y).symm
theorem zI_toInt {x : Int} (h1 : -2147483648 ≤ x) (h2 : x < 2147483648) : (zI x).toInt = x :=
  Int32.toInt_ofInt_of_le (by omega) (by omega)
theorem zI_le {x y : Int} (h1 : -2147483648 ≤ x) (h2 : x < 2147483648) (h3 : -2147483648 ≤ y) (h4 : y < 2147483648) : zI x ≤ zI y ↔ x ≤ y := by
  rw [Int32.le_iff_toInt_le, zI_toInt h1 h2, zI_toInt h3 h4]
theorem zI_lt {x y : Int} (h1 : -2147483648 ≤ x) (h2 : x < 2147483648) (h3 : -2147483648 ≤ y) (h4 : y < 2147483648) : zI x < zI y ↔ x < y := by
  rw [Int32.lt_iff_toInt_lt, zI_toInt h1 h2, zI_toInt h3 h4]
theorem zI_eq {x y : Int} (h1 : -2147483648 ≤ x) (h2 : x < 2147483648) (h3 : -2147483648 ≤ y) (h4 : y < 2147483648) : zI x = zI y ↔ x = y := by
  rw [← Int32.toInt_inj, zI_toInt h1 h2, zI_toInt h3 h4]
theorem zI_of (x : Int32) : ∃ z : Int, x = zI z ∧ -2147483648 ≤ z ∧ z < 2147483648 := by
  refine ⟨x.toInt, (Int32.ofInt_toInt x).symm, ?_, ?_⟩
  · have := x.le_toInt; omega
  · have := x.toInt_lt; omega
/-- branches by integers -/
theorem zb_le {X Y : Int32} {A B : Prop} (x y : Int) (f : x ≤ y → A) (g : y < x → B) (hx : X = zI x := by rfl) (hy : Y = zI y := by rfl) (h1 : -2147483648 ≤ x := by omega) (h2 : x < 2147483648 := by omega) (h3 : -2147483648 ≤ y := by omega) (h4 : y < 2147483648 := by omega) : (X ≤ Y → A) ∧ (¬ X ≤ Y → B) := by
  subst hx hy
  rw [zI_le h1 h2 h3 h4]
  exact ⟨f, fun z => g (by omega)⟩
theorem zb_lt {X Y : Int32} {A B : Prop} (x y : Int) (f : x < y → A) (g : y ≤ x → B) (hx : X = zI x := by rfl) (hy : Y = zI y := by rfl) (h1 : -2147483648 ≤ x := by omega) (h2 : x < 2147483648 := by omega) (h3 : -2147483648 ≤ y := by omega) (h4 : y < 2147483648 := by omega) : (X < Y → A) ∧ (¬ X < Y → B) := by
  subst hx hy
  rw [zI_lt h1 h2 h3 h4]
  exact ⟨f, fun z => g (by omega)⟩
theorem zb_eq {X Y : Int32} {A B : Prop} (x y : Int) (f : x = y → A) (g : x ≠ y → B) (hx : X = zI x := by rfl) (hy : Y = zI y := by rfl) (h1 : -2147483648 ≤ x := by omega) (h2 : x < 2147483648 := by omega) (h3 : -2147483648 ≤ y := by omega) (h4 : y < 2147483648 := by omega) : (X = Y → A) ∧ (¬ X = Y → B) := by
  subst hx hy
  rw [zI_eq h1 h2 h3 h4]
  exact ⟨f, g⟩
theorem zb_in {X : Int32} (x : Int) (N : Nat) (h0 : 0 ≤ x := by omega) (h : x < N := by omega) (hx : X = zI x := by rfl) (hN : (N : Int) < 2147483648 := by omega) : vp_in X N := by
  subst hx
  rw [vp_in_iff, zI_toInt (by omega) (by omega)]
  exact ⟨h0, h⟩
theorem zb_cl {X : Int32} (x : Int) (k : Nat) (hk : x = k := by omega) (hx : X = zI x := by rfl) (h : (k : Int) < 2147483648 := by omega) : X.toNatClampNeg = k := by
  subst hx hk
  rw [← zI_nat]
  exact nI_clamp (by omega)
theorem zb_tz {X : Int32} {x : Int} (hx : X = zI x) (h0 : 0 ≤ x) (h : x < 2147483648) : X.toNatClampNeg = x.toNat := zb_cl x x.toNat (by omega) hx (by omega)
/-- an integer update of a function -/
def ud (f : Nat → Int) (k : Nat) (x : Int) : Nat → Int := fun j => if j = k then x else f j
theorem ud_s (f : Nat → Int) (k : Nat) (x : Int) : ud f k x k = x := if_pos rfl
theorem ud_n {f : Nat → Int} {k j : Nat} {x : Int} (h : j ≠ k) : ud f k x j = f j := if_neg h
/-- the array a holds f below N -/
def AI (N : Nat) (a : Nat → Int32) (f : Nat → Int) : Prop := ∀ i, i < N → a i = zI (f i)
theorem AI_ud {N : Nat} {a : Nat → Int32} {f : Nat → Int} (h : AI N a f) (k : Nat) (x : Int) {X : Int32} (hX : X = zI x) : AI N (upd a k X) (ud f k x) := by
  intro i hi
  by_cases e : i = k
  · subst e; rw [pk_us, ud_s, hX]
  · rw [pk_un e, ud_n e]; exact h i hi
theorem zI_0 : (0 : Int32) = zI 0 := by decide
theorem zI_1 : (1 : Int32) = zI 1 := by decide
theorem zI_m1 : (-1 : Int32) = zI (-1) := by decide
theorem zI_b {x : Int} (h1 : -128 ≤ x) (h2 : x < 128) : (zI x).toInt8.toInt32 = zI x := by
  exact lg_i2b_small (by rw [zI_toInt (by omega) (by omega)]; exact h1) (by rw [zI_toInt (by omega) (by omega)]; exact h2)
theorem zI_nb {x : Int} (h1 : -128 ≤ x) (h2 : x < 128) : vp_nar .byte (zI x) = zI x := by
  rw [vp_nar_byte, zI_b h1 h2]
theorem zI_nbb {x : Int} (h1 : -128 ≤ x) (h2 : x < 128) : vp_nar .byte (zI x).toInt8.toInt32 = zI x := by
  rw [zI_b h1 h2, zI_nb h1 h2]
theorem zI_nm1 : vp_nar .byte (-1) = zI (-1) := by rw [zI_m1]; exact zI_nb (by omega) (by omega)
end
section
/-! ranges, weights, least elements, first least elements -/
def rg (a b : Nat) : List Nat := List.range' a (b - a)
theorem rg_c {a b : Nat} (h : a < b) : rg a b = a :: rg (a + 1) b := by
  unfold rg
  rw [show b - a = (b - (a + 1)) + 1 by omega, List.range'_succ]
theorem rg_n {a b : Nat} (h : b ≤ a) : rg a b = [] := by
  unfold rg
  rw [show b - a = 0 by omega]
  rfl
theorem rg_m {a b x : Nat} : x ∈ rg a b ↔ a ≤ x ∧ x < b := by
  unfold rg
  rw [List.mem_range'_1]
  omega
theorem fl_cg {α β : Type} {f g : α → List β} : ∀ {l : List α}, (∀ a, a ∈ l → f a = g a) → l.flatMap f = l.flatMap g := by
  intro l
  induction l with
  | nil => intro _; rfl
  | cons x l ih =>
    intro h
    rw [List.flatMap_cons, List.flatMap_cons, h x (List.mem_cons.mpr (Or.inl rfl)), ih (fun a ha => h a (List.mem_cons.mpr (Or.inr ha)))]
/-- the sum of weights -/
def wS (w : Int → Nat) : List Int → Nat
  | [] => 0
  | x :: L => w x + wS w L
theorem wS_app (w : Int → Nat) (A B : List Int) : wS w (A ++ B) = wS w A + wS w B := by
  induction A with
  | nil => simp only [List.nil_append, wS]; omega
  | cons x A ih => simp only [List.cons_append, wS, ih]; omega
theorem wS_map (w : Int → Nat) (f : Int → Int) (L : List Int) : wS w (L.map f) = wS (fun x => w (f x)) L := by
  induction L with
  | nil => rfl
  | cons x L ih => simp only [List.map_cons, wS, ih]
theorem wS_cg {w v : Int → Nat} {L : List Int} (h : ∀ x, x ∈ L → w x = v x) : wS w L = wS v L := by
  induction L with
  | nil => rfl
  | cons x L ih =>
    simp only [wS]
    rw [h x (List.mem_cons.mpr (Or.inl rfl)), ih (fun a ha => h a (List.mem_cons.mpr (Or.inr ha)))]
theorem wS_len (L : List Int) : wS (fun _ => 1) L = L.length := by
  induction L with
  | nil => rfl
  | cons x L ih => simp only [wS, ih, List.length_cons]; omega
/-- how often z stands in L -/
def cn (z : Int) (L : List Int) : Nat := wS (fun x => if x = z then 1 else 0) L
theorem cn_app (z : Int) (A B : List Int) : cn z (A ++ B) = cn z A + cn z B := wS_app _ A B
theorem cn_c (z x : Int) (L : List Int) : cn z (x :: L) = (if x = z then 1 else 0) + cn z L := rfl
theorem cn_pos {z : Int} {L : List Int} : 0 < cn z L ↔ z ∈ L := by
  induction L with
  | nil => simp [cn, wS]
  | cons x L ih =>
    rw [cn_c, List.mem_cons]
    by_cases h : x = z
    · rw [if_pos h]
      exact ⟨fun _ => Or.inl h.symm, fun _ => by omega⟩
    · rw [if_neg h, Nat.zero_add, ih]
      exact ⟨Or.inr, fun q => q.elim (fun e => absurd e.symm h) id⟩
theorem cn_0 {z : Int} {L : List Int} (h : z ∉ L) : cn z L = 0 := by
  by_cases q : 0 < cn z L
  · exact absurd (cn_pos.mp q) h
  · omega
/-- the same elements, as often -/
def mq (A B : List Int) : Prop := ∀ w : Int → Nat, wS w A = wS w B
theorem mq_mem {A B : List Int} (h : mq A B) {x : Int} : x ∈ A ↔ x ∈ B := by
  have := h (fun y => if y = x then 1 else 0)
  rw [← cn_pos, ← cn_pos]
  show 0 < wS _ A ↔ 0 < wS _ B
  rw [this]
theorem mq_len {A B : List Int} (h : mq A B) : A.length = B.length := by
  rw [← wS_len, ← wS_len]; exact h _
theorem mq_cn {A B : List Int} (h : mq A B) (z : Int) : cn z A = cn z B := h _
/-- sums -/
def sm (e : Int) (A B : List Int) : List Int := A.flatMap fun x => B.map fun y => e + x + y
theorem sm_c (e x : Int) (A B : List Int) : sm e (x :: A) B = (B.map fun y => e + x + y) ++ sm e A B := rfl
theorem sm_n (e : Int) (B : List Int) : sm e [] B = [] := rfl
theorem sm_nr (e : Int) (A : List Int) : sm e A [] = [] := by
  induction A with
  | nil => rfl
  | cons x A ih => rw [sm_c, ih]; rfl
theorem sm_m {e z : Int} {A B : List Int} : z ∈ sm e A B ↔ ∃ x, x ∈ A ∧ ∃ y, y ∈ B ∧ e + x + y = z := by
  unfold sm
  simp only [List.mem_flatMap, List.mem_map]
theorem wS_sm (w : Int → Nat) (e : Int) (A B : List Int) : wS w (sm e A B) = wS (fun x => wS (fun y => w (e + x + y)) B) A := by
  induction A with
  | nil => rfl
  | cons x A ih => rw [sm_c, wS_app, wS_map, ih]; rfl
/-- the least element; 1048576 if there is none -/
def mnL : List Int → Int
  | [] => 1048576
  | x :: L => if x ≤ mnL L then x else mnL L
theorem mnL_le {L : List Int} {x : Int} (h : x ∈ L) : mnL L ≤ x := by
  induction L with
  | nil => cases h
  | cons y L ih =>
    unfold mnL
    rcases List.mem_cons.mp h with e | e
    · subst e; split <;> omega
    · have := ih e; split <;> omega
theorem mnL_top (L : List Int) : mnL L ≤ 1048576 := by
  induction L with
  | nil => exact Int.le_refl _
  | cons y L ih => unfold mnL; split <;> omega
theorem mnL_mem (L : List Int) : mnL L = 1048576 ∨ mnL L ∈ L := by
  induction L with
  | nil => exact Or.inl rfl
  | cons y L ih =>
    unfold mnL
    split
    · exact Or.inr (List.mem_cons.mpr (Or.inl rfl))
    · rcases ih with e | e
      · exact Or.inl e
      · exact Or.inr (List.mem_cons.mpr (Or.inr e))
theorem mnL_app (A B : List Int) : mnL (A ++ B) = if mnL A ≤ mnL B then mnL A else mnL B := by
  induction A with
  | nil =>
    have := mnL_top B
    have e : mnL [] = 1048576 := rfl
    rw [List.nil_append]
    by_cases h : mnL [] ≤ mnL B
    · rw [if_pos h]; omega
    · rw [if_neg h]
  | cons y A ih =>
    simp only [List.cons_append, mnL, ih]
    repeat' split
    all_goals omega
/-- bounded elements -/
def BL (L : List Int) : Prop := ∀ x, x ∈ L → -100000 ≤ x ∧ x ≤ 100000
theorem BL_n : BL [] := fun _ h => nomatch h
theorem BL_app {A B : List Int} (ha : BL A) (hb : BL B) : BL (A ++ B) := fun x h => (List.mem_append.mp h).elim (ha x) (hb x)
theorem mnL_b {L : List Int} (h : BL L) (hn : L ≠ []) : mnL L ∈ L ∧ -100000 ≤ mnL L ∧ mnL L ≤ 100000 := by
  rcases mnL_mem L with e | e
  · cases L with
    | nil => exact absurd rfl hn
    | cons x L =>
      have a := h x (List.mem_cons.mpr (Or.inl rfl))
      have b := mnL_le (L := x :: L) (List.mem_cons.mpr (Or.inl rfl))
      omega
  · exact ⟨e, h _ e⟩
theorem mnL_i {L : List Int} (h : BL L) : -100000 ≤ mnL L ∧ mnL L ≤ 1048576 := by
  rcases mnL_mem L with e | e
  · omega
  · have := h _ e; omega
theorem mnL_nil {L : List Int} (h : BL L) : 1048576 ≤ mnL L ↔ L = [] := by
  constructor
  · intro q
    cases L with
    | nil => rfl
    | cons x L =>
      have := mnL_b h (by simp)
      omega
  · intro q; subst q; exact Int.le_refl _
theorem mnL_uq {L : List Int} {v : Int} (h : ∀ x, x ∈ L → v ≤ x) (hv : v ∈ L) (ht : v ≤ 1048576) : mnL L = v := by
  have a := mnL_le hv
  rcases mnL_mem L with e | e
  · omega
  · have := h _ e; omega
theorem mq_mn {A B : List Int} (h : mq A B) : mnL A = mnL B := by
  have a : mnL A ≤ mnL B := by
    rcases mnL_mem B with e | e
    · rw [e]; exact mnL_top A
    · exact mnL_le ((mq_mem h).mpr e)
  have b : mnL B ≤ mnL A := by
    rcases mnL_mem A with e | e
    · rw [e]; exact mnL_top B
    · exact mnL_le ((mq_mem h).mp e)
  omega
theorem mq_BL {A B : List Int} (h : mq A B) (hA : BL A) : BL B := fun x hx => hA x ((mq_mem h).mpr hx)
theorem mq_nil {A B : List Int} (h : mq A B) : A = [] ↔ B = [] := by
  have := mq_len h
  rw [← List.length_eq_zero_iff, ← List.length_eq_zero_iff, this]
theorem mnL_sm {e : Int} {A B : List Int} (hA : BL A) (hB : BL B) (na : A ≠ []) (nb : B ≠ []) (he : e ≤ 100000) : mnL (sm e A B) = e + mnL A + mnL B := by
  have a := mnL_b hA na
  have b := mnL_b hB nb
  refine mnL_uq ?_ (sm_m.mpr ⟨_, a.1, _, b.1, rfl⟩) (by omega)
  intro z hz
  obtain ⟨x, hx, y, hy, rfl⟩ := sm_m.mp hz
  have := mnL_le hx
  have := mnL_le hy
  omega
/-- sums over naturals -/
def sN (f : Nat → Nat) : Nat → Nat
  | 0 => 0
  | k + 1 => sN f k + f k
theorem sN_cg {f g : Nat → Nat} {k : Nat} (h : ∀ i, i < k → f i = g i) : sN f k = sN g k := by
  induction k with
  | zero => rfl
  | succ k ih => simp only [sN]; rw [ih (fun i hi => h i (by omega)), h k (by omega)]
theorem sN_add (f g : Nat → Nat) (k : Nat) : sN (fun i => f i + g i) k = sN f k + sN g k := by
  induction k with
  | zero => rfl
  | succ k ih => simp only [sN, ih]; omega
theorem sN_0 (k : Nat) : sN (fun _ => 0) k = 0 := by
  induction k with
  | zero => rfl
  | succ k ih => simp only [sN, ih]
theorem sN_one (F : Int → Nat) (a x : Int) (ha : a ≤ x) (k : Nat) : sN (fun i => (if x = a + i then 1 else 0) * F (a + i)) k = if x < a + k then F x else 0 := by
  induction k with
  | zero => rw [if_neg (by omega)]; rfl
  | succ k ih =>
    simp only [sN, ih]
    by_cases h : x = a + k
    · rw [if_pos h, if_neg (by omega), if_pos (by omega), h]; omega
    · rw [if_neg h]
      by_cases q : x < a + k
      · rw [if_pos q, if_pos (by omega)]; omega
      · rw [if_neg q, if_neg (by omega), Nat.zero_mul]
theorem wS_cv (F : Int → Nat) (a : Int) (g : Nat) : ∀ A : List Int, (∀ x, x ∈ A → a ≤ x) → (∀ x, a + g < x → F x = 0) → wS F A = sN (fun k => cn (a + k) A * F (a + k)) (g + 1) := by
  intro A
  induction A with
  | nil =>
    intro _ _
    rw [sN_cg (g := fun _ => 0) (fun i _ => by show cn _ [] * _ = 0; rw [show cn (a + i) [] = 0 from rfl, Nat.zero_mul]), sN_0]
    rfl
  | cons x A ih =>
    intro h1 h2
    have e : ∀ k, cn (a + k) (x :: A) * F (a + k) = (if x = a + k then 1 else 0) * F (a + k) + cn (a + k) A * F (a + k) := fun k => by
      rw [cn_c, Nat.add_mul]
    rw [sN_cg (fun i _ => e i), sN_add, sN_one F a x (h1 x (List.mem_cons.mpr (Or.inl rfl))), ← ih (fun y hy => h1 y (List.mem_cons.mpr (Or.inr hy))) h2]
    show F x + _ = _
    by_cases q : x < a + ((g + 1 : Nat) : Int)
    · rw [if_pos q]
    · rw [if_neg q, h2 x (by omega)]
/-- the convolution of counts -/
theorem cn_cv {e : Int} {A B : List Int} (g : Nat) (a b : Int) (hA : ∀ x, x ∈ A → a ≤ x) (hB : ∀ y, y ∈ B → b ≤ y) : cn (e + a + b + g) (sm e A B) = sN (fun k => cn (a + k) A * cn (b + (g - k : Nat)) B) (g + 1) := by
  have h1 : cn (e + a + b + g) (sm e A B) = wS (fun x => cn (a + b + g - x) B) A := by
    unfold cn
    rw [wS_sm]
    apply wS_cg
    intro x _
    apply wS_cg
    intro y _
    by_cases h : y = a + b + g - x
    · rw [if_pos h, if_pos (by omega)]
    · rw [if_neg h, if_neg (by omega)]
  rw [h1, wS_cv (fun x => cn (a + b + g - x) B) a g A hA]
  · apply sN_cg
    intro i hi
    show _ * cn (a + b + g - (a + i)) B = _
    rw [show a + b + (g : Int) - (a + i) = b + ((g - i : Nat) : Int) by omega]
  · intro x hx
    apply cn_0
    intro q
    have := hB _ q
    omega
end
section
/-! the lists of foldings, with costs -/
abbrev rT : Type := Int × List (Nat × Nat)
abbrev rE : Type := (Nat → Nat → Bool) × (Nat → Nat → Int) × (Nat → Nat → Int) × (Nat → Nat → Nat → Nat → Int) × Int × Int × Int
def eA (E : rE) (i j : Nat) : Bool := E.1 i j
def eN (E : rE) (i j : Nat) : Int := E.2.1 i j
def eH (E : rE) (i j : Nat) : Int := E.2.2.1 i j
def eS (E : rE) (i j k l : Nat) : Int := E.2.2.2.1 i j k l
def e13 (E : rE) : Int := E.2.2.2.2.1
def e14 (E : rE) : Int := E.2.2.2.2.2.1
def e15 (E : rE) : Int := E.2.2.2.2.2.2
def mC (E : rE) (i j k l : Nat) : Int := e13 E + 2 * e14 E + e15 E * ((k : Int) - i - 1) + eN E i j + eN E k l
def tn (p : Nat × Nat) (A B : List rT) : List rT := A.flatMap fun x => B.map fun y => (x.1 + y.1, p :: (x.2 ++ y.2))
def sh (c : Int) (x : rT) : rT := (c + x.1, x.2)
def tl (p : Nat × Nat) (A B : List (List (Nat × Nat))) : List (List (Nat × Nat)) := A.flatMap fun s => B.map fun t => p :: (s ++ t)
theorem tn_c (p : Nat × Nat) (x : rT) (A B : List rT) : tn p (x :: A) B = (B.map fun y => (x.1 + y.1, p :: (x.2 ++ y.2))) ++ tn p A B := rfl
theorem tn_m {p : Nat × Nat} {A B : List rT} {z : rT} : z ∈ tn p A B ↔ ∃ x, x ∈ A ∧ ∃ y, y ∈ B ∧ (x.1 + y.1, p :: (x.2 ++ y.2)) = z := by
  unfold tn
  simp only [List.mem_flatMap, List.mem_map]
theorem tl_m {p : Nat × Nat} {A B : List (List (Nat × Nat))} {z : List (Nat × Nat)} : z ∈ tl p A B ↔ ∃ x, x ∈ A ∧ ∃ y, y ∈ B ∧ p :: (x ++ y) = z := by
  unfold tl
  simp only [List.mem_flatMap, List.mem_map]
theorem tn_snd (p : Nat × Nat) (A B : List rT) : (tn p A B).map Prod.snd = tl p (A.map Prod.snd) (B.map Prod.snd) := by
  induction A with
  | nil => rfl
  | cons x A ih =>
    rw [tn_c, List.map_append, ih]
    show _ = ((B.map Prod.snd).map fun t => p :: (x.2 ++ t)) ++ _
    rw [List.map_map, List.map_map]
    rfl
theorem sh_snd (c : Int) (A : List rT) : (A.map (sh c)).map Prod.snd = A.map Prod.snd := by
  rw [List.map_map]
  rfl
theorem wS_tn (w : Int → Nat) (p : Nat × Nat) (A B : List rT) : wS w ((tn p A B).map Prod.fst) = wS w (sm 0 (A.map Prod.fst) (B.map Prod.fst)) := by
  induction A with
  | nil => rfl
  | cons x A ih =>
    rw [tn_c, List.map_append, wS_app, ih, List.map_cons, sm_c, wS_app]
    congr 1
    rw [List.map_map, List.map_map]
    congr 1
    apply List.map_congr_left
    intro y _
    show x.1 + y.1 = 0 + x.1 + y.1
    omega
/-- the block of a pair with what follows: more branches (shifted by c), or none (s) -/
theorem wS_blk (w : Int → Nat) (p : Nat × Nat) (A B : List rT) (c s : Int) : wS w ((tn p A (B.map (sh c) ++ [(s, [])])).map Prod.fst) = wS w (sm c (A.map Prod.fst) (B.map Prod.fst)) + wS w (sm s (A.map Prod.fst) [0]) := by
  rw [wS_tn, wS_sm, wS_sm, wS_sm]
  induction A with
  | nil => rfl
  | cons x A ih =>
    simp only [List.map_cons, wS, ih]
    rw [List.map_append, wS_app]
    have a : wS (fun y => w (0 + x.1 + y)) ((B.map (sh c)).map Prod.fst) = wS (fun y => w (c + x.1 + y)) (B.map Prod.fst) := by
      rw [show (B.map (sh c)).map Prod.fst = (B.map Prod.fst).map (fun y => c + y) by rw [List.map_map, List.map_map]; rfl, wS_map]
      apply wS_cg
      intro y _
      show w (0 + x.1 + (c + y)) = _
      rw [show 0 + x.1 + (c + y) = c + x.1 + y by omega]
    have b : wS (fun y => w (0 + x.1 + y)) ([((s, []) : rT)].map Prod.fst) = w (s + x.1 + 0) := by
      show w (0 + x.1 + s) + 0 = _
      rw [show 0 + x.1 + s = s + x.1 + 0 by omega, Nat.add_zero]
    rw [a, b]
    omega
theorem wS_blo (w : Int → Nat) (p : Nat × Nat) (A B : List rT) (c : Int) : wS w ((tn p A (B.map (sh c))).map Prod.fst) = wS w (sm c (A.map Prod.fst) (B.map Prod.fst)) := by
  rw [wS_tn, wS_sm, wS_sm]
  apply wS_cg
  intro x _
  rw [show (B.map (sh c)).map Prod.fst = (B.map Prod.fst).map (fun y => c + y) by rw [List.map_map, List.map_map]; rfl, wS_map]
  apply wS_cg
  intro y _
  show w (0 + x + (c + y)) = _
  rw [show 0 + x + (c + y) = c + x + y by omega]
theorem wS_sh (w : Int → Nat) (A : List rT) (c : Int) : wS w ((A.map (sh c)).map Prod.fst) = wS w (sm c (A.map Prod.fst) [0]) := by
  rw [show (A.map (sh c)).map Prod.fst = (A.map Prod.fst).map (fun y => c + y) by rw [List.map_map, List.map_map]; rfl, wS_map, wS_sm]
  apply wS_cg
  intro x _
  show w (c + x) = w (c + x + 0) + 0
  rw [Int.add_zero, Nat.add_zero]
def rl (E : rE) : Nat → Bool → Nat → Nat → Nat → List rT
  | 0, _, _, _, _ => []
  | f + 1, false, i, j, k => if k + 1 < j then ((rg (k + 1) j).flatMap fun l => if eA E k l = true then tn (k, l) (rl E f false k l (k + 1)) ((rl E f true 0 (j - 1) (l + 1)).map (sh (mC E i j k l)) ++ [(eS E i j k l, [])]) else []) ++ rl E f false i j (k + 1) else [(eH E i j, [])]
  | f + 1, true, _, j, k => if k < j then ((rg (k + 1) (j + 1)).flatMap fun l => if eA E k l = true then tn (k, l) (rl E f false k l (k + 1)) ((rl E f true 0 j (l + 1)).map (sh (e14 E + eN E k l)) ++ [(e14 E + eN E k l + e15 E * ((j : Int) - l), [])]) else []) ++ (rl E f true 0 j (k + 1)).map (sh (e15 E)) else []
theorem rl_f (E : rE) : ∀ (f g : Nat) (b : Bool) (i j k : Nat), j - k < f → j - k < g → rl E f b i j k = rl E g b i j k := by
  intro f
  induction f with
  | zero => intro g b i j k h; omega
  | succ f ih =>
    intro g b i j k h1 h2
    cases g with
    | zero => omega
    | succ g =>
      cases b with
      | false =>
        simp only [rl]
        by_cases h : k + 1 < j
        · rw [if_pos h, if_pos h, ih g false i j (k + 1) (by omega) (by omega)]
          congr 1
          apply fl_cg
          intro l hl
          have := rg_m.mp hl
          by_cases q : eA E k l = true
          · rw [if_pos q, if_pos q, ih g false k l (k + 1) (by omega) (by omega), ih g true 0 (j - 1) (l + 1) (by omega) (by omega)]
          · rw [if_neg q, if_neg q]
        · rw [if_neg h, if_neg h]
      | true =>
        simp only [rl]
        by_cases h : k < j
        · rw [if_pos h, if_pos h, ih g true 0 j (k + 1) (by omega) (by omega)]
          congr 1
          apply fl_cg
          intro l hl
          have := rg_m.mp hl
          by_cases q : eA E k l = true
          · rw [if_pos q, if_pos q, ih g false k l (k + 1) (by omega) (by omega), ih g true 0 j (l + 1) (by omega) (by omega)]
          · rw [if_neg q, if_neg q]
        · rw [if_neg h, if_neg h]
/-- the insides of the pair (i, j), with i + 1 .. k - 1 unpaired -/
def RQ (E : rE) (i j k : Nat) : List rT := rl E (j - k + 1) false i j k
/-- a region of a multiloop, one branch or more -/
def RB (E : rE) (k j : Nat) : List rT := rl E (j - k + 1) true 0 j k
theorem RQ_s (E : rE) {i j k : Nat} (h : k + 1 < j) : RQ E i j k = ((rg (k + 1) j).flatMap fun l => if eA E k l = true then tn (k, l) (RQ E k l (k + 1)) ((RB E (l + 1) (j - 1)).map (sh (mC E i j k l)) ++ [(eS E i j k l, [])]) else []) ++ RQ E i j (k + 1) := by
  unfold RQ RB
  rw [show rl E (j - k + 1) false i j k = if k + 1 < j then ((rg (k + 1) j).flatMap fun l => if eA E k l = true then tn (k, l) (rl E (j - k) false k l (k + 1)) ((rl E (j - k) true 0 (j - 1) (l + 1)).map (sh (mC E i j k l)) ++ [(eS E i j k l, [])]) else []) ++ rl E (j - k) false i j (k + 1) else [(eH E i j, [])] from rfl, if_pos h, rl_f E (j - k) (j - (k + 1) + 1) false i j (k + 1) (by omega) (by omega)]
  congr 1
  apply fl_cg
  intro l hl
  have := rg_m.mp hl
  rw [rl_f E (j - k) (l - (k + 1) + 1) false k l (k + 1) (by omega) (by omega), rl_f E (j - k) (j - 1 - (l + 1) + 1) true 0 (j - 1) (l + 1) (by omega) (by omega)]
theorem RQ_e (E : rE) {i j k : Nat} (h : ¬ k + 1 < j) : RQ E i j k = [(eH E i j, [])] := by
  unfold RQ
  rw [show rl E (j - k + 1) false i j k = if k + 1 < j then ((rg (k + 1) j).flatMap fun l => if eA E k l = true then tn (k, l) (rl E (j - k) false k l (k + 1)) ((rl E (j - k) true 0 (j - 1) (l + 1)).map (sh (mC E i j k l)) ++ [(eS E i j k l, [])]) else []) ++ rl E (j - k) false i j (k + 1) else [(eH E i j, [])] from rfl, if_neg h]
theorem RB_s (E : rE) {j k : Nat} (h : k < j) : RB E k j = ((rg (k + 1) (j + 1)).flatMap fun l => if eA E k l = true then tn (k, l) (RQ E k l (k + 1)) ((RB E (l + 1) j).map (sh (e14 E + eN E k l)) ++ [(e14 E + eN E k l + e15 E * ((j : Int) - l), [])]) else []) ++ (RB E (k + 1) j).map (sh (e15 E)) := by
  unfold RQ RB
  rw [show rl E (j - k + 1) true 0 j k = if k < j then ((rg (k + 1) (j + 1)).flatMap fun l => if eA E k l = true then tn (k, l) (rl E (j - k) false k l (k + 1)) ((rl E (j - k) true 0 j (l + 1)).map (sh (e14 E + eN E k l)) ++ [(e14 E + eN E k l + e15 E * ((j : Int) - l), [])]) else []) ++ (rl E (j - k) true 0 j (k + 1)).map (sh (e15 E)) else [] from rfl, if_pos h, rl_f E (j - k) (j - (k + 1) + 1) true 0 j (k + 1) (by omega) (by omega)]
  congr 1
  apply fl_cg
  intro l hl
  have := rg_m.mp hl
  rw [rl_f E (j - k) (l - (k + 1) + 1) false k l (k + 1) (by omega) (by omega), rl_f E (j - k) (j - (l + 1) + 1) true 0 j (l + 1) (by omega) (by omega)]
theorem RB_e (E : rE) {j k : Nat} (h : ¬ k < j) : RB E k j = [] := by
  unfold RB
  rw [show rl E (j - k + 1) true 0 j k = if k < j then ((rg (k + 1) (j + 1)).flatMap fun l => if eA E k l = true then tn (k, l) (rl E (j - k) false k l (k + 1)) ((rl E (j - k) true 0 j (l + 1)).map (sh (e14 E + eN E k l)) ++ [(e14 E + eN E k l + e15 E * ((j : Int) - l), [])]) else []) ++ (rl E (j - k) true 0 j (k + 1)).map (sh (e15 E)) else [] from rfl, if_neg h]
def ro (E : rE) (n : Nat) : Nat → Nat → List rT
  | 0, _ => [(0, [])]
  | f + 1, i => if i < n then ((rg (i + 1) n).flatMap fun l => if eA E i l = true then tn (i, l) (RQ E i l (i + 1)) ((ro E n f (l + 1)).map (sh (eN E i l))) else []) ++ ro E n f (i + 1) else [(0, [])]
theorem ro_f (E : rE) (n : Nat) : ∀ (f g i : Nat), n - i ≤ f → n - i ≤ g → ro E n f i = ro E n g i := by
  have z : ∀ g i, n - i ≤ 0 → ro E n g i = [(0, [])] := by
    intro g i h
    cases g with
    | zero => rfl
    | succ g => simp only [ro]; rw [if_neg (by omega)]
  intro f
  induction f with
  | zero =>
    intro g i h1 h2
    rw [z 0 i h1, z g i h1]
  | succ f ih =>
    intro g i h1 h2
    cases g with
    | zero => rw [z 0 i h2, z (f + 1) i h2]
    | succ g =>
      simp only [ro]
      by_cases h : i < n
      · rw [if_pos h, if_pos h, ih g (i + 1) (by omega) (by omega)]
        congr 1
        apply fl_cg
        intro l hl
        have := rg_m.mp hl
        rw [ih g (l + 1) (by omega) (by omega)]
      · rw [if_neg h, if_neg h]
/-- what is from base i on -/
def RO (E : rE) (n i : Nat) : List rT := ro E n (n - i) i
theorem RO_s (E : rE) {n i : Nat} (h : i < n) : RO E n i = ((rg (i + 1) n).flatMap fun l => if eA E i l = true then tn (i, l) (RQ E i l (i + 1)) ((RO E n (l + 1)).map (sh (eN E i l))) else []) ++ RO E n (i + 1) := by
  unfold RO
  rw [ro_f E n (n - i) (n - (i + 1) + 1) i (by omega) (by omega)]
  simp only [ro]
  rw [if_pos h]
  congr 1
  apply fl_cg
  intro l hl
  have := rg_m.mp hl
  rw [ro_f E n (n - (i + 1)) (n - (l + 1)) (l + 1) (by omega) (by omega)]
theorem RO_e (E : rE) {n i : Nat} (h : ¬ i < n) : RO E n i = [(0, [])] := by
  unfold RO
  rw [show n - i = 0 by omega]
  rfl
def rr (E : rE) : Nat → Nat → Nat → List (List (Nat × Nat))
  | 0, _, _ => [[]]
  | f + 1, a, b => if a < b then ((rg (a + 1) b).flatMap fun l => if eA E a l = true then tl (a, l) (rr E f (a + 1) l) (rr E f (l + 1) b) else []) ++ rr E f (a + 1) b else [[]]
theorem rr_f (E : rE) : ∀ (f g a b : Nat), b - a ≤ f → b - a ≤ g → rr E f a b = rr E g a b := by
  have z : ∀ g a b, b - a ≤ 0 → rr E g a b = [[]] := by
    intro g a b h
    cases g with
    | zero => rfl
    | succ g => simp only [rr]; rw [if_neg (by omega)]
  intro f
  induction f with
  | zero =>
    intro g a b h1 h2
    rw [z 0 a b h1, z g a b h1]
  | succ f ih =>
    intro g a b h1 h2
    cases g with
    | zero => rw [z 0 a b h2, z (f + 1) a b h2]
    | succ g =>
      simp only [rr]
      by_cases h : a < b
      · rw [if_pos h, if_pos h, ih g (a + 1) b (by omega) (by omega)]
        congr 1
        apply fl_cg
        intro l hl
        have := rg_m.mp hl
        rw [ih g (a + 1) l (by omega) (by omega), ih g (l + 1) b (by omega) (by omega)]
      · rw [if_neg h, if_neg h]
/-- the plain lists of pairs on a .. b - 1 -/
def RR (E : rE) (a b : Nat) : List (List (Nat × Nat)) := rr E (b - a) a b
theorem RR_s (E : rE) {a b : Nat} (h : a < b) : RR E a b = ((rg (a + 1) b).flatMap fun l => if eA E a l = true then tl (a, l) (RR E (a + 1) l) (RR E (l + 1) b) else []) ++ RR E (a + 1) b := by
  unfold RR
  rw [rr_f E (b - a) (b - (a + 1) + 1) a b (by omega) (by omega)]
  simp only [rr]
  rw [if_pos h]
  congr 1
  apply fl_cg
  intro l hl
  have := rg_m.mp hl
  rw [rr_f E (b - (a + 1)) (l - (a + 1)) (a + 1) l (by omega) (by omega), rr_f E (b - (a + 1)) (b - (l + 1)) (l + 1) b (by omega) (by omega)]
theorem RR_e (E : rE) {a b : Nat} (h : ¬ a < b) : RR E a b = [[]] := by
  unfold RR
  rw [show b - a = 0 by omega]
  rfl
theorem RR_1 (E : rE) (a : Nat) : RR E a (a + 1) = [[]] := by
  rw [RR_s E (by omega), rg_n (by omega), RR_e E (by omega)]
  rfl
theorem QB_snd (E : rE) : ∀ w : Nat, (∀ i j k, j - k ≤ w → (RQ E i j k).map Prod.snd = RR E k j) ∧ (∀ j k, j - k ≤ w → (RB E k j).map Prod.snd ++ [[]] = RR E k (j + 1)) := by
  intro w
  induction w with
  | zero =>
    constructor
    · intro i j k h
      rw [RQ_e E (by omega), RR_e E (by omega)]
      rfl
    · intro j k h
      rw [RB_e E (by omega)]
      by_cases q : k = j
      · subst q; rw [RR_1]; rfl
      · rw [RR_e E (by omega)]; rfl
  | succ w ih =>
    obtain ⟨ihQ, ihB⟩ := ih
    constructor
    · intro i j k h
      by_cases q : k + 1 < j
      · rw [RQ_s E q, RR_s E (by omega), List.map_append, ihQ i j (k + 1) (by omega), List.map_flatMap]
        congr 1
        apply fl_cg
        intro l hl
        have := rg_m.mp hl
        by_cases z : eA E k l = true
        · rw [if_pos z, if_pos z, tn_snd, ihQ k l (k + 1) (by omega), List.map_append, sh_snd]
          have := ihB (j - 1) (l + 1) (by omega)
          rw [show j - 1 + 1 = j by omega] at this
          rw [← this]
          rfl
        · rw [if_neg z, if_neg z]; rfl
      · rw [RQ_e E q]
        by_cases q2 : k + 1 = j
        · subst q2; rw [RR_1]; rfl
        · rw [RR_e E (by omega)]; rfl
    · intro j k h
      by_cases q : k < j
      · rw [RB_s E q, RR_s E (by omega), List.map_append, sh_snd, List.append_assoc, ihB j (k + 1) (by omega), List.map_flatMap]
        congr 1
        apply fl_cg
        intro l hl
        have := rg_m.mp hl
        by_cases z : eA E k l = true
        · rw [if_pos z, if_pos z, tn_snd, ihQ k l (k + 1) (by omega), List.map_append, sh_snd, ← ihB j (l + 1) (by omega)]
          rfl
        · rw [if_neg z, if_neg z]; rfl
      · rw [RB_e E q]
        by_cases q2 : k = j
        · subst q2; rw [RR_1]; rfl
        · rw [RR_e E (by omega)]; rfl
theorem RQ_snd (E : rE) (i j k : Nat) : (RQ E i j k).map Prod.snd = RR E k j := (QB_snd E (j - k)).1 i j k (Nat.le_refl _)
theorem RB_snd (E : rE) (k j : Nat) : (RB E k j).map Prod.snd ++ [[]] = RR E k (j + 1) := (QB_snd E (j - k)).2 j k (Nat.le_refl _)
theorem RO_snd (E : rE) (n : Nat) : ∀ w i, n - i ≤ w → (RO E n i).map Prod.snd = RR E i n := by
  intro w
  induction w with
  | zero =>
    intro i h
    rw [RO_e E (by omega), RR_e E (by omega)]
    rfl
  | succ w ih =>
    intro i h
    by_cases q : i < n
    · rw [RO_s E q, RR_s E q, List.map_append, ih (i + 1) (by omega), List.map_flatMap]
      congr 1
      apply fl_cg
      intro l hl
      have := rg_m.mp hl
      by_cases z : eA E i l = true
      · rw [if_pos z, if_pos z, tn_snd, RQ_snd, sh_snd, ih (l + 1) (by omega)]
      · rw [if_neg z, if_neg z]; rfl
    · rw [RO_e E q, RR_e E q]; rfl
/-- every pair of a folding lies within, and is allowed -/
theorem RR_in (E : rE) : ∀ w a b, b - a ≤ w → ∀ s, s ∈ RR E a b → ∀ p, p ∈ s → a ≤ p.1 ∧ p.1 < p.2 ∧ p.2 < b ∧ eA E p.1 p.2 = true := by
  intro w
  induction w with
  | zero =>
    intro a b h s hs p hp
    rw [RR_e E (by omega)] at hs
    rw [List.mem_singleton.mp hs] at hp
    cases hp
  | succ w ih =>
    intro a b h s hs p hp
    by_cases q : a < b
    · rw [RR_s E q] at hs
      rcases List.mem_append.mp hs with hs | hs
      · obtain ⟨l, hl, hs⟩ := List.mem_flatMap.mp hs
        have := rg_m.mp hl
        by_cases z : eA E a l = true
        · rw [if_pos z] at hs
          obtain ⟨x, hx, y, hy, rfl⟩ := tl_m.mp hs
          rcases List.mem_cons.mp hp with e | hp
          · subst e
            exact ⟨Nat.le_refl _, by show a < l; omega, by show l < b; omega, z⟩
          · rcases List.mem_append.mp hp with hp | hp
            · have := ih (a + 1) l (by omega) x hx p hp
              exact ⟨by omega, this.2.1, by omega, this.2.2.2⟩
            · have := ih (l + 1) b (by omega) y hy p hp
              exact ⟨by omega, this.2.1, by omega, this.2.2.2⟩
        · rw [if_neg z] at hs; cases hs
      · have := ih (a + 1) b (by omega) s hs p hp
        exact ⟨by omega, this.2.1, by omega, this.2.2.2⟩
    · rw [RR_e E q] at hs
      rw [List.mem_singleton.mp hs] at hp
      cases hp
end
section
/-! mates, scans, energies of a mate function -/
def fr : Nat → Int := fun _ => -1
def pu (M : Nat → Int) (p q : Nat) : Nat → Int := fun x => if x = p then (q : Int) else if x = q then (p : Int) else M x
theorem pu_1 (M : Nat → Int) (p q : Nat) : pu M p q p = q := if_pos rfl
theorem pu_2 (M : Nat → Int) {p q : Nat} (h : p ≠ q) : pu M p q q = p := by
  unfold pu
  rw [if_neg (fun e => h e.symm), if_pos rfl]
theorem pu_3 (M : Nat → Int) {p q x : Nat} (h1 : x ≠ p) (h2 : x ≠ q) : pu M p q x = M x := by
  unfold pu
  rw [if_neg h1, if_neg h2]
def Ms (M : Nat → Int) : List (Nat × Nat) → (Nat → Int)
  | [] => M
  | p :: s => Ms (pu M p.1 p.2) s
theorem Ms_app (M : Nat → Int) (s t : List (Nat × Nat)) : Ms M (s ++ t) = Ms (Ms M s) t := by
  induction s generalizing M with
  | nil => rfl
  | cons p s ih => exact ih (pu M p.1 p.2)
theorem Ms_out {s : List (Nat × Nat)} {x : Nat} (h : ∀ p, p ∈ s → x ≠ p.1 ∧ x ≠ p.2) (M : Nat → Int) : Ms M s x = M x := by
  induction s generalizing M with
  | nil => rfl
  | cons p s ih =>
    have a := h p (List.mem_cons.mpr (Or.inl rfl))
    show Ms (pu M p.1 p.2) s x = M x
    rw [ih (fun q hq => h q (List.mem_cons.mpr (Or.inr hq))), pu_3 M a.1 a.2]
theorem Ms_at {s : List (Nat × Nat)} {x : Nat} {M M' : Nat → Int} (h : M x = M' x) : Ms M s x = Ms M' s x := by
  induction s generalizing M M' with
  | nil => exact h
  | cons p s ih =>
    show Ms (pu M p.1 p.2) s x = Ms (pu M' p.1 p.2) s x
    apply ih
    unfold pu
    rw [h]
/-- the pairs of s lie in a .. b - 1 -/
def Wi (a b : Nat) (s : List (Nat × Nat)) : Prop := ∀ p, p ∈ s → a ≤ p.1 ∧ p.1 < p.2 ∧ p.2 < b
theorem Wi_RR {E : rE} {a b : Nat} {s : List (Nat × Nat)} (h : s ∈ RR E a b) : Wi a b s := fun p hp => by
  have := RR_in E (b - a) a b (Nat.le_refl _) s h p hp
  exact ⟨this.1, this.2.1, this.2.2.1⟩
theorem Wi_RQ {E : rE} {i j k : Nat} {z : rT} (h : z ∈ RQ E i j k) : Wi k j z.2 := Wi_RR (E := E) (by rw [← RQ_snd E i j k]; exact List.mem_map_of_mem h)
theorem Wi_RB {E : rE} {j k : Nat} {z : rT} (h : z ∈ RB E k j) : Wi k (j + 1) z.2 := Wi_RR (E := E) (by rw [← RB_snd E k j]; exact List.mem_append.mpr (Or.inl (List.mem_map_of_mem h)))
theorem Wi_RO {E : rE} {n i : Nat} {z : rT} (h : z ∈ RO E n i) : Wi i n z.2 := Wi_RR (E := E) (by rw [← RO_snd E n (n - i) i (Nat.le_refl _)]; exact List.mem_map_of_mem h)
/-- m is given by s on a .. b - 1 -/
def Ag (m : Nat → Int) (a b : Nat) (s : List (Nat × Nat)) : Prop := ∀ x, a ≤ x → x < b → m x = Ms fr s x
theorem Ag_pair {m : Nat → Int} {k l b : Nat} {x y : List (Nat × Nat)} (hk : k < l) (hl : l < b) (hx : Wi (k + 1) l x) (hy : Wi (l + 1) b y) (h : Ag m k b ((k, l) :: (x ++ y))) : m k = l ∧ m l = k ∧ Ag m (k + 1) l x ∧ Ag m (l + 1) b y := by
  have e : ∀ v, Ms fr ((k, l) :: (x ++ y)) v = Ms (Ms (pu fr k l) x) y v := fun v => by
    show Ms (pu fr k l) (x ++ y) v = _
    rw [Ms_app]
  refine ⟨?_, ?_, ?_, ?_⟩
  · rw [h k (Nat.le_refl _) (by omega), e, Ms_out (fun p hp => ?_), Ms_out (fun p hp => ?_), pu_1]
    · have := hx p hp; omega
    · have := hy p hp; omega
  · rw [h l (by omega) hl, e, Ms_out (fun p hp => ?_), Ms_out (fun p hp => ?_), pu_2 _ (by omega)]
    · have := hx p hp; omega
    · have := hy p hp; omega
  · intro v h1 h2
    rw [h v (by omega) (by omega), e, Ms_out (fun p hp => ?_)]
    · exact Ms_at (pu_3 fr (by omega) (by omega))
    · have := hy p hp; omega
  · intro v h1 h2
    rw [h v (by omega) (by omega), e]
    apply Ms_at
    rw [Ms_out (fun p hp => ?_), pu_3 fr (by omega) (by omega)]
    have := hx p hp; omega
theorem Ag_skip {m : Nat → Int} {k b : Nat} {s : List (Nat × Nat)} (hk : k < b) (hs : Wi (k + 1) b s) (h : Ag m k b s) : m k = -1 ∧ Ag m (k + 1) b s := by
  refine ⟨?_, fun x h1 h2 => h x (by omega) h2⟩
  rw [h k (Nat.le_refl _) hk, Ms_out (fun p hp => ?_)]
  · rfl
  · have := hs p hp; omega
theorem Ag_nil {m : Nat → Int} {a b : Nat} (h : Ag m a b []) : ∀ x, a ≤ x → x < b → m x = -1 := h
/-- the scan from p to j: g at a branch, which is jumped over; u at an unpaired base -/
def sc (m : Nat → Int) (j : Nat) (g : Nat → Int) (u : Int) : Nat → Nat → Int
  | 0, _ => 0
  | f + 1, p => if p < j then (if (p : Int) < m p then g p + sc m j g u f ((m p).toNat + 1) else u + sc m j g u f (p + 1)) else 0
theorem sc_f (m : Nat → Int) (j : Nat) (g : Nat → Int) (u : Int) : ∀ f h p, j - p ≤ f → j - p ≤ h → sc m j g u f p = sc m j g u h p := by
  have z : ∀ h p, j - p ≤ 0 → sc m j g u h p = 0 := by
    intro h p q
    cases h with
    | zero => rfl
    | succ h => simp only [sc]; rw [if_neg (by omega)]
  intro f
  induction f with
  | zero => intro h p h1 h2; rw [z 0 p h1, z h p h1]
  | succ f ih =>
    intro h p h1 h2
    cases h with
    | zero => rw [z 0 p h2, z (f + 1) p h2]
    | succ h =>
      simp only [sc]
      by_cases q : p < j
      · rw [if_pos q, if_pos q]
        by_cases r : (p : Int) < m p
        · rw [if_pos r, if_pos r, ih h ((m p).toNat + 1) (by omega) (by omega)]
        · rw [if_neg r, if_neg r, ih h (p + 1) (by omega) (by omega)]
      · rw [if_neg q, if_neg q]
def SC (m : Nat → Int) (j : Nat) (g : Nat → Int) (u : Int) (p : Nat) : Int := sc m j g u (j - p) p
theorem SC_e {m : Nat → Int} {j : Nat} {g : Nat → Int} {u : Int} {p : Nat} (h : j ≤ p) : SC m j g u p = 0 := by
  unfold SC
  rw [show j - p = 0 by omega]
  rfl
theorem SC_b {m : Nat → Int} {j : Nat} {g : Nat → Int} {u : Int} {p : Nat} (h : p < j) {q : Nat} (hq : m p = q) (hp : p < q) : SC m j g u p = g p + SC m j g u (q + 1) := by
  unfold SC
  rw [sc_f m j g u (j - p) (j - (p + 1) + 1) p (by omega) (by omega)]
  simp only [sc]
  rw [if_pos h, if_pos (by omega), hq, Int.toNat_natCast, sc_f m j g u (j - (p + 1)) (j - (q + 1)) (q + 1) (by omega) (by omega)]
theorem SC_u {m : Nat → Int} {j : Nat} {g : Nat → Int} {u : Int} {p : Nat} (h : p < j) (hp : m p ≤ p) : SC m j g u p = u + SC m j g u (p + 1) := by
  unfold SC
  rw [sc_f m j g u (j - p) (j - (p + 1) + 1) p (by omega) (by omega)]
  simp only [sc]
  rw [if_pos h, if_neg (by omega)]
theorem SC_skip {m : Nat → Int} {j : Nat} {g : Nat → Int} {u : Int} : ∀ (d a : Nat), a + d ≤ j → (∀ x, a ≤ x → x < a + d → m x = -1) → SC m j g u a = u * d + SC m j g u (a + d) := by
  intro d
  induction d with
  | zero => intro a _ _; simp
  | succ d ih =>
    intro a h1 h2
    rw [SC_u (by omega) (by have := h2 a (by omega) (by omega); omega), ih (a + 1) (by omega) (fun x p q => h2 x (by omega) (by omega)), show a + 1 + d = a + (d + 1) by omega, show u * ((d + 1 : Nat) : Int) = u * d + u by rw [show ((d + 1 : Nat) : Int) = (d : Int) + 1 by omega, Int.mul_add, Int.mul_one]]
    omega
theorem SC_free {m : Nat → Int} {j : Nat} {g : Nat → Int} {u : Int} {a : Nat} (ha : a ≤ j) (h : ∀ x, a ≤ x → x < j → m x = -1) : SC m j g u a = u * ((j : Int) - a) := by
  rw [SC_skip (j - a) a (by omega) (fun x p q => h x p (by omega)), SC_e (by omega), show ((j - a : Nat) : Int) = (j : Int) - a by omega]
  omega
/-- the last branch of a scan -/
def sk (m : Nat → Int) (j : Nat) : Nat → Nat → Nat → Nat
  | 0, _, k => k
  | f + 1, p, k => if p < j then (if (p : Int) < m p then sk m j f ((m p).toNat + 1) p else sk m j f (p + 1) k) else k
theorem sk_f (m : Nat → Int) (j : Nat) : ∀ f h p k, j - p ≤ f → j - p ≤ h → sk m j f p k = sk m j h p k := by
  have z : ∀ h p k, j - p ≤ 0 → sk m j h p k = k := by
    intro h p k q
    cases h with
    | zero => rfl
    | succ h => simp only [sk]; rw [if_neg (by omega)]
  intro f
  induction f with
  | zero => intro h p k h1 h2; rw [z 0 p k h1, z h p k h1]
  | succ f ih =>
    intro h p k h1 h2
    cases h with
    | zero => rw [z 0 p k h2, z (f + 1) p k h2]
    | succ h =>
      simp only [sk]
      by_cases q : p < j
      · rw [if_pos q, if_pos q]
        by_cases r : (p : Int) < m p
        · rw [if_pos r, if_pos r, ih h ((m p).toNat + 1) p (by omega) (by omega)]
        · rw [if_neg r, if_neg r, ih h (p + 1) k (by omega) (by omega)]
      · rw [if_neg q, if_neg q]
def SK (m : Nat → Int) (j p k : Nat) : Nat := sk m j (j - p) p k
theorem SK_e {m : Nat → Int} {j p k : Nat} (h : j ≤ p) : SK m j p k = k := by
  unfold SK
  rw [show j - p = 0 by omega]
  rfl
theorem SK_b {m : Nat → Int} {j p k : Nat} (h : p < j) {q : Nat} (hq : m p = q) (hp : p < q) : SK m j p k = SK m j (q + 1) p := by
  unfold SK
  rw [sk_f m j (j - p) (j - (p + 1) + 1) p k (by omega) (by omega)]
  simp only [sk]
  rw [if_pos h, if_pos (by omega), hq, Int.toNat_natCast, sk_f m j (j - (p + 1)) (j - (q + 1)) (q + 1) p (by omega) (by omega)]
theorem SK_u {m : Nat → Int} {j p k : Nat} (h : p < j) (hp : m p ≤ p) : SK m j p k = SK m j (p + 1) k := by
  unfold SK
  rw [sk_f m j (j - p) (j - (p + 1) + 1) p k (by omega) (by omega)]
  simp only [sk]
  rw [if_pos h, if_neg (by omega)]
theorem SK_skip {m : Nat → Int} {j : Nat} {k : Nat} : ∀ (d a : Nat), a + d ≤ j → (∀ x, a ≤ x → x < a + d → m x = -1) → SK m j a k = SK m j (a + d) k := by
  intro d
  induction d with
  | zero => intro a _ _; rfl
  | succ d ih =>
    intro a h1 h2
    rw [SK_u (by omega) (by have := h2 a (by omega) (by omega); omega), ih (a + 1) (by omega) (fun x p q => h2 x (by omega) (by omega)), show a + 1 + d = a + (d + 1) by omega]
theorem SK_free {m : Nat → Int} {j : Nat} {a k : Nat} (ha : a ≤ j) (h : ∀ x, a ≤ x → x < j → m x = -1) : SK m j a k = k := by
  rw [SK_skip (j - a) a (by omega) (fun x p q => h x p (by omega)), SK_e (by omega)]
/-- branches, unpaired bases and ends of a scan -/
def sA (m : Nat → Int) (j p : Nat) : Int := SC m j (fun _ => 1) 0 p
def sU (m : Nat → Int) (j p : Nat) : Int := SC m j (fun _ => 0) 1 p
def sE (E : rE) (m : Nat → Int) (j p : Nat) : Int := SC m j (fun k => eN E k (m k).toNat) 0 p
def sR (E : rE) (m : Nat → Int) (j p : Nat) : Int := SC m j (fun k => e14 E + eN E k (m k).toNat) (e15 E) p
theorem sR_lin (E : rE) (m : Nat → Int) (j : Nat) : ∀ f p, j - p ≤ f → sR E m j p = e14 E * sA m j p + e15 E * sU m j p + sE E m j p := by
  intro f
  unfold sR sA sU sE
  induction f with
  | zero =>
    intro p h
    rw [SC_e (by omega), SC_e (by omega), SC_e (by omega), SC_e (by omega)]
    simp
  | succ f ih =>
    intro p h
    by_cases q : p < j
    · by_cases r : (p : Int) < m p
      · have e : m p = ((m p).toNat : Int) := by omega
        rw [SC_b q e (by omega), SC_b q e (by omega), SC_b q e (by omega), SC_b q e (by omega), ih ((m p).toNat + 1) (by omega)]
        rw [Int.mul_add, Int.mul_add, Int.mul_one, Int.mul_zero]
        omega
      · rw [SC_u q (by omega), SC_u q (by omega), SC_u q (by omega), SC_u q (by omega), ih (p + 1) (by omega)]
        rw [Int.mul_add, Int.mul_add, Int.mul_one, Int.mul_zero]
        omega
    · rw [SC_e (by omega), SC_e (by omega), SC_e (by omega), SC_e (by omega)]
      simp
theorem sA_0 (m : Nat → Int) (j : Nat) : ∀ f p, j - p ≤ f → 0 ≤ sA m j p := by
  intro f
  unfold sA
  induction f with
  | zero => intro p h; rw [SC_e (by omega)]; exact Int.le_refl _
  | succ f ih =>
    intro p h
    by_cases q : p < j
    · by_cases r : (p : Int) < m p
      · rw [SC_b q (q := (m p).toNat) (by omega) (by omega)]
        have := ih ((m p).toNat + 1) (by omega)
        omega
      · rw [SC_u q (by omega)]
        have := ih (p + 1) (by omega)
        omega
    · rw [SC_e (by omega)]; exact Int.le_refl _
/-- the energy of the loop that (i, j) closes -/
def LE (E : rE) (m : Nat → Int) (i j : Nat) : Int :=
  if sA m j (i + 1) = 0 then eH E i j
  else if sA m j (i + 1) = 1 then eS E i j (SK m j (i + 1) 0) (m (SK m j (i + 1) 0)).toNat
  else e13 E + e14 E * (sA m j (i + 1) + 1) + e15 E * sU m j (i + 1) + eN E i j + sE E m j (i + 1)
def FE (E : rE) (m : Nat → Int) (i : Nat) : Int := if (i : Int) < m i then LE E m i (m i).toNat else 0
def sT (F : Nat → Int) : Nat → Nat → Int
  | 0, _ => 0
  | d + 1, a => F a + sT F d (a + 1)
theorem sT_app (F : Nat → Int) : ∀ d e a, sT F (d + e) a = sT F d a + sT F e (a + d) := by
  intro d
  induction d with
  | zero => intro e a; simp [sT]
  | succ d ih =>
    intro e a
    rw [show d + 1 + e = (d + e) + 1 by omega]
    simp only [sT]
    rw [ih e (a + 1), show a + 1 + d = a + (d + 1) by omega]
    omega
theorem sT_cg {F G : Nat → Int} : ∀ d a, (∀ x, a ≤ x → x < a + d → F x = G x) → sT F d a = sT G d a := by
  intro d
  induction d with
  | zero => intro a _; rfl
  | succ d ih =>
    intro a h
    simp only [sT]
    rw [h a (by omega) (by omega), ih (a + 1) (fun x p q => h x (by omega) (by omega))]
theorem sT_0 : ∀ d a, sT (fun _ => 0) d a = 0 := by
  intro d
  induction d with
  | zero => intro a; rfl
  | succ d ih => intro a; simp only [sT]; rw [ih]; rfl
theorem sT_add (F G : Nat → Int) : ∀ d a, sT (fun x => F x + G x) d a = sT F d a + sT G d a := by
  intro d
  induction d with
  | zero => intro a; rfl
  | succ d ih => intro a; simp only [sT]; rw [ih]; omega
/-- the loops whose closing pair begins in a .. b - 1 -/
def TE (E : rE) (m : Nat → Int) (a b : Nat) : Int := sT (FE E m) (b - a) a
theorem TE_s (E : rE) (m : Nat → Int) {a b : Nat} (h : a < b) : TE E m a b = FE E m a + TE E m (a + 1) b := by
  unfold TE
  rw [show b - a = (b - (a + 1)) + 1 by omega]
  rfl
theorem TE_e (E : rE) (m : Nat → Int) {a b : Nat} (h : b ≤ a) : TE E m a b = 0 := by
  unfold TE
  rw [show b - a = 0 by omega]
  rfl
theorem TE_cut (E : rE) (m : Nat → Int) {a b c : Nat} (h1 : a ≤ c) (h2 : c ≤ b) : TE E m a b = TE E m a c + TE E m c b := by
  unfold TE
  rw [show b - a = (c - a) + (b - c) by omega, sT_app, show a + (c - a) = c by omega]
theorem TE_free (E : rE) (m : Nat → Int) {a b : Nat} (h : ∀ x, a ≤ x → x < b → m x = -1) : TE E m a b = 0 := by
  unfold TE
  rw [sT_cg (G := fun _ => 0), sT_0]
  intro x h1 h2
  unfold FE
  rw [if_neg (by have := h x h1 (by omega); omega)]
theorem TE_pair (E : rE) (m : Nat → Int) {k l b : Nat} (hk : m k = l) (hl : m l = k) (h1 : k < l) (h2 : l < b) : TE E m k b = LE E m k l + TE E m (k + 1) l + TE E m (l + 1) b := by
  rw [TE_s E m (by omega), TE_cut E m (a := k + 1) (c := l) (by omega) (by omega), TE_s E m h2]
  have a : FE E m k = LE E m k l := by
    unfold FE
    rw [if_pos (by omega), hk, Int.toNat_natCast]
  have b : FE E m l = 0 := by
    unfold FE
    rw [if_neg (by omega)]
  rw [a, b]
  omega
end
section
/-! the cost of a listed folding is the energy of its mate function -/
theorem LE_first {E : rE} {m : Nat → Int} {i j k l : Nat} (hik : i < k) (hkl : k < l) (hlj : l < j) (hf : ∀ x, i < x → x < k → m x = -1) (hk : m k = l) :
    sA m j (i + 1) = 1 + sA m j (l + 1) ∧ sU m j (i + 1) = ((k : Int) - i - 1) + sU m j (l + 1) ∧ sE E m j (i + 1) = eN E k l + sE E m j (l + 1) ∧ SK m j (i + 1) 0 = SK m j (l + 1) k := by
  have hs : ∀ x, i + 1 ≤ x → x < i + 1 + (k - (i + 1)) → m x = -1 := fun x p q => hf x (by omega) (by omega)
  have e : i + 1 + (k - (i + 1)) = k := by omega
  have c : ((k - (i + 1) : Nat) : Int) = (k : Int) - i - 1 := by omega
  refine ⟨?_, ?_, ?_, ?_⟩
  · unfold sA
    rw [SC_skip (k - (i + 1)) (i + 1) (by omega) hs, e, SC_b (by omega) hk hkl]
    omega
  · unfold sU
    rw [SC_skip (k - (i + 1)) (i + 1) (by omega) hs, e, SC_b (by omega) hk hkl, c]
    omega
  · unfold sE
    rw [SC_skip (k - (i + 1)) (i + 1) (by omega) hs, e, SC_b (by omega) hk hkl, hk, Int.toNat_natCast]
    omega
  · rw [SK_skip (k - (i + 1)) (i + 1) (by omega) hs, e, SK_b (by omega) hk hkl]
theorem LE_hair {E : rE} {m : Nat → Int} {i j : Nat} (hij : i < j) (hf : ∀ x, i < x → x < j → m x = -1) : LE E m i j = eH E i j := by
  unfold LE
  rw [if_pos]
  unfold sA
  rw [SC_free (by omega) (fun x p q => hf x (by omega) q), Int.zero_mul]
theorem LE_one {E : rE} {m : Nat → Int} {i j k l : Nat} (hik : i < k) (hkl : k < l) (hlj : l < j) (hf : ∀ x, i < x → x < k → m x = -1) (hk : m k = l) (hr : ∀ x, l < x → x < j → m x = -1) : LE E m i j = eS E i j k l := by
  obtain ⟨a, -, -, d⟩ := LE_first (E := E) hik hkl hlj hf hk
  have z : sA m j (l + 1) = 0 := by
    unfold sA
    rw [SC_free (by omega) (fun x p q => hr x (by omega) q), Int.zero_mul]
  rw [SK_free (a := l + 1) (by omega) (fun x p q => hr x (by omega) q)] at d
  unfold LE
  rw [a, z, if_neg (by omega), if_pos (by omega), d, hk, Int.toNat_natCast]
theorem LE_many {E : rE} {m : Nat → Int} {i j k l : Nat} (hik : i < k) (hkl : k < l) (hlj : l < j) (hf : ∀ x, i < x → x < k → m x = -1) (hk : m k = l) (hr : 1 ≤ sA m j (l + 1)) : LE E m i j = mC E i j k l + sR E m j (l + 1) := by
  obtain ⟨a, b, c, -⟩ := LE_first (E := E) hik hkl hlj hf hk
  unfold LE mC
  rw [sR_lin E m j (j - (l + 1)) (l + 1) (Nat.le_refl _), a, b, c, if_neg (by omega), if_neg (by omega)]
  generalize sA m j (l + 1) = A
  generalize sU m j (l + 1) = U
  generalize sE E m j (l + 1) = S
  generalize (k : Int) - i - 1 = q
  rw [show (1 : Int) + A + 1 = A + 2 by omega, Int.mul_add, Int.mul_add]
  omega
theorem QB_en (E : rE) : ∀ w : Nat,
    (∀ i j k, j - k ≤ w → i < k → k ≤ j → ∀ z, z ∈ RQ E i j k → ∀ m : Nat → Int, (∀ x, i < x → x < k → m x = -1) → Ag m k j z.2 → LE E m i j + TE E m k j = z.1) ∧
    (∀ j k, j - k ≤ w → ∀ z, z ∈ RB E k j → ∀ m : Nat → Int, Ag m k (j + 1) z.2 → TE E m k (j + 1) + sR E m (j + 1) k = z.1 ∧ 1 ≤ sA m (j + 1) k) := by
  intro w
  induction w with
  | zero =>
    constructor
    · intro i j k h hik hkj z hz m hf hA
      rw [RQ_e E (by omega), List.mem_singleton] at hz
      subst hz
      rw [LE_hair (by omega) (fun x p q => hf x p (by omega)), TE_e E m (by omega)]
      show _ + 0 = eH E i j
      omega
    · intro j k h z hz
      rw [RB_e E (by omega)] at hz
      cases hz
  | succ w ih =>
    obtain ⟨ihQ, ihB⟩ := ih
    constructor
    · intro i j k h hik hkj z hz m hf hA
      by_cases q : k + 1 < j
      · rw [RQ_s E q] at hz
        rcases List.mem_append.mp hz with hz | hz
        · obtain ⟨l, hl, hz⟩ := List.mem_flatMap.mp hz
          have hl := rg_m.mp hl
          by_cases c : eA E k l = true
          · rw [if_pos c] at hz
            obtain ⟨x, hx, y, hy, rfl⟩ := tn_m.mp hz
            rcases List.mem_append.mp hy with hy | hy
            · obtain ⟨y, hyy, rfl⟩ := List.mem_map.mp hy
              replace hy := hyy
              have wx := Wi_RQ hx
              have wy := Wi_RB hy
              rw [show j - 1 + 1 = j by omega] at wy
              obtain ⟨g1, g2, g3, g4⟩ := Ag_pair (by omega) (by omega) wx wy hA
              have r1 := ihQ k l (k + 1) (by omega) (by omega) (by omega) x hx m (fun v p q => by omega) g3
              have r2 := ihB (j - 1) (l + 1) (by omega) y hy m (by rw [show j - 1 + 1 = j by omega]; exact g4)
              rw [show j - 1 + 1 = j by omega] at r2
              rw [LE_many hik (by omega) (by omega) hf g1 r2.2, TE_pair E m g1 g2 (by omega) (by omega)]
              show _ = x.1 + (mC E i j k l + y.1)
              omega
            · rw [List.mem_singleton] at hy
              subst hy
              have wx := Wi_RQ hx
              obtain ⟨g1, g2, g3, g4⟩ := Ag_pair (b := j) (y := []) (by omega) (by omega) wx (fun p hp => by cases hp) hA
              have r1 := ihQ k l (k + 1) (by omega) (by omega) (by omega) x hx m (fun v p q => by omega) g3
              have fr := Ag_nil g4
              rw [LE_one hik (by omega) (by omega) hf g1 (fun v p q => fr v (by omega) q), TE_pair E m g1 g2 (by omega) (by omega), TE_free E m (a := l + 1) fr]
              show _ = x.1 + eS E i j k l
              omega
          · rw [if_neg c] at hz; cases hz
        · have ws := Wi_RQ hz
          obtain ⟨g1, g2⟩ := Ag_skip (by omega) ws hA
          have r := ihQ i j (k + 1) (by omega) (by omega) (by omega) z hz m (fun x p q => by
            by_cases e : x = k
            · subst e; exact g1
            · exact hf x p (by omega)) g2
          rw [TE_s E m (by omega)]
          unfold FE
          rw [if_neg (by omega)]
          omega
      · rw [RQ_e E q, List.mem_singleton] at hz
        subst hz
        have f2 := Ag_nil hA
        rw [LE_hair (by omega) (fun x p q => by
          by_cases e : x < k
          · exact hf x p e
          · exact f2 x (by omega) q), TE_free E m f2]
        show _ + 0 = eH E i j
        omega
    · intro j k h z hz m hA
      by_cases q : k < j
      · rw [RB_s E q] at hz
        rcases List.mem_append.mp hz with hz | hz
        · obtain ⟨l, hl, hz⟩ := List.mem_flatMap.mp hz
          have hl := rg_m.mp hl
          by_cases c : eA E k l = true
          · rw [if_pos c] at hz
            obtain ⟨x, hx, y, hy, rfl⟩ := tn_m.mp hz
            rcases List.mem_append.mp hy with hy | hy
            · obtain ⟨y, hyy, rfl⟩ := List.mem_map.mp hy
              replace hy := hyy
              have wx := Wi_RQ hx
              have wy := Wi_RB hy
              obtain ⟨g1, g2, g3, g4⟩ := Ag_pair (by omega) (by omega) wx wy hA
              have r1 := ihQ k l (k + 1) (by omega) (by omega) (by omega) x hx m (fun v p q => by omega) g3
              have r2 := ihB j (l + 1) (by omega) y hy m g4
              have z0 := r2.2
              rw [TE_pair E m g1 g2 (by omega) (by omega)]
              unfold sR sA at *
              rw [SC_b (by omega) g1 (by omega), SC_b (by omega) g1 (by omega), g1, Int.toNat_natCast]
              refine ⟨?_, by omega⟩
              show _ = x.1 + (e14 E + eN E k l + y.1)
              omega
            · rw [List.mem_singleton] at hy
              subst hy
              have wx := Wi_RQ hx
              obtain ⟨g1, g2, g3, g4⟩ := Ag_pair (b := j + 1) (y := []) (by omega) (by omega) wx (fun p hp => by cases hp) hA
              have r1 := ihQ k l (k + 1) (by omega) (by omega) (by omega) x hx m (fun v p q => by omega) g3
              have fr := Ag_nil g4
              rw [TE_pair E m g1 g2 (by omega) (by omega), TE_free E m (a := l + 1) fr]
              unfold sR sA
              rw [SC_b (by omega) g1 (by omega), SC_b (by omega) g1 (by omega), g1, Int.toNat_natCast, SC_free (by omega) fr, SC_free (by omega) fr]
              refine ⟨?_, by omega⟩
              show _ = x.1 + (e14 E + eN E k l + e15 E * ((j : Int) - l))
              rw [show ((j + 1 : Nat) : Int) - ((l + 1 : Nat) : Int) = (j : Int) - l by omega]
              omega
          · rw [if_neg c] at hz; cases hz
        · obtain ⟨z, hzz, rfl⟩ := List.mem_map.mp hz
          replace hz := hzz
          have ws := Wi_RB hz
          obtain ⟨g1, g2⟩ := Ag_skip (by omega) ws hA
          have r := ihB j (k + 1) (by omega) z hz m g2
          rw [TE_s E m (by omega)]
          unfold FE sR sA at *
          rw [if_neg (by omega), SC_u (p := k) (g := fun k => e14 E + eN E k (m k).toNat) (by omega) (by omega), SC_u (p := k) (g := fun _ => 1) (by omega) (by omega)]
          refine ⟨?_, by omega⟩
          show _ = e15 E + z.1
          omega
      · rw [RB_e E q] at hz
        cases hz
theorem RQ_en (E : rE) {i j : Nat} (hij : i < j) {z : rT} (hz : z ∈ RQ E i j (i + 1)) {m : Nat → Int} (hA : Ag m (i + 1) j z.2) : LE E m i j + TE E m (i + 1) j = z.1 :=
  (QB_en E (j - (i + 1))).1 i j (i + 1) (Nat.le_refl _) (by omega) (by omega) z hz m (fun x p q => by omega) hA
theorem RO_en (E : rE) (n : Nat) : ∀ w i, n - i ≤ w → ∀ z, z ∈ RO E n i → ∀ m : Nat → Int, Ag m i n z.2 → TE E m i n + sE E m n i = z.1 := by
  intro w
  induction w with
  | zero =>
    intro i h z hz m hA
    rw [RO_e E (by omega), List.mem_singleton] at hz
    subst hz
    unfold sE
    rw [TE_e E m (by omega), SC_e (by omega)]
    rfl
  | succ w ih =>
    intro i h z hz m hA
    by_cases q : i < n
    · rw [RO_s E q] at hz
      rcases List.mem_append.mp hz with hz | hz
      · obtain ⟨l, hl, hz⟩ := List.mem_flatMap.mp hz
        have hl := rg_m.mp hl
        by_cases c : eA E i l = true
        · rw [if_pos c] at hz
          obtain ⟨x, hx, y, hy, rfl⟩ := tn_m.mp hz
          obtain ⟨y, hyy, rfl⟩ := List.mem_map.mp hy
          replace hy := hyy
          have wx := Wi_RQ hx
          have wy := Wi_RO hy
          obtain ⟨g1, g2, g3, g4⟩ := Ag_pair (by omega) (by omega) wx wy hA
          have r1 := RQ_en E (by omega) hx g3
          have r2 := ih (l + 1) (by omega) y hy m g4
          rw [TE_pair E m g1 g2 (by omega) (by omega)]
          unfold sE at *
          rw [SC_b q g1 (by omega), g1, Int.toNat_natCast]
          show _ = x.1 + (eN E i l + y.1)
          omega
        · rw [if_neg c] at hz; cases hz
      · have ws := Wi_RO hz
        obtain ⟨g1, g2⟩ := Ag_skip q ws hA
        have r := ih (i + 1) (by omega) z hz m g2
        rw [TE_s E m q]
        unfold FE sE at *
        rw [if_neg (by omega), SC_u q (by omega)]
        omega
    · rw [RO_e E q, List.mem_singleton] at hz
      subst hz
      unfold sE
      rw [TE_e E m (by omega), SC_e (by omega)]
      rfl
/-- mates stand both ways, are allowed, and don't cross -/
def VR (E : rE) (m : Nat → Int) (a b : Nat) : Prop :=
  (∀ x : Nat, a ≤ x → x < b → m x = -1 ∨ ∃ y : Nat, a ≤ y ∧ y < b ∧ m x = y ∧ m y = x ∧ x ≠ y ∧ (x < y → eA E x y = true)) ∧
  (∀ x y z : Nat, a ≤ x → x < z → z < y → y < b → m x = y → m z = -1 ∨ ((x : Int) < m z ∧ m z < y))
theorem VR_RR (E : rE) : ∀ w a b, b - a ≤ w → ∀ s, s ∈ RR E a b → ∀ m : Nat → Int, Ag m a b s → VR E m a b := by
  intro w
  induction w with
  | zero =>
    intro a b h s hs m hA
    exact ⟨fun x p q => by omega, fun x y z p q r s => by omega⟩
  | succ w ih =>
    intro a b h s hs m hA
    by_cases q : a < b
    · rw [RR_s E q] at hs
      rcases List.mem_append.mp hs with hs | hs
      · obtain ⟨l, hl, hs⟩ := List.mem_flatMap.mp hs
        have hl := rg_m.mp hl
        by_cases c : eA E a l = true
        · rw [if_pos c] at hs
          obtain ⟨x, hx, y, hy, rfl⟩ := tl_m.mp hs
          obtain ⟨g1, g2, g3, g4⟩ := Ag_pair (by omega) (by omega) (Wi_RR hx) (Wi_RR hy) hA
          obtain ⟨u1, u2⟩ := ih (a + 1) l (by omega) x hx m g3
          obtain ⟨v1, v2⟩ := ih (l + 1) b (by omega) y hy m g4
          constructor
          · intro x h1 h2
            by_cases e1 : x = a
            · subst e1
              exact Or.inr ⟨l, by omega, by omega, g1, g2, by omega, fun _ => c⟩
            · by_cases e2 : x = l
              · subst e2
                exact Or.inr ⟨a, by omega, by omega, g2, g1, by omega, fun _ => by omega⟩
              · by_cases e3 : x < l
                · rcases u1 x (by omega) e3 with u | ⟨y, r⟩
                  · exact Or.inl u
                  · exact Or.inr ⟨y, by omega, by omega, r.2.2⟩
                · rcases v1 x (by omega) h2 with u | ⟨y, r⟩
                  · exact Or.inl u
                  · exact Or.inr ⟨y, by omega, by omega, r.2.2⟩
          · intro x y z h1 h2 h3 h4 h5
            by_cases e1 : x = a
            · subst e1
              have : y = l := by omega
              subst this
              rcases u1 z (by omega) (by omega) with u | ⟨v, r⟩
              · exact Or.inl u
              · exact Or.inr (by omega)
            · by_cases e2 : x = l
              · subst e2; omega
              · by_cases e3 : x < l
                · rcases u1 x (by omega) e3 with u | ⟨v, r⟩
                  · omega
                  · exact u2 x y z (by omega) h2 h3 (by omega) h5
                · exact v2 x y z (by omega) h2 h3 h4 h5
        · rw [if_neg c] at hs; cases hs
      · obtain ⟨g1, g2⟩ := Ag_skip q (Wi_RR hs) hA
        obtain ⟨u1, u2⟩ := ih (a + 1) b (by omega) s hs m g2
        constructor
        · intro x h1 h2
          by_cases e1 : x = a
          · subst e1; exact Or.inl g1
          · rcases u1 x (by omega) h2 with u | ⟨y, r⟩
            · exact Or.inl u
            · exact Or.inr ⟨y, by omega, by omega, r.2.2⟩
        · intro x y z h1 h2 h3 h4 h5
          by_cases e1 : x = a
          · subst e1; omega
          · exact u2 x y z (by omega) h2 h3 h4 h5
    · exact ⟨fun x p q => by omega, fun x y z p q r s => by omega⟩
end
section
/-! what the reference counts is what a scan counts -/
noncomputable def ic {α : Type} (P : Prop) (a b : α) : α := @ite α P (Classical.propDecidable P) a b
theorem ic_t {α : Type} {P : Prop} {a b : α} (h : P) : ic P a b = a := by unfold ic; exact if_pos h
theorem ic_f {α : Type} {P : Prop} {a b : α} (h : ¬ P) : ic P a b = b := by unfold ic; exact if_neg h
/-- no pair that begins from lo on, before k, and ends before j, is around k -/
def vis (m : Nat → Int) (lo j k : Nat) : Prop := ∀ p : Nat, lo ≤ p → p < k → ¬ (m k < m p ∧ m p < j)
def cov (m : Nat → Int) (lo j p : Nat) : Prop := ∃ k : Nat, lo ≤ k ∧ k < p ∧ (p : Int) < m k ∧ vis m lo j k
/-- a closed region -/
def VC (m : Nat → Int) (a b : Nat) : Prop :=
  (∀ x : Nat, a ≤ x → x < b → m x = -1 ∨ ∃ y : Nat, a ≤ y ∧ y < b ∧ m x = y ∧ m y = x ∧ x ≠ y) ∧
  (∀ x y z : Nat, a ≤ x → x < z → z < y → y < b → m x = y → m z = -1 ∨ ((x : Int) < m z ∧ m z < y))
theorem VR_VC {E : rE} {m : Nat → Int} {a b : Nat} (h : VR E m a b) : VC m a b :=
  ⟨fun x p q => (h.1 x p q).imp id (fun ⟨y, r⟩ => ⟨y, r.1, r.2.1, r.2.2.1, r.2.2.2.1, r.2.2.2.2.1⟩), h.2⟩
theorem VC_in {m : Nat → Int} {a b i j : Nat} (h : VC m a b) (hi : a ≤ i) (hij : i < j) (hj : j < b) (hm : m i = j) : VC m (i + 1) j := by
  constructor
  · intro x h1 h2
    rcases h.1 x (by omega) (by omega) with u | ⟨y, r⟩
    · exact Or.inl u
    · rcases h.2 i j x hi (by omega) h2 hj hm with u | u
      · omega
      · exact Or.inr ⟨y, by omega, by omega, r.2.2⟩
  · intro x y z h1 h2 h3 h4 h5
    exact h.2 x y z (by omega) h2 h3 (by omega) h5
/-- one step of the counting: what a visible base p is -/
theorem VC_at {m : Nat → Int} {lo j p : Nat} (h : VC m lo j) (h1 : lo ≤ p) (h2 : p < j) (hc : ∀ x, lo ≤ x → x < p → m x < p) :
    (m p = -1 ∧ ∀ x, lo ≤ x → x < p + 1 → m x < ((p + 1 : Nat) : Int)) ∨ ∃ y : Nat, p < y ∧ y < j ∧ m p = y ∧ m y = p ∧ vis m lo j p ∧ (∀ x, p < x → x < y → m x = -1 ∨ ((p : Int) < m x ∧ m x < y)) ∧ (∀ x, lo ≤ x → x < y + 1 → m x < ((y + 1 : Nat) : Int)) := by
  rcases h.1 p h1 h2 with u | ⟨y, r1, r2, r3, r4, r5⟩
  · refine Or.inl ⟨u, fun x a b => ?_⟩
    by_cases e : x = p
    · subst e; omega
    · have := hc x a (by omega); omega
  · by_cases q : y < p
    · have := hc y r1 q; omega
    · refine Or.inr ⟨y, by omega, r2, r3, r4, ?_, ?_, ?_⟩
      · intro x a b c
        have := hc x a b
        omega
      · intro x a b
        exact h.2 p y x h1 a b r2 r3
      · intro x a b
        by_cases e1 : x < p
        · have := hc x a e1; omega
        · by_cases e2 : x = p
          · subst e2; omega
          · by_cases e3 : x = y
            · subst e3; omega
            · rcases h.2 p y x h1 (by omega) (by omega) r2 r3 with u | u <;> omega
theorem ys_g {m : Nat → Int} {lo j : Nat} (h : VC m lo j) (g : Nat → Int) : ∀ d p, j - p ≤ d → lo ≤ p → p ≤ j → (∀ x, lo ≤ x → x < p → m x < p) → sT (fun k => ic ((k : Int) < m k ∧ vis m lo j k) (g k) 0) (j - p) p = SC m j g 0 p := by
  intro d
  induction d with
  | zero =>
    intro p h1 h2 h3 hc
    rw [SC_e (by omega), show j - p = 0 by omega]
    rfl
  | succ d ih =>
    intro p h1 h2 h3 hc
    by_cases q : p < j
    · rcases VC_at h h2 q hc with ⟨u, v⟩ | ⟨y, r1, r2, r3, r4, r5, r6, r7⟩
      · rw [SC_u q (by omega), ← ih (p + 1) (by omega) (by omega) (by omega) v, show j - p = (j - (p + 1)) + 1 by omega]
        show ic ((p : Int) < m p ∧ _) _ _ + _ = _
        rw [ic_f (fun w => by omega)]
      · rw [SC_b q r3 r1, ← ih (y + 1) (by omega) (by omega) (by omega) r7, show j - p = ((y - p) + 1) + (j - (y + 1)) by omega, sT_app, show p + ((y - p) + 1) = y + 1 by omega]
        have e : sT (fun k => ic ((k : Int) < m k ∧ vis m lo j k) (g k) 0) (y - p + 1) p = g p := by
          show ic ((p : Int) < m p ∧ _) _ _ + sT _ (y - p) (p + 1) = _
          rw [ic_t ⟨by omega, r5⟩, sT_cg (G := fun _ => 0), sT_0, Int.add_zero]
          intro x a b
          apply ic_f
          intro w
          by_cases e : x = y
          · subst e; omega
          · have := r6 x (by omega) (by omega)
            exact w.2 p h2 (by omega) (by omega)
        rw [e]
    · rw [SC_e (by omega), show j - p = 0 by omega]
      rfl
theorem ys_u {m : Nat → Int} {lo j : Nat} (h : VC m lo j) : ∀ d p, j - p ≤ d → lo ≤ p → p ≤ j → (∀ x, lo ≤ x → x < p → m x < p) → sT (fun k => ic (m k < 0 ∧ ¬ cov m lo j k) 1 0) (j - p) p = sU m j p := by
  intro d
  unfold sU
  induction d with
  | zero =>
    intro p h1 h2 h3 hc
    rw [SC_e (by omega), show j - p = 0 by omega]
    rfl
  | succ d ih =>
    intro p h1 h2 h3 hc
    by_cases q : p < j
    · rcases VC_at h h2 q hc with ⟨u, v⟩ | ⟨y, r1, r2, r3, r4, r5, r6, r7⟩
      · rw [SC_u q (by omega), ← ih (p + 1) (by omega) (by omega) (by omega) v, show j - p = (j - (p + 1)) + 1 by omega]
        show ic (m p < 0 ∧ _) _ _ + _ = _
        rw [ic_t ⟨by omega, fun ⟨k, k1, k2, k3, _⟩ => by have := hc k k1 k2; omega⟩]
      · rw [SC_b q r3 r1, ← ih (y + 1) (by omega) (by omega) (by omega) r7, show j - p = ((y - p) + 1) + (j - (y + 1)) by omega, sT_app, show p + ((y - p) + 1) = y + 1 by omega]
        have e : sT (fun k => ic (m k < 0 ∧ ¬ cov m lo j k) 1 0) (y - p + 1) p = 0 := by
          rw [sT_cg (G := fun _ => 0), sT_0]
          intro x a b
          apply ic_f
          intro w
          by_cases e1 : x = p
          · subst e1; omega
          · by_cases e2 : x = y
            · subst e2; omega
            · exact w.2 ⟨p, h2, by omega, by omega, r5⟩
        rw [e]
    · rw [SC_e (by omega), show j - p = 0 by omega]
      rfl
/-- the last branch by the reference's loop -/
noncomputable def yk (m : Nat → Int) (lo j : Nat) : Nat → Nat → Int → Int
  | 0, _, k => k
  | d + 1, p, k => yk m lo j d (p + 1) (ic ((p : Int) < m p ∧ vis m lo j p) (p : Int) k)
theorem yk_app (m : Nat → Int) (lo j : Nat) : ∀ d e p k, yk m lo j (d + e) p k = yk m lo j e (p + d) (yk m lo j d p k) := by
  intro d
  induction d with
  | zero => intro e p k; rw [Nat.zero_add]; rfl
  | succ d ih =>
    intro e p k
    rw [show d + 1 + e = (d + e) + 1 by omega]
    simp only [yk]
    rw [ih, show p + 1 + d = p + (d + 1) by omega]
theorem yk_0 (m : Nat → Int) (lo j : Nat) : ∀ (d p : Nat) (k : Int), (∀ x : Nat, p ≤ x → x < p + d → ¬ ((x : Int) < m x ∧ vis m lo j x)) → yk m lo j d p k = k := by
  intro d
  induction d with
  | zero => intro p k _; rfl
  | succ d ih =>
    intro p k h
    simp only [yk]
    rw [ic_f (h p (by omega) (by omega)), ih (p + 1) k (fun x a b => h x (by omega) (by omega))]
theorem ys_k {m : Nat → Int} {lo j : Nat} (h : VC m lo j) : ∀ d p (k : Nat), j - p ≤ d → lo ≤ p → p ≤ j → (∀ x, lo ≤ x → x < p → m x < p) → yk m lo j (j - p) p k = (SK m j p k : Nat) := by
  intro d
  induction d with
  | zero =>
    intro p k h1 h2 h3 hc
    rw [SK_e (by omega), show j - p = 0 by omega]
    rfl
  | succ d ih =>
    intro p k h1 h2 h3 hc
    by_cases q : p < j
    · rcases VC_at h h2 q hc with ⟨u, v⟩ | ⟨y, r1, r2, r3, r4, r5, r6, r7⟩
      · rw [SK_u q (by omega), ← ih (p + 1) k (by omega) (by omega) (by omega) v, show j - p = (j - (p + 1)) + 1 by omega]
        show yk m lo j (j - (p + 1)) (p + 1) (ic ((p : Int) < m p ∧ _) _ _) = _
        rw [ic_f (fun w => by omega)]
      · rw [SK_b q r3 r1, ← ih (y + 1) p (by omega) (by omega) (by omega) r7, show j - p = ((y - p) + 1) + (j - (y + 1)) by omega, yk_app, show p + ((y - p) + 1) = y + 1 by omega]
        have e : yk m lo j (y - p + 1) p k = (p : Int) := by
          show yk m lo j (y - p) (p + 1) (ic ((p : Int) < m p ∧ _) _ _) = _
          rw [ic_t ⟨by omega, r5⟩, yk_0]
          intro x a b w
          by_cases e : x = y
          · subst e; omega
          · have := r6 x (by omega) (by omega)
            exact w.2 p h2 (by omega) (by omega)
        rw [e]
    · rw [SK_e (by omega), show j - p = 0 by omega]
      rfl
/-- the reference's sum over all closing pairs -/
noncomputable def yF (E : rE) (m : Nat → Int) (n i : Nat) : Int := FE E m i + ic ((i : Int) < m i ∧ vis m 0 n i) (eN E i (m i).toNat) 0
theorem yF_sum {E : rE} {m : Nat → Int} {n : Nat} (h : VC m 0 n) : sT (yF E m n) n 0 = TE E m 0 n + sE E m n 0 := by
  have a := ys_g h (fun k => eN E k (m k).toNat) n 0 (by omega) (by omega) (by omega) (fun x p q => by omega)
  rw [Nat.sub_zero] at a
  unfold sE TE
  rw [← a, Nat.sub_zero]
  exact sT_add _ _ n 0
end
section
/-! the reference's way through all foldings -/
def fitP (M : Nat → Int) (n p q : Nat) : Prop := M p < 0 ∧ M q < 0 ∧ ∀ k : Nat, k < n → (k : Int) < M k → ¬ ((p < k ∧ k < q ∧ (q : Int) < M k) ∨ (k < p ∧ (p : Int) < M k ∧ M k < q))
def okP (E : rE) (n : Nat) (M : Nat → Int) (p q : Nat) : Prop := eA E p q = true ∧ fitP M n p q
noncomputable def pF (E : rE) (n : Nat) (M : Nat → Int) (p : Nat) : Nat → Nat → (Nat → Int)
  | 0, _ => M
  | d + 1, q => ic (okP E n M p q) (pu M p q) (pF E n M p d (q + 1))
noncomputable def pairF (E : rE) (n : Nat) (M : Nat → Int) (p q : Nat) : Nat → Int := pF E n M p (n - q) q
theorem pairF_e {E : rE} {n : Nat} {M : Nat → Int} {p q : Nat} (h : n ≤ q) : pairF E n M p q = M := by
  unfold pairF
  rw [show n - q = 0 by omega]
  rfl
theorem pairF_t {E : rE} {n : Nat} {M : Nat → Int} {p q : Nat} (h : q < n) (hq : okP E n M p q) : pairF E n M p q = pu M p q := by
  unfold pairF
  rw [show n - q = (n - (q + 1)) + 1 by omega]
  exact ic_t hq
theorem pairF_f {E : rE} {n : Nat} {M : Nat → Int} {p q : Nat} (h : q < n) (hq : ¬ okP E n M p q) : pairF E n M p q = pairF E n M p (q + 1) := by
  unfold pairF
  rw [show n - q = (n - (q + 1)) + 1 by omega]
  exact ic_f hq
noncomputable def fF (E : rE) (n : Nat) : Nat → Nat → (Nat → Int) → (Nat → Int)
  | 0, _, M => M
  | d + 1, p, M => fF E n d (p + 1) (if M p < 0 then pairF E n M p (p + 1) else M)
noncomputable def fillF (E : rE) (n p : Nat) (M : Nat → Int) : Nat → Int := fF E n (n - p) p M
theorem fillF_e {E : rE} {n p : Nat} {M : Nat → Int} (h : n ≤ p) : fillF E n p M = M := by
  unfold fillF
  rw [show n - p = 0 by omega]
  rfl
theorem fillF_t {E : rE} {n p : Nat} {M : Nat → Int} (h : p < n) (hM : M p < 0) : fillF E n p M = fillF E n (p + 1) (pairF E n M p (p + 1)) := by
  unfold fillF
  rw [show n - p = (n - (p + 1)) + 1 by omega]
  show fF E n (n - (p + 1)) (p + 1) (if M p < 0 then _ else _) = _
  rw [if_pos hM]
theorem fillF_f {E : rE} {n p : Nat} {M : Nat → Int} (h : p < n) (hM : ¬ M p < 0) : fillF E n p M = fillF E n (p + 1) M := by
  unfold fillF
  rw [show n - p = (n - (p + 1)) + 1 by omega]
  show fF E n (n - (p + 1)) (p + 1) (if M p < 0 then _ else _) = _
  rw [if_neg hM]
/-- what the next folding is when p's pair is the last one to begin -/
noncomputable def stepF (E : rE) (n : Nat) (M : Nat → Int) (p : Nat) : Nat → Int := fillF E n (p + 1) (pairF E n (ud (ud M p (-1)) (M p).toNat (-1)) p ((M p).toNat + 1))
noncomputable def nF (E : rE) (n : Nat) (M : Nat → Int) : Nat → Option (Nat → Int)
  | 0 => none
  | p + 1 => if (p : Int) < M p then some (stepF E n M p) else nF E n M p
noncomputable def nextF (E : rE) (n : Nat) (M : Nat → Int) : Option (Nat → Int) := nF E n M n
theorem nF_at {E : rE} {n : Nat} {M : Nat → Int} {p : Nat} (h : (p : Int) < M p) : ∀ d, (∀ x, p < x → x < p + 1 + d → M x ≤ x) → nF E n M (p + 1 + d) = some (stepF E n M p) := by
  intro d
  induction d with
  | zero => intro _; exact if_pos h
  | succ d ih =>
    intro q
    show (if ((p + 1 + d : Nat) : Int) < M (p + 1 + d) then _ else nF E n M (p + 1 + d)) = _
    rw [if_neg (by have := q (p + 1 + d) (by omega) (by omega); omega), ih (fun x a b => q x a (by omega))]
theorem nF_none {E : rE} {n : Nat} {M : Nat → Int} : ∀ d, (∀ x, x < d → M x ≤ x) → nF E n M d = none := by
  intro d
  induction d with
  | zero => intro _; rfl
  | succ d ih =>
    intro q
    show (if (d : Int) < M d then _ else nF E n M d) = _
    rw [if_neg (by have := q d (by omega); omega), ih (fun x a => q x (by omega))]
/-- L runs from h to z by nx -/
def ch {α : Type} (nx : α → Option α) : List α → α → α → Prop
  | [], _, _ => False
  | [x], h, z => x = h ∧ x = z
  | x :: y :: L, h, z => x = h ∧ nx x = some y ∧ ch nx (y :: L) y z
theorem ch_hd {α : Type} {nx : α → Option α} {L : List α} {h z : α} (c : ch nx L h z) : ∃ T, L = h :: T := by
  match L, c with
  | [x], c => exact ⟨[], by rw [c.1]⟩
  | x :: y :: L, c => exact ⟨y :: L, by rw [c.1]⟩
theorem ch_app {α : Type} {nx : α → Option α} {B : List α} {h' z' : α} (cB : ch nx B h' z') : ∀ {A : List α} {h z : α}, ch nx A h z → nx z = some h' → ch nx (A ++ B) h z' := by
  intro A
  induction A with
  | nil => intro h z c; exact absurd c id
  | cons x A ih =>
    intro h z c e
    cases A with
    | nil =>
      obtain ⟨T, rfl⟩ := ch_hd cB
      exact ⟨c.1, by rw [c.2]; exact e, cB⟩
    | cons y A => exact ⟨c.1, c.2.1, ih c.2.2 e⟩
noncomputable def cF (E : rE) (n : Nat) : Nat → Nat → (Nat → Int) → List (Nat → Int)
  | 0, _, M => [M]
  | d + 1, p, M => if M p < 0 then ((rg (p + 1) n).flatMap fun q => ic (okP E n M p q) (cF E n d (p + 1) (pu M p q)) []) ++ cF E n d (p + 1) M else cF E n d (p + 1) M
/-- no pair begins from p on -/
def NO (n : Nat) (M : Nat → Int) (p : Nat) : Prop := (∀ x : Nat, p ≤ x → x < n → M x < p) ∧ ∀ x, -1 ≤ M x
theorem NO_pu {n : Nat} {M : Nat → Int} {p q : Nat} (h : NO n M p) (hq : p < q) : NO n (pu M p q) (p + 1) := by
  constructor
  · intro x h1 h2
    by_cases e : x = q
    · subst e; rw [pu_2 M (by omega)]; omega
    · rw [pu_3 M (by omega) e]
      have := h.1 x (by omega) h2
      omega
  · intro x
    unfold pu
    split
    · omega
    · split
      · omega
      · exact h.2 x
theorem cF_ch (E : rE) (n : Nat) : ∀ d p M, n - p = d → p ≤ n → NO n M p → ch (nextF E n) (cF E n d p M) (fillF E n p M) M := by
  intro d
  induction d with
  | zero =>
    intro p M h1 h2 h3
    exact ⟨(fillF_e (by omega)).symm, rfl⟩
  | succ d ih =>
    intro p M h1 h2 h3
    have h4 : NO n M (p + 1) := ⟨fun x a b => by have := h3.1 x (by omega) b; omega, h3.2⟩
    simp only [cF]
    by_cases q : M p < 0
    · rw [if_pos q, fillF_t (by omega) q]
      have key : ∀ e q0, n - q0 = e → p < q0 → ch (nextF E n) (((rg q0 n).flatMap fun q => ic (okP E n M p q) (cF E n d (p + 1) (pu M p q)) []) ++ cF E n d (p + 1) M) (fillF E n (p + 1) (pairF E n M p q0)) M := by
        intro e
        induction e with
        | zero =>
          intro q0 a b
          rw [rg_n (by omega), pairF_e (by omega)]
          exact ih (p + 1) M (by omega) (by omega) h4
        | succ e ihe =>
          intro q0 a b
          have r := ihe (q0 + 1) (by omega) (by omega)
          rw [rg_c (by omega), List.flatMap_cons]
          by_cases o : okP E n M p q0
          · rw [ic_t o, pairF_t (by omega) o, List.append_assoc]
            refine ch_app r (ih (p + 1) (pu M p q0) (by omega) (by omega) (NO_pu h3 b)) ?_
            have hm : M p = -1 := by have := h3.2 p; omega
            have hq : M q0 = -1 := by have := h3.2 q0; have := o.2.2.1; omega
            have e1 : nextF E n (pu M p q0) = some (stepF E n (pu M p q0) p) := by
              unfold nextF
              refine (congrArg (nF E n (pu M p q0)) (show n = p + 1 + (n - (p + 1)) by omega)).trans (nF_at (by rw [pu_1]; omega) _ ?_)
              intro x c1 c2
              by_cases c3 : x = q0
              · subst c3; rw [pu_2 M (by omega)]; omega
              · rw [pu_3 M (by omega) c3]
                have := h3.1 x (by omega) (by omega)
                omega
            rw [e1]
            have e2 : ud (ud (pu M p q0) p (-1)) (pu M p q0 p).toNat (-1) = M := by
              rw [pu_1, Int.toNat_natCast]
              funext x
              unfold ud
              by_cases c1 : x = q0
              · rw [if_pos c1, c1, hq]
              · rw [if_neg c1]
                by_cases c2 : x = p
                · rw [if_pos c2, c2, hm]
                · rw [if_neg c2, pu_3 M c2 c1]
            unfold stepF
            rw [e2, pu_1, Int.toNat_natCast]
          · rw [ic_f o, List.nil_append, pairF_f (by omega) o]
            exact r
      exact key (n - (p + 1)) (p + 1) rfl (by omega)
    · rw [if_neg q, fillF_f (by omega) q]
      exact ih (p + 1) M (by omega) (by omega) h4
theorem rg_app {a b c : Nat} (h1 : a ≤ c) (h2 : c ≤ b) : rg a b = rg a c ++ rg c b := by
  have : ∀ d a, a + d = c → rg a b = rg a c ++ rg c b := by
    intro d
    induction d with
    | zero => intro a h; rw [rg_n (a := a) (b := c) (by omega), show a = c by omega]; rfl
    | succ d ih => intro a h; rw [rg_c (a := a) (b := b) (by omega), rg_c (a := a) (b := c) (by omega), ih (a + 1) (by omega)]; rfl
  exact this (c - a) a (by omega)
theorem Ms_v {a b : Nat} {x : Nat} : ∀ {s : List (Nat × Nat)} {M : Nat → Int}, Wi a b s → (M x = -1 ∨ ((a : Int) ≤ M x ∧ M x < b)) → Ms M s x = -1 ∨ ((a : Int) ≤ Ms M s x ∧ Ms M s x < b) := by
  intro s
  induction s with
  | nil => intro M _ h; exact h
  | cons p s ih =>
    intro M w h
    apply ih (M := pu M p.1 p.2) (fun q hq => w q (List.mem_cons.mpr (Or.inr hq)))
    have := w p (List.mem_cons.mpr (Or.inl rfl))
    unfold pu
    split
    · exact Or.inr (by omega)
    · split
      · exact Or.inr (by omega)
      · exact h
theorem Ms_m {x : Nat} : ∀ {s : List (Nat × Nat)} {M : Nat → Int}, -1 ≤ M x → -1 ≤ Ms M s x := by
  intro s
  induction s with
  | nil => intro M h; exact h
  | cons p s ih =>
    intro M h
    apply ih (M := pu M p.1 p.2)
    unfold pu
    split
    · omega
    · split
      · omega
      · exact h
/-- the free region p .. b - 1, and what is around it -/
def Cx (n : Nat) (M : Nat → Int) (p b : Nat) : Prop :=
  (∀ x, p ≤ x → x < b → M x = -1) ∧ (b < n → ∃ k : Nat, k < p ∧ M b = k ∧ M k = b) ∧ (∀ k : Nat, k < p → (k : Int) < M k → M k < p ∨ (b : Int) ≤ M k) ∧ NO n M p
theorem Cx_ok {E : rE} {n : Nat} {M : Nat → Int} {p b q : Nat} (c : Cx n M p b) (hp : p < q) (hb : p < b) (hbn : b ≤ n) (hq : q < n) : okP E n M p q ↔ (q < b ∧ eA E p q = true) := by
  obtain ⟨c1, c2, c3, c4⟩ := c
  constructor
  · rintro ⟨h1, h2, h3, h4⟩
    refine ⟨?_, h1⟩
    by_cases e : q < b
    · exact e
    · obtain ⟨k, k1, k2, k3⟩ := c2 (by omega)
      by_cases e2 : q = b
      · subst e2; omega
      · exact absurd (Or.inr ⟨k1, by omega, by omega⟩) (h4 k (by omega) (by omega))
  · rintro ⟨h1, h2⟩
    refine ⟨h2, by have := c1 p (by omega) hb; omega, by have := c1 q (by omega) h1; omega, ?_⟩
    intro k k1 k2 k3
    by_cases e : k < p
    · have := c3 k e k2
      omega
    · have := c4.1 k (by omega) k1
      omega
theorem Cx_in {n : Nat} {M : Nat → Int} {p b q : Nat} (c : Cx n M p b) (hp : p < q) (hq : q < b) : Cx n (pu M p q) (p + 1) q := by
  obtain ⟨c1, c2, c3, c4⟩ := c
  refine ⟨?_, ?_, ?_, NO_pu c4 hp⟩
  · intro x a e
    rw [pu_3 M (by omega) (by omega)]
    exact c1 x (by omega) (by omega)
  · intro _
    exact ⟨p, by omega, pu_2 M (by omega), pu_1 M p q⟩
  · intro k k1 k2
    by_cases e : k = p
    · subst e; rw [pu_1]; exact Or.inr (Int.le_refl _)
    · rw [pu_3 M e (by omega)] at k2 ⊢
      have := c3 k (by omega) k2
      omega
theorem Cx_af {n : Nat} {M : Nat → Int} {p b q : Nat} {s : List (Nat × Nat)} (c : Cx n M p b) (hp : p < q) (hq : q < b) (hbn : b ≤ n) (ws : Wi (p + 1) q s) : Cx n (Ms (pu M p q) s) (q + 1) b ∧ Ms (pu M p q) s q = p := by
  obtain ⟨c1, c2, c3, c4⟩ := c
  have o : ∀ x, (x ≤ p ∨ q ≤ x) → Ms (pu M p q) s x = pu M p q x := fun x hx => Ms_out (fun r hr => by have := ws r hr; omega) _
  refine ⟨⟨?_, ?_, ?_, ?_, ?_⟩, ?_⟩
  · intro x a e
    rw [o x (by omega), pu_3 M (by omega) (by omega)]
    exact c1 x (by omega) e
  · intro e
    obtain ⟨k, k1, k2, k3⟩ := c2 e
    refine ⟨k, by omega, ?_, ?_⟩
    · rw [o b (by omega), pu_3 M (by omega) (by omega)]; exact k2
    · rw [o k (by omega), pu_3 M (by omega) (by omega)]; exact k3
  · intro k k1 k2
    by_cases e1 : k < p
    · rw [o k (by omega), pu_3 M (by omega) (by omega)] at k2 ⊢
      have := c3 k e1 k2
      omega
    · by_cases e2 : k = p
      · subst e2; rw [o k (by omega), pu_1]; omega
      · by_cases e3 : k = q
        · subst e3; rw [o k (by omega), pu_2 M (by omega)] at k2; omega
        · have := Ms_v (M := pu M p q) (x := k) ws (Or.inl (by rw [pu_3 M e2 e3]; exact c1 k (by omega) (by omega)))
          omega
  · intro x a e
    rw [o x (by omega), pu_3 M (by omega) (by omega)]
    have := c4.1 x (by omega) e
    omega
  · intro x
    apply Ms_m
    unfold pu
    split
    · omega
    · split
      · omega
      · exact c4.2 x
  · rw [o q (by omega), pu_2 M (by omega)]
theorem tl_fl {α : Type} (p : Nat × Nat) (A B : List (List (Nat × Nat))) (F : List (Nat × Nat) → List α) : (tl p A B).flatMap F = A.flatMap (fun s => B.flatMap (fun t => F (p :: (s ++ t)))) := by
  unfold tl
  rw [List.flatMap_assoc]
  apply fl_cg
  intro s _
  rw [List.flatMap_map]
theorem cF_RR (E : rE) (n : Nat) : ∀ w p b M, b - p ≤ w → p ≤ b → b ≤ n → Cx n M p b → cF E n (n - p) p M = (RR E p b).flatMap (fun s => cF E n (n - b) b (Ms M s)) := by
  intro w
  induction w with
  | zero =>
    intro p b M h1 h2 h3 c
    have : p = b := by omega
    subst this
    rw [RR_e E (by omega)]
    show _ = cF E n (n - p) p M ++ []
    rw [List.append_nil]
  | succ w ih =>
    intro p b M h1 h2 h3 c
    by_cases q : p < b
    · have cs : Cx n M (p + 1) b := by
        obtain ⟨c1, c2, c3, c4⟩ := c
        refine ⟨fun x a e => c1 x (by omega) e, fun e => ?_, fun k k1 k2 => ?_, fun x a b => by have := c4.1 x (by omega) b; omega, c4.2⟩
        · obtain ⟨k, k1, k2⟩ := c2 e
          exact ⟨k, by omega, k2⟩
        · by_cases e : k = p
          · subst e; have := c1 k (by omega) q; omega
          · have := c3 k (by omega) k2; omega
      rw [RR_s E q, show n - p = (n - (p + 1)) + 1 by omega]
      simp only [cF]
      rw [if_pos (by have := c.1 p (by omega) q; omega), List.flatMap_append, ih (p + 1) b M (by omega) (by omega) h3 cs, rg_app (a := p + 1) (b := n) (c := b) (by omega) h3, List.flatMap_append]
      rw [show ((rg b n).flatMap fun q => ic (okP E n M p q) (cF E n (n - (p + 1)) (p + 1) (pu M p q)) []) = [] from List.flatMap_eq_nil_iff.mpr (fun x hx => by
        have := rg_m.mp hx
        exact ic_f (fun o => by have := ((Cx_ok c (by omega) q h3 (by omega)).mp o).1; omega)), List.append_nil]
      congr 1
      rw [List.flatMap_assoc]
      apply fl_cg
      intro l hl
      have hl := rg_m.mp hl
      by_cases a : eA E p l = true
      · rw [if_pos a, ic_t ((Cx_ok c (by omega) q h3 (by omega)).mpr ⟨by omega, a⟩), tl_fl, ih (p + 1) l (pu M p l) (by omega) (by omega) (by omega) (Cx_in c (by omega) (by omega))]
        apply fl_cg
        intro s hs
        obtain ⟨g1, g2⟩ := Cx_af c (by omega) (by omega) h3 (Wi_RR hs)
        rw [show n - l = (n - (l + 1)) + 1 by omega]
        simp only [cF]
        rw [if_neg (by rw [g2]; omega), ih (l + 1) b _ (by omega) (by omega) h3 g1]
        apply fl_cg
        intro t _
        show _ = cF E n (n - b) b (Ms (pu M p l) (s ++ t))
        rw [Ms_app]
      · rw [if_neg a, ic_f (fun o => a ((Cx_ok c (by omega) q h3 (by omega)).mp o).2)]
        rfl
    · have : p = b := by omega
      subst this
      rw [RR_e E (by omega)]
      show _ = cF E n (n - p) p M ++ []
      rw [List.append_nil]
theorem Cx_0 (n : Nat) : Cx n fr 0 n := ⟨fun _ _ _ => rfl, fun h => by omega, fun k h => by omega, fun x _ _ => by show (-1 : Int) < _; omega, fun x => by show (-1 : Int) ≤ -1; omega⟩
theorem cF_all (E : rE) (n : Nat) : cF E n n 0 fr = (RR E 0 n).map (Ms fr) := by
  have := cF_RR E n n 0 n fr (by omega) (by omega) (by omega) (Cx_0 n)
  rw [Nat.sub_zero, Nat.sub_self] at this
  rw [this, List.map_eq_flatMap]
  rfl
/-- all foldings in the reference's order -/
theorem enum_ch (E : rE) (n : Nat) : ch (nextF E n) ((RR E 0 n).map (Ms fr)) (fillF E n 0 fr) fr ∧ nextF E n fr = none := by
  constructor
  · rw [← cF_all]
    exact cF_ch E n n 0 fr (by omega) (by omega) (Cx_0 n).2.2.2
  · exact nF_none n (fun x _ => by show (-1 : Int) ≤ _; omega)
/-- how many foldings there are -/
def bT (w : Nat) : Nat := [1, 1, 1, 1, 2, 4, 8, 16, 33, 69, 146, 312, 673, 1463, 3202].getD w 0
theorem bT_ok : ∀ w, w < 14 → sN (fun d => if d < 2 then 0 else bT d * bT (w - 1 - d)) w + bT w ≤ bT (w + 1) := by decide
theorem len_fl {α : Type} (f : Nat → List α) (g : Nat → Nat) : ∀ d a b, b - a = d → (∀ x, a ≤ x → x < b → (f x).length ≤ g (x - a)) → ((rg a b).flatMap f).length ≤ sN g d := by
  have : ∀ d c a b, b - a = d → (∀ x, a ≤ x → x < b → (f x).length ≤ g (x - a + c)) → ((rg a b).flatMap f).length + sN g c ≤ sN g (c + d) := by
    intro d
    induction d with
    | zero => intro c a b h1 h2; rw [rg_n (by omega)]; simp
    | succ d ih =>
      intro c a b h1 h2
      rw [rg_c (by omega), List.flatMap_cons, List.length_append]
      have r := ih (c + 1) (a + 1) b (by omega) (fun x p q => by have := h2 x (by omega) q; rw [show x - (a + 1) + (c + 1) = x - a + c by omega]; exact this)
      have e := h2 a (by omega) (by omega)
      rw [show a - a + c = c by omega] at e
      rw [show c + 1 + d = c + (d + 1) by omega, show sN g (c + 1) = sN g c + g c from rfl] at r
      omega
  intro d a b h1 h2
  have := this d 0 a b h1 h2
  simp only [sN, Nat.zero_add] at this
  omega
theorem tl_len (p : Nat × Nat) (A B : List (List (Nat × Nat))) : (tl p A B).length = A.length * B.length := by
  induction A with
  | nil => simp [tl]
  | cons s A ih =>
    show ((B.map fun t => p :: (s ++ t)) ++ tl p A B).length = _
    rw [List.length_append, List.length_map, ih, List.length_cons, Nat.add_mul, Nat.one_mul]
    omega
theorem RR_len (E : rE) (hE : ∀ p q, eA E p q = true → p + 2 < q) : ∀ w a b, b - a = w → w ≤ 14 → (RR E a b).length ≤ bT w := by
  have key : ∀ v w, w ≤ v → ∀ a b, b - a = w → w ≤ 14 → (RR E a b).length ≤ bT w := by
    intro v
    induction v with
    | zero =>
      intro w h0 a b h1 h2
      rw [RR_e E (by omega), show w = 0 by omega]
      decide
    | succ v ih =>
      intro w h0 a b h1 h2
      by_cases q : a < b
      · rw [RR_s E q, List.length_append]
        have r := ih (w - 1) (by omega) (a + 1) b (by omega) (by omega)
        have l := len_fl (fun l => if eA E a l = true then tl (a, l) (RR E (a + 1) l) (RR E (l + 1) b) else []) (fun d => if d < 2 then 0 else bT d * bT (w - 1 - 1 - d)) (w - 1) (a + 1) b (by omega) (fun x p1 p2 => by
          by_cases c : eA E a x = true
          · have := hE _ _ c
            rw [if_pos c, if_neg (by omega), tl_len]
            exact Nat.mul_le_mul (ih (x - (a + 1)) (by omega) (a + 1) x rfl (by omega)) (ih (w - 1 - 1 - (x - (a + 1))) (by omega) (x + 1) b (by omega) (by omega))
          · rw [if_neg c]
            exact Nat.zero_le _)
        have t := bT_ok (w - 1) (by omega)
        rw [show w - 1 + 1 = w by omega] at t
        omega
      · rw [RR_e E q, show w = 0 by omega]
        decide
  intro w
  exact key w w (Nat.le_refl _)
theorem RR_20000 (E : rE) (hE : ∀ p q, eA E p q = true → p + 2 < q) {n : Nat} (hn : n ≤ 14) : (RR E 0 n).length < 20000 := by
  have a := RR_len E hE n 0 n (by omega) hn
  have b : ∀ w, w < 15 → bT w < 20000 := by decide
  have := b n (by omega)
  omega
end
section
/-! the first folding of least cost; bounds; forbidding a pair -/
def fm : List rT → rT
  | [] => (1048576, [])
  | x :: L => if x.1 ≤ (fm L).1 then x else fm L
theorem fm_ct {x : rT} {L : List rT} (h : x.1 ≤ (fm L).1) : fm (x :: L) = x := if_pos h
theorem fm_cf {x : rT} {L : List rT} (h : ¬ x.1 ≤ (fm L).1) : fm (x :: L) = fm L := if_neg h
theorem fm_1 (L : List rT) : (fm L).1 = mnL (L.map Prod.fst) := by
  induction L with
  | nil => rfl
  | cons x L ih =>
    simp only [fm, List.map_cons, mnL]
    rw [← ih]
    split <;> rfl
def LT (L : List rT) : Prop := ∀ x, x ∈ L → x.1 < 1048576
theorem fm_mem {L : List rT} (h : LT L) (hn : L ≠ []) : fm L ∈ L := by
  induction L with
  | nil => exact absurd rfl hn
  | cons x L ih =>
    simp only [fm]
    by_cases q : x.1 ≤ (fm L).1
    · rw [if_pos q]; exact List.mem_cons.mpr (Or.inl rfl)
    · rw [if_neg q]
      by_cases e : L = []
      · subst e
        have := h x (List.mem_cons.mpr (Or.inl rfl))
        exact absurd (Int.le_of_lt this) q
      · exact List.mem_cons.mpr (Or.inr (ih (fun y hy => h y (List.mem_cons.mpr (Or.inr hy))) e))
theorem fm_app {A B : List rT} (hB : LT B) : fm (A ++ B) = if (fm A).1 ≤ (fm B).1 then fm A else fm B := by
  induction A with
  | nil =>
    show fm B = if (1048576 : Int) ≤ (fm B).1 then (1048576, []) else fm B
    by_cases e : B = []
    · subst e; rfl
    · have := hB _ (fm_mem hB e)
      rw [if_neg (by omega)]
  | cons x A ih =>
    rw [List.cons_append]
    by_cases h1 : (fm A).1 ≤ (fm B).1
    · rw [if_pos h1] at ih
      by_cases h2 : x.1 ≤ (fm A).1
      · rw [fm_ct (L := A ++ B) (by rw [ih]; exact h2), fm_ct h2, if_pos (by omega)]
      · rw [fm_cf (L := A ++ B) (by rw [ih]; exact h2), fm_cf h2, if_pos h1, ih]
    · rw [if_neg h1] at ih
      by_cases h3 : x.1 ≤ (fm B).1
      · rw [fm_ct (L := A ++ B) (by rw [ih]; exact h3), fm_ct (L := A) (by omega), if_pos h3]
      · rw [fm_cf (L := A ++ B) (by rw [ih]; exact h3), ih]
        by_cases h2 : x.1 ≤ (fm A).1
        · rw [fm_ct h2, if_neg h3]
        · rw [fm_cf h2, if_neg h1]
theorem fm_hit {A B : List rT} (hB : LT B) (h : (fm (A ++ B)).1 = (fm A).1) : fm (A ++ B) = fm A := by
  rw [fm_app hB] at h ⊢
  by_cases q : (fm A).1 ≤ (fm B).1
  · rw [if_pos q]
  · rw [if_neg q] at h; omega
theorem fm_miss {A B : List rT} (hB : LT B) (h : (fm (A ++ B)).1 ≠ (fm A).1) : fm (A ++ B) = fm B := by
  rw [fm_app hB] at h ⊢
  by_cases q : (fm A).1 ≤ (fm B).1
  · rw [if_pos q] at h; exact absurd rfl h
  · rw [if_neg q]
theorem fm_le {A B : List rT} (hB : LT B) : (fm (A ++ B)).1 ≤ (fm A).1 ∧ (fm (A ++ B)).1 ≤ (fm B).1 := by
  rw [fm_app hB]
  by_cases q : (fm A).1 ≤ (fm B).1
  · rw [if_pos q]; omega
  · rw [if_neg q]; omega
theorem LT_app {A B : List rT} : LT (A ++ B) ↔ LT A ∧ LT B := by
  constructor
  · intro h
    exact ⟨fun x hx => h x (List.mem_append.mpr (Or.inl hx)), fun x hx => h x (List.mem_append.mpr (Or.inr hx))⟩
  · intro h x hx
    exact (List.mem_append.mp hx).elim (h.1 x) (h.2 x)
theorem fm_map {f : rT → rT} {c : Int} (hf : ∀ y, (f y).1 = c + y.1) : ∀ {B : List rT}, B ≠ [] → LT B → LT (B.map f) → fm (B.map f) = f (fm B) := by
  intro B
  induction B with
  | nil => intro h; exact absurd rfl h
  | cons y B ih =>
    intro _ h1 h2
    rw [List.map_cons] at h2 ⊢
    by_cases e : B = []
    · subst e
      have a := h1 y (List.mem_cons.mpr (Or.inl rfl))
      have b := h2 (f y) (List.mem_cons.mpr (Or.inl rfl))
      rw [fm_ct (x := y) (L := []) (show y.1 ≤ (1048576 : Int) by omega)]
      exact fm_ct (show (f y).1 ≤ (1048576 : Int) by omega)
    · have i := ih e (fun x hx => h1 x (List.mem_cons.mpr (Or.inr hx))) (fun x hx => h2 x (List.mem_cons.mpr (Or.inr hx)))
      by_cases q : y.1 ≤ (fm B).1
      · rw [fm_ct q, fm_ct (by rw [i, hf, hf]; omega)]
      · rw [fm_cf q, fm_cf (by rw [i, hf, hf]; omega), i]
theorem fm_tn {p : Nat × Nat} {B : List rT} (hB : LT B) (nB : B ≠ []) : ∀ {A : List rT}, A ≠ [] → LT A → LT (tn p A B) → fm (tn p A B) = ((fm A).1 + (fm B).1, p :: ((fm A).2 ++ (fm B).2)) := by
  intro A
  induction A with
  | nil => intro h; exact absurd rfl h
  | cons x A ih =>
    intro _ h1 h2
    rw [tn_c] at h2 ⊢
    obtain ⟨h3, h4⟩ := LT_app.mp h2
    have m := fm_map (f := fun y => (x.1 + y.1, p :: (x.2 ++ y.2))) (c := x.1) (fun _ => rfl) nB hB h3
    rw [fm_app h4, m]
    by_cases e : A = []
    · subst e
      have a := h1 x (List.mem_cons.mpr (Or.inl rfl))
      have b := h3 _ (fm_mem h3 (by simpa using nB))
      rw [m] at b
      rw [fm_ct (L := []) (show x.1 ≤ (1048576 : Int) by omega), if_pos]
      show x.1 + (fm B).1 ≤ (1048576 : Int)
      dsimp only at b
      omega
    · rw [ih e (fun y hy => h1 y (List.mem_cons.mpr (Or.inr hy))) h4]
      by_cases q : x.1 ≤ (fm A).1
      · rw [fm_ct q, if_pos (by dsimp only; omega)]
      · rw [fm_cf q, if_neg (by dsimp only; omega)]
/-- bounds of the terms -/
def EB (E : rE) : Prop := (∀ i j, -60 ≤ eN E i j ∧ eN E i j ≤ 60) ∧ (∀ i j, i < j → j < 14 → -900 ≤ eH E i j ∧ eH E i j ≤ 900) ∧ (∀ i j k l, i < k → k < l → l < j → j < 14 → -1800 ≤ eS E i j k l ∧ eS E i j k l ≤ 1800) ∧ (-60 ≤ e13 E ∧ e13 E ≤ 60) ∧ (-60 ≤ e14 E ∧ e14 E ≤ 60) ∧ (-60 ≤ e15 E ∧ e15 E ≤ 60)
theorem mul_bd {a x : Int} (h1 : -60 ≤ a) (h2 : a ≤ 60) (h3 : 0 ≤ x) (h4 : x ≤ 14) : -840 ≤ a * x ∧ a * x ≤ 840 := by
  have p := Int.mul_le_mul_of_nonneg_right h2 h3
  have q := Int.mul_le_mul_of_nonneg_right h1 h3
  omega
theorem mC_bd {E : rE} (hE : EB E) {i j k l : Nat} (h1 : i < k) (h2 : k < 14) : -1140 ≤ mC E i j k l ∧ mC E i j k l ≤ 1140 := by
  obtain ⟨b1, b2, b3, b4, b5, b6⟩ := hE
  have := mul_bd b6.1 b6.2 (x := (k : Int) - i - 1) (by omega) (by omega)
  have := b1 i j
  have := b1 k l
  unfold mC
  omega
theorem QB_bd {E : rE} (hE : EB E) : ∀ w : Nat, (∀ i j k, j - k ≤ w → i < k → k ≤ j → j < 14 → ∀ z, z ∈ RQ E i j k → -2000 * ((j : Int) - i) ≤ z.1 ∧ z.1 ≤ 2000 * ((j : Int) - i)) ∧ (∀ j k, j - k ≤ w → j < 14 → ∀ z, z ∈ RB E k j → k < j ∧ -2000 * ((j : Int) - k + 1) ≤ z.1 ∧ z.1 ≤ 2000 * ((j : Int) - k + 1)) := by
  intro w
  obtain ⟨b1, b2, b3, b4, b5, b6⟩ := id hE
  induction w with
  | zero =>
    constructor
    · intro i j k h hik hkj hj z hz
      rw [RQ_e E (by omega), List.mem_singleton] at hz
      subst hz
      have := b2 i j (by omega) hj
      dsimp only
      omega
    · intro j k h hj z hz
      rw [RB_e E (by omega)] at hz
      cases hz
  | succ w ih =>
    obtain ⟨ihQ, ihB⟩ := ih
    constructor
    · intro i j k h hik hkj hj z hz
      by_cases q : k + 1 < j
      · rw [RQ_s E q] at hz
        rcases List.mem_append.mp hz with hz | hz
        · obtain ⟨l, hl, hz⟩ := List.mem_flatMap.mp hz
          have hl := rg_m.mp hl
          by_cases c : eA E k l = true
          · rw [if_pos c] at hz
            obtain ⟨x, hx, y, hy, rfl⟩ := tn_m.mp hz
            have r1 := ihQ k l (k + 1) (by omega) (by omega) (by omega) (by omega) x hx
            rcases List.mem_append.mp hy with hy | hy
            · obtain ⟨y, hyy, rfl⟩ := List.mem_map.mp hy
              replace hy := hyy
              have r2 := ihB (j - 1) (l + 1) (by omega) (by omega) y hy
              have r3 := mC_bd hE (j := j) (l := l) hik (by omega)
              show _ ≤ x.1 + (mC E i j k l + y.1) ∧ x.1 + (mC E i j k l + y.1) ≤ _
              omega
            · rw [List.mem_singleton] at hy
              subst hy
              have r3 := b3 i j k l hik (by omega) (by omega) hj
              show _ ≤ x.1 + eS E i j k l ∧ x.1 + eS E i j k l ≤ _
              omega
          · rw [if_neg c] at hz; cases hz
        · exact ihQ i j (k + 1) (by omega) (by omega) (by omega) hj z hz
      · rw [RQ_e E q, List.mem_singleton] at hz
        subst hz
        have := b2 i j (by omega) hj
        dsimp only
        omega
    · intro j k h hj z hz
      by_cases q : k < j
      · rw [RB_s E q] at hz
        refine ⟨q, ?_⟩
        rcases List.mem_append.mp hz with hz | hz
        · obtain ⟨l, hl, hz⟩ := List.mem_flatMap.mp hz
          have hl := rg_m.mp hl
          by_cases c : eA E k l = true
          · rw [if_pos c] at hz
            obtain ⟨x, hx, y, hy, rfl⟩ := tn_m.mp hz
            have r1 := ihQ k l (k + 1) (by omega) (by omega) (by omega) (by omega) x hx
            have r4 := b1 k l
            rcases List.mem_append.mp hy with hy | hy
            · obtain ⟨y, hyy, rfl⟩ := List.mem_map.mp hy
              replace hy := hyy
              have r2 := ihB j (l + 1) (by omega) hj y hy
              show _ ≤ x.1 + (e14 E + eN E k l + y.1) ∧ x.1 + (e14 E + eN E k l + y.1) ≤ _
              omega
            · rw [List.mem_singleton] at hy
              subst hy
              have r3 := mul_bd b6.1 b6.2 (x := (j : Int) - l) (by omega) (by omega)
              show _ ≤ x.1 + (e14 E + eN E k l + e15 E * ((j : Int) - l)) ∧ x.1 + (e14 E + eN E k l + e15 E * ((j : Int) - l)) ≤ _
              omega
          · rw [if_neg c] at hz; cases hz
        · obtain ⟨z, hzz, rfl⟩ := List.mem_map.mp hz
          replace hz := hzz
          have r := ihB j (k + 1) (by omega) hj z hz
          show _ ≤ e15 E + z.1 ∧ e15 E + z.1 ≤ _
          omega
      · rw [RB_e E q] at hz
        cases hz
theorem RO_bd {E : rE} (hE : EB E) {n : Nat} (hn : n ≤ 14) : ∀ w i, n - i ≤ w → ∀ z, z ∈ RO E n i → (i ≤ n → -2000 * ((n : Int) - i) ≤ z.1 ∧ z.1 ≤ 2000 * ((n : Int) - i)) := by
  intro w
  induction w with
  | zero =>
    intro i h z hz hi
    rw [RO_e E (by omega), List.mem_singleton] at hz
    subst hz
    dsimp only
    omega
  | succ w ih =>
    intro i h z hz hi
    by_cases q : i < n
    · rw [RO_s E q] at hz
      rcases List.mem_append.mp hz with hz | hz
      · obtain ⟨l, hl, hz⟩ := List.mem_flatMap.mp hz
        have hl := rg_m.mp hl
        by_cases c : eA E i l = true
        · rw [if_pos c] at hz
          obtain ⟨x, hx, y, hy, rfl⟩ := tn_m.mp hz
          obtain ⟨y, hyy, rfl⟩ := List.mem_map.mp hy
          replace hy := hyy
          have r1 := (QB_bd hE (l - (i + 1))).1 i l (i + 1) (Nat.le_refl _) (by omega) (by omega) (by omega) x hx
          have r2 := ih (l + 1) (by omega) y hy (by omega)
          have r3 := hE.1 i l
          show _ ≤ x.1 + (eN E i l + y.1) ∧ x.1 + (eN E i l + y.1) ≤ _
          omega
        · rw [if_neg c] at hz; cases hz
      · have := ih (i + 1) (by omega) z hz (by omega)
        omega
    · rw [RO_e E q, List.mem_singleton] at hz
      subst hz
      dsimp only
      omega
/-- every list is bounded -/
theorem RQ_BL {E : rE} (hE : EB E) {i j k : Nat} (h1 : i < k) (h2 : k ≤ j) (h3 : j < 14) : BL ((RQ E i j k).map Prod.fst) := by
  intro x hx
  obtain ⟨z, hz, rfl⟩ := List.mem_map.mp hx
  have := (QB_bd hE (j - k)).1 i j k (Nat.le_refl _) h1 h2 h3 z hz
  omega
theorem RB_BL {E : rE} (hE : EB E) {k j : Nat} (h3 : j < 14) : BL ((RB E k j).map Prod.fst) := by
  intro x hx
  obtain ⟨z, hz, rfl⟩ := List.mem_map.mp hx
  have := (QB_bd hE (j - k)).2 j k (Nat.le_refl _) h3 z hz
  omega
theorem RO_BL {E : rE} (hE : EB E) {n i : Nat} (hn : n ≤ 14) (hi : i ≤ n) : BL ((RO E n i).map Prod.fst) := by
  intro x hx
  obtain ⟨z, hz, rfl⟩ := List.mem_map.mp hx
  have := RO_bd hE hn (n - i) i (Nat.le_refl _) z hz hi
  omega
theorem LT_BL {L : List rT} (h : BL (L.map Prod.fst)) : LT L := fun x hx => by
  have := h x.1 (List.mem_map_of_mem hx)
  omega
theorem RQ_ne (E : rE) : ∀ w i j k, j - k ≤ w → RQ E i j k ≠ [] := by
  intro w
  induction w with
  | zero => intro i j k h; rw [RQ_e E (by omega)]; simp
  | succ w ih =>
    intro i j k h
    by_cases q : k + 1 < j
    · rw [RQ_s E q]
      intro e
      exact ih i j (k + 1) (by omega) (List.append_eq_nil_iff.mp e).2
    · rw [RQ_e E q]; simp
theorem RO_ne (E : rE) (n : Nat) : ∀ w i, n - i ≤ w → RO E n i ≠ [] := by
  intro w
  induction w with
  | zero => intro i h; rw [RO_e E (by omega)]; simp
  | succ w ih =>
    intro i h
    by_cases q : i < n
    · rw [RO_s E q]
      intro e
      exact ih (i + 1) (by omega) (List.append_eq_nil_iff.mp e).2
    · rw [RO_e E q]; simp
end
section
/-! forbidding the pair xy filters the lists -/
def fb (E : rE) (xy : Nat × Nat) : rE := (fun i j => eA E i j && !(decide ((i, j) = xy)), E.2)
def nt (xy : Nat × Nat) (z : rT) : Bool := !(decide (xy ∈ z.2))
theorem fb_A (E : rE) (xy : Nat × Nat) (i j : Nat) : eA (fb E xy) i j = (eA E i j && !(decide ((i, j) = xy))) := rfl
theorem nt_sh (xy : Nat × Nat) (c : Int) (L : List rT) : (L.map (sh c)).filter (nt xy) = (L.filter (nt xy)).map (sh c) := by
  induction L with
  | nil => rfl
  | cons z L ih =>
    rw [List.map_cons, List.filter_cons, List.filter_cons, ih]
    show (if nt xy z = true then _ else _) = _
    split <;> rfl
theorem nt_tn_eq (xy : Nat × Nat) (A B : List rT) : (tn xy A B).filter (nt xy) = [] := by
  rw [List.filter_eq_nil_iff]
  intro z hz
  obtain ⟨x, _, y, _, rfl⟩ := tn_m.mp hz
  unfold nt
  simp
theorem nt_tn (xy p : Nat × Nat) (h : p ≠ xy) (A B : List rT) : (tn p A B).filter (nt xy) = tn p (A.filter (nt xy)) (B.filter (nt xy)) := by
  induction A with
  | nil => rfl
  | cons x A ih =>
    rw [tn_c, List.filter_append, ih, List.filter_cons]
    have e : (B.map fun y => ((x.1 + y.1, p :: (x.2 ++ y.2)) : rT)).filter (nt xy) = if nt xy x = true then (B.filter (nt xy)).map (fun y => (x.1 + y.1, p :: (x.2 ++ y.2))) else [] := by
      clear ih
      induction B with
      | nil => simp
      | cons y B ihB =>
        rw [List.map_cons, List.filter_cons, List.filter_cons, ihB]
        have q : nt xy ((x.1 + y.1, p :: (x.2 ++ y.2)) : rT) = (nt xy x && nt xy y) := by
          unfold nt
          have : (xy ∈ p :: (x.2 ++ y.2)) ↔ (xy ∈ x.2 ∨ xy ∈ y.2) := by
            rw [List.mem_cons, List.mem_append]
            exact ⟨fun w => w.elim (fun w => absurd w.symm h) id, Or.inr⟩
          simp only [this, Bool.decide_or, Bool.not_or]
        rw [q]
        by_cases a : nt xy x = true
        · by_cases b : nt xy y = true
          · simp [a, b]
          · simp [a, b]
        · simp [a]
    rw [e]
    split
    · rw [tn_c]
    · rfl
theorem nt_one (xy : Nat × Nat) (c : Int) : ([((c, []) : rT)]).filter (nt xy) = [(c, [])] := rfl
theorem fb_QB (E : rE) (xy : Nat × Nat) : ∀ w : Nat, (∀ i j k, j - k ≤ w → RQ (fb E xy) i j k = (RQ E i j k).filter (nt xy)) ∧ (∀ j k, j - k ≤ w → RB (fb E xy) k j = (RB E k j).filter (nt xy)) := by
  have blk : ∀ (k l : Nat) (A A' B B' : List rT), A' = A.filter (nt xy) → B' = B.filter (nt xy) → (if eA (fb E xy) k l = true then tn (k, l) A' B' else []) = (if eA E k l = true then tn (k, l) A B else []).filter (nt xy) := by
    intro k l A A' B B' ha hb
    rw [fb_A]
    by_cases c : eA E k l = true
    · by_cases d : (k, l) = xy
      · rw [if_neg (by simp [d]), if_pos c, d, nt_tn_eq]
      · rw [if_pos (by simp [c, d]), if_pos c, nt_tn xy (k, l) d, ha, hb]
    · rw [if_neg (by simp [c]), if_neg c]; rfl
  intro w
  induction w with
  | zero =>
    constructor
    · intro i j k h
      rw [RQ_e _ (by omega), RQ_e _ (by omega)]
      rfl
    · intro j k h
      rw [RB_e _ (by omega), RB_e _ (by omega)]
      rfl
  | succ w ih =>
    obtain ⟨ihQ, ihB⟩ := ih
    constructor
    · intro i j k h
      by_cases q : k + 1 < j
      · rw [RQ_s _ q, RQ_s _ q, List.filter_append, ihQ i j (k + 1) (by omega), List.filter_flatMap]
        congr 1
        apply fl_cg
        intro l hl
        have hl := rg_m.mp hl
        apply blk
        · exact ihQ k l (k + 1) (by omega)
        · rw [List.filter_append, nt_sh, ← ihB (j - 1) (l + 1) (by omega), nt_one]
          rfl
      · rw [RQ_e _ q, RQ_e _ q]
        rfl
    · intro j k h
      by_cases q : k < j
      · rw [RB_s _ q, RB_s _ q, List.filter_append, nt_sh, ← ihB j (k + 1) (by omega), List.filter_flatMap]
        congr 1
        apply fl_cg
        intro l hl
        have hl := rg_m.mp hl
        apply blk
        · exact ihQ k l (k + 1) (by omega)
        · rw [List.filter_append, nt_sh, ← ihB j (l + 1) (by omega), nt_one]
          rfl
      · rw [RB_e _ q, RB_e _ q]
        rfl
theorem fb_RO (E : rE) (xy : Nat × Nat) (n : Nat) : ∀ w i, n - i ≤ w → RO (fb E xy) n i = (RO E n i).filter (nt xy) := by
  intro w
  induction w with
  | zero =>
    intro i h
    rw [RO_e _ (by omega), RO_e _ (by omega)]
    rfl
  | succ w ih =>
    intro i h
    by_cases q : i < n
    · rw [RO_s _ q, RO_s _ q, List.filter_append, ih (i + 1) (by omega), List.filter_flatMap]
      congr 1
      apply fl_cg
      intro l hl
      have hl := rg_m.mp hl
      rw [fb_A]
      by_cases c : eA E i l = true
      · by_cases d : (i, l) = xy
        · rw [if_neg (by simp [d]), if_pos c, d, nt_tn_eq]
        · rw [if_pos (by simp [c, d]), if_pos c, nt_tn xy (i, l) d, nt_sh, ← ih (l + 1) (by omega), ← (fb_QB E xy (l - (i + 1))).1 i l (i + 1) (Nat.le_refl _)]
          rfl
      · rw [if_neg (by simp [c]), if_neg c]; rfl
    · rw [RO_e _ q, RO_e _ q]
      rfl
theorem fb_EB {E : rE} {xy : Nat × Nat} (h : EB E) : EB (fb E xy) := h
/-- the pairs of a folding are its mates -/
theorem RR_has (E : rE) : ∀ w a b, b - a ≤ w → ∀ s, s ∈ RR E a b → ∀ m : Nat → Int, Ag m a b s → ∀ p, p ∈ s → m p.1 = p.2 ∧ m p.2 = p.1 := by
  intro w
  induction w with
  | zero =>
    intro a b h s hs m hA p hp
    rw [RR_e E (by omega), List.mem_singleton] at hs
    subst hs
    cases hp
  | succ w ih =>
    intro a b h s hs m hA p hp
    by_cases q : a < b
    · rw [RR_s E q] at hs
      rcases List.mem_append.mp hs with hs | hs
      · obtain ⟨l, hl, hs⟩ := List.mem_flatMap.mp hs
        have hl := rg_m.mp hl
        by_cases c : eA E a l = true
        · rw [if_pos c] at hs
          obtain ⟨x, hx, y, hy, rfl⟩ := tl_m.mp hs
          obtain ⟨g1, g2, g3, g4⟩ := Ag_pair (by omega) (by omega) (Wi_RR hx) (Wi_RR hy) hA
          rcases List.mem_cons.mp hp with e | hp
          · subst e; exact ⟨g1, g2⟩
          · rcases List.mem_append.mp hp with hp | hp
            · exact ih (a + 1) l (by omega) x hx m g3 p hp
            · exact ih (l + 1) b (by omega) y hy m g4 p hp
        · rw [if_neg c] at hs; cases hs
      · obtain ⟨g1, g2⟩ := Ag_skip q (Wi_RR hs) hA
        exact ih (a + 1) b (by omega) s hs m g2 p hp
    · rw [RR_e E q, List.mem_singleton] at hs
      subst hs
      cases hp
theorem Ms_from {x y : Nat} : ∀ {s : List (Nat × Nat)} {M : Nat → Int}, Ms M s x = y → (x, y) ∈ s ∨ (y, x) ∈ s ∨ M x = y := by
  intro s
  induction s with
  | nil => intro M h; exact Or.inr (Or.inr h)
  | cons p s ih =>
    intro M h
    rcases ih (M := pu M p.1 p.2) h with e | e | e
    · exact Or.inl (List.mem_cons.mpr (Or.inr e))
    · exact Or.inr (Or.inl (List.mem_cons.mpr (Or.inr e)))
    · unfold pu at e
      split at e
      · have : p = (x, y) := Prod.ext (by simp_all) (by show p.2 = y; omega)
        exact Or.inl (List.mem_cons.mpr (Or.inl this.symm))
      · split at e
        · have : p = (y, x) := Prod.ext (by show p.1 = y; omega) (by simp_all)
          exact Or.inr (Or.inl (List.mem_cons.mpr (Or.inl this.symm)))
        · exact Or.inr (Or.inr e)
theorem Ms_iff {E : rE} {a b x y : Nat} {s : List (Nat × Nat)} (hs : s ∈ RR E a b) (h : x < y) : Ms fr s x = y ↔ (x, y) ∈ s := by
  constructor
  · intro e
    rcases Ms_from e with e | e | e
    · exact e
    · have := Wi_RR hs _ e
      dsimp only at this
      omega
    · have e : (-1 : Int) = y := e
      omega
  · intro e
    exact (RR_has E (b - a) a b (Nat.le_refl _) s hs (Ms fr s) (fun _ _ _ => rfl) _ e).1
end
section
/-! the data of both objects, and the terms that they give -/
abbrev rD : Type := Nat × Nat × (Nat → Int) × (Nat → Int) × (Nat → Int)
def dm (D : rD) : Nat := D.1
def dn (D : rD) : Nat := D.2.1
def db (D : rD) : Nat → Int := D.2.2.1
def dl (D : rD) : Nat → Int := D.2.2.2.1
def de (D : rD) : Nat → Int := D.2.2.2.2
/-- 0 strong, 1 weak, 2 wobble, 3 no pair -/
def stx (x y : Int) : Int := if 4 * x + y = 6 then 0 else if 4 * x + y = 9 then 0 else if 4 * x + y = 3 then 1 else if 4 * x + y = 12 then 1 else if 4 * x + y = 11 then 2 else if 4 * x + y = 14 then 2 else 3
theorem stx_r (x y : Int) : 0 ≤ stx x y ∧ stx x y ≤ 3 := by
  unfold stx
  repeat' split
  all_goals omega
def dA (D : rD) (i j : Nat) : Bool := decide (dm D + i + 1 ≤ j) && decide (dl D i = 0) && decide (dl D j = 0) && decide (stx (db D i) (db D j) < 3)
def dEn (D : rD) (i j : Nat) : Int := if stx (db D i) (db D j) = 0 then 0 else de D 16
def dHp (D : rD) (i j : Nat) : Int := de D 6 + de D 7 * ((j : Int) - i - 1) + dEn D i j
def stk (e : Nat → Int) (lo hi : Int) : Int := if lo = 0 then e hi.toNat else if lo = 1 then e (2 + hi).toNat else e 5
def dSt (D : rD) (a c : Int) : Int := if c ≤ a then stk (de D) c a else stk (de D) a c
def dSg (D : rD) (i j k l : Nat) : Int :=
  if (k : Int) - i - 1 = 0 ∧ (j : Int) - l - 1 = 0 then dSt D (stx (db D i) (db D j)) (stx (db D k) (db D l))
  else if (k : Int) - i - 1 = 0 ∨ (j : Int) - l - 1 = 0 then de D 8 + de D 9 * (((k : Int) - i - 1) + ((j : Int) - l - 1)) + (dEn D i j + dEn D k l)
  else de D 10 + de D 11 * (((k : Int) - i - 1) + ((j : Int) - l - 1)) + de D 12 * (if (k : Int) - i - 1 ≤ (j : Int) - l - 1 then ((j : Int) - l - 1) - ((k : Int) - i - 1) else ((k : Int) - i - 1) - ((j : Int) - l - 1)) + (dEn D i j + dEn D k l)
def dE (D : rD) : rE := (dA D, dEn D, dHp D, dSg D, de D 13, de D 14, de D 15)
/-- what holds of the data -/
def DB (D : rD) : Prop := (2 ≤ dm D ∧ dm D ≤ 4) ∧ dn D ≤ 14 ∧ (∀ i, i < 14 → 0 ≤ db D i ∧ db D i ≤ 3) ∧ (∀ i, i < dn D → dl D i = 0 ∨ dl D i = 1) ∧ (∀ k, k < 17 → -60 ≤ de D k ∧ de D k ≤ 60)
theorem dEn_b {D : rD} (h : DB D) (i j : Nat) : -60 ≤ dEn D i j ∧ dEn D i j ≤ 60 := by
  have := h.2.2.2.2 16 (by omega)
  unfold dEn
  split <;> omega
theorem dSt_b {D : rD} (h : DB D) {a c : Int} (ha : 0 ≤ a ∧ a ≤ 3) (hc : 0 ≤ c ∧ c ≤ 3) : -60 ≤ dSt D a c ∧ dSt D a c ≤ 60 := by
  have q : ∀ lo hi : Int, 0 ≤ lo → 0 ≤ hi → hi ≤ 3 → -60 ≤ stk (de D) lo hi ∧ stk (de D) lo hi ≤ 60 := by
    intro lo hi h1 h2 h3
    unfold stk
    split
    · exact h.2.2.2.2 _ (by omega)
    · split
      · exact h.2.2.2.2 _ (by omega)
      · exact h.2.2.2.2 _ (by omega)
  unfold dSt
  split
  · exact q _ _ hc.1 ha.1 ha.2
  · exact q _ _ ha.1 hc.1 hc.2
theorem dE_EB {D : rD} (h : DB D) : EB (dE D) := by
  have b := h.2.2.2.2
  refine ⟨dEn_b h, ?_, ?_, b 13 (by omega), b 14 (by omega), b 15 (by omega)⟩
  · intro i j h1 h2
    show -900 ≤ dHp D i j ∧ dHp D i j ≤ 900
    unfold dHp
    have q6 := b 6 (by omega)
    have q := b 7 (by omega)
    have r := Int.mul_le_mul_of_nonneg_right q.2 (show 0 ≤ (j : Int) - i - 1 by omega)
    have s := Int.mul_le_mul_of_nonneg_right q.1 (show 0 ≤ (j : Int) - i - 1 by omega)
    have := dEn_b h i j
    omega
  · intro i j k l h1 h2 h3 h4
    show -1800 ≤ dSg D i j k l ∧ dSg D i j k l ≤ 1800
    have s1 := stx_r (db D i) (db D j)
    have s2 := stx_r (db D k) (db D l)
    have n1 := dEn_b h i j
    have n2 := dEn_b h k l
    unfold dSg
    split
    · have := dSt_b h s1 s2
      omega
    · have q8 := b 8 (by omega)
      have q9 := b 9 (by omega)
      have q10 := b 10 (by omega)
      have q11 := b 11 (by omega)
      have q12 := b 12 (by omega)
      have z : 0 ≤ ((k : Int) - i - 1) + ((j : Int) - l - 1) := by omega
      split
      · have r := Int.mul_le_mul_of_nonneg_right q9.2 z
        have s := Int.mul_le_mul_of_nonneg_right q9.1 z
        omega
      · have r := Int.mul_le_mul_of_nonneg_right q11.2 z
        have s := Int.mul_le_mul_of_nonneg_right q11.1 z
        split
        · have y : 0 ≤ ((j : Int) - l - 1) - ((k : Int) - i - 1) := by omega
          have t := Int.mul_le_mul_of_nonneg_right q12.2 y
          have u := Int.mul_le_mul_of_nonneg_right q12.1 y
          omega
        · have y : 0 ≤ ((k : Int) - i - 1) - ((j : Int) - l - 1) := by omega
          have t := Int.mul_le_mul_of_nonneg_right q12.2 y
          have u := Int.mul_le_mul_of_nonneg_right q12.1 y
          omega
theorem dE_A {D : rD} (h : DB D) : ∀ p q, eA (dE D) p q = true → p + 2 < q := by
  intro p q c
  have c : dA D p q = true := c
  unfold dA at c
  simp only [Bool.and_eq_true, decide_eq_true_eq] at c
  have := h.1
  omega
theorem dE_st {D : rD} {p q : Nat} (c : eA (dE D) p q = true) : stx (db D p) (db D q) < 3 := by
  have c : dA D p q = true := c
  unfold dA at c
  simp only [Bool.and_eq_true, decide_eq_true_eq] at c
  exact c.2
/-- the data as they stand in an object -/
def XC (D : rD) (fL fC : Int32) (aB aK aT : Nat → Int32) : Prop := fL = zI (dm D) ∧ fC = zI (dn D) ∧ AI 14 aB (db D) ∧ AI (dn D) aK (dl D) ∧ AI 17 aT (de D) ∧ DB D
end
section
/-! what the component's readers give -/
theorem zcl {k : Nat} (h : k < 2147483648) : (zI (k : Int)).toNatClampNeg = k := by
  rw [← zI_nat]
  exact nI_clamp (by omega)
theorem zin {k N : Nat} (h : k < N) (hN : N < 2147483648) : vp_in (zI (k : Int)) N := by
  rw [← zI_nat]
  exact vp_in_nI h (by omega)
section
variable {fL fC fF fT fI fJ fK : Int32} {aB aK aT aP aM aG aA aO aS aQ aR aW : Nat → Int32}
theorem xStr {D : rD} (hD : XC D fL fC aB aK aT) {post : Int32 → Prop} {i j : Nat} {P Q : Int32} (hP : P = zI i) (hQ : Q = zI j) (hi : i < 14) (hj : j < 14) (h : post (zI (stx (db D i) (db D j)))) : wpX_strength post (fL, fC, fF, fT, fI, fJ, fK, aB, aK, aT, aP, aM, aG, aA, aO, aS, aQ, aR, aW) P Q := by
  obtain ⟨-, -, hB, -, -, hd⟩ := hD
  have b1 := hd.2.2.1 i hi
  have b2 := hd.2.2.1 j hj
  subst hP hQ
  simp only [wpX_strength]
  refine ⟨zin hi (by omega), zin hj (by omega), fun x ex => ?_⟩
  have e : x = zI (4 * db D i + db D j) := by
    rw [ex, zcl (by omega), zcl (by omega), hB i hi, hB j hj, show (4 : Int32) = zI 4 from by decide, zI_mul, zI_add]
  clear ex
  unfold stx at h
  refine zb_eq (4 * db D i + db D j) 6 (fun c => by rw [if_pos c] at h; exact h) (fun c => ?_) e
  rw [if_neg c] at h
  refine zb_eq (4 * db D i + db D j) 9 (fun c => by rw [if_pos c] at h; exact h) (fun c => ?_) e
  rw [if_neg c] at h
  refine zb_eq (4 * db D i + db D j) 3 (fun c => by rw [if_pos c] at h; exact h) (fun c => ?_) e
  rw [if_neg c] at h
  refine zb_eq (4 * db D i + db D j) 12 (fun c => by rw [if_pos c] at h; exact h) (fun c => ?_) e
  rw [if_neg c] at h
  refine zb_eq (4 * db D i + db D j) 11 (fun c => by rw [if_pos c] at h; exact h) (fun c => ?_) e
  rw [if_neg c] at h
  refine zb_eq (4 * db D i + db D j) 14 (fun c => by rw [if_pos c] at h; exact h) (fun c => ?_) e
  rw [if_neg c] at h
  exact h
theorem dA_f {D : rD} {i j : Nat} (h : ¬ (dm D + i + 1 ≤ j ∧ dl D i = 0 ∧ dl D j = 0 ∧ stx (db D i) (db D j) < 3)) : eA (dE D) i j = false := by
  show dA D i j = false
  unfold dA
  rw [← Bool.not_eq_true]
  intro q
  simp only [Bool.and_eq_true, decide_eq_true_eq] at q
  exact h ⟨q.1.1.1, q.1.1.2, q.1.2, q.2⟩
theorem dA_t {D : rD} {i j : Nat} (h : dm D + i + 1 ≤ j ∧ dl D i = 0 ∧ dl D j = 0 ∧ stx (db D i) (db D j) < 3) : eA (dE D) i j = true := by
  show dA D i j = true
  unfold dA
  simp only [Bool.and_eq_true, decide_eq_true_eq]
  exact ⟨⟨⟨h.1, h.2.1⟩, h.2.2.1⟩, h.2.2.2⟩
theorem xPairable {D : rD} (hD : XC D fL fC aB aK aT) {post : Int32 → Prop} {i j : Nat} {P Q : Int32} (hP : P = zI i) (hQ : Q = zI j) (hij : i < j) (hj : j < dn D) (h1 : eA (dE D) i j = true → post 1) (h0 : eA (dE D) i j = false → post 0) : wpX_pairable post (fL, fC, fF, fT, fI, fJ, fK, aB, aK, aT, aP, aM, aG, aA, aO, aS, aQ, aR, aW) P Q := by
  obtain ⟨hL, -, hB, hK, -, hd⟩ := id hD
  have hn := hd.2.1
  have hm := hd.1
  have b1 := hd.2.2.2.1 i (by omega)
  have b2 := hd.2.2.2.1 j hj
  have s := stx_r (db D i) (db D j)
  simp only [wpX_pairable]
  have e : Q - P - 1 = zI ((j : Int) - i - 1) := by rw [hP, hQ, zI_1, zI_sub, zI_sub]
  refine zb_lt ((j : Int) - i - 1) (dm D) (fun c => h0 (dA_f (fun q => by omega))) (fun c => ?_) e hL
  refine ⟨by rw [hP]; exact zin (by omega) (by omega), ?_⟩
  refine zb_eq (dl D i) 0 (fun c1 => ?_) (fun c1 => h0 (dA_f (fun q => c1 q.2.1))) (by rw [hP, zcl (by omega)]; exact hK i (by omega)) rfl
  refine ⟨by rw [hQ]; exact zin (by omega) (by omega), ?_⟩
  refine zb_eq (dl D j) 0 (fun c2 => ?_) (fun c2 => h0 (dA_f (fun q => c2 q.2.2.1))) (by rw [hQ, zcl (by omega)]; exact hK j hj) rfl
  refine xStr hD hP hQ (by omega) (by omega) ?_
  refine zb_le 3 (stx (db D i) (db D j)) (fun c3 => h0 (dA_f (fun q => by omega))) (fun c3 => h1 (dA_t ⟨by omega, c1, c2, c3⟩))
theorem xCanPair {D : rD} (hD : XC D fL fC aB aK aT) {post : Int32 → Prop} {P Q : Int32} (h1 : ∀ i j : Nat, P = zI i → Q = zI j → i < j → j < dn D → eA (dE D) i j = true → post 1) (h0 : (∀ i j : Nat, P = zI i → Q = zI j → i < j → j < dn D → eA (dE D) i j = false) → post 0) : wpX_canPair post (fL, fC, fF, fT, fI, fJ, fK, aB, aK, aT, aP, aM, aG, aA, aO, aS, aQ, aR, aW) P Q := by
  obtain ⟨p, rfl, p1, p2⟩ := zI_of P
  obtain ⟨q, rfl, q1, q2⟩ := zI_of Q
  have hn := hD.2.2.2.2.2.2.1
  have inj : ∀ {x : Int} {k : Nat}, -2147483648 ≤ x → x < 2147483648 → k < 14 → zI x = zI k → x = k := fun a b c d => (zI_eq a b (by omega) (by omega)).mp d
  simp only [wpX_canPair]
  refine zb_lt p 0 (fun c => h0 (fun i j e1 e2 h1 h2 => by have := inj p1 p2 (by omega) e1; omega)) (fun c => ?_)
  refine zb_le (dn D) q (fun c1 => h0 (fun i j e1 e2 h1 h2 => by have := inj q1 q2 (by omega) e2; omega)) (fun c1 => ?_) hD.2.1 rfl
  refine zb_lt p q (fun c2 => ?_) (fun c2 => h0 (fun i j e1 e2 h1 h2 => by have := inj q1 q2 (by omega) e2; have := inj p1 p2 (by omega) e1; omega))
  have ep : p = (p.toNat : Int) := by omega
  have eq : q = (q.toNat : Int) := by omega
  refine xPairable hD (i := p.toNat) (j := q.toNat) (congrArg zI ep) (congrArg zI eq) (by omega) (by omega) (fun a => ⟨rfl, h1 _ _ (congrArg zI ep) (congrArg zI eq) (by omega) (by omega) a⟩) (fun a => ⟨rfl, h0 (fun i j e1 e2 _ _ => ?_)⟩)
  have e3 := inj q1 q2 (by omega) e2
  have e4 := inj p1 p2 (by omega) e1
  rw [show i = p.toNat by omega, show j = q.toNat by omega]
  exact a
theorem xEnd {D : rD} (hD : XC D fL fC aB aK aT) {post : Int32 → Prop} {i j : Nat} {P Q : Int32} (hP : P = zI i) (hQ : Q = zI j) (hi : i < 14) (hj : j < 14) (h : post (zI (eN (dE D) i j))) : wpX_end post (fL, fC, fF, fT, fI, fJ, fK, aB, aK, aT, aP, aM, aG, aA, aO, aS, aQ, aR, aW) P Q := by
  have s := stx_r (db D i) (db D j)
  simp only [wpX_end]
  refine xStr hD hP hQ hi hj ?_
  have h : post (zI (dEn D i j)) := h
  unfold dEn at h
  refine zb_eq (stx (db D i) (db D j)) 0 (fun c => by rw [if_pos c] at h; exact h) (fun c => by rw [if_neg c] at h; rw [hD.2.2.2.2.1 16 (by omega)]; exact h)
theorem xHair {D : rD} (hD : XC D fL fC aB aK aT) {post : Int32 → Prop} {i j : Nat} {P Q : Int32} (hP : P = zI i) (hQ : Q = zI j) (hi : i < 14) (hj : j < 14) (h : post (zI (eH (dE D) i j))) : wpX_hairpin post (fL, fC, fF, fT, fI, fJ, fK, aB, aK, aT, aP, aM, aG, aA, aO, aS, aQ, aR, aW) P Q := by
  simp only [wpX_hairpin]
  refine xEnd hD hP hQ hi hj ?_
  have hT := hD.2.2.2.2.1
  rw [hT 6 (by omega), hT 7 (by omega), hP, hQ, zI_1, zI_sub, zI_sub, zI_mul, zI_add, zI_add]
  exact h
theorem xSingle {D : rD} (hD : XC D fL fC aB aK aT) {post : Int32 → Prop} {i j k l : Nat} {P Q R S : Int32} (hP : P = zI i) (hQ : Q = zI j) (hR : R = zI k) (hS : S = zI l) (h1 : i < k) (h2 : k < l) (h3 : l < j) (h4 : j < 14) (h : post (zI (eS (dE D) i j k l))) : wpX_single post (fL, fC, fF, fT, fI, fJ, fK, aB, aK, aT, aP, aM, aG, aA, aO, aS, aQ, aR, aW) P Q R S := by
  have s1 := stx_r (db D i) (db D j)
  have s2 := stx_r (db D k) (db D l)
  have hT := hD.2.2.2.2.1
  have h : post (zI (dSg D i j k l)) := h
  simp only [wpX_single]
  refine nm_r (e' := zI ((k : Int) - i - 1)) (by rw [hP, hR, zI_1, zI_sub, zI_sub]) ?_
  refine nm_r (e' := zI ((j : Int) - l - 1)) (by rw [hQ, hS, zI_1, zI_sub, zI_sub]) ?_
  refine xStr hD hP hQ (by omega) (by omega) ?_
  refine xStr hD hR hS (by omega) (by omega) ?_
  have far : ¬ ((k : Int) - i - 1 = 0 ∧ (j : Int) - l - 1 = 0) → wX_single_112 post P Q R S (zI ((k : Int) - i - 1)) (zI ((j : Int) - l - 1)) fL fC fF fT fI fJ fK aB aK aT aP aM aG aA aO aS aQ aR aW := by
    intro c
    unfold dSg at h
    rw [if_neg c] at h
    unfold wX_single_112
    refine xEnd hD hP hQ (by omega) (by omega) ?_
    refine xEnd hD hR hS (by omega) (by omega) ?_
    refine nm_r (zI_add _ _) ?_
    have near : ((k : Int) - i - 1 = 0 ∨ (j : Int) - l - 1 = 0) → wX_single_138 post (zI ((k : Int) - i - 1)) (zI ((j : Int) - l - 1)) (zI (eN (dE D) i j + eN (dE D) k l)) fL fC fF fT fI fJ fK aB aK aT aP aM aG aA aO aS aQ aR aW := by
      intro d
      rw [if_pos d] at h
      unfold wX_single_138
      rw [hT 8 (by omega), hT 9 (by omega), zI_add, zI_mul, zI_add, zI_add]
      exact h
    refine zb_eq ((k : Int) - i - 1) 0 (fun d => near (Or.inl d)) (fun d => ?_)
    refine zb_eq ((j : Int) - l - 1) 0 (fun d => near (Or.inr d)) (fun d1 => ?_)
    rw [if_neg (by omega)] at h
    refine zb_le ((k : Int) - i - 1) ((j : Int) - l - 1) (fun d2 => ?_) (fun d2 => ?_)
    · rw [if_pos d2] at h
      unfold wX_single_183
      rw [hT 10 (by omega), hT 11 (by omega), hT 12 (by omega), zI_sub, zI_add, zI_mul, zI_mul, zI_add, zI_add, zI_add]
      exact h
    · rw [if_neg (by omega)] at h
      unfold wX_single_183
      rw [hT 10 (by omega), hT 11 (by omega), hT 12 (by omega), zI_sub, zI_add, zI_mul, zI_mul, zI_add, zI_add, zI_add]
      exact h
  refine zb_eq ((k : Int) - i - 1) 0 (fun c1 => ?_) (fun c1 => far (fun q => c1 q.1))
  refine zb_eq ((j : Int) - l - 1) 0 (fun c2 => ?_) (fun c2 => far (fun q => c2 q.2))
  unfold dSg at h
  rw [if_pos ⟨c1, c2⟩] at h
  generalize stx (db D i) (db D j) = a at *
  generalize stx (db D k) (db D l) = c at *
  have fin : ∀ lo hi : Int, 0 ≤ lo → lo ≤ 3 → 0 ≤ hi → hi ≤ 3 → post (zI (stk (de D) lo hi)) → wX_single_72 post (zI lo) (zI hi) fL fC fF fT fI fJ fK aB aK aT aP aM aG aA aO aS aQ aR aW := by
    intro lo hi l1 l2 g1 g2 hp
    unfold stk at hp
    unfold wX_single_72
    refine zb_eq lo 0 (fun d => ?_) (fun d => ?_)
    · rw [if_pos d] at hp
      refine ⟨zb_in hi 17, ?_⟩
      rw [zb_tz rfl g1 (by omega), hT _ (by omega)]
      exact hp
    · rw [if_neg d] at hp
      refine zb_eq lo 1 (fun d => ?_) (fun d => ?_)
      · rw [if_pos d] at hp
        have e : (2 : Int32) + zI hi = zI (2 + hi) := by rw [show (2 : Int32) = zI 2 from by decide, zI_add]
        refine ⟨zb_in (2 + hi) 17 (hx := e), ?_⟩
        rw [zb_tz e (by omega) (by omega), hT _ (by omega)]
        exact hp
      · rw [if_neg d] at hp
        rw [hT 5 (by omega)]
        exact hp
  unfold dSt at h
  refine zb_le c a (fun d => ?_) (fun d => ?_)
  · rw [if_pos d] at h
    unfold wX_single_56
    exact zb_le c a (fun _ => fin c a s2.1 s2.2 s1.1 s1.2 h) (fun q => by omega)
  · rw [if_neg (by omega)] at h
    unfold wX_single_56
    exact zb_le c a (fun q => by omega) (fun _ => fin a c s1.1 s1.2 s2.1 s2.2 h)
end
end
section
/-! the component's cells: a list of costs each; combine appends the sums -/
def CK (mn : Int32) (gc : Nat → Int32) (ac : Int32) (L : List Int) : Prop := BL L ∧ mn = zI (mnL L) ∧ (∀ g : Nat, g < 8 → gc g = zI ((cn (mnL L + g) L : Nat) : Int)) ∧ ac = zI ((L.length : Nat) : Int)
def TS (aM aG aA : Nat → Int32) (Tab : Nat → List Int) : Prop := ∀ c : Nat, c < 200 → CK (aM c) (fun g => aG (8 * c + g)) (aA c) (Tab c)
def st (Tab : Nat → List Int) (c : Nat) (L : List Int) : Nat → List Int := fun x => if x = c then L else Tab x
theorem st_s (Tab : Nat → List Int) (c : Nat) (L : List Int) : st Tab c L c = L := if_pos rfl
theorem st_n {Tab : Nat → List Int} {c x : Nat} {L : List Int} (h : x ≠ c) : st Tab c L x = Tab x := if_neg h
theorem st_id (Tab : Nat → List Int) (c : Nat) : st Tab c (Tab c) = Tab := by
  funext x
  unfold st
  split
  · rename_i h; rw [h]
  · rfl
theorem st_st (Tab : Nat → List Int) (c : Nat) (L L' : List Int) : st (st Tab c L) c L' = st Tab c L' := by
  funext x
  unfold st
  split <;> rfl
theorem CK_mq {mn : Int32} {gc : Nat → Int32} {ac : Int32} {L L' : List Int} (h : CK mn gc ac L) (q : mq L L') : CK mn gc ac L' :=
  ⟨mq_BL q h.1, by rw [← mq_mn q]; exact h.2.1, fun g hg => by rw [← mq_mn q, ← mq_cn q]; exact h.2.2.1 g hg, by rw [← mq_len q]; exact h.2.2.2⟩
theorem TS_mq {aM aG aA : Nat → Int32} {Tab : Nat → List Int} {c : Nat} {L L' : List Int} (h : TS aM aG aA (st Tab c L)) (q : mq L L') : TS aM aG aA (st Tab c L') := by
  intro x hx
  have := h x hx
  by_cases e : x = c
  · subst e; rw [st_s] at this ⊢; exact CK_mq this q
  · rw [st_n e] at this ⊢; exact this
section
variable {fL fC fF fT fI fJ fK : Int32} {aB aK aT aP aM aG aA aO aS aQ aR aW : Nat → Int32}
theorem c175 {post : SX → Prop} {c : Nat} (hc : c < 200) (off : Nat) (hoff : off < 2000000) {aG0 : Nat → Int32} (K : ∀ aG', (∀ x, (x < 8 * c ∨ 8 * c + 8 ≤ x) → aG' x = aG0 x) → (∀ h : Nat, h < 8 → aG' (8 * c + h) = aG0 (8 * c + h) + (if off ≤ h then aO (h - off) else 0)) → post (fL, fC, fF, fT, fI, fJ, fK, aB, aK, aT, aP, aM, aG', aA, aO, aS, aQ, aR, aW)) :
    ∀ (n g : Nat) (aG : Nat → Int32), 8 - g < n → g ≤ 8 → (∀ x, (x < 8 * c ∨ 8 * c + 8 ≤ x) → aG x = aG0 x) → (∀ h : Nat, h < 8 → aG (8 * c + h) = aG0 (8 * c + h) + (if off ≤ h ∧ h < off + g then aO (h - off) else 0)) → wX_combine_175 post (zI (c : Nat)) (zI (off : Nat)) fL fC fF fT fI fJ fK n (zI (g : Nat)) aB aK aT aP aM aG aA aO aS aQ aR aW := by
  intro n
  induction n with
  | zero => intro g aG h; omega
  | succ n ih =>
    intro g aG h1 h2 i1 i2
    simp only [wX_combine_175]
    refine zb_le 8 ((g : Int) + off) (fun c1 => ?_) (fun c1 => ?_) rfl (zI_add _ _)
    · refine K aG i1 (fun h hh => ?_)
      rw [i2 h hh]
      by_cases q : off ≤ h
      · rw [if_pos q, if_pos ⟨q, by omega⟩]
      · rw [if_neg q, if_neg (fun w => q w.1)]
    · have e1 : (8 : Int32) * zI (c : Nat) + zI (g : Nat) + zI (off : Nat) = zI ((8 * c + (g + off) : Nat) : Int) := by
        rw [show (8 : Int32) = zI 8 from by decide, zI_mul, zI_add, zI_add]
        exact congrArg zI (by omega)
      rw [e1, zcl (by omega), zcl (by omega)]
      refine ⟨zin (by omega) (by omega), zin (by omega) (by omega), zin (by omega) (by omega), fun a ea y ey => ?_⟩
      rw [show y = zI ((g + 1 : Nat) : Int) by rw [ey, zI_1, zI_add]; rfl]
      refine ih (g + 1) a (by omega) (by omega) (fun x hx => ?_) (fun h hh => ?_)
      · rw [ea, pk_un (by omega)]; exact i1 x hx
      · rw [ea]
        by_cases q : h = g + off
        · subst q
          rw [pk_us, i2 (g + off) (by omega), if_neg (by omega), if_pos (by omega), show g + off - off = g by omega, Int32.add_zero]
        · rw [pk_un (by omega), i2 h hh]
          by_cases r : off ≤ h ∧ h < off + g
          · rw [if_pos r, if_pos (by omega)]
          · rw [if_neg r, if_neg (by omega)]
theorem c13 {post : SX → Prop} {c : Nat} (hc : c < 200) {base : Int} (dy : Nat) (hdy : dy < 2000000) {aG0 : Nat → Int32} (K : ∀ aG', (∀ x, (x < 8 * c ∨ 8 * c + 8 ≤ x) → aG' x = aG0 x) → (∀ h : Nat, h < 8 → aG' (8 * c + h) = (if dy ≤ h then aG0 (8 * c + (h - dy)) else 0)) → post (fL, fC, fF, fT, fI, fJ, fK, aB, aK, aT, aP, upd aM c (zI base), aG', aA, aO, aS, aQ, aR, aW)) :
    ∀ (k n : Nat) (aG : Nat → Int32), k < n → k ≤ 8 → (∀ x, (x < 8 * c ∨ 8 * c + 8 ≤ x) → aG x = aG0 x) → (∀ h : Nat, h < 8 → aG (8 * c + h) = if k ≤ h then (if dy ≤ h then aG0 (8 * c + (h - dy)) else 0) else aG0 (8 * c + h)) → 0 < dy → wX_lower_13 post (zI (c : Nat)) (zI base) (zI (dy : Nat)) fL fC fF fT fI fJ fK n (zI ((k : Int) - 1)) aB aK aT aP aM aG aA aO aS aQ aR aW := by
  intro k
  induction k with
  | zero =>
    intro n aG h1 h2 i1 i2 hd
    cases n with
    | zero => omega
    | succ n =>
      simp only [wX_lower_13]
      refine zb_lt (((0 : Nat) : Int) - 1) 0 (fun _ => ⟨zin hc (by omega), fun a ea => ?_⟩) (fun q => by omega)
      rw [ea, zcl (by omega)]
      refine K aG i1 (fun h hh => ?_)
      rw [i2 h hh, if_pos (by omega)]
  | succ k ih =>
    intro n aG h1 h2 i1 i2 hd
    cases n with
    | zero => omega
    | succ n =>
      simp only [wX_lower_13]
      rw [show ((k + 1 : Nat) : Int) - 1 = (k : Nat) by omega]
      have e1 : (8 : Int32) * zI (c : Nat) + zI (k : Nat) = zI ((8 * c + k : Nat) : Int) := by
        rw [show (8 : Int32) = zI 8 from by decide, zI_mul, zI_add]
        exact congrArg zI (by omega)
      have e2 : zI (k : Nat) + (-1) = zI ((k : Int) - 1) := by
        rw [zI_m1, zI_add]; rfl
      have nx : ∀ (a : Nat → Int32) (v : Int32), a = upd aG (8 * c + k) v → v = (if dy ≤ k then aG0 (8 * c + (k - dy)) else 0) → wX_lower_13 post (zI (c : Nat)) (zI base) (zI (dy : Nat)) fL fC fF fT fI fJ fK n (zI ((k : Int) - 1)) aB aK aT aP aM a aA aO aS aQ aR aW := by
        intro a v ea ev
        refine ih n a (by omega) (by omega) (fun x hx => ?_) (fun h hh => ?_) hd
        · rw [ea, pk_un (by omega)]; exact i1 x hx
        · rw [ea]
          by_cases q : h = k
          · subst q; rw [pk_us, if_pos (Nat.le_refl _), ev]
          · rw [pk_un (by omega), i2 h hh]
            by_cases r : k + 1 ≤ h
            · rw [if_pos r, if_pos (show k ≤ h by omega)]
            · rw [if_neg r, if_neg (show ¬ k ≤ h by omega)]
      refine zb_lt (k : Nat) 0 (fun q => by omega) (fun _ => ?_)
      refine zb_lt (k : Nat) (dy : Nat) (fun q => ?_) (fun q => ?_)
      · rw [e1, zcl (by omega), e2]
        refine ⟨zin (by omega) (by omega), fun a ea y ey => ?_⟩
        rw [ey]
        exact nx a _ ea (by rw [if_neg (by omega)])
      · rw [e1, show zI ((8 * c + k : Nat) : Int) - zI (dy : Nat) = zI ((8 * c + (k - dy) : Nat) : Int) by rw [zI_sub]; exact congrArg zI (by omega), zcl (by omega), zcl (by omega), e2]
        refine ⟨zin (by omega) (by omega), zin (by omega) (by omega), fun a ea y ey => ?_⟩
        rw [ey]
        refine nx a _ ea ?_
        rw [if_pos (by omega), i2 (k - dy) (by omega), if_neg (by omega)]
/-- what the end of combine gives -/
theorem CK_add {L S : List Int} {base : Int} (hL : BL L) (hS : BL S) (hb : base = mnL S) (nS : S ≠ []) {mn : Int32} {gc : Nat → Int32} (m : Int) (hm : m = if mnL L ≤ base then mnL L else base) (e1 : mn = zI m) (e2 : ∀ g : Nat, g < 8 → gc g = zI ((cn (m + g) L : Nat) : Int) + (if (base - m).toNat ≤ g then zI ((cn (base + (g - (base - m).toNat : Nat)) S : Nat) : Int) else 0)) {ac : Int32} (e3 : ac = zI ((L.length + S.length : Nat) : Int)) : CK mn gc ac (L ++ S) := by
  have hm2 : m = mnL (L ++ S) := by rw [mnL_app, hm, hb]
  have mb : m ≤ base := by rw [hm]; split <;> omega
  refine ⟨BL_app hL hS, by rw [← hm2]; exact e1, fun g hg => ?_, by rw [List.length_append]; exact e3⟩
  rw [e2 g hg, ← hm2, cn_app]
  by_cases q : (base - m).toNat ≤ g
  · rw [if_pos q, show base + ((g - (base - m).toNat : Nat) : Int) = m + g by omega, zI_add]
    exact congrArg zI (by omega)
  · rw [if_neg q, cn_0 (z := m + g) (L := S) (fun w => by have := mnL_le w; omega), Int32.add_zero]
    rfl
theorem c161 {post : SX → Prop} {c : Nat} (hc : c < 200) {Tab : Nat → List Int} {S : List Int} {base m : Int} (hb : base = mnL S) (hS : BL S) (nS : S ≠ []) (hm : m = if mnL (Tab c) ≤ base then mnL (Tab c) else base) (hL : BL (Tab c))
    (o1 : ∀ x, x < 200 → x ≠ c → CK (aM x) (fun g => aG (8 * x + g)) (aA x) (Tab x)) (o2 : aM c = zI m) (o3 : ∀ g : Nat, g < 8 → aG (8 * c + g) = zI ((cn (m + g) (Tab c) : Nat) : Int)) (o4 : aA c = zI (((Tab c).length + S.length : Nat) : Int)) (o5 : ∀ g : Nat, g < 8 → aO g = zI ((cn (base + g) S : Nat) : Int))
    (K : ∀ aG', TS aM aG' aA (st Tab c (Tab c ++ S)) → post (fL, fC, fF, fT, fI, fJ, fK, aB, aK, aT, aP, aM, aG', aA, aO, aS, aQ, aR, aW)) : wX_combine_161 post (zI (c : Nat)) (zI base) fL fC fF fT fI fJ fK aB aK aT aP aM aG aA aO aS aQ aR aW := by
  have b1 := mnL_i hL
  have b2 := mnL_b hS nS
  rw [← hb] at b2
  have mb : m ≤ base ∧ -100000 ≤ m := by rw [hm]; split <;> omega
  unfold wX_combine_161
  refine ⟨zin hc (by omega), fun x ex => ?_⟩
  have ex : x = zI (((base - m).toNat : Nat) : Int) := by
    rw [ex, zcl (by omega), o2, zI_sub]
    exact congrArg zI (by omega)
  rw [ex]
  refine ⟨9, c175 hc _ (by omega) (aG0 := aG) (fun aG' k1 k2 => ?_) 9 0 aG (by omega) (by omega) (fun _ _ => rfl) (fun h hh => ?_)⟩
  · refine K aG' (fun y hy => ?_)
    by_cases e : y = c
    · subst e
      rw [st_s]
      refine CK_add hL hS hb nS m hm o2 (fun g hg => ?_) o4
      rw [k2 g hg, o3 g hg]
      by_cases q : (base - m).toNat ≤ g
      · rw [if_pos q, if_pos q, o5 _ (by omega)]
      · rw [if_neg q, if_neg q]
    · rw [st_n e]
      have := o1 y hy e
      refine ⟨this.1, this.2.1, fun g hg => ?_, this.2.2.2⟩
      have r := this.2.2.1 g hg
      dsimp only at r ⊢
      rw [k1 _ (by omega), r]
  · rw [if_neg (by omega), Int32.add_zero]
theorem c81 {post : SX → Prop} {J : Int32 → (Nat → Int32) → (Nat → Int32) → (Nat → Int32) → (Nat → Int32) → (Nat → Int32) → (Nat → Int32) → (Nat → Int32) → (Nat → Int32) → (Nat → Int32) → (Nat → Int32) → (Nat → Int32) → (Nat → Int32) → Prop} {c a b g : Nat} (hg : g < 8) (ha : a < 200) (hb : b < 200) {U V : Nat → Nat} {X1 X5 : Int32} (hU : ∀ k : Nat, k < 8 → aG (8 * a + k) = zI ((U k : Nat) : Int)) (hV : ∀ k : Nat, k < 8 → aG (8 * b + k) = zI ((V k : Nat) : Int))
    (K : J (zI ((g + 1 : Nat) : Int)) aB aK aT aP aM aG aA (upd aO g (zI ((sN (fun k => U k * V (g - k)) (g + 1) : Nat) : Int))) aS aQ aR aW) :
    ∀ (d k n : Nat), k + d = g + 1 → d < n → wX_combine_81 post J X1 (zI (a : Nat)) (zI (b : Nat)) X5 (zI (g : Nat)) fL fC fF fT fI fJ fK aB aK aT aP aM aG aA aO aS aQ aR aW n (zI ((sN (fun k => U k * V (g - k)) k : Nat) : Int)) (zI (k : Nat)) := by
  intro d
  induction d with
  | zero =>
    intro k n h1 h2
    cases n with
    | zero => omega
    | succ n =>
      simp only [wX_combine_81]
      refine zb_lt (g : Nat) (k : Nat) (fun _ => ⟨zin hg (by omega), fun x ex y ey => ?_⟩) (fun q => by omega)
      rw [show y = zI ((g + 1 : Nat) : Int) by rw [ey, zI_1, zI_add]; rfl, ex, zcl (by omega), show k = g + 1 by omega]
      exact K
  | succ d ih =>
    intro k n h1 h2
    cases n with
    | zero => omega
    | succ n =>
      simp only [wX_combine_81]
      refine zb_lt (g : Nat) (k : Nat) (fun q => by omega) (fun q => ?_)
      rw [show (8 : Int32) * zI (a : Nat) + zI (k : Nat) = zI ((8 * a + k : Nat) : Int) by rw [show (8 : Int32) = zI 8 from by decide, zI_mul, zI_add]; exact congrArg zI (by omega), show (8 : Int32) * zI (b : Nat) + zI (g : Nat) - zI (k : Nat) = zI ((8 * b + (g - k) : Nat) : Int) by rw [show (8 : Int32) = zI 8 from by decide, zI_mul, zI_add, zI_sub]; exact congrArg zI (by omega), zcl (by omega), zcl (by omega)]
      refine ⟨zin (by omega) (by omega), zin (by omega) (by omega), fun x ex y ey => ?_⟩
      rw [show y = zI ((k + 1 : Nat) : Int) by rw [ey, zI_1, zI_add]; rfl, show x = zI ((sN (fun k => U k * V (g - k)) (k + 1) : Nat) : Int) by
        rw [ex, hU k (by omega), hV (g - k) (by omega), zI_mul, zI_add]
        exact congrArg zI (by simp only [sN]; rw [Int.natCast_add, Int.natCast_mul])]
      exact ih (k + 1) n (by omega) (by omega)
theorem xLower {post : SX → Prop} {c : Nat} (hc : c < 200) {m base : Int} (hm : aM c = zI m) (h1 : base < m) (h2 : m - base < 2000000) (K : ∀ aG', (∀ x, (x < 8 * c ∨ 8 * c + 8 ≤ x) → aG' x = aG x) → (∀ h : Nat, h < 8 → aG' (8 * c + h) = (if (m - base).toNat ≤ h then aG (8 * c + (h - (m - base).toNat)) else 0)) → post (fL, fC, fF, fT, fI, fJ, fK, aB, aK, aT, aP, upd aM c (zI base), aG', aA, aO, aS, aQ, aR, aW)) : wpX_lower post (fL, fC, fF, fT, fI, fJ, fK, aB, aK, aT, aP, aM, aG, aA, aO, aS, aQ, aR, aW) (zI (c : Nat)) (zI base) := by
  simp only [wpX_lower]
  refine ⟨zin hc (by omega), fun x ex => ?_⟩
  have ex : x = zI (((m - base).toNat : Nat) : Int) := by
    rw [ex, zcl (by omega), hm, zI_sub]
    exact congrArg zI (by omega)
  rw [ex]
  exact ⟨9, c13 hc _ (by omega) (aG0 := aG) K 8 9 aG (by omega) (by omega) (fun _ _ => rfl) (fun h hh => by rw [if_neg (by omega)]) (by omega)⟩
theorem c68 {post : SX → Prop} {c a b : Nat} (hc : c < 200) (ha : a < 200) (hb : b < 200) {Tab : Nat → List Int} {S : List Int} {base : Int} (hbs : base = mnL S) (hS : BL S) (nS : S ≠ []) {U V : Nat → Nat} (hU : ∀ k : Nat, k < 8 → aG (8 * a + k) = zI ((U k : Nat) : Int)) (hV : ∀ k : Nat, k < 8 → aG (8 * b + k) = zI ((V k : Nat) : Int)) (hW : ∀ g : Nat, g < 8 → cn (base + g) S = sN (fun k => U k * V (g - k)) (g + 1))
    (hL : BL (Tab c)) (o1 : ∀ x, x < 200 → x ≠ c → CK (aM x) (fun g => aG (8 * x + g)) (aA x) (Tab x)) (o2 : aM c = zI (mnL (Tab c))) (o3 : ∀ g : Nat, g < 8 → aG (8 * c + g) = zI ((cn (mnL (Tab c) + g) (Tab c) : Nat) : Int)) (o4 : aA c = zI (((Tab c).length + S.length : Nat) : Int))
    (K : ∀ aM' aG' aO', TS aM' aG' aA (st Tab c (Tab c ++ S)) → post (fL, fC, fF, fT, fI, fJ, fK, aB, aK, aT, aP, aM', aG', aA, aO', aS, aQ, aR, aW)) :
    ∀ (n g : Nat) (aO : Nat → Int32), 8 - g < n → g ≤ 8 → (∀ x : Nat, x < g → aO x = zI ((cn (base + x) S : Nat) : Int)) → wX_combine_68 post (zI (c : Nat)) (zI (a : Nat)) (zI (b : Nat)) (zI base) fL fC fF fT fI fJ fK n (zI (g : Nat)) aB aK aT aP aM aG aA aO aS aQ aR aW := by
  have b1 := mnL_i hL
  have b2 := mnL_b hS nS
  rw [← hbs] at b2
  intro n
  induction n with
  | zero => intro g aO h; omega
  | succ n ih =>
    intro g aO h1 h2 i1
    simp only [wX_combine_68]
    refine zb_le 8 (g : Nat) (fun q => ?_) (fun q => ?_)
    · refine ⟨zin hc (by omega), ?_⟩
      rw [zcl (by omega)]
      refine zb_le (mnL (Tab c)) base (fun r => ?_) (fun r => ?_) o2 rfl
      · exact c161 hc hbs hS nS (m := mnL (Tab c)) (by rw [if_pos r]) hL o1 o2 o3 o4 (fun x hx => i1 x (by omega)) (fun aG' t => K aM aG' aO t)
      · refine xLower hc o2 r (by omega) (fun aG' k1 k2 => ?_)
        refine c161 (aM := upd aM c (zI base)) (aG := aG') hc hbs hS nS (m := base) (by rw [if_neg (by omega)]) hL (fun x h1 h2 => ?_) pk_us (fun h hh => ?_) o4 (fun x hx => i1 x (by omega)) (fun aG'' t => K _ aG'' aO t)
        · have z := o1 x h1 h2
          rw [pk_un h2]
          refine ⟨z.1, z.2.1, fun g hg => ?_, z.2.2.2⟩
          have y := z.2.2.1 g hg
          dsimp only at y ⊢
          rw [k1 _ (by omega)]
          exact y
        · rw [k2 h hh]
          by_cases w : (mnL (Tab c) - base).toNat ≤ h
          · rw [if_pos w, o3 _ (by omega), show mnL (Tab c) + ((h - (mnL (Tab c) - base).toNat : Nat) : Int) = base + h by omega]
          · rw [if_neg w, cn_0 (fun y => by have := mnL_le y; omega)]
            rfl
    · refine ⟨g + 2, ?_⟩
      refine c81 (U := U) (V := V) (g := g) (c := c) (by omega) ha hb hU hV ?_ (g + 1) 0 (g + 2) (by omega) (by omega)
      refine ih (g + 1) _ (by omega) (by omega) (fun x hx => ?_)
      by_cases e : x = g
      · subst e; rw [pk_us, hW x (by omega)]
      · rw [pk_un e]; exact i1 x (by omega)
theorem TS_at {aM aG aA : Nat → Int32} {Tab : Nat → List Int} (h : TS aM aG aA Tab) {c : Nat} (hc : c < 200) : aM c = zI (mnL (Tab c)) ∧ BL (Tab c) := ⟨(h c hc).2.1, (h c hc).1⟩
theorem xCombine {post : SX → Prop} {Tab : Nat → List Int} (hT : TS aM aG aA Tab) {c a b : Nat} (hc : c < 200) (ha : a < 200) (hb : b < 200) {e : Int} (he1 : -100000 ≤ e) (he2 : e ≤ 100000) (hS : BL (sm e (Tab a) (Tab b))) {P0 P1 P2 P3 : Int32} (h0 : P0 = zI (c : Nat)) (h1 : P1 = zI e) (h2 : P2 = zI (a : Nat)) (h3 : P3 = zI (b : Nat)) (K : ∀ aM' aG' aA' aO', TS aM' aG' aA' (st Tab c (Tab c ++ sm e (Tab a) (Tab b))) → post (fL, fC, fF, fT, fI, fJ, fK, aB, aK, aT, aP, aM', aG', aA', aO', aS, aQ, aR, aW)) : wpX_combine post (fL, fC, fF, fT, fI, fJ, fK, aB, aK, aT, aP, aM, aG, aA, aO, aS, aQ, aR, aW) P0 P1 P2 P3 := by
  subst h0 h1 h2 h3
  obtain ⟨a1, a2⟩ := TS_at hT ha
  obtain ⟨b1, b2⟩ := TS_at hT hb
  have ai := mnL_i a2
  have bi := mnL_i b2
  have none : sm e (Tab a) (Tab b) = [] → post (fL, fC, fF, fT, fI, fJ, fK, aB, aK, aT, aP, aM, aG, aA, aO, aS, aQ, aR, aW) := by
    intro z
    have := K aM aG aA aO (by rw [z, List.append_nil, st_id]; exact hT)
    exact this
  simp only [wpX_combine]
  refine ⟨zin ha (by omega), ?_⟩
  rw [zcl (k := a) (by omega), zcl (k := b) (by omega), zcl (k := c) (by omega)]
  refine zb_le 1048576 (mnL (Tab a)) (fun q => none (by rw [(mnL_nil a2).mp q]; rfl)) (fun q => ⟨zin hb (by omega), ?_⟩) rfl a1
  refine zb_lt (mnL (Tab b)) 1048576 (fun r => ?_) (fun r => none (by rw [(mnL_nil b2).mp r, sm_nr])) b1 rfl
  refine ⟨zin hc (by omega), zin ha (by omega), zin hb (by omega), zin hc (by omega), fun x ex => ⟨zin ha (by omega), zin hb (by omega), fun y ey => ?_⟩⟩
  have na : Tab a ≠ [] := fun w => by have := (mnL_nil a2).mpr w; omega
  have nb : Tab b ≠ [] := fun w => by have := (mnL_nil b2).mpr w; omega
  have mS := mnL_sm (e := e) a2 b2 na nb he2
  have nS : sm e (Tab a) (Tab b) ≠ [] := by
    intro w
    rw [w] at mS
    have ra := mnL_b a2 na
    have rb := mnL_b b2 nb
    have : (1048576 : Int) = e + mnL (Tab a) + mnL (Tab b) := mS
    omega
  rw [show y = zI (e + mnL (Tab a) + mnL (Tab b)) by rw [ey, a1, b1, zI_add, zI_add]]
  have tc := hT c hc
  refine ⟨9, c68 (aA := x) hc ha hb mS.symm hS nS (U := fun k => cn (mnL (Tab a) + k) (Tab a)) (V := fun k => cn (mnL (Tab b) + k) (Tab b)) (fun k hk => (hT a ha).2.2.1 k hk) (fun k hk => (hT b hb).2.2.1 k hk) (fun g hg => cn_cv g _ _ (fun z hz => mnL_le hz) (fun z hz => mnL_le hz)) tc.1 (fun z h1 h2 => ?_) tc.2.1 tc.2.2.1 ?_ (fun aM' aG' aO' t => K aM' aG' x aO' t) 9 0 aO (by omega) (by omega) (fun z hz => by omega)⟩
  · rw [ex, pk_un h2]
    exact hT z h1
  · rw [ex, pk_us, tc.2.2.2, (hT a ha).2.2.2, (hT b hb).2.2.2, zI_mul, zI_add]
    apply congrArg zI
    have : (sm e (Tab a) (Tab b)).length = (Tab a).length * (Tab b).length := by
      unfold sm
      generalize Tab a = A
      induction A with
      | nil => simp
      | cons z A ihA => rw [List.flatMap_cons, List.length_append, ihA, List.length_map, List.length_cons, Nat.add_mul, Nat.one_mul]; omega
    rw [this, Int.natCast_add, Int.natCast_mul]
end
end
section
/-! the component's tables are filled with the lists -/
def pc (i j : Nat) : Nat := i * (27 - i) / 2 + (j - i - 1)
def bc (i j : Nat) : Nat := if i < j then 91 + pc i j else 182
theorem pc_row : ∀ i, i < 14 → i * (27 - i) / 2 + (13 - i) ≤ 91 ∧ ∀ k, k < 14 → i < k → i * (27 - i) / 2 + (13 - i) ≤ k * (27 - k) / 2 := by decide
theorem pc_lt {i j : Nat} (h1 : i < j) (h2 : j < 14) : pc i j < 91 := by
  have := (pc_row i (by omega)).1
  unfold pc
  omega
theorem pc_inj {i j k l : Nat} (h1 : i < j) (h2 : j < 14) (h3 : k < l) (h4 : l < 14) (e : pc i j = pc k l) : i = k ∧ j = l := by
  unfold pc at e
  by_cases q : i = k
  · subst q; omega
  · by_cases r : i < k
    · have := (pc_row i (by omega)).2 k (by omega) r
      omega
    · have := (pc_row k (by omega)).2 i (by omega) (by omega)
      omega
theorem pc_z : ∀ i : Nat, i < 14 → (zI (i : Int) * (27 - zI (i : Int))) / 2 = zI ((i * (27 - i) / 2 : Nat) : Int) := by decide
def TPl (E : rE) (i j : Nat) : List Int := if eA E i j = true then (RQ E i j (i + 1)).map Prod.fst else []
def TBl (E : rE) (i j : Nat) : List Int := (RB E i j).map Prod.fst
def TOl (E : rE) (n i : Nat) : List Int := (RO E n i).map Prod.fst
theorem TPl_t {E : rE} {i j : Nat} (h : eA E i j = true) : TPl E i j = (RQ E i j (i + 1)).map Prod.fst := if_pos h
theorem TPl_f {E : rE} {i j : Nat} (h : ¬ eA E i j = true) : TPl E i j = [] := if_neg h
theorem TPl_e {E : rE} {i j : Nat} : TPl E i j = [] ↔ ¬ eA E i j = true := by
  constructor
  · intro h q
    rw [TPl_t q] at h
    exact RQ_ne E (j - (i + 1)) i j (i + 1) (Nat.le_refl _) (List.map_eq_nil_iff.mp h)
  · exact TPl_f
theorem BL_sub {A B : List Int} (h : ∀ w : Int → Nat, wS w A ≤ wS w B) (hB : BL B) : BL A := fun x hx => by
  have a := cn_pos.mpr hx
  have b := h (fun y => if y = x then 1 else 0)
  exact hB x (cn_pos.mp (Nat.lt_of_lt_of_le a b))
/-- the component's ban of one pair -/
def fz (E : rE) (x y : Int) : rE := (fun i j => eA E i j && !(decide ((i : Int) = x ∧ (j : Int) = y)), E.2)
theorem fz_A (E : rE) (x y : Int) (i j : Nat) : eA (fz E x y) i j = (eA E i j && !(decide ((i : Int) = x ∧ (j : Int) = y))) := rfl
theorem fz_EB {E : rE} {x y : Int} (h : EB E) : EB (fz E x y) := h
theorem fz_no (E : rE) (y : Int) : fz E (-1) y = E := by
  apply Prod.ext
  · funext i j
    show (E.1 i j && !(decide ((i : Int) = -1 ∧ (j : Int) = y))) = E.1 i j
    rw [decide_eq_false (fun q => by omega)]
    simp
  · rfl
theorem fz_fb (E : rE) (i j : Nat) : fz E i j = fb E (i, j) := by
  apply Prod.ext
  · funext k l
    show (eA E k l && !(decide ((k : Int) = i ∧ (l : Int) = j))) = (eA E k l && !(decide ((k, l) = (i, j))))
    congr 2
    apply decide_eq_decide.mpr
    constructor
    · intro q
      exact Prod.ext (by show k = i; omega) (by show l = j; omega)
    · intro q
      have a : k = i := congrArg Prod.fst q
      have b : l = j := congrArg Prod.snd q
      omega
  · rfl
section
variable {fL fC fF fT fI fJ fK : Int32} {aB aK aT aP aM aG aA aO aS aQ aR aW : Nat → Int32}
theorem xPairCell {post : Int32 → Prop} {i j : Nat} {P Q : Int32} (hP : P = zI (i : Nat)) (hQ : Q = zI (j : Nat)) (h1 : i < j) (h2 : j < 14) (h : post (zI ((pc i j : Nat) : Int))) : wpX_pairCell post (fL, fC, fF, fT, fI, fJ, fK, aB, aK, aT, aP, aM, aG, aA, aO, aS, aQ, aR, aW) P Q := by
  simp only [wpX_pairCell]
  refine ⟨by decide, ?_⟩
  rw [hP, hQ, pc_z i (by omega), zI_1, zI_sub, zI_sub, zI_add, show ((i * (27 - i) / 2 : Nat) : Int) + ((j : Int) - i - 1) = ((pc i j : Nat) : Int) by unfold pc; omega]
  exact h
theorem xBranchCell {post : Int32 → Prop} {i j : Nat} {P Q : Int32} (hP : P = zI (i : Nat)) (hQ : Q = zI (j : Nat)) (h1 : i < 15) (h2 : j < 14) (h : post (zI ((bc i j : Nat) : Int))) : wpX_branchCell post (fL, fC, fF, fT, fI, fJ, fK, aB, aK, aT, aP, aM, aG, aA, aO, aS, aQ, aR, aW) P Q := by
  simp only [wpX_branchCell]
  unfold bc at h
  refine zb_lt (i : Nat) (j : Nat) (fun q => ⟨by decide, ?_⟩) (fun q => ?_) hP hQ
  · rw [if_pos (by omega)] at h
    rw [hP, hQ, pc_z i (by omega), zI_1, zI_sub, zI_sub, show (91 : Int32) = zI 91 from by decide, zI_add, zI_add, show (91 : Int) + ((i * (27 - i) / 2 : Nat) : Int) + ((j : Int) - i - 1) = ((91 + pc i j : Nat) : Int) by unfold pc; omega]
    exact h
  · rw [if_neg (by omega)] at h
    exact h
/-- the block of the pair (k, l) inside (i, j) -/
def qB (E : rE) (i j k l : Nat) : List rT := if eA E k l = true then tn (k, l) (RQ E k l (k + 1)) ((RB E (l + 1) (j - 1)).map (sh (mC E i j k l)) ++ [(eS E i j k l, [])]) else []
theorem qB_w {E : rE} {i j k l : Nat} (w : Int → Nat) : wS w ((qB E i j k l).map Prod.fst) = wS w (sm (mC E i j k l) (TPl E k l) (TBl E (l + 1) (j - 1))) + wS w (sm (eS E i j k l) (TPl E k l) [0]) := by
  unfold qB
  by_cases c : eA E k l = true
  · rw [if_pos c, TPl_t c]; exact wS_blk w _ _ _ _ _
  · rw [if_neg c, TPl_f c]; rfl
theorem f82 {D : rD} (hD : XC D fL fC aB aK aT) {x y : Int} {post : SX → Prop} {J : Int32 → Int32 → Int32 → Int32 → Int32 → Int32 → Int32 → Int32 → (Nat → Int32) → (Nat → Int32) → (Nat → Int32) → (Nat → Int32) → (Nat → Int32) → (Nat → Int32) → (Nat → Int32) → (Nat → Int32) → (Nat → Int32) → (Nat → Int32) → (Nat → Int32) → (Nat → Int32) → Prop} {Tab : Nat → List Int} {i j k : Nat} (hik : i < k) (hkj : k + 1 < j) (hj : j < dn D)
    (eu : Tab 198 = [0]) (ee : Tab 182 = []) (t1 : ∀ k l, i < k → k < l → l < j → Tab (pc k l) = TPl (fz (dE D) x y) k l ∧ Tab (91 + pc k l) = TBl (fz (dE D) x y) k l) (F : (Int → Nat) → Nat)
    (HJ : ∀ L aM aG aA aO, TS aM aG aA (st Tab (pc i j) L) → (∀ w, wS w L + wS w ((RQ (fz (dE D) x y) i j (k + 1)).map Prod.fst) = F w) → J (zI ((k + 1 : Nat) : Int)) fL fC fF fT fI fJ fK aB aK aT aP aM aG aA aO aS aQ aR aW) :
    ∀ (n l : Nat) (L : List Int) (aM aG aA aO : Nat → Int32), j - l < n → k < l → l ≤ j → TS aM aG aA (st Tab (pc i j) L) → (∀ w, wS w L + (wS w (((rg l j).flatMap (qB (fz (dE D) x y) i j k)).map Prod.fst) + wS w ((RQ (fz (dE D) x y) i j (k + 1)).map Prod.fst)) = F w) → wX_fillPair_82 post J (zI (i : Nat)) (zI (j : Nat)) (zI ((pc i j : Nat) : Int)) (zI (eN (dE D) i j)) (zI (k : Nat)) n (zI (l : Nat)) fL fC fF fT fI fJ fK aB aK aT aP aM aG aA aO aS aQ aR aW := by
  have hd := hD.2.2.2.2.2
  have hn := hd.2.1
  have hE : EB (fz (dE D) x y) := fz_EB (dE_EB hd)
  have hT := hD.2.2.2.2.1
  intro n
  induction n with
  | zero => intro l L aM aG aA aO h; omega
  | succ n ih =>
    intro l L aM aG aA aO h1 h2 h3 ts iv
    simp only [wX_fillPair_82]
    refine zb_le (j : Nat) (l : Nat) (fun q => ?_) (fun q => ?_)
    · refine nm_r (e' := zI ((k + 1 : Nat) : Int)) (by rw [zI_1, zI_add]; rfl) ?_
      refine HJ L aM aG aA aO ts (fun w => ?_)
      have := iv w
      rw [rg_n (by omega)] at this
      simp only [List.flatMap_nil, List.map_nil, wS] at this
      omega
    · have hl : l < j := by omega
      have iv2 : ∀ w, wS w L + (wS w ((qB (fz (dE D) x y) i j k l).map Prod.fst) + (wS w (((rg (l + 1) j).flatMap (qB (fz (dE D) x y) i j k)).map Prod.fst) + wS w ((RQ (fz (dE D) x y) i j (k + 1)).map Prod.fst))) = F w := by
        intro w
        have := iv w
        rw [rg_c hl, List.flatMap_cons, List.map_append, wS_app] at this
        omega
      have nx : zI (l : Nat) + 1 = zI ((l + 1 : Nat) : Int) := by rw [zI_1, zI_add]; rfl
      have pne : pc k l ≠ pc i j := fun e => by have := pc_inj h2 (by omega) (by omega) (by omega) e; omega
      have pl := pc_lt h2 (show l < 14 by omega)
      have pij := pc_lt (show i < j by omega) (show j < 14 by omega)
      have tkl : st Tab (pc i j) L (pc k l) = TPl (fz (dE D) x y) k l := by rw [st_n pne]; exact (t1 k l hik h2 hl).1
      refine xPairCell rfl rfl h2 (by omega) ⟨zin (by omega) (by omega), ?_⟩
      rw [zcl (by omega)]
      obtain ⟨m1, m2⟩ := TS_at ts (c := pc k l) (by omega)
      rw [tkl] at m1 m2
      have mi := mnL_i m2
      refine zb_lt (mnL (TPl (fz (dE D) x y) k l)) 1048576 (fun r => ?_) (fun r => ?_) m1 rfl
      · -- the block's bounds
        have al : eA (fz (dE D) x y) k l = true := by
          by_cases c : eA (fz (dE D) x y) k l = true
          · exact c
          · rw [TPl_f c] at r
            exact absurd r (by decide)
        have bb : BL ((qB (fz (dE D) x y) i j k l).map Prod.fst) := by
          have := RQ_BL hE (i := i) (k := k) (j := j) hik (by omega) (by omega)
          intro v hv
          apply this v
          rw [RQ_s _ (by omega), List.map_append]
          apply List.mem_append.mpr
          refine Or.inl ?_
          obtain ⟨z, hz, rfl⟩ := List.mem_map.mp hv
          exact List.mem_map_of_mem (List.mem_flatMap.mpr ⟨l, rg_m.mpr ⟨by omega, hl⟩, hz⟩)
        have bS : BL (sm (eS (dE D) i j k l) (TPl (fz (dE D) x y) k l) [0]) := BL_sub (fun w => by have := qB_w (E := fz (dE D) x y) (i := i) (j := j) (k := k) (l := l) w; rw [this]; exact Nat.le_add_left _ _) bb
        have bM : BL (sm (mC (dE D) i j k l) (TPl (fz (dE D) x y) k l) (TBl (fz (dE D) x y) (l + 1) (j - 1))) := BL_sub (fun w => by have := qB_w (E := fz (dE D) x y) (i := i) (j := j) (k := k) (l := l) w; rw [this]; exact Nat.le_add_right _ _) bb
        have cS := (dE_EB hd).2.2.1 i j k l hik h2 hl (by omega)
        have cM := mC_bd (dE_EB hd) (i := i) (j := j) (k := k) (l := l) hik (by omega)
        have eb : st Tab (pc i j) L (bc (l + 1) (j - 1)) = TBl (fz (dE D) x y) (l + 1) (j - 1) := by
          unfold bc
          by_cases c : l + 1 < j - 1
          · rw [if_pos c, st_n (by omega)]
            exact (t1 (l + 1) (j - 1) (by omega) c (by omega)).2
          · rw [if_neg c, st_n (by omega), ee]
            unfold TBl
            rw [RB_e _ c]
            rfl
        have eU : st Tab (pc i j) L 198 = [0] := by rw [st_n (by omega)]; exact eu
        have bcl : bc (l + 1) (j - 1) < 200 ∧ bc (l + 1) (j - 1) ≠ pc i j := by
          unfold bc
          by_cases c : l + 1 < j - 1
          · rw [if_pos c]
            have := pc_lt c (show j - 1 < 14 by omega)
            omega
          · rw [if_neg c]; omega
        refine xSingle hD rfl rfl rfl rfl hik h2 hl (by omega) ?_
        refine xCombine ts (c := pc i j) (a := pc k l) (b := 198) (e := eS (dE D) i j k l) (by omega) (by omega) (by omega) (by omega) (by omega) (by rw [tkl, eU]; exact bS) rfl rfl rfl rfl (fun aM1 aG1 aA1 aO1 ts1 => ?_)
        rw [st_s, st_st, tkl, eU] at ts1
        refine xBranchCell (i := l + 1) (j := j - 1) nx (by rw [zI_1, zI_sub]; exact congrArg zI (by omega)) (by omega) (by omega) ?_
        refine xEnd hD rfl rfl (by omega) (by omega) ?_
        have e2 : st Tab (pc i j) (L ++ sm (eS (dE D) i j k l) (TPl (fz (dE D) x y) k l) [0]) (pc k l) = TPl (fz (dE D) x y) k l := by rw [st_n pne]; rw [st_n pne] at tkl; exact tkl
        have e3 : st Tab (pc i j) (L ++ sm (eS (dE D) i j k l) (TPl (fz (dE D) x y) k l) [0]) (bc (l + 1) (j - 1)) = TBl (fz (dE D) x y) (l + 1) (j - 1) := by rw [st_n bcl.2]; rw [st_n bcl.2] at eb; exact eb
        refine xCombine ts1 (c := pc i j) (a := pc k l) (b := bc (l + 1) (j - 1)) (e := mC (dE D) i j k l) (by omega) (by omega) bcl.1 (by omega) (by omega) (by rw [e2, e3]; exact bM) rfl ?_ rfl rfl (fun aM2 aG2 aA2 aO2 ts2 => ?_)
        · dsimp only
          rw [hT 13 (by omega), hT 14 (by omega), hT 15 (by omega), zI_1, zI_sub, zI_sub, show (2 : Int32) = zI 2 from by decide, zI_mul, zI_mul, zI_add, zI_add, zI_add, zI_add]
          rfl
        · rw [st_s, st_st, e2, e3] at ts2
          refine nm_r nx ?_
          refine ih (l + 1) _ aM2 aG2 aA2 aO2 (by omega) (by omega) (by omega) ts2 (fun w => ?_)
          have a := iv2 w
          have b := qB_w (E := fz (dE D) x y) (i := i) (j := j) (k := k) (l := l) w
          rw [wS_app, wS_app]
          have c : wS w (sm (mC (fz (dE D) x y) i j k l) (TPl (fz (dE D) x y) k l) (TBl (fz (dE D) x y) (l + 1) (j - 1))) = wS w (sm (mC (dE D) i j k l) (TPl (fz (dE D) x y) k l) (TBl (fz (dE D) x y) (l + 1) (j - 1))) := rfl
          have d : wS w (sm (eS (fz (dE D) x y) i j k l) (TPl (fz (dE D) x y) k l) [0]) = wS w (sm (eS (dE D) i j k l) (TPl (fz (dE D) x y) k l) [0]) := rfl
          omega
      · refine nm_r nx ?_
        refine ih (l + 1) L aM aG aA aO (by omega) (by omega) (by omega) ts (fun w => ?_)
        have a := iv2 w
        have b := qB_w (E := fz (dE D) x y) (i := i) (j := j) (k := k) (l := l) w
        rw [(mnL_nil m2).mp r, sm_n, sm_n] at b
        simp only [wS] at b
        omega
theorem f68 {D : rD} (hD : XC D fL fC aB aK aT) {x y : Int} {post : SX → Prop} {Tab : Nat → List Int} {i j : Nat} (hj : j < dn D)
    (eu : Tab 198 = [0]) (ee : Tab 182 = []) (t1 : ∀ k l, i < k → k < l → l < j → Tab (pc k l) = TPl (fz (dE D) x y) k l ∧ Tab (91 + pc k l) = TBl (fz (dE D) x y) k l) (F : (Int → Nat) → Nat)
    (HP : ∀ L aM aG aA aO, TS aM aG aA (st Tab (pc i j) L) → (∀ w, wS w L + wS w [eH (dE D) i j] = F w) → post (fL, fC, fF, fT, fI, fJ, fK, aB, aK, aT, aP, aM, aG, aA, aO, aS, aQ, aR, aW)) :
    ∀ (n k : Nat) (L : List Int) (aM aG aA aO : Nat → Int32), j - k < n → i < k → k ≤ j → TS aM aG aA (st Tab (pc i j) L) → (∀ w, wS w L + wS w ((RQ (fz (dE D) x y) i j k).map Prod.fst) = F w) → wX_fillPair_68 post (zI (i : Nat)) (zI (j : Nat)) (zI ((pc i j : Nat) : Int)) (zI (eN (dE D) i j)) n (zI (k : Nat)) fL fC fF fT fI fJ fK aB aK aT aP aM aG aA aO aS aQ aR aW := by
  have hn := hD.2.2.2.2.2.2.1
  intro n
  induction n with
  | zero => intro k L aM aG aA aO h; omega
  | succ n ih =>
    intro k L aM aG aA aO h1 h2 h3 ts iv
    simp only [wX_fillPair_68]
    refine zb_le ((j : Int) - 1) (k : Nat) (fun q => ?_) (fun q => ?_) (by rw [zI_1, zI_sub]) rfl
    · refine HP L aM aG aA aO ts (fun w => ?_)
      have := iv w
      rw [RQ_e _ (by omega)] at this
      exact this
    · refine nm_r (e' := zI ((k + 1 : Nat) : Int)) (by rw [zI_1, zI_add]; rfl) ?_
      refine ⟨j + 1, f82 hD h2 (by omega) hj eu ee t1 F (fun L aM aG aA aO ts iv => ih (k + 1) L aM aG aA aO (by omega) (by omega) (by omega) ts iv) (j + 1) (k + 1) L aM aG aA aO (by omega) (by omega) (by omega) ts (fun w => ?_)⟩
      have := iv w
      rw [RQ_s _ (by omega), List.map_append, wS_app] at this
      exact this
theorem xFillPair {D : rD} (hD : XC D fL fC aB aK aT) {x y : Int} (hI : fI = zI x) (hJ : fJ = zI y) (x1 : -1 ≤ x) (x2 : x < 14) (y1 : -1 ≤ y) (y2 : y < 14) {post : SX → Prop} {Tab : Nat → List Int} {i j : Nat} {P Q : Int32} (hP : P = zI (i : Nat)) (hQ : Q = zI (j : Nat)) (hij : i < j) (hj : j < dn D) (ts : TS aM aG aA Tab)
    (e0 : Tab (pc i j) = []) (eu : Tab 198 = [0]) (ee : Tab 182 = []) (t1 : ∀ k l, i < k → k < l → l < j → Tab (pc k l) = TPl (fz (dE D) x y) k l ∧ Tab (91 + pc k l) = TBl (fz (dE D) x y) k l)
    (K : ∀ aM aG aA aO, TS aM aG aA (st Tab (pc i j) (TPl (fz (dE D) x y) i j)) → post (fL, fC, fF, fT, fI, fJ, fK, aB, aK, aT, aP, aM, aG, aA, aO, aS, aQ, aR, aW)) : wpX_fillPair post (fL, fC, fF, fT, fI, fJ, fK, aB, aK, aT, aP, aM, aG, aA, aO, aS, aQ, aR, aW) P Q := by
  have hd := hD.2.2.2.2.2
  have hn := hd.2.1
  have hE : EB (fz (dE D) x y) := fz_EB (dE_EB hd)
  subst hP hQ
  have pij := pc_lt hij (show j < 14 by omega)
  have skip : ¬ eA (fz (dE D) x y) i j = true → post (fL, fC, fF, fT, fI, fJ, fK, aB, aK, aT, aP, aM, aG, aA, aO, aS, aQ, aR, aW) := fun c => K aM aG aA aO (by rw [TPl_f c, ← e0, st_id]; exact ts)
  have go : eA (fz (dE D) x y) i j = true → wX_fillPair_27 post (zI (i : Nat)) (zI (j : Nat)) fL fC fF fT fI fJ fK aB aK aT aP aM aG aA aO aS aQ aR aW := by
    intro c
    unfold wX_fillPair_27
    refine xPairCell rfl rfl hij (by omega) ?_
    refine xEnd hD rfl rfl (by omega) (by omega) ?_
    refine xHair hD rfl rfl (by omega) (by omega) ?_
    have hb := (dE_EB hd).2.1 i j hij (by omega)
    have es : sm (eH (dE D) i j) (Tab 198) (Tab 198) = [eH (dE D) i j] := by
      rw [eu]
      show [eH (dE D) i j + 0 + 0] = _
      simp
    refine xCombine ts (c := pc i j) (a := 198) (b := 198) (e := eH (dE D) i j) (by omega) (by omega) (by omega) (by omega) (by omega) (by rw [es]; intro v hv; rw [List.mem_singleton] at hv; omega) rfl rfl rfl rfl (fun aM1 aG1 aA1 aO1 ts1 => ?_)
    rw [es, e0, List.nil_append] at ts1
    refine nm_r (e' := zI ((i + 1 : Nat) : Int)) (by rw [zI_1, zI_add]; rfl) ?_
    refine ⟨j + 1, f68 hD hj eu ee t1 (fun w => wS w [eH (dE D) i j] + wS w (TPl (fz (dE D) x y) i j)) (fun L aM aG aA aO ts iv => K aM aG aA aO (TS_mq ts (fun w => by have := iv w; omega))) (j + 1) (i + 1) [eH (dE D) i j] aM1 aG1 aA1 aO1 (by omega) (by omega) (by omega) ts1 (fun w => by rw [TPl_t c])⟩
  simp only [wpX_fillPair]
  refine xPairable hD rfl rfl hij hj (fun c => ?_) (fun c => br_t rfl (skip (by rw [fz_A, c]; simp)))
  refine br_f (by decide) ?_
  refine zb_eq (i : Nat) x (fun q => ?_) (fun q => go (by rw [fz_A, c, decide_eq_false (fun w => q w.1)]; rfl)) rfl hI
  refine zb_eq (j : Nat) y (fun r => ?_) (fun r => go (by rw [fz_A, c, decide_eq_false (fun w => r w.2)]; rfl)) rfl hJ
  exact skip (by rw [fz_A, decide_eq_true ⟨q, r⟩]; simp)
/-- the block of the pair (k, l) in the region k .. j -/
def bB (E : rE) (j k l : Nat) : List rT := if eA E k l = true then tn (k, l) (RQ E k l (k + 1)) ((RB E (l + 1) j).map (sh (e14 E + eN E k l)) ++ [(e14 E + eN E k l + e15 E * ((j : Int) - l), [])]) else []
theorem bB_w {E : rE} {j k l : Nat} (w : Int → Nat) : wS w ((bB E j k l).map Prod.fst) = wS w (sm (e14 E + eN E k l) (TPl E k l) (TBl E (l + 1) j)) + wS w (sm (e14 E + eN E k l + e15 E * ((j : Int) - l)) (TPl E k l) [0]) := by
  unfold bB
  by_cases c : eA E k l = true
  · rw [if_pos c, TPl_t c]; exact wS_blk w _ _ _ _ _
  · rw [if_neg c, TPl_f c]; rfl
theorem f39 {D : rD} (hD : XC D fL fC aB aK aT) {x y : Int} {post : SX → Prop} {Tab : Nat → List Int} {i j : Nat} (hij : i < j) (hj : j < dn D)
    (eu : Tab 198 = [0]) (ee : Tab 182 = []) (t1 : ∀ l, i < l → l ≤ j → Tab (pc i l) = TPl (fz (dE D) x y) i l) (t2 : ∀ k, i < k → k < j → Tab (91 + pc k j) = TBl (fz (dE D) x y) k j) (F : (Int → Nat) → Nat)
    (HP : ∀ L aM aG aA aO, TS aM aG aA (st Tab (91 + pc i j) L) → (∀ w, wS w L = F w) → post (fL, fC, fF, fT, fI, fJ, fK, aB, aK, aT, aP, aM, aG, aA, aO, aS, aQ, aR, aW)) :
    ∀ (n l : Nat) (L : List Int) (aM aG aA aO : Nat → Int32), j + 1 - l < n → i < l → l ≤ j + 1 → TS aM aG aA (st Tab (91 + pc i j) L) → (∀ w, wS w L + wS w (((rg l (j + 1)).flatMap (bB (fz (dE D) x y) j i)).map Prod.fst) = F w) → wX_fillBranches_39 post (zI (i : Nat)) (zI (j : Nat)) (zI ((91 + pc i j : Nat) : Int)) n (zI (l : Nat)) fL fC fF fT fI fJ fK aB aK aT aP aM aG aA aO aS aQ aR aW := by
  have hd := hD.2.2.2.2.2
  have hn := hd.2.1
  have hE : EB (fz (dE D) x y) := fz_EB (dE_EB hd)
  have hT := hD.2.2.2.2.1
  have pij := pc_lt hij (show j < 14 by omega)
  intro n
  induction n with
  | zero => intro l L aM aG aA aO h; omega
  | succ n ih =>
    intro l L aM aG aA aO h1 h2 h3 ts iv
    simp only [wX_fillBranches_39]
    refine zb_lt (j : Nat) (l : Nat) (fun q => ?_) (fun q => ?_)
    · refine HP L aM aG aA aO ts (fun w => ?_)
      have := iv w
      rw [rg_n (by omega)] at this
      simp only [List.flatMap_nil, List.map_nil, wS] at this
      omega
    · have hl : l ≤ j := by omega
      have iv2 : ∀ w, wS w L + (wS w ((bB (fz (dE D) x y) j i l).map Prod.fst) + wS w (((rg (l + 1) (j + 1)).flatMap (bB (fz (dE D) x y) j i)).map Prod.fst)) = F w := by
        intro w
        have := iv w
        rw [rg_c (by omega), List.flatMap_cons, List.map_append, wS_app] at this
        omega
      have nx : zI (l : Nat) + 1 = zI ((l + 1 : Nat) : Int) := by rw [zI_1, zI_add]; rfl
      have pl := pc_lt h2 (show l < 14 by omega)
      have tkl : ∀ M, st Tab (91 + pc i j) M (pc i l) = TPl (fz (dE D) x y) i l := fun M => by rw [st_n (by omega)]; exact t1 l h2 hl
      refine xPairCell rfl rfl h2 (by omega) ⟨zin (by omega) (by omega), ?_⟩
      rw [zcl (by omega)]
      obtain ⟨m1, m2⟩ := TS_at ts (c := pc i l) (by omega)
      rw [tkl] at m1 m2
      have mi := mnL_i m2
      refine zb_lt (mnL (TPl (fz (dE D) x y) i l)) 1048576 (fun r => ?_) (fun r => ?_) m1 rfl
      · have bb : BL ((bB (fz (dE D) x y) j i l).map Prod.fst) := by
          have := RB_BL hE (k := i) (j := j) (by omega)
          intro v hv
          apply this v
          rw [RB_s _ hij, List.map_append]
          apply List.mem_append.mpr
          refine Or.inl ?_
          obtain ⟨z, hz, rfl⟩ := List.mem_map.mp hv
          exact List.mem_map_of_mem (List.mem_flatMap.mpr ⟨l, rg_m.mpr ⟨by omega, by omega⟩, hz⟩)
        have bS : BL (sm (e14 (dE D) + eN (dE D) i l + e15 (dE D) * ((j : Int) - l)) (TPl (fz (dE D) x y) i l) [0]) := BL_sub (fun w => by have := bB_w (E := fz (dE D) x y) (j := j) (k := i) (l := l) w; rw [this]; exact Nat.le_add_left _ _) bb
        have bM : BL (sm (e14 (dE D) + eN (dE D) i l) (TPl (fz (dE D) x y) i l) (TBl (fz (dE D) x y) (l + 1) j)) := BL_sub (fun w => by have := bB_w (E := fz (dE D) x y) (j := j) (k := i) (l := l) w; rw [this]; exact Nat.le_add_right _ _) bb
        obtain ⟨g1, -, -, -, g5, g6⟩ := dE_EB hd
        have g1 := g1 i l
        have g7 := mul_bd g6.1 g6.2 (x := (j : Int) - l) (by omega) (by omega)
        have bcl : bc (l + 1) j < 200 ∧ bc (l + 1) j ≠ 91 + pc i j := by
          unfold bc
          by_cases c : l + 1 < j
          · rw [if_pos c]
            have := pc_lt c (show j < 14 by omega)
            refine ⟨by omega, fun e => ?_⟩
            have := pc_inj c (by omega) hij (by omega) (by omega : pc (l + 1) j = pc i j)
            omega
          · rw [if_neg c]; omega
        have eb : ∀ M, st Tab (91 + pc i j) M (bc (l + 1) j) = TBl (fz (dE D) x y) (l + 1) j := by
          intro M
          rw [st_n bcl.2]
          unfold bc
          by_cases c : l + 1 < j
          · rw [if_pos c]
            exact t2 (l + 1) (by omega) c
          · rw [if_neg c, ee]
            unfold TBl
            rw [RB_e _ c]
            rfl
        have eU : ∀ M, st Tab (91 + pc i j) M 198 = [0] := fun M => by rw [st_n (by omega)]; exact eu
        refine xEnd hD rfl rfl (by omega) (by omega) ?_
        refine nm_r (e' := zI (e14 (dE D) + eN (dE D) i l)) (by rw [hT 14 (by omega), zI_add]; rfl) ?_
        refine xCombine ts (c := 91 + pc i j) (a := pc i l) (b := 198) (e := e14 (dE D) + eN (dE D) i l + e15 (dE D) * ((j : Int) - l)) (by omega) (by omega) (by omega) (by omega) (by omega) (by rw [tkl, eU]; exact bS) rfl (by rw [hT 15 (by omega), zI_sub, zI_mul, zI_add]; rfl) rfl rfl (fun aM1 aG1 aA1 aO1 ts1 => ?_)
        rw [st_s, st_st, tkl, eU] at ts1
        refine xBranchCell (i := l + 1) (j := j) nx rfl (by omega) (by omega) ?_
        refine xCombine ts1 (c := 91 + pc i j) (a := pc i l) (b := bc (l + 1) j) (e := e14 (dE D) + eN (dE D) i l) (by omega) (by omega) bcl.1 (by omega) (by omega) (by rw [tkl, eb]; exact bM) rfl rfl rfl rfl (fun aM2 aG2 aA2 aO2 ts2 => ?_)
        rw [st_s, st_st, tkl, eb] at ts2
        refine nm_r nx ?_
        refine ih (l + 1) _ aM2 aG2 aA2 aO2 (by omega) (by omega) (by omega) ts2 (fun w => ?_)
        have a := iv2 w
        have b : wS w ((bB (fz (dE D) x y) j i l).map Prod.fst) = wS w (sm (e14 (dE D) + eN (dE D) i l) (TPl (fz (dE D) x y) i l) (TBl (fz (dE D) x y) (l + 1) j)) + wS w (sm (e14 (dE D) + eN (dE D) i l + e15 (dE D) * ((j : Int) - l)) (TPl (fz (dE D) x y) i l) [0]) := bB_w w
        rw [wS_app, wS_app]
        omega
      · refine nm_r nx ?_
        refine ih (l + 1) L aM aG aA aO (by omega) (by omega) (by omega) ts (fun w => ?_)
        have a := iv2 w
        have b := bB_w (E := fz (dE D) x y) (j := j) (k := i) (l := l) w
        rw [(mnL_nil m2).mp r, sm_n, sm_n] at b
        simp only [wS] at b
        omega
theorem xFillBranches {D : rD} (hD : XC D fL fC aB aK aT) {x y : Int} {post : SX → Prop} {Tab : Nat → List Int} {i j : Nat} {P Q : Int32} (hP : P = zI (i : Nat)) (hQ : Q = zI (j : Nat)) (hij : i < j) (hj : j < dn D) (ts : TS aM aG aA Tab)
    (e0 : Tab (91 + pc i j) = []) (eu : Tab 198 = [0]) (ee : Tab 182 = []) (t1 : ∀ l, i < l → l ≤ j → Tab (pc i l) = TPl (fz (dE D) x y) i l) (t2 : ∀ k, i < k → k < j → Tab (91 + pc k j) = TBl (fz (dE D) x y) k j)
    (K : ∀ aM aG aA aO, TS aM aG aA (st Tab (91 + pc i j) (TBl (fz (dE D) x y) i j)) → post (fL, fC, fF, fT, fI, fJ, fK, aB, aK, aT, aP, aM, aG, aA, aO, aS, aQ, aR, aW)) : wpX_fillBranches post (fL, fC, fF, fT, fI, fJ, fK, aB, aK, aT, aP, aM, aG, aA, aO, aS, aQ, aR, aW) P Q := by
  have hd := hD.2.2.2.2.2
  have hn := hd.2.1
  have hE : EB (fz (dE D) x y) := fz_EB (dE_EB hd)
  have hT := hD.2.2.2.2.1
  subst hP hQ
  have pij := pc_lt hij (show j < 14 by omega)
  have eb : Tab (bc (i + 1) j) = TBl (fz (dE D) x y) (i + 1) j := by
    unfold bc
    by_cases c : i + 1 < j
    · rw [if_pos c]
      exact t2 (i + 1) (by omega) c
    · rw [if_neg c, ee]
      unfold TBl
      rw [RB_e _ c]
      rfl
  have bcl : bc (i + 1) j < 200 := by
    unfold bc
    by_cases c : i + 1 < j
    · rw [if_pos c]
      have := pc_lt c (show j < 14 by omega)
      omega
    · rw [if_neg c]; omega
  have full : ∀ w, wS w (TBl (fz (dE D) x y) i j) = wS w (((rg (i + 1) (j + 1)).flatMap (bB (fz (dE D) x y) j i)).map Prod.fst) + wS w (sm (e15 (dE D)) (TBl (fz (dE D) x y) (i + 1) j) [0]) := by
    intro w
    have e : TBl (fz (dE D) x y) i j = (((rg (i + 1) (j + 1)).flatMap (bB (fz (dE D) x y) j i)) ++ (RB (fz (dE D) x y) (i + 1) j).map (sh (e15 (fz (dE D) x y)))).map Prod.fst := by
      unfold TBl
      rw [RB_s _ hij]
      rfl
    rw [e, List.map_append, wS_app, wS_sh]
    rfl
  have bs : BL (sm (e15 (dE D)) (TBl (fz (dE D) x y) (i + 1) j) [0]) := BL_sub (B := TBl (fz (dE D) x y) i j) (fun w => by rw [full w]; exact Nat.le_add_left _ _) (RB_BL hE (k := i) (j := j) (by omega))
  obtain ⟨-, -, -, -, -, g6⟩ := dE_EB hd
  have nx : zI (i : Nat) + 1 = zI ((i + 1 : Nat) : Int) := by rw [zI_1, zI_add]; rfl
  simp only [wpX_fillBranches]
  refine xBranchCell rfl rfl (by omega) (by omega) ?_
  refine xBranchCell nx rfl (by omega) (by omega) ?_
  rw [show bc i j = 91 + pc i j from if_pos hij]
  refine xCombine ts (c := 91 + pc i j) (a := bc (i + 1) j) (b := 198) (e := e15 (dE D)) (by omega) bcl (by omega) (by omega) (by omega) (by rw [eb, eu]; exact bs) rfl (hT 15 (by omega)) rfl rfl (fun aM1 aG1 aA1 aO1 ts1 => ?_)
  rw [e0, eb, eu, List.nil_append] at ts1
  refine nm_r nx ?_
  refine ⟨j + 2, f39 hD hij hj eu ee t1 t2 (fun w => wS w (TBl (fz (dE D) x y) i j)) (fun L aM aG aA aO ts iv => K aM aG aA aO (TS_mq ts iv)) (j + 2) (i + 1) _ aM1 aG1 aA1 aO1 (by omega) (by omega) (by omega) ts1 (fun w => ?_)⟩
  rw [full w]
  omega
/-- the block of the pair (i, l) outside -/
def oB (E : rE) (n i l : Nat) : List rT := if eA E i l = true then tn (i, l) (RQ E i l (i + 1)) ((RO E n (l + 1)).map (sh (eN E i l))) else []
theorem oB_w {E : rE} {n i l : Nat} (w : Int → Nat) : wS w ((oB E n i l).map Prod.fst) = wS w (sm (eN E i l) (TPl E i l) (TOl E n (l + 1))) := by
  unfold oB
  by_cases c : eA E i l = true
  · rw [if_pos c, TPl_t c]; exact wS_blo w _ _ _ _
  · rw [if_neg c, TPl_f c]; rfl
theorem f22 {D : rD} (hD : XC D fL fC aB aK aT) {x y : Int} {post : SX → Prop} {Tab : Nat → List Int} {i : Nat} (hi : i < dn D)
    (t1 : ∀ l, i < l → l < dn D → Tab (pc i l) = TPl (fz (dE D) x y) i l) (t2 : ∀ k, i < k → k ≤ dn D → Tab (183 + k) = TOl (fz (dE D) x y) (dn D) k) (F : (Int → Nat) → Nat)
    (HP : ∀ L aM aG aA aO, TS aM aG aA (st Tab (183 + i) L) → (∀ w, wS w L = F w) → post (fL, fC, fF, fT, fI, fJ, fK, aB, aK, aT, aP, aM, aG, aA, aO, aS, aQ, aR, aW)) :
    ∀ (n l : Nat) (L : List Int) (aM aG aA aO : Nat → Int32), dn D - l < n → i < l → l ≤ dn D → TS aM aG aA (st Tab (183 + i) L) → (∀ w, wS w L + wS w (((rg l (dn D)).flatMap (oB (fz (dE D) x y) (dn D) i)).map Prod.fst) = F w) → wX_fillOuter_22 post (zI (i : Nat)) (zI ((183 + i : Nat) : Int)) n (zI (l : Nat)) fL fC fF fT fI fJ fK aB aK aT aP aM aG aA aO aS aQ aR aW := by
  have hd := hD.2.2.2.2.2
  have hn := hd.2.1
  have hE : EB (fz (dE D) x y) := fz_EB (dE_EB hd)
  intro n
  induction n with
  | zero => intro l L aM aG aA aO h; omega
  | succ n ih =>
    intro l L aM aG aA aO h1 h2 h3 ts iv
    simp only [wX_fillOuter_22]
    refine zb_le (dn D : Nat) (l : Nat) (fun q => ?_) (fun q => ?_) hD.2.1 rfl
    · refine HP L aM aG aA aO ts (fun w => ?_)
      have := iv w
      rw [rg_n (by omega)] at this
      simp only [List.flatMap_nil, List.map_nil, wS] at this
      omega
    · have hl : l < dn D := by omega
      have iv2 : ∀ w, wS w L + (wS w ((oB (fz (dE D) x y) (dn D) i l).map Prod.fst) + wS w (((rg (l + 1) (dn D)).flatMap (oB (fz (dE D) x y) (dn D) i)).map Prod.fst)) = F w := by
        intro w
        have := iv w
        rw [rg_c (by omega), List.flatMap_cons, List.map_append, wS_app] at this
        omega
      have nx : zI (l : Nat) + 1 = zI ((l + 1 : Nat) : Int) := by rw [zI_1, zI_add]; rfl
      have pl := pc_lt h2 (show l < 14 by omega)
      have tkl : st Tab (183 + i) L (pc i l) = TPl (fz (dE D) x y) i l := by rw [st_n (by omega)]; exact t1 l h2 hl
      have tol : st Tab (183 + i) L (183 + (l + 1)) = TOl (fz (dE D) x y) (dn D) (l + 1) := by rw [st_n (by omega)]; exact t2 (l + 1) (by omega) (by omega)
      have bb : BL (sm (eN (dE D) i l) (TPl (fz (dE D) x y) i l) (TOl (fz (dE D) x y) (dn D) (l + 1))) := by
        refine BL_sub (B := (oB (fz (dE D) x y) (dn D) i l).map Prod.fst) (fun w => by rw [oB_w]; exact Nat.le_refl _) ?_
        have := RO_BL hE (n := dn D) (i := i) hn (by omega)
        intro v hv
        apply this v
        rw [RO_s _ hi, List.map_append]
        apply List.mem_append.mpr
        refine Or.inl ?_
        obtain ⟨z, hz, rfl⟩ := List.mem_map.mp hv
        exact List.mem_map_of_mem (List.mem_flatMap.mpr ⟨l, rg_m.mpr ⟨by omega, by omega⟩, hz⟩)
      have g1 := (dE_EB hd).1 i l
      refine xPairCell rfl rfl h2 (by omega) ?_
      refine xEnd hD rfl rfl (by omega) (by omega) ?_
      refine xCombine ts (c := 183 + i) (a := pc i l) (b := 183 + (l + 1)) (e := eN (dE D) i l) (by omega) (by omega) (by omega) (by omega) (by omega) (by rw [tkl, tol]; exact bb) rfl rfl rfl (by rw [show (183 : Int32) = zI 183 from by decide, zI_1, zI_add, zI_add]; exact congrArg zI (by omega)) (fun aM1 aG1 aA1 aO1 ts1 => ?_)
      rw [st_s, st_st, tkl, tol] at ts1
      refine nm_r nx ?_
      refine ih (l + 1) _ aM1 aG1 aA1 aO1 (by omega) (by omega) (by omega) ts1 (fun w => ?_)
      have a := iv2 w
      have b : wS w ((oB (fz (dE D) x y) (dn D) i l).map Prod.fst) = wS w (sm (eN (dE D) i l) (TPl (fz (dE D) x y) i l) (TOl (fz (dE D) x y) (dn D) (l + 1))) := oB_w w
      rw [wS_app]
      omega
theorem xFillOuter {D : rD} (hD : XC D fL fC aB aK aT) {x y : Int} {post : SX → Prop} {Tab : Nat → List Int} {i : Nat} {P : Int32} (hP : P = zI (i : Nat)) (hi : i < dn D) (ts : TS aM aG aA Tab)
    (e0 : Tab (183 + i) = []) (eu : Tab 198 = [0]) (t1 : ∀ l, i < l → l < dn D → Tab (pc i l) = TPl (fz (dE D) x y) i l) (t2 : ∀ k, i < k → k ≤ dn D → Tab (183 + k) = TOl (fz (dE D) x y) (dn D) k)
    (K : ∀ aM aG aA aO, TS aM aG aA (st Tab (183 + i) (TOl (fz (dE D) x y) (dn D) i)) → post (fL, fC, fF, fT, fI, fJ, fK, aB, aK, aT, aP, aM, aG, aA, aO, aS, aQ, aR, aW)) : wpX_fillOuter post (fL, fC, fF, fT, fI, fJ, fK, aB, aK, aT, aP, aM, aG, aA, aO, aS, aQ, aR, aW) P := by
  have hd := hD.2.2.2.2.2
  have hn := hd.2.1
  have hE : EB (fz (dE D) x y) := fz_EB (dE_EB hd)
  subst hP
  have full : ∀ w, wS w (TOl (fz (dE D) x y) (dn D) i) = wS w (((rg (i + 1) (dn D)).flatMap (oB (fz (dE D) x y) (dn D) i)).map Prod.fst) + wS w (TOl (fz (dE D) x y) (dn D) (i + 1)) := by
    intro w
    have e : TOl (fz (dE D) x y) (dn D) i = (((rg (i + 1) (dn D)).flatMap (oB (fz (dE D) x y) (dn D) i)) ++ RO (fz (dE D) x y) (dn D) (i + 1)).map Prod.fst := by
      unfold TOl
      rw [RO_s _ hi]
      rfl
    rw [e, List.map_append, wS_app]
    rfl
  have z0 : ∀ w, wS w (sm 0 (TOl (fz (dE D) x y) (dn D) (i + 1)) [0]) = wS w (TOl (fz (dE D) x y) (dn D) (i + 1)) := by
    intro w
    rw [wS_sm]
    apply wS_cg
    intro v _
    show w (0 + v + 0) + 0 = w v
    rw [Int.zero_add, Int.add_zero, Nat.add_zero]
  have bs : BL (sm 0 (TOl (fz (dE D) x y) (dn D) (i + 1)) [0]) := BL_sub (fun w => by rw [z0 w]; exact Nat.le_refl _) (RO_BL hE hn (by omega))
  simp only [wpX_fillOuter]
  refine nm_r (e' := zI ((183 + i : Nat) : Int)) (by rw [show (183 : Int32) = zI 183 from by decide, zI_add]; exact congrArg zI (by omega)) ?_
  have tn := t2 (i + 1) (by omega) (by omega)
  refine xCombine ts (c := 183 + i) (a := 183 + (i + 1)) (b := 198) (e := 0) (by omega) (by omega) (by omega) (by omega) (by omega) (by rw [tn, eu]; exact bs) rfl rfl (by rw [zI_1, zI_add]; exact congrArg zI (by omega)) rfl (fun aM1 aG1 aA1 aO1 ts1 => ?_)
  rw [e0, tn, eu, List.nil_append] at ts1
  refine nm_r (e' := zI ((i + 1 : Nat) : Int)) (by rw [zI_1, zI_add]; rfl) ?_
  refine ⟨dn D + 1, f22 hD hi t1 t2 (fun w => wS w (TOl (fz (dE D) x y) (dn D) i)) (fun L aM aG aA aO ts iv => K aM aG aA aO (TS_mq ts iv)) (dn D + 1) (i + 1) _ aM1 aG1 aA1 aO1 (by omega) (by omega) (by omega) ts1 (fun w => ?_)⟩
  rw [full w, z0 w]
  omega
end
end
section
/-! the whole table -/
def SR (E : rE) (n r : Nat) (Tab : Nat → List Int) : Prop :=
  (∀ k l, k < l → l < n → r ≤ k → Tab (pc k l) = TPl E k l ∧ Tab (91 + pc k l) = TBl E k l) ∧
  (∀ k l, k < l → l < n → k < r → Tab (pc k l) = [] ∧ Tab (91 + pc k l) = []) ∧
  (∀ k, r ≤ k → k ≤ n → Tab (183 + k) = TOl E n k) ∧ (∀ k, k < r → Tab (183 + k) = []) ∧ Tab 198 = [0] ∧ Tab 182 = []
def SG (E : rE) (n i j : Nat) (Tab : Nat → List Int) : Prop :=
  (∀ k l, k < l → l < n → (i < k ∨ (k = i ∧ l < j)) → Tab (pc k l) = TPl E k l ∧ Tab (91 + pc k l) = TBl E k l) ∧
  (∀ k l, k < l → l < n → ¬ (i < k ∨ (k = i ∧ l < j)) → Tab (pc k l) = [] ∧ Tab (91 + pc k l) = []) ∧
  (∀ k, i < k → k ≤ n → Tab (183 + k) = TOl E n k) ∧ (∀ k, k ≤ i → Tab (183 + k) = []) ∧ Tab 198 = [0] ∧ Tab 182 = []
theorem SR_SG {E : rE} {n i : Nat} {Tab : Nat → List Int} (h : SR E n (i + 1) Tab) : SG E n i (i + 1) Tab :=
  ⟨fun k l a b c => h.1 k l a b (by omega), fun k l a b c => h.2.1 k l a b (by omega), fun k a b => h.2.2.1 k (by omega) b, fun k a => h.2.2.2.1 k (by omega), h.2.2.2.2⟩
theorem SG_pair {E : rE} {n i j : Nat} {Tab : Nat → List Int} (hn : n ≤ 14) (hij : i < j) (hj : j < n) (h : SG E n i j Tab) : SG E n i (j + 1) (st (st Tab (pc i j) (TPl E i j)) (91 + pc i j) (TBl E i j)) := by
  have pij := pc_lt hij (show j < 14 by omega)
  have ne : ∀ k l, k < l → l < n → (k ≠ i ∨ l ≠ j) → (st (st Tab (pc i j) (TPl E i j)) (91 + pc i j) (TBl E i j) (pc k l) = Tab (pc k l) ∧ st (st Tab (pc i j) (TPl E i j)) (91 + pc i j) (TBl E i j) (91 + pc k l) = Tab (91 + pc k l)) := by
    intro k l a b c
    have q := pc_lt a (show l < 14 by omega)
    have r : pc k l ≠ pc i j := fun e => by have := pc_inj a (by omega) hij (by omega) e; omega
    constructor
    · rw [st_n (by omega), st_n r]
    · rw [st_n (by omega), st_n (by omega)]
  refine ⟨fun k l a b c => ?_, fun k l a b c => ?_, fun k a b => ?_, fun k a => ?_, ?_, ?_⟩
  · by_cases q : k = i ∧ l = j
    · obtain ⟨rfl, rfl⟩ := q
      constructor
      · rw [st_n (by omega), st_s]
      · rw [st_s]
    · have := ne k l a b (by omega)
      rw [this.1, this.2]
      exact h.1 k l a b (by omega)
  · have := ne k l a b (by omega)
    rw [this.1, this.2]
    exact h.2.1 k l a b (by omega)
  · rw [st_n (by omega), st_n (by omega)]
    exact h.2.2.1 k a b
  · rw [st_n (by omega), st_n (by omega)]
    exact h.2.2.2.1 k a
  · rw [st_n (by omega), st_n (by omega)]
    exact h.2.2.2.2.1
  · rw [st_n (by omega), st_n (by omega)]
    exact h.2.2.2.2.2
theorem SG_out {E : rE} {n i : Nat} {Tab : Nat → List Int} (hn : n ≤ 14) (hi : i < n) (h : SG E n i n Tab) : SR E n i (st Tab (183 + i) (TOl E n i)) := by
  have ne : ∀ k l, k < l → l < n → (st Tab (183 + i) (TOl E n i) (pc k l) = Tab (pc k l) ∧ st Tab (183 + i) (TOl E n i) (91 + pc k l) = Tab (91 + pc k l)) := by
    intro k l a b
    have q := pc_lt a (show l < 14 by omega)
    exact ⟨st_n (by omega), st_n (by omega)⟩
  refine ⟨fun k l a b c => ?_, fun k l a b c => ?_, fun k a b => ?_, fun k a => ?_, ?_, ?_⟩
  · rw [(ne k l a b).1, (ne k l a b).2]
    exact h.1 k l a b (by omega)
  · rw [(ne k l a b).1, (ne k l a b).2]
    exact h.2.1 k l a b (by omega)
  · by_cases q : k = i
    · subst q; rw [st_s]
    · rw [st_n (by omega)]
      exact h.2.2.1 k (by omega) b
  · rw [st_n (by omega)]
    exact h.2.2.2.1 k (by omega)
  · rw [st_n (by omega)]
    exact h.2.2.2.2.1
  · rw [st_n (by omega)]
    exact h.2.2.2.2.2
def FT (E : rE) (n : Nat) (aM aG aA : Nat → Int32) : Prop := ∃ Tab, TS aM aG aA Tab ∧ SR E n 0 Tab
section
variable {fL fC fF fT fI fJ fK : Int32} {aB aK aT aP aM aG aA aO aS aQ aR aW : Nat → Int32}
theorem f86 {D : rD} (hD : XC D fL fC aB aK aT) {x y : Int} (hI : fI = zI x) (hJ : fJ = zI y) (x1 : -1 ≤ x) (x2 : x < 14) (y1 : -1 ≤ y) (y2 : y < 14) {post : SX → Prop} {J : Int32 → Int32 → Int32 → Int32 → Int32 → Int32 → Int32 → Int32 → (Nat → Int32) → (Nat → Int32) → (Nat → Int32) → (Nat → Int32) → (Nat → Int32) → (Nat → Int32) → (Nat → Int32) → (Nat → Int32) → (Nat → Int32) → (Nat → Int32) → (Nat → Int32) → (Nat → Int32) → Prop} {i : Nat} (hi : i < dn D)
    (HJ : ∀ Tab aM aG aA aO, TS aM aG aA Tab → SR (fz (dE D) x y) (dn D) i Tab → J (zI ((i : Int) - 1)) fL fC fF fT fI fJ fK aB aK aT aP aM aG aA aO aS aQ aR aW) :
    ∀ (n j : Nat) (Tab : Nat → List Int) (aM aG aA aO : Nat → Int32), dn D - j < n → i < j → j ≤ dn D → TS aM aG aA Tab → SG (fz (dE D) x y) (dn D) i j Tab → wX_fillAll_86 post J (zI (i : Nat)) n (zI (j : Nat)) fL fC fF fT fI fJ fK aB aK aT aP aM aG aA aO aS aQ aR aW := by
  have hn := hD.2.2.2.2.2.2.1
  intro n
  induction n with
  | zero => intro j Tab aM aG aA aO h; omega
  | succ n ih =>
    intro j Tab aM aG aA aO h1 h2 h3 ts sg
    simp only [wX_fillAll_86]
    refine zb_le (dn D : Nat) (j : Nat) (fun q => ?_) (fun q => ?_) hD.2.1 rfl
    · have e : j = dn D := by omega
      subst e
      refine xFillOuter hD rfl hi ts (sg.2.2.2.1 i (by omega)) sg.2.2.2.2.1 (fun l a b => (sg.1 i l a b (by omega)).1) (fun k a b => sg.2.2.1 k a b) (fun aM1 aG1 aA1 aO1 ts1 => ?_)
      refine nm_r (e' := zI ((i : Int) - 1)) (by rw [zI_m1, zI_add]; rfl) ?_
      exact HJ _ aM1 aG1 aA1 aO1 ts1 (SG_out hn hi sg)
    · have hj : j < dn D := by omega
      have pij := pc_lt h2 (show j < 14 by omega)
      refine xFillPair hD hI hJ x1 x2 y1 y2 rfl rfl h2 hj ts (sg.2.1 i j h2 hj (by omega)).1 sg.2.2.2.2.1 sg.2.2.2.2.2 (fun k l a b c => sg.1 k l b (by omega) (by omega)) (fun aM1 aG1 aA1 aO1 ts1 => ?_)
      refine xFillBranches hD (x := x) (y := y) rfl rfl h2 hj ts1 ?_ ?_ ?_ ?_ ?_ (fun aM2 aG2 aA2 aO2 ts2 => ?_)
      · rw [st_n (by omega)]
        exact (sg.2.1 i j h2 hj (by omega)).2
      · rw [st_n (by omega)]
        exact sg.2.2.2.2.1
      · rw [st_n (by omega)]
        exact sg.2.2.2.2.2
      · intro l a b
        by_cases e : l = j
        · subst e; rw [st_s]
        · rw [st_n (fun w => by have := pc_inj a (by omega) h2 (by omega) w; omega)]
          exact (sg.1 i l a (by omega) (by omega)).1
      · intro k a b
        rw [st_n (by omega)]
        exact (sg.1 k j b hj (by omega)).2
      · refine nm_r (e' := zI ((j + 1 : Nat) : Int)) (by rw [zI_1, zI_add]; rfl) ?_
        exact ih (j + 1) _ aM2 aG2 aA2 aO2 (by omega) (by omega) (by omega) ts2 (SG_pair hn h2 hj sg)
theorem f78 {D : rD} (hD : XC D fL fC aB aK aT) {x y : Int} (hI : fI = zI x) (hJ : fJ = zI y) (x1 : -1 ≤ x) (x2 : x < 14) (y1 : -1 ≤ y) (y2 : y < 14) {post : SX → Prop} (HP : ∀ Tab aM aG aA aO, TS aM aG aA Tab → SR (fz (dE D) x y) (dn D) 0 Tab → post (fL, fC, fF, fT, fI, fJ, fK, aB, aK, aT, aP, aM, aG, aA, aO, aS, aQ, aR, aW)) :
    ∀ (r n : Nat) (Tab : Nat → List Int) (aM aG aA aO : Nat → Int32), r < n → r ≤ dn D → TS aM aG aA Tab → SR (fz (dE D) x y) (dn D) r Tab → wX_fillAll_78 post n (zI ((r : Int) - 1)) fL fC fF fT fI fJ fK aB aK aT aP aM aG aA aO aS aQ aR aW := by
  have hn := hD.2.2.2.2.2.2.1
  intro r
  induction r with
  | zero =>
    intro n Tab aM aG aA aO h1 h2 ts sr
    cases n with
    | zero => omega
    | succ n =>
      simp only [wX_fillAll_78]
      exact zb_lt (((0 : Nat) : Int) - 1) 0 (fun _ => HP Tab aM aG aA aO ts sr) (fun q => by omega)
  | succ r ih =>
    intro n Tab aM aG aA aO h1 h2 ts sr
    cases n with
    | zero => omega
    | succ n =>
      simp only [wX_fillAll_78]
      rw [show ((r + 1 : Nat) : Int) - 1 = (r : Nat) by omega]
      refine zb_lt (r : Nat) 0 (fun q => by omega) (fun _ => ?_)
      refine nm_r (e' := zI ((r + 1 : Nat) : Int)) (by rw [zI_1, zI_add]; rfl) ?_
      exact ⟨dn D + 1, f86 hD hI hJ x1 x2 y1 y2 (by omega) (fun Tab aM aG aA aO ts sr => ih n Tab aM aG aA aO (by omega) (by omega) ts sr) (dn D + 1) (r + 1) Tab aM aG aA aO (by omega) (by omega) (by omega) ts (SR_SG sr)⟩
theorem xSetOne {post : SX → Prop} {Tab : Nat → List Int} {c : Nat} {P : Int32} (hP : P = zI (c : Nat)) (hc : c < 200) (ts : TS aM aG aA Tab) (e0 : Tab c = []) (K : ∀ aM aG aA, TS aM aG aA (st Tab c [0]) → post (fL, fC, fF, fT, fI, fJ, fK, aB, aK, aT, aP, aM, aG, aA, aO, aS, aQ, aR, aW)) : wpX_setOne post (fL, fC, fF, fT, fI, fJ, fK, aB, aK, aT, aP, aM, aG, aA, aO, aS, aQ, aR, aW) P := by
  subst hP
  simp only [wpX_setOne]
  rw [show (8 : Int32) * zI (c : Nat) = zI ((8 * c : Nat) : Int) by rw [show (8 : Int32) = zI 8 from by decide, zI_mul]; exact congrArg zI (by omega), zcl (by omega), zcl (by omega)]
  refine ⟨zin hc (by omega), fun a ea => ⟨zin (by omega) (by omega), fun b eb => ⟨zin hc (by omega), fun d ed => ?_⟩⟩⟩
  refine K a b d (fun z hz => ?_)
  by_cases e : z = c
  · subst e
    rw [st_s]
    have t := ts z hz
    rw [e0] at t
    refine ⟨fun v hv => by rw [List.mem_singleton] at hv; omega, by rw [ea, pk_us]; rfl, fun g hg => ?_, by rw [ed, pk_us]; rfl⟩
    dsimp only
    rw [eb]
    by_cases g0 : g = 0
    · subst g0
      rw [Nat.add_zero, pk_us]
      rfl
    · rw [pk_un (by omega)]
      have := t.2.2.1 g hg
      dsimp only at this
      rw [this]
      have z1 : cn (mnL [] + (g : Int)) [] = 0 := rfl
      have z2 : cn (mnL [0] + (g : Int)) [0] = 0 := by
        apply cn_0
        rw [List.mem_singleton, show mnL [0] = 0 from rfl]
        omega
      rw [z1, z2]
  · rw [st_n e]
    have t := ts z hz
    refine ⟨t.1, by rw [ea, pk_un e]; exact t.2.1, fun g hg => ?_, by rw [ed, pk_un e]; exact t.2.2.2⟩
    have := t.2.2.1 g hg
    dsimp only at this ⊢
    rw [eb, pk_un (by omega)]
    exact this
theorem f32 {D : rD} (hD : XC D fL fC aB aK aT) {x y : Int} (hI : fI = zI x) (hJ : fJ = zI y) (x1 : -1 ≤ x) (x2 : x < 14) (y1 : -1 ≤ y) (y2 : y < 14) {post : SX → Prop} (hM : ∀ c, c < 200 → aM c = zI 1048576) (hA : ∀ c, c < 200 → aA c = zI 0) (HP : ∀ aM aG aA aO, FT (fz (dE D) x y) (dn D) aM aG aA → post (fL, fC, fF, fT, fI, fJ, fK, aB, aK, aT, aP, aM, aG, aA, aO, aS, aQ, aR, aW)) :
    ∀ (n g : Nat) (aG : Nat → Int32), 1600 - g < n → g ≤ 1600 → (∀ c, c < g → aG c = zI 0) → wX_fillAll_32 post fL fC fF fT fI fJ fK n (zI (g : Nat)) aB aK aT aP aM aG aA aO aS aQ aR aW := by
  have hn := hD.2.2.2.2.2.2.1
  intro n
  induction n with
  | zero => intro g aG h; omega
  | succ n ih =>
    intro g aG h1 h2 i1
    simp only [wX_fillAll_32]
    refine zb_le 1600 (g : Nat) (fun q => ?_) (fun q => ?_)
    · have ts : TS aM aG aA (fun _ => []) := fun c hc => ⟨BL_n, hM c hc, fun h hh => i1 _ (by omega), hA c hc⟩
      refine xSetOne (c := 198) rfl (by omega) ts rfl (fun aM1 aG1 aA1 ts1 => ?_)
      refine xSetOne (c := 183 + dn D) (by rw [hD.2.1, show (183 : Int32) = zI 183 from by decide, zI_add]; exact congrArg zI (by omega)) (by omega) ts1 (st_n (by omega)) (fun aM2 aG2 aA2 ts2 => ?_)
      refine nm_r (e' := zI ((dn D : Int) - 1)) (by rw [hD.2.1, zI_1, zI_sub]) ?_
      refine ⟨dn D + 1, f78 hD hI hJ x1 x2 y1 y2 (fun Tab aM aG aA aO ts sr => HP aM aG aA aO ⟨Tab, ts, sr⟩) (dn D) (dn D + 1) _ aM2 aG2 aA2 aO (by omega) (by omega) ts2 ?_⟩
      refine ⟨fun k l a b c => by omega, fun k l a b c => ?_, fun k a b => ?_, fun k a => ?_, ?_, ?_⟩
      · have q := pc_lt a (show l < 14 by omega)
        constructor
        · rw [st_n (by omega), st_n (by omega)]
        · rw [st_n (by omega), st_n (by omega)]
      · have e : k = dn D := by omega
        subst e
        rw [st_s]
        unfold TOl
        rw [RO_e _ (by omega)]
        rfl
      · rw [st_n (by omega), st_n (by omega)]
      · rw [st_n (by omega), st_s]
      · rw [st_n (by omega), st_n (by omega)]
    · rw [zcl (by omega)]
      refine ⟨zin (by omega) (by omega), fun a ea => ?_⟩
      refine nm_r (e' := zI ((g + 1 : Nat) : Int)) (by rw [zI_1, zI_add]; rfl) ?_
      refine ih (g + 1) a (by omega) (by omega) (fun c hc => ?_)
      rw [ea]
      by_cases e : c = g
      · subst e; rw [pk_us]; rfl
      · rw [pk_un e]; exact i1 c (by omega)
theorem f2 {D : rD} (hD : XC D fL fC aB aK aT) {x y : Int} (hI : fI = zI x) (hJ : fJ = zI y) (x1 : -1 ≤ x) (x2 : x < 14) (y1 : -1 ≤ y) (y2 : y < 14) {post : SX → Prop} (HP : ∀ aM aG aA aO, FT (fz (dE D) x y) (dn D) aM aG aA → post (fL, fC, fF, fT, fI, fJ, fK, aB, aK, aT, aP, aM, aG, aA, aO, aS, aQ, aR, aW)) :
    ∀ (n g : Nat) (aM aA : Nat → Int32), 200 - g < n → g ≤ 200 → (∀ c, c < g → aM c = zI 1048576 ∧ aA c = zI 0) → wX_fillAll_2 post fL fC fF fT fI fJ fK n (zI (g : Nat)) aB aK aT aP aM aG aA aO aS aQ aR aW := by
  intro n
  induction n with
  | zero => intro g aM aA h; omega
  | succ n ih =>
    intro g aM aA h1 h2 i1
    simp only [wX_fillAll_2]
    refine zb_le 200 (g : Nat) (fun q => ?_) (fun q => ?_)
    · exact ⟨1601, f32 hD hI hJ x1 x2 y1 y2 (fun c hc => (i1 c (by omega)).1) (fun c hc => (i1 c (by omega)).2) HP 1601 0 aG (by omega) (by omega) (fun c hc => by omega)⟩
    · rw [zcl (by omega)]
      refine ⟨zin (by omega) (by omega), fun a ea => ⟨zin (by omega) (by omega), fun b eb => ?_⟩⟩
      refine nm_r (e' := zI ((g + 1 : Nat) : Int)) (by rw [zI_1, zI_add]; rfl) ?_
      refine ih (g + 1) a b (by omega) (by omega) (fun c hc => ?_)
      rw [ea, eb]
      by_cases e : c = g
      · subst e; rw [pk_us, pk_us]; exact ⟨by decide, by decide⟩
      · rw [pk_un e, pk_un e]; exact i1 c (by omega)
theorem xFillAll {D : rD} (hD : XC D fL fC aB aK aT) {x y : Int} (hI : fI = zI x) (hJ : fJ = zI y) (x1 : -1 ≤ x) (x2 : x < 14) (y1 : -1 ≤ y) (y2 : y < 14) {post : SX → Prop} (HP : ∀ aM aG aA aO, FT (fz (dE D) x y) (dn D) aM aG aA → post (fL, fC, fF, fT, fI, fJ, fK, aB, aK, aT, aP, aM, aG, aA, aO, aS, aQ, aR, aW)) : wpX_fillAll post (fL, fC, fF, fT, fI, fJ, fK, aB, aK, aT, aP, aM, aG, aA, aO, aS, aQ, aR, aW) := by
  simp only [wpX_fillAll]
  exact ⟨201, f2 hD hI hJ x1 x2 y1 y2 HP 201 0 aM aA (by omega) (by omega) (fun c hc => by omega)⟩
theorem xFold {D : rD} (hD : XC D fL fC aB aK aT) (hF : fF = 0 ∨ (fF = 1 ∧ FT (dE D) (dn D) aM aG aA)) {post : SX → Prop} (K0 : fF = 0 → ∀ aM aG aA aO, FT (dE D) (dn D) aM aG aA → post (fL, fC, 1, 0, (-1), (-1), fK, aB, aK, aT, aP, aM, aG, aA, aO, aS, aQ, aR, aW)) (K1 : fF = 1 → FT (dE D) (dn D) aM aG aA → post (fL, fC, fF, fT, fI, fJ, fK, aB, aK, aT, aP, aM, aG, aA, aO, aS, aQ, aR, aW)) : wpX_fold post (fL, fC, fF, fT, fI, fJ, fK, aB, aK, aT, aP, aM, aG, aA, aO, aS, aQ, aR, aW) := by
  simp only [wpX_fold]
  rcases hF with h | ⟨h, t⟩
  · refine br_t h ?_
    refine xFillAll hD (x := -1) (y := -1) zI_m1 zI_m1 (by omega) (by omega) (by omega) (by omega) (fun aM aG aA aO t => ?_)
    rw [fz_no] at t
    exact K0 h aM aG aA aO t
  · exact br_f (by rw [h]; decide) (K1 h t)
theorem xFoldWithout {D : rD} (hD : XC D fL fC aB aK aT) {i j : Nat} {P Q : Int32} (hP : P = zI (i : Nat)) (hQ : Q = zI (j : Nat)) (hi : i < 14) (hj : j < 14) {post : SX → Prop} (K : ∀ aM aG aA aO, FT (fb (dE D) (i, j)) (dn D) aM aG aA → post (fL, fC, 0, fT, P, Q, fK, aB, aK, aT, aP, aM, aG, aA, aO, aS, aQ, aR, aW)) : wpX_foldWithout post (fL, fC, fF, fT, fI, fJ, fK, aB, aK, aT, aP, aM, aG, aA, aO, aS, aQ, aR, aW) P Q := by
  simp only [wpX_foldWithout]
  refine xFillAll hD (x := i) (y := j) hP hQ (by omega) (by omega) (by omega) (by omega) (fun aM aG aA aO t => ?_)
  rw [fz_fb] at t
  exact K aM aG aA aO t
end
end
section
/-! the first best folding, block by block -/
theorem LT_fl {A : List rT} {f : Nat → List rT} {a b : Nat} {B : List rT} (h : LT (((rg a b).flatMap f) ++ B)) {l c : Nat} (h1 : a ≤ l) (h2 : l < b) (hc : a ≤ c) : LT (f l) ∧ LT (((rg c b).flatMap f) ++ B) := by
  obtain ⟨p, q⟩ := LT_app.mp h
  refine ⟨fun x hx => p x (List.mem_flatMap.mpr ⟨l, rg_m.mpr ⟨h1, h2⟩, hx⟩), LT_app.mpr ⟨fun x hx => ?_, q⟩⟩
  obtain ⟨v, hv, hx⟩ := List.mem_flatMap.mp hx
  have := rg_m.mp hv
  exact p x (List.mem_flatMap.mpr ⟨v, rg_m.mpr ⟨by omega, by omega⟩, hx⟩)
theorem RQ_LT {E : rE} (hE : EB E) {i j k : Nat} (h1 : i < k) (h2 : k ≤ j) (h3 : j < 14) : LT (RQ E i j k) := LT_BL (RQ_BL hE h1 h2 h3)
theorem RB_LT {E : rE} (hE : EB E) {k j : Nat} (h3 : j < 14) : LT (RB E k j) := LT_BL (RB_BL hE h3)
theorem RO_LT {E : rE} (hE : EB E) {n i : Nat} (hn : n ≤ 14) (hi : i ≤ n) : LT (RO E n i) := LT_BL (RO_BL hE hn hi)
theorem RO_o (E : rE) {n i : Nat} (h : i < n) : RO E n i = ((rg (i + 1) n).flatMap (oB E n i)) ++ RO E n (i + 1) := RO_s E h
theorem RQ_q (E : rE) {i j k : Nat} (h : k + 1 < j) : RQ E i j k = ((rg (k + 1) j).flatMap (qB E i j k)) ++ RQ E i j (k + 1) := RQ_s E h
theorem RB_b (E : rE) {k j : Nat} (h : k < j) : RB E k j = ((rg (k + 1) (j + 1)).flatMap (bB E j k)) ++ (RB E (k + 1) j).map (sh (e15 E)) := RB_s E h
theorem fm_sh {c : Int} {B : List rT} (hn : B ≠ []) (h1 : LT B) (h2 : LT (B.map (sh c))) : fm (B.map (sh c)) = (c + (fm B).1, (fm B).2) := fm_map (f := sh c) (c := c) (fun _ => rfl) hn h1 h2
theorem mn_bd {L : List rT} (h : BL (L.map Prod.fst)) (hn : L ≠ []) : -100000 ≤ (fm L).1 ∧ (fm L).1 ≤ 100000 := by
  rw [fm_1]
  exact (mnL_b h (by simpa using hn)).2
theorem oB_fm {E : rE} (hE : EB E) {n i l : Nat} (hn : n ≤ 14) (h1 : i < l) (h2 : l < n) (al : eA E i l = true) : fm (oB E n i l) = ((fm (RQ E i l (i + 1))).1 + (eN E i l + (fm (RO E n (l + 1))).1), (i, l) :: ((fm (RQ E i l (i + 1))).2 ++ (fm (RO E n (l + 1))).2)) := by
  have lt := RO_LT hE hn (show i ≤ n by omega)
  rw [RO_o E (by omega)] at lt
  have lo := (LT_fl (A := []) lt (l := l) (c := l) (by omega) h2 (by omega)).1
  unfold oB at lo ⊢
  rw [if_pos al] at lo ⊢
  have b := RO_BL hE hn (show l + 1 ≤ n by omega)
  have ne := RO_ne E n (n - (l + 1)) (l + 1) (Nat.le_refl _)
  have ls : LT ((RO E n (l + 1)).map (sh (eN E i l))) := by
    intro z hz
    obtain ⟨v, hv, rfl⟩ := List.mem_map.mp hz
    have := b v.1 (List.mem_map_of_mem hv)
    have := hE.1 i l
    show eN E i l + v.1 < _
    omega
  rw [fm_tn ls (by simpa using ne) (RQ_ne E (l - (i + 1)) i l (i + 1) (Nat.le_refl _)) (RQ_LT hE (by omega) (by omega) (by omega)) lo, fm_sh ne (LT_BL b) ls]
/-- what is after the first branch: more branches, or none -/
def rB (E : rE) (R : List rT) (c s : Int) : rT := fm (R.map (sh c) ++ [(s, [])])
theorem rB_many {E : rE} {R : List rT} {c s : Int} (hb : BL (R.map Prod.fst)) (hn : R ≠ []) (hc : c ≤ 5000) (hs : s ≤ 5000) (h : c + (fm R).1 ≤ s) : rB E R c s = (c + (fm R).1, (fm R).2) := by
  unfold rB
  have ls : LT (R.map (sh c)) := by
    intro z hz
    obtain ⟨v, hv, rfl⟩ := List.mem_map.mp hz
    have := hb v.1 (List.mem_map_of_mem hv)
    show c + v.1 < _
    omega
  have l1 : LT [((s, []) : rT)] := by
    intro z hz
    rw [List.mem_singleton.mp hz]
    show s < _
    omega
  have e1 : fm [((s, []) : rT)] = (s, []) := fm_ct (show s ≤ 1048576 by omega)
  rw [fm_app l1, fm_sh hn (LT_BL hb) ls, e1, if_pos h]
theorem rB_one {E : rE} {R : List rT} {c s : Int} (hb : BL (R.map Prod.fst)) (hc : c ≤ 5000) (hs : s ≤ 5000) (h : R ≠ [] → s < c + (fm R).1) : rB E R c s = (s, []) := by
  unfold rB
  have l1 : LT [((s, []) : rT)] := by
    intro z hz
    rw [List.mem_singleton.mp hz]
    show s < _
    omega
  have e1 : fm [((s, []) : rT)] = (s, []) := fm_ct (show s ≤ 1048576 by omega)
  by_cases e : R = []
  · subst e; exact e1
  · have ls : LT (R.map (sh c)) := by
      intro z hz
      obtain ⟨v, hv, rfl⟩ := List.mem_map.mp hz
      have := hb v.1 (List.mem_map_of_mem hv)
      show c + v.1 < _
      omega
    rw [fm_app l1, fm_sh e (LT_BL hb) ls, e1, if_neg (by have := h e; dsimp only; omega)]
theorem rB_ls {R : List rT} {c s : Int} (hb : BL (R.map Prod.fst)) (hc : c ≤ 5000) (hs : s ≤ 5000) : LT (R.map (sh c) ++ [(s, [])]) := by
  refine LT_app.mpr ⟨fun z hz => ?_, fun z hz => ?_⟩
  · obtain ⟨v, hv, rfl⟩ := List.mem_map.mp hz
    have := hb v.1 (List.mem_map_of_mem hv)
    show c + v.1 < _
    omega
  · rw [List.mem_singleton.mp hz]
    show s < _
    omega
theorem qB_fm {E : rE} (hE : EB E) {i j k l : Nat} (hj : j < 14) (h0 : i < k) (h1 : k < l) (h2 : l < j) (al : eA E k l = true) : fm (qB E i j k l) = ((fm (RQ E k l (k + 1))).1 + (rB E (RB E (l + 1) (j - 1)) (mC E i j k l) (eS E i j k l)).1, (k, l) :: ((fm (RQ E k l (k + 1))).2 ++ (rB E (RB E (l + 1) (j - 1)) (mC E i j k l) (eS E i j k l)).2)) := by
  have lt := RQ_LT hE h0 (show k ≤ j by omega) hj
  rw [RQ_q E (by omega)] at lt
  have lo := (LT_fl (A := []) lt (l := l) (c := l) (by omega) h2 (by omega)).1
  unfold qB at lo ⊢
  rw [if_pos al] at lo ⊢
  have m := mC_bd hE (i := i) (j := j) (k := k) (l := l) h0 (by omega)
  have s := hE.2.2.1 i j k l h0 h1 h2 hj
  exact fm_tn (rB_ls (RB_BL hE (by omega)) (by omega) (by omega)) (by simp) (RQ_ne E (l - (k + 1)) k l (k + 1) (Nat.le_refl _)) (RQ_LT hE (by omega) (by omega) (by omega)) lo
theorem bB_fm {E : rE} (hE : EB E) {j k l : Nat} (hj : j < 14) (h1 : k < l) (h2 : l ≤ j) (al : eA E k l = true) : fm (bB E j k l) = ((fm (RQ E k l (k + 1))).1 + (rB E (RB E (l + 1) j) (e14 E + eN E k l) (e14 E + eN E k l + e15 E * ((j : Int) - l))).1, (k, l) :: ((fm (RQ E k l (k + 1))).2 ++ (rB E (RB E (l + 1) j) (e14 E + eN E k l) (e14 E + eN E k l + e15 E * ((j : Int) - l))).2)) := by
  have lt := RB_LT hE (k := k) hj
  rw [RB_b E (by omega)] at lt
  have lo := (LT_fl (A := []) lt (l := l) (c := l) (by omega) (by omega) (by omega)).1
  unfold bB at lo ⊢
  rw [if_pos al] at lo ⊢
  obtain ⟨g1, -, -, -, g5, g6⟩ := id hE
  have g1 := g1 k l
  have g7 := mul_bd g6.1 g6.2 (x := (j : Int) - l) (by omega) (by omega)
  exact fm_tn (rB_ls (RB_BL hE (by omega)) (by omega) (by omega)) (by simp) (RQ_ne E (l - (k + 1)) k l (k + 1) (Nat.le_refl _)) (RQ_LT hE (by omega) (by omega) (by omega)) lo
/-- tasks -/
def tL (E : rE) (t : Nat × Nat × Nat) : List (Nat × Nat) := if t.1 = 0 then (fm (RQ E t.2.1 t.2.2 (t.2.1 + 1))).2 else (fm (RB E t.2.1 t.2.2)).2
def wt (t : Nat × Nat × Nat) : Nat := if t.1 = 0 then 2 * (t.2.2 - t.2.1 + 1) - 1 else 2 * (t.2.2 - t.2.1 + 1)
def TV (E : rE) (n : Nat) (t : Nat × Nat × Nat) : Prop := t.2.1 < t.2.2 ∧ t.2.2 < n ∧ ((t.1 = 0 ∧ eA E t.2.1 t.2.2 = true) ∨ (t.1 = 1 ∧ RB E t.2.1 t.2.2 ≠ []))
def TI (E : rE) (n : Nat) (S : List (Nat × Nat)) (f : Nat → Int) (s : Nat → Nat × Nat × Nat) (top : Nat) (Q : List (Nat × Nat)) (wq B : Nat) : Prop :=
  (∀ x, x < 14 → f x = -1 ∨ f x = Ms fr S x) ∧ (∀ p, p ∈ S → (f p.1 = Ms fr S p.1 ∧ f p.2 = Ms fr S p.2) ∨ p ∈ Q ∨ ∃ x, x < top ∧ p ∈ tL E (s x)) ∧
  (∀ x, x < top → TV E n (s x) ∧ ∀ p, p ∈ tL E (s x) → p ∈ S) ∧ (∀ p, p ∈ Q → p ∈ S) ∧ sN (fun x => wt (s x)) top + wq ≤ B
def ps (s : Nat → Nat × Nat × Nat) (top : Nat) (t : Nat × Nat × Nat) : Nat → Nat × Nat × Nat := fun x => if x = top then t else s x
theorem ps_s (s : Nat → Nat × Nat × Nat) (top : Nat) (t : Nat × Nat × Nat) : ps s top t top = t := if_pos rfl
theorem ps_n {s : Nat → Nat × Nat × Nat} {top x : Nat} {t : Nat × Nat × Nat} (h : x ≠ top) : ps s top t x = s x := if_neg h
theorem wt_pos {E : rE} {n : Nat} {t : Nat × Nat × Nat} : 1 ≤ wt t := by
  unfold wt
  split <;> omega
theorem sN_pos {g : Nat → Nat} (h : ∀ x, 1 ≤ g x) : ∀ k, k ≤ sN g k := by
  intro k
  induction k with
  | zero => exact Nat.le_refl _
  | succ k ih => simp only [sN]; have := h k; omega
theorem TI_top {E : rE} {n : Nat} {S : List (Nat × Nat)} {f : Nat → Int} {s : Nat → Nat × Nat × Nat} {top : Nat} {Q : List (Nat × Nat)} {wq B : Nat} (h : TI E n S f s top Q wq B) : top + wq ≤ B := by
  have a := sN_pos (g := fun x => wt (s x)) (fun x => wt_pos (E := E) (n := n)) top
  have b := h.2.2.2.2
  omega
/-- a task is added for a part of what is pending -/
theorem TI_add {E : rE} {n : Nat} {S : List (Nat × Nat)} {f : Nat → Int} {s : Nat → Nat × Nat × Nat} {top : Nat} {Q R : List (Nat × Nat)} {wq wr B : Nat} {t : Nat × Nat × Nat} (h : TI E n S f s top Q wq B) (hQ : ∀ p, p ∈ Q ↔ p ∈ tL E t ∨ p ∈ R) (hv : TV E n t) (hw : wt t + wr ≤ wq) : TI E n S f (ps s top t) (top + 1) R wr B := by
  obtain ⟨h1, h2, h3, h4, h5⟩ := h
  refine ⟨h1, fun p hp => ?_, fun x hx => ?_, fun p hp => h4 p ((hQ p).mpr (Or.inr hp)), ?_⟩
  · rcases h2 p hp with a | a | ⟨x, hx, a⟩
    · exact Or.inl a
    · rcases (hQ p).mp a with a | a
      · exact Or.inr (Or.inr ⟨top, by omega, by rw [ps_s]; exact a⟩)
      · exact Or.inr (Or.inl a)
    · exact Or.inr (Or.inr ⟨x, by omega, by rw [ps_n (by omega)]; exact a⟩)
  · by_cases e : x = top
    · subst e
      rw [ps_s]
      exact ⟨hv, fun p hp => h4 p ((hQ p).mpr (Or.inl hp))⟩
    · rw [ps_n e]
      exact h3 x (by omega)
  · simp only [sN]
    rw [ps_s, sN_cg (g := fun x => wt (s x)) (fun x hx => by rw [ps_n (by omega)])]
    omega
/-- a pair is written -/
theorem TI_put {E : rE} {n : Nat} {S : List (Nat × Nat)} (hS : ∀ p, p ∈ S → Ms fr S p.1 = p.2 ∧ Ms fr S p.2 = p.1) {f : Nat → Int} {s : Nat → Nat × Nat × Nat} {top : Nat} {Q R : List (Nat × Nat)} {wq B i j : Nat} (hij : i ≠ j) (h : TI E n S f s top Q wq B) (hQ : ∀ p, p ∈ Q ↔ p = (i, j) ∨ p ∈ R) : TI E n S (pu f i j) s top R wq B := by
  obtain ⟨h1, h2, h3, h4, h5⟩ := h
  have e := hS (i, j) (h4 (i, j) ((hQ _).mpr (Or.inl rfl)))
  dsimp only at e
  have a1 : ∀ x, f x = Ms fr S x → pu f i j x = Ms fr S x := by
    intro x hx
    unfold pu
    by_cases c1 : x = i
    · rw [if_pos c1, c1, e.1]
    · rw [if_neg c1]
      by_cases c2 : x = j
      · rw [if_pos c2, c2, e.2]
      · rw [if_neg c2]; exact hx
  refine ⟨fun x hx => ?_, fun p hp => ?_, h3, fun p hp => h4 p ((hQ p).mpr (Or.inr hp)), h5⟩
  · unfold pu
    by_cases c1 : x = i
    · rw [if_pos c1, c1, e.1]; exact Or.inr rfl
    · rw [if_neg c1]
      by_cases c2 : x = j
      · rw [if_pos c2, c2, e.2]; exact Or.inr rfl
      · rw [if_neg c2]; exact h1 x hx
  · rcases h2 p hp with a | a | a
    · exact Or.inl ⟨a1 _ a.1, a1 _ a.2⟩
    · rcases (hQ p).mp a with a | a
      · subst a
        refine Or.inl ⟨?_, ?_⟩
        · show pu f i j i = Ms fr S i
          rw [pu_1, e.1]
        · show pu f i j j = Ms fr S j
          rw [pu_2 f hij, e.2]
      · exact Or.inr (Or.inl a)
    · exact Or.inr (Or.inr a)
/-- the top task is taken up -/
theorem TI_pop {E : rE} {n : Nat} {S : List (Nat × Nat)} {f : Nat → Int} {s : Nat → Nat × Nat × Nat} {top : Nat} {B : Nat} (h : TI E n S f s (top + 1) [] 0 B) : TI E n S f s top (tL E (s top)) (wt (s top) - 1) (B - 1) ∧ TV E n (s top) := by
  obtain ⟨h1, h2, h3, h4, h5⟩ := h
  have w := wt_pos (E := E) (n := n) (t := s top)
  refine ⟨⟨h1, fun p hp => ?_, fun x hx => h3 x (by omega), (h3 top (by omega)).2, ?_⟩, (h3 top (by omega)).1⟩
  · rcases h2 p hp with a | a | ⟨x, hx, a⟩
    · exact Or.inl a
    · cases a
    · by_cases e : x = top
      · subst e; exact Or.inr (Or.inl a)
      · exact Or.inr (Or.inr ⟨x, by omega, a⟩)
  · simp only [sN] at h5
    omega
theorem TI_w {E : rE} {n : Nat} {S : List (Nat × Nat)} {f : Nat → Int} {s : Nat → Nat × Nat × Nat} {top : Nat} {Q R : List (Nat × Nat)} {wq wr B : Nat} (h : TI E n S f s top Q wq B) (hQ : Q = R) (hw : wr ≤ wq) : TI E n S f s top R wr B := by
  subst hQ
  exact ⟨h.1, h.2.1, h.2.2.1, h.2.2.2.1, by have := h.2.2.2.2; omega⟩
theorem TI_end {E : rE} {n : Nat} {S : List (Nat × Nat)} {f : Nat → Int} {s : Nat → Nat × Nat × Nat} {wq B : Nat} (h : TI E n S f s 0 [] wq B) : ∀ x, x < 14 → f x = Ms fr S x := by
  intro x hx
  rcases h.1 x hx with a | a
  · by_cases q : ∀ p, p ∈ S → x ≠ p.1 ∧ x ≠ p.2
    · rw [a, Ms_out q]; rfl
    · obtain ⟨p, hp⟩ := Classical.not_forall.mp q
      obtain ⟨hp, hx⟩ := Classical.not_imp.mp hp
      rcases h.2.1 p hp with b | b | ⟨y, hy, _⟩
      · by_cases e : x = p.1
        · rw [e]; exact b.1
        · by_cases e2 : x = p.2
          · rw [e2]; exact b.2
          · exact absurd ⟨e, e2⟩ hx
      · cases b
      · omega
  · exact a
theorem RO_S {E : rE} (hE : EB E) {n : Nat} (hn : n ≤ 14) : (fm (RO E n 0)).2 ∈ RR E 0 n := by
  rw [← RO_snd E n n 0 (by omega)]
  exact List.mem_map_of_mem (fm_mem (RO_LT hE hn (by omega)) (RO_ne E n n 0 (by omega)))
theorem RO_has {E : rE} (hE : EB E) {n : Nat} (hn : n ≤ 14) : ∀ p, p ∈ (fm (RO E n 0)).2 → Ms fr (fm (RO E n 0)).2 p.1 = p.2 ∧ Ms fr (fm (RO E n 0)).2 p.2 = p.1 := RR_has E n 0 n (by omega) _ (RO_S hE hn) _ (fun _ _ _ => rfl)
end
section
/-! the component's trace writes the first best folding -/
theorem rB_le {E : rE} {R : List rT} {c s : Int} (hb : BL (R.map Prod.fst)) (hc : c ≤ 5000) (hs : s ≤ 5000) : (rB E R c s).1 ≤ s ∧ (R ≠ [] → (rB E R c s).1 ≤ c + (fm R).1) := by
  have l1 : LT [((s, []) : rT)] := (LT_app.mp (rB_ls hb hc hs)).2
  have e1 : fm [((s, []) : rT)] = (s, []) := fm_ct (show s ≤ 1048576 by omega)
  have := fm_le (A := R.map (sh c)) l1
  rw [e1] at this
  refine ⟨this.2, fun hn => ?_⟩
  have q := this.1
  rw [fm_sh hn (LT_BL hb) (LT_app.mp (rB_ls hb hc hs)).1] at q
  exact q
theorem blk_dec {E : rE} {A B R : List rT} {a c s : Int} (hA : (fm A).1 = a + (rB E R c s).1) (hB : LT B) (hb : BL (R.map Prod.fst)) (hc : c ≤ 5000) (hs : s ≤ 5000) :
    (R ≠ [] → c + (fm R).1 + a = (fm (A ++ B)).1 → rB E R c s = (c + (fm R).1, (fm R).2) ∧ fm (A ++ B) = fm A) ∧
    ((R ≠ [] → c + (fm R).1 + a ≠ (fm (A ++ B)).1) → s + a = (fm (A ++ B)).1 → rB E R c s = (s, []) ∧ fm (A ++ B) = fm A) ∧
    ((R ≠ [] → c + (fm R).1 + a ≠ (fm (A ++ B)).1) → s + a ≠ (fm (A ++ B)).1 → fm (A ++ B) = fm B) := by
  have r := rB_le (E := E) (R := R) hb hc hs
  have g := (fm_le (A := A) hB).1
  refine ⟨fun hn h => ?_, fun hn h => ?_, fun hn h => ?_⟩
  · have r2 := r.2 hn
    have e := rB_many (E := E) hb hn hc hs (show c + (fm R).1 ≤ s by omega)
    refine ⟨e, fm_hit hB ?_⟩
    rw [e] at hA
    dsimp only at hA
    omega
  · have e := rB_one (E := E) hb hc hs (fun w => by have := hn w; have := r.2 w; omega)
    refine ⟨e, fm_hit hB ?_⟩
    rw [e] at hA
    dsimp only at hA
    omega
  · apply fm_miss hB
    by_cases w : R ≠ [] ∧ c + (fm R).1 ≤ s
    · rw [rB_many (E := E) hb w.1 hc hs w.2] at hA
      have := hn w.1
      dsimp only at hA
      omega
    · rw [rB_one (E := E) hb hc hs (fun v => by have : ¬ c + (fm R).1 ≤ s := fun u => w ⟨v, u⟩; omega)] at hA
      dsimp only at hA
      omega
def MT (E : rE) (n : Nat) (aM : Nat → Int32) : Prop := (∀ k l, k < l → l < n → aM (pc k l) = zI (mnL (TPl E k l))) ∧ (∀ k l, l < n → aM (bc k l) = zI (mnL (TBl E k l))) ∧ (∀ k, k ≤ n → aM (183 + k) = zI (mnL (TOl E n k)))
theorem FT_MT {E : rE} {n : Nat} {aM aG aA : Nat → Int32} (hn : n ≤ 14) (h : FT E n aM aG aA) : MT E n aM := by
  obtain ⟨Tab, ts, sr⟩ := h
  refine ⟨fun k l a b => ?_, fun k l b => ?_, fun k a => ?_⟩
  · have := pc_lt a (show l < 14 by omega)
    rw [(TS_at ts (c := pc k l) (by omega)).1, (sr.1 k l a b (by omega)).1]
  · unfold bc
    by_cases c : k < l
    · have := pc_lt c (show l < 14 by omega)
      rw [if_pos c, (TS_at ts (c := 91 + pc k l) (by omega)).1, (sr.1 k l c b (by omega)).2]
    · rw [if_neg c, (TS_at ts (c := 182) (by omega)).1, sr.2.2.2.2.2]
      unfold TBl
      rw [RB_e _ c]
      rfl
  · rw [(TS_at ts (c := 183 + k) (by omega)).1, sr.2.2.1 k (by omega) a]
theorem TP_fm {E : rE} {i j : Nat} (h : eA E i j = true) : mnL (TPl E i j) = (fm (RQ E i j (i + 1))).1 := by rw [TPl_t h, fm_1]
theorem TB_fm {E : rE} {i j : Nat} : mnL (TBl E i j) = (fm (RB E i j)).1 := by unfold TBl; rw [fm_1]
theorem TO_fm {E : rE} {n i : Nat} : mnL (TOl E n i) = (fm (RO E n i)).1 := by unfold TOl; rw [fm_1]
theorem TP_BL {E : rE} (hE : EB E) {i j : Nat} (h1 : i < j) (h2 : j < 14) : BL (TPl E i j) := by
  by_cases c : eA E i j = true
  · rw [TPl_t c]; exact RQ_BL hE (by omega) (by omega) h2
  · rw [TPl_f c]; exact BL_n
theorem TB_BL {E : rE} (hE : EB E) {i j : Nat} (h2 : j < 14) : BL (TBl E i j) := RB_BL hE h2
theorem TO_BL {E : rE} (hE : EB E) {n i : Nat} (hn : n ≤ 14) (hi : i ≤ n) : BL (TOl E n i) := RO_BL hE hn hi
def TT (E : rE) (n : Nat) (S : List (Nat × Nat)) (fK : Int32) (aS aQ aR aW : Nat → Int32) (Q : List (Nat × Nat)) (wq B : Nat) : Prop :=
  ∃ (f : Nat → Int) (s : Nat → Nat × Nat × Nat) (top : Nat), fK = zI (top : Nat) ∧ AI 14 aS f ∧ (∀ x, x < top → aQ x = zI ((s x).1 : Nat) ∧ aR x = zI ((s x).2.1 : Nat) ∧ aW x = zI ((s x).2.2 : Nat)) ∧ TI E n S f s top Q wq B ∧ B ≤ 28
theorem TT_w {E : rE} {n : Nat} {S : List (Nat × Nat)} {fK : Int32} {aS aQ aR aW : Nat → Int32} {Q R : List (Nat × Nat)} {wq wr B : Nat} (h : TT E n S fK aS aQ aR aW Q wq B) (hQ : Q = R) (hw : wr ≤ wq) : TT E n S fK aS aQ aR aW R wr B := by
  obtain ⟨f, s, top, h1, h2, h3, h4, h5⟩ := h
  exact ⟨f, s, top, h1, h2, h3, TI_w h4 hQ hw, h5⟩
section
variable {fL fC fF fT fI fJ fK : Int32} {aB aK aT aP aM aG aA aO aS aQ aR aW : Nat → Int32}
theorem xAddTask {E : rE} {n : Nat} (hn : n ≤ 14) {S : List (Nat × Nat)} {Q R : List (Nat × Nat)} {wq wr B : Nat} (h : TT E n S fK aS aQ aR aW Q wq B) {kd a b : Nat} (hQ : ∀ p, p ∈ Q ↔ p ∈ tL E (kd, a, b) ∨ p ∈ R) (hv : TV E n (kd, a, b)) (hw : wt (kd, a, b) + wr ≤ wq) {P0 P1 P2 : Int32} (h0 : P0 = zI (kd : Nat)) (h1 : P1 = zI (a : Nat)) (h2 : P2 = zI (b : Nat)) {post : SX → Prop} (K : ∀ fK aQ aR aW, TT E n S fK aS aQ aR aW R wr B → post (fL, fC, fF, fT, fI, fJ, fK, aB, aK, aT, aP, aM, aG, aA, aO, aS, aQ, aR, aW)) : wpX_addTask post (fL, fC, fF, fT, fI, fJ, fK, aB, aK, aT, aP, aM, aG, aA, aO, aS, aQ, aR, aW) P0 P1 P2 := by
  obtain ⟨f, s, top, g1, g2, g3, g4, g5⟩ := h
  have tp := TI_top g4
  have ad := TI_add g4 hQ hv hw
  have v1 := hv.1
  have v2 := hv.2.1
  have v3 : kd = 0 ∨ kd = 1 := hv.2.2.imp (fun q => q.1) (fun q => q.1)
  dsimp only at v1 v2
  subst h0 h1 h2 g1
  simp only [wpX_addTask]
  rw [zcl (by omega), zI_nbb (by omega) (by omega), zI_nbb (by omega) (by omega), zI_nbb (by omega) (by omega)]
  refine ⟨zin (by omega) (by omega), fun q eq => ⟨zin (by omega) (by omega), fun r er => ⟨zin (by omega) (by omega), fun w ew => ?_⟩⟩⟩
  refine nm_r (e' := zI ((top + 1 : Nat) : Int)) (by rw [zI_1, zI_add]; rfl) ?_
  refine K _ q r w ⟨f, ps s top (kd, a, b), top + 1, rfl, g2, fun x hx => ?_, ad, g5⟩
  rw [eq, er, ew]
  by_cases e : x = top
  · subst e
    rw [pk_us, pk_us, pk_us, ps_s]
    exact ⟨rfl, rfl, rfl⟩
  · rw [pk_un e, pk_un e, pk_un e, ps_n e]
    exact g3 x (by omega)
theorem xTake {E : rE} {n : Nat} (hn : n ≤ 14) {S : List (Nat × Nat)} (hS : ∀ p, p ∈ S → Ms fr S p.1 = p.2 ∧ Ms fr S p.2 = p.1) {Q R : List (Nat × Nat)} {wq wr B : Nat} (h : TT E n S fK aS aQ aR aW Q wq B) {i j : Nat} (hQ : Q = (i, j) :: ((fm (RQ E i j (i + 1))).2 ++ R)) (hij : i < j) (hj : j < n) (al : eA E i j = true) (hw : 2 * (j - i + 1) - 1 + wr ≤ wq) {P0 P1 : Int32} (h0 : P0 = zI (i : Nat)) (h1 : P1 = zI (j : Nat)) {post : SX → Prop} (K : ∀ fK aS aQ aR aW, TT E n S fK aS aQ aR aW R wr B → post (fL, fC, fF, fT, fI, fJ, fK, aB, aK, aT, aP, aM, aG, aA, aO, aS, aQ, aR, aW)) : wpX_take post (fL, fC, fF, fT, fI, fJ, fK, aB, aK, aT, aP, aM, aG, aA, aO, aS, aQ, aR, aW) P0 P1 := by
  obtain ⟨f, s, top, g1, g2, g3, g4, g5⟩ := h
  have pt := TI_put (R := (fm (RQ E i j (i + 1))).2 ++ R) hS (show i ≠ j by omega) g4 (fun p => by rw [hQ, List.mem_cons])
  subst h0 h1
  simp only [wpX_take]
  rw [zcl (by omega), zcl (by omega), zI_nbb (by omega) (by omega), zI_nbb (by omega) (by omega)]
  refine ⟨zin (by omega) (by omega), fun a ea => ⟨zin (by omega) (by omega), fun b eb => ?_⟩⟩
  have ab : AI 14 b (pu f i j) := by
    intro x hx
    rw [eb, ea]
    unfold pu
    by_cases e : x = j
    · subst e; rw [pk_us, if_neg (by omega), if_pos rfl]
    · rw [pk_un e]
      by_cases e2 : x = i
      · subst e2; rw [pk_us, if_pos rfl]
      · rw [pk_un e2, if_neg e2, if_neg e]; exact g2 x hx
  exact xAddTask hn (Q := (fm (RQ E i j (i + 1))).2 ++ R) (R := R) (wq := wq) (wr := wr) (kd := 0) (a := i) (b := j) ⟨pu f i j, s, top, g1, ab, g3, pt, g5⟩ (fun p => List.mem_append) ⟨hij, hj, Or.inl ⟨rfl, al⟩⟩ hw rfl rfl rfl (fun fK aQ aR aW t => K fK b aQ aR aW t)
theorem xOuterFits {D : rD} (hD : XC D fL fC aB aK aT) (hM : MT (dE D) (dn D) aM) {i l : Nat} {P Q : Int32} (hP : P = zI (i : Nat)) (hQ : Q = zI (l : Nat)) (h1 : i < l) (h2 : l < dn D) {post : Int32 → Prop} (k1 : eA (dE D) i l = true → (fm (RQ (dE D) i l (i + 1))).1 + (fm (RO (dE D) (dn D) (l + 1))).1 + eN (dE D) i l = (fm (RO (dE D) (dn D) i)).1 → post 1) (k0 : (eA (dE D) i l = true → (fm (RQ (dE D) i l (i + 1))).1 + (fm (RO (dE D) (dn D) (l + 1))).1 + eN (dE D) i l ≠ (fm (RO (dE D) (dn D) i)).1) → post 0) : wpX_outerFits post (fL, fC, fF, fT, fI, fJ, fK, aB, aK, aT, aP, aM, aG, aA, aO, aS, aQ, aR, aW) P Q := by
  have hd := hD.2.2.2.2.2
  have hn := hd.2.1
  have hE := dE_EB hd
  have pl := pc_lt h1 (show l < 14 by omega)
  have b1 := mnL_i (TP_BL hE h1 (show l < 14 by omega))
  have b2 := mnL_i (TO_BL hE hn (show l + 1 ≤ dn D by omega))
  have b3 := mnL_i (TO_BL hE hn (show i ≤ dn D by omega))
  have b4 := hE.1 i l
  subst hP hQ
  simp only [wpX_outerFits]
  refine xPairCell rfl rfl h1 (by omega) ⟨zin (by omega) (by omega), ?_⟩
  rw [zcl (by omega)]
  refine zb_lt (mnL (TPl (dE D) i l)) 1048576 (fun q => ?_) (fun q => ?_) (hM.1 i l h1 h2) rfl
  · have al : eA (dE D) i l = true := by
      by_cases c : eA (dE D) i l = true
      · exact c
      · rw [TPl_f c] at q
        exact absurd q (by decide)
    rw [show (183 : Int32) + zI (l : Nat) + 1 = zI ((183 + (l + 1) : Nat) : Int) by rw [show (183 : Int32) = zI 183 from by decide, zI_1, zI_add, zI_add]; exact congrArg zI (by omega), show (183 : Int32) + zI (i : Nat) = zI ((183 + i : Nat) : Int) by rw [show (183 : Int32) = zI 183 from by decide, zI_add]; exact congrArg zI (by omega), zcl (by omega), zcl (by omega)]
    refine ⟨zin (by omega) (by omega), zin (by omega) (by omega), ?_⟩
    refine xEnd hD rfl rfl (by omega) (by omega) ?_
    refine nm_r (e' := zI (mnL (TPl (dE D) i l) + mnL (TOl (dE D) (dn D) (l + 1)) + eN (dE D) i l)) (by rw [hM.1 i l h1 h2, hM.2.2 (l + 1) (by omega), zI_add, zI_add]) ⟨zin (by omega) (by omega), ?_⟩
    rw [TP_fm al, TO_fm] at *
    refine zb_eq ((fm (RQ (dE D) i l (i + 1))).1 + (fm (RO (dE D) (dn D) (l + 1))).1 + eN (dE D) i l) ((fm (RO (dE D) (dn D) i)).1) (fun r => k1 al r) (fun r => k0 (fun _ => r)) rfl (by rw [hM.2.2 i (by omega), TO_fm])
  · refine k0 (fun al => ?_)
    rw [TP_fm al] at q
    have := mn_bd (RQ_BL hE (i := i) (k := i + 1) (j := l) (by omega) (by omega) (by omega)) (RQ_ne (dE D) (l - (i + 1)) i l (i + 1) (Nat.le_refl _))
    omega
theorem to14 {D : rD} (hD : XC D fL fC aB aK aT) (hM : MT (dE D) (dn D) aM) {S : List (Nat × Nat)} (hS : ∀ p, p ∈ S → Ms fr S p.1 = p.2 ∧ Ms fr S p.2 = p.1) {B i : Nat} (hi : i < dn D) (tt : TT (dE D) (dn D) S fK aS aQ aR aW (fm (RO (dE D) (dn D) i)).2 (2 * (dn D - i)) B) {post : SX → Prop} {J : Int32 → Int32 → Int32 → Int32 → Int32 → Int32 → Int32 → Int32 → (Nat → Int32) → (Nat → Int32) → (Nat → Int32) → (Nat → Int32) → (Nat → Int32) → (Nat → Int32) → (Nat → Int32) → (Nat → Int32) → (Nat → Int32) → (Nat → Int32) → (Nat → Int32) → (Nat → Int32) → Prop}
    (HJ : ∀ i' fK aS aQ aR aW, i < i' → i' ≤ dn D → TT (dE D) (dn D) S fK aS aQ aR aW (fm (RO (dE D) (dn D) i')).2 (2 * (dn D - i')) B → J (zI (i' : Nat)) fL fC fF fT fI fJ fK aB aK aT aP aM aG aA aO aS aQ aR aW) :
    ∀ (n l : Nat), dn D - l < n → i < l → l ≤ dn D → fm (RO (dE D) (dn D) i) = fm (((rg l (dn D)).flatMap (oB (dE D) (dn D) i)) ++ RO (dE D) (dn D) (i + 1)) → wX_traceOuter_14 post J (zI (i : Nat)) fL fC fF fT fI fJ fK aB aK aT aP aM aG aA aO aS aQ aR aW n (zI (l : Nat)) := by
  have hd := hD.2.2.2.2.2
  have hn := hd.2.1
  have hE := dE_EB hd
  have lt := RO_LT hE hn (show i ≤ dn D by omega)
  rw [RO_o (dE D) hi] at lt
  intro n
  induction n with
  | zero => intro l h; omega
  | succ n ih =>
    intro l h1 h2 h3 iv
    simp only [wX_traceOuter_14]
    refine zb_le (dn D : Nat) (l : Nat) (fun q => ?_) (fun q => ?_) hD.2.1 rfl
    · unfold wX_traceOuter_37
      refine zb_le (dn D : Nat) (l : Nat) (fun _ => ?_) (fun r => by omega) hD.2.1 rfl
      refine nm_r (e' := zI ((i + 1 : Nat) : Int)) (by rw [zI_1, zI_add]; rfl) ?_
      refine HJ (i + 1) fK aS aQ aR aW (by omega) (by omega) (TT_w tt ?_ (by omega))
      rw [iv, rg_n (by omega)]
      rfl
    · have hl : l < dn D := by omega
      have iv2 : fm (RO (dE D) (dn D) i) = fm (oB (dE D) (dn D) i l ++ (((rg (l + 1) (dn D)).flatMap (oB (dE D) (dn D) i)) ++ RO (dE D) (dn D) (i + 1))) := by
        rw [iv, rg_c hl, List.flatMap_cons, List.append_assoc]
      have lB := (LT_fl (A := []) lt (l := l) (c := l + 1) (by omega) hl (by omega)).2
      refine xOuterFits hD hM rfl rfl h2 hl (fun al e => ?_) (fun e => ?_)
      · refine br_f (by decide) ?_
        unfold wX_traceOuter_37
        refine zb_le (dn D : Nat) (l : Nat) (fun r => by omega) (fun _ => ?_) hD.2.1 rfl
        have o := oB_fm hE hn h2 hl al
        have hit := fm_hit (A := oB (dE D) (dn D) i l) lB (by rw [← iv2, o]; dsimp only; omega)
        rw [← iv2, o] at hit
        refine xTake hn hS tt (i := i) (j := l) (R := (fm (RO (dE D) (dn D) (l + 1))).2) (wr := 2 * (dn D - (l + 1))) (by rw [hit]) h2 hl al (by omega) rfl rfl (fun fK aS aQ aR aW t => ?_)
        refine nm_r (e' := zI ((l + 1 : Nat) : Int)) (by rw [zI_1, zI_add]; rfl) ?_
        exact HJ (l + 1) fK aS aQ aR aW (by omega) (by omega) t
      · refine br_t rfl ?_
        refine nm_r (e' := zI ((l + 1 : Nat) : Int)) (by rw [zI_1, zI_add]; rfl) ?_
        refine ih (l + 1) (by omega) (by omega) (by omega) ?_
        by_cases al : eA (dE D) i l = true
        · have o := oB_fm hE hn h2 hl al
          rw [iv2]
          apply fm_miss lB
          rw [← iv2, o]
          have := e al
          dsimp only
          omega
        · rw [iv2]
          unfold oB
          rw [if_neg al]
          rfl
theorem to2 {D : rD} (hD : XC D fL fC aB aK aT) (hM : MT (dE D) (dn D) aM) {S : List (Nat × Nat)} (hS : ∀ p, p ∈ S → Ms fr S p.1 = p.2 ∧ Ms fr S p.2 = p.1) {B : Nat} {post : SX → Prop} (HP : ∀ fK aS aQ aR aW, TT (dE D) (dn D) S fK aS aQ aR aW [] 0 B → post (fL, fC, fF, fT, fI, fJ, fK, aB, aK, aT, aP, aM, aG, aA, aO, aS, aQ, aR, aW)) :
    ∀ (n i : Nat) (fK : Int32) (aS aQ aR aW : Nat → Int32), dn D - i < n → i ≤ dn D → TT (dE D) (dn D) S fK aS aQ aR aW (fm (RO (dE D) (dn D) i)).2 (2 * (dn D - i)) B → wX_traceOuter_2 post n (zI (i : Nat)) fL fC fF fT fI fJ fK aB aK aT aP aM aG aA aO aS aQ aR aW := by
  have hn := hD.2.2.2.2.2.2.1
  intro n
  induction n with
  | zero => intro i fK aS aQ aR aW h; omega
  | succ n ih =>
    intro i fK aS aQ aR aW h1 h2 tt
    simp only [wX_traceOuter_2]
    refine zb_le (dn D : Nat) (i : Nat) (fun q => ?_) (fun q => ?_) hD.2.1 rfl
    · refine HP fK aS aQ aR aW (TT_w tt ?_ (by omega))
      rw [RO_e _ (by omega)]
      rfl
    · refine nm_r (e' := zI ((i + 1 : Nat) : Int)) (by rw [zI_1, zI_add]; rfl) ?_
      refine ⟨dn D + 1, to14 hD hM hS (by omega) tt (fun i' fK aS aQ aR aW a b t => ih i' fK aS aQ aR aW (by omega) b t) (dn D + 1) (i + 1) (by omega) (by omega) (by omega) ?_⟩
      rw [← RO_o (dE D) (by omega)]
end
end
section
/-! the trace of a pair's inside and of a multiloop's region -/
theorem wt_0 (a b : Nat) : wt (0, a, b) = 2 * (b - a + 1) - 1 := rfl
theorem wt_1 (a b : Nat) : wt (1, a, b) = 2 * (b - a + 1) := rfl
section
variable {fL fC fF fT fI fJ fK : Int32} {aB aK aT aP aM aG aA aO aS aQ aR aW : Nat → Int32}
theorem tp39 {D : rD} (hD : XC D fL fC aB aK aT) (hM : MT (dE D) (dn D) aM) {S : List (Nat × Nat)} (hS : ∀ p, p ∈ S → Ms fr S p.1 = p.2 ∧ Ms fr S p.2 = p.1) {B wq i j k : Nat} (hik : i < k) (hkj : k + 1 < j) (hj : j < dn D) (tt : TT (dE D) (dn D) S fK aS aQ aR aW (fm (RQ (dE D) i j (i + 1))).2 wq B) (hw : 2 * (j - i + 1) - 2 ≤ wq) {post : SX → Prop} (HP : ∀ fK aS aQ aR aW, TT (dE D) (dn D) S fK aS aQ aR aW [] 0 B → post (fL, fC, fF, fT, fI, fJ, fK, aB, aK, aT, aP, aM, aG, aA, aO, aS, aQ, aR, aW)) {J : Int32 → Prop}
    (HJ : fm (RQ (dE D) i j (i + 1)) = fm (RQ (dE D) i j (k + 1)) → J (zI ((k + 1 : Nat) : Int))) :
    ∀ (n l : Nat), j - l < n → k < l → l ≤ j → fm (RQ (dE D) i j (i + 1)) = fm (((rg l j).flatMap (qB (dE D) i j k)) ++ RQ (dE D) i j (k + 1)) → wX_tracePair_39 post J (zI (i : Nat)) (zI (j : Nat)) (zI (fm (RQ (dE D) i j (i + 1))).1) (zI (eN (dE D) i j)) (zI (k : Nat)) fL fC fF fT fI fJ fK aB aK aT aP aM aG aA aO aS aQ aR aW n (zI (l : Nat)) := by
  have hd := hD.2.2.2.2.2
  have hn := hd.2.1
  have hE := dE_EB hd
  have hT := hD.2.2.2.2.1
  have lt := RQ_LT hE hik (show k ≤ j by omega) (show j < 14 by omega)
  rw [RQ_q (dE D) hkj] at lt
  have bG := mn_bd (RQ_BL hE (i := i) (k := i + 1) (j := j) (by omega) (by omega) (by omega)) (RQ_ne (dE D) (j - (i + 1)) i j (i + 1) (Nat.le_refl _))
  intro n
  induction n with
  | zero => intro l h; omega
  | succ n ih =>
    intro l h1 h2 h3 iv
    have nx : zI (l : Nat) + 1 = zI ((l + 1 : Nat) : Int) := by rw [zI_1, zI_add]; rfl
    simp only [wX_tracePair_39]
    refine zb_le (j : Nat) (l : Nat) (fun q => ?_) (fun q => ?_)
    · refine nm_r (e' := zI ((k + 1 : Nat) : Int)) (by rw [zI_1, zI_add]; rfl) ?_
      refine HJ ?_
      rw [iv, rg_n (by omega)]
      rfl
    · have hl : l < j := by omega
      have iv2 : fm (RQ (dE D) i j (i + 1)) = fm (qB (dE D) i j k l ++ (((rg (l + 1) j).flatMap (qB (dE D) i j k)) ++ RQ (dE D) i j (k + 1))) := by
        rw [iv, rg_c hl, List.flatMap_cons, List.append_assoc]
      have lB := (LT_fl (A := []) lt (l := l) (c := l + 1) (by omega) hl (by omega)).2
      have pl := pc_lt h2 (show l < 14 by omega)
      have b1 := mnL_i (TP_BL hE h2 (show l < 14 by omega))
      have b2 := mnL_i (TB_BL hE (i := l + 1) (j := j - 1) (by omega))
      have bcl : bc (l + 1) (j - 1) < 200 := by
        unfold bc
        by_cases c : l + 1 < j - 1
        · rw [if_pos c]
          have := pc_lt c (show j - 1 < 14 by omega)
          omega
        · rw [if_neg c]; omega
      have next : fm (RQ (dE D) i j (i + 1)) = fm (((rg (l + 1) j).flatMap (qB (dE D) i j k)) ++ RQ (dE D) i j (k + 1)) → wX_tracePair_39 post J (zI (i : Nat)) (zI (j : Nat)) (zI (fm (RQ (dE D) i j (i + 1))).1) (zI (eN (dE D) i j)) (zI (k : Nat)) fL fC fF fT fI fJ fK aB aK aT aP aM aG aA aO aS aQ aR aW n (zI ((l + 1 : Nat) : Int)) := fun e => ih (l + 1) (by omega) (by omega) (by omega) e
      refine xPairCell rfl rfl h2 (by omega) ⟨zin (by omega) (by omega), ?_⟩
      rw [zcl (by omega)]
      refine nm_r (hM.1 k l h2 (by omega)) ?_
      refine zb_lt (mnL (TPl (dE D) k l)) 1048576 (fun r => ?_) (fun r => ?_)
      · have al : eA (dE D) k l = true := by
          by_cases c : eA (dE D) k l = true
          · exact c
          · rw [TPl_f c] at r
            exact absurd r (by decide)
        have m := mC_bd hE (i := i) (j := j) (k := k) (l := l) hik (by omega)
        have s := hE.2.2.1 i j k l hik h2 hl (by omega)
        have qf := qB_fm hE (by omega) hik h2 hl al
        obtain ⟨d1, d2, d3⟩ := blk_dec (A := qB (dE D) i j k l) (a := (fm (RQ (dE D) k l (k + 1))).1) (by rw [qf]) lB (RB_BL hE (k := l + 1) (j := j - 1) (by omega)) (by omega) (by omega)
        rw [← iv2] at d1 d2 d3
        rw [TP_fm al] at *
        refine xBranchCell (i := l + 1) (j := j - 1) nx (by rw [zI_1, zI_sub]; exact congrArg zI (by omega)) (by omega) (by omega) ⟨zin bcl (by omega), ?_⟩
        rw [zcl (by omega)]
        refine nm_r (hM.2.1 (l + 1) (j - 1) (by omega)) ?_
        rw [TB_fm] at *
        refine xEnd hD rfl rfl (by omega) (by omega) ?_
        refine nm_r (e' := zI (mC (dE D) i j k l + (fm (RQ (dE D) k l (k + 1))).1 + (fm (RB (dE D) (l + 1) (j - 1))).1)) (by rw [hT 13 (by omega), hT 14 (by omega), hT 15 (by omega), zI_1, zI_sub, zI_sub, show (2 : Int32) = zI 2 from by decide, zI_mul, zI_mul, zI_add, zI_add, zI_add, zI_add, zI_add, zI_add]; rfl) ?_
        refine xSingle hD rfl rfl rfl rfl hik h2 hl (by omega) ?_
        refine nm_r (zI_add _ _) ?_
        have low : (RB (dE D) (l + 1) (j - 1) ≠ [] → mC (dE D) i j k l + (fm (RB (dE D) (l + 1) (j - 1))).1 + (fm (RQ (dE D) k l (k + 1))).1 ≠ (fm (RQ (dE D) i j (i + 1))).1) → wX_tracePair_189 post J (wX_tracePair_39 post J (zI (i : Nat)) (zI (j : Nat)) (zI (fm (RQ (dE D) i j (i + 1))).1) (zI (eN (dE D) i j)) (zI (k : Nat)) fL fC fF fT fI fJ fK aB aK aT aP aM aG aA aO aS aQ aR aW n) (zI (i : Nat)) (zI (j : Nat)) (zI (fm (RQ (dE D) i j (i + 1))).1) (zI (eN (dE D) i j)) (zI (k : Nat)) (zI (l : Nat)) (zI (eS (dE D) i j k l + (fm (RQ (dE D) k l (k + 1))).1)) fL fC fF fT fI fJ fK aB aK aT aP aM aG aA aO aS aQ aR aW := by
          intro no
          unfold wX_tracePair_189
          refine zb_eq (eS (dE D) i j k l + (fm (RQ (dE D) k l (k + 1))).1) (fm (RQ (dE D) i j (i + 1))).1 (fun e => ?_) (fun e => ?_)
          · obtain ⟨e1, e2⟩ := d2 no e
            rw [qf, e1] at e2
            refine xTake hn hS tt (i := k) (j := l) (R := []) (wr := 0) (by rw [e2]) h2 (by omega) al (by omega) rfl rfl (fun fK aS aQ aR aW t => ?_)
            exact HP fK aS aQ aR aW t
          · exact nm_r nx (next (d3 no e))
        refine zb_le 1048576 (fm (RB (dE D) (l + 1) (j - 1))).1 (fun c => ?_) (fun c => ?_)
        · refine low (fun w => ?_)
          have := mn_bd (RB_BL hE (k := l + 1) (j := j - 1) (by omega)) w
          omega
        · have ne : RB (dE D) (l + 1) (j - 1) ≠ [] := by
            intro w
            rw [w] at c
            exact absurd c (by decide)
          refine zb_eq (mC (dE D) i j k l + (fm (RQ (dE D) k l (k + 1))).1 + (fm (RB (dE D) (l + 1) (j - 1))).1) (fm (RQ (dE D) i j (i + 1))).1 (fun e => ?_) (fun e => low (fun _ => by omega))
          obtain ⟨e1, e2⟩ := d1 ne (by omega)
          rw [qf, e1] at e2
          have lj : l + 1 < j - 1 := by
            by_cases z : l + 1 < j - 1
            · exact z
            · exact absurd (RB_e _ z) ne
          refine xTake hn hS tt (i := k) (j := l) (R := (fm (RB (dE D) (l + 1) (j - 1))).2) (wr := 2 * (j - 1 - (l + 1) + 1)) (by rw [e2]) h2 (by omega) al (by omega) rfl rfl (fun fK aS aQ aR aW t => ?_)
          refine xAddTask hn t (kd := 1) (a := l + 1) (b := j - 1) (R := []) (wr := 0) (fun p => ⟨Or.inl, fun z => z.elim id (fun z => nomatch z)⟩) ⟨lj, by show j - 1 < dn D; omega, Or.inr ⟨rfl, ne⟩⟩ (by rw [wt_1]; omega) rfl nx (by rw [zI_1, zI_sub]; exact congrArg zI (by omega)) (fun fK aQ aR aW t => ?_)
          exact HP fK _ aQ aR aW t
      · refine nm_r nx (next ?_)
        have al : ¬ eA (dE D) k l = true := by
          intro al
          rw [TP_fm al] at r
          have := mn_bd (RQ_BL hE (i := k) (k := k + 1) (j := l) (by omega) (by omega) (by omega)) (RQ_ne (dE D) (l - (k + 1)) k l (k + 1) (Nat.le_refl _))
          omega
        rw [iv2]
        unfold qB
        rw [if_neg al]
        rfl
theorem tp25 {D : rD} (hD : XC D fL fC aB aK aT) (hM : MT (dE D) (dn D) aM) {S : List (Nat × Nat)} (hS : ∀ p, p ∈ S → Ms fr S p.1 = p.2 ∧ Ms fr S p.2 = p.1) {B wq i j : Nat} (hj : j < dn D) (tt : TT (dE D) (dn D) S fK aS aQ aR aW (fm (RQ (dE D) i j (i + 1))).2 wq B) (hw : 2 * (j - i + 1) - 2 ≤ wq) {post : SX → Prop} (HP : ∀ fK aS aQ aR aW, TT (dE D) (dn D) S fK aS aQ aR aW [] 0 B → post (fL, fC, fF, fT, fI, fJ, fK, aB, aK, aT, aP, aM, aG, aA, aO, aS, aQ, aR, aW)) :
    ∀ (n k : Nat), j - k < n → i < k → k ≤ j → fm (RQ (dE D) i j (i + 1)) = fm (RQ (dE D) i j k) → wX_tracePair_25 post (zI (i : Nat)) (zI (j : Nat)) (zI (fm (RQ (dE D) i j (i + 1))).1) (zI (eN (dE D) i j)) fL fC fF fT fI fJ fK aB aK aT aP aM aG aA aO aS aQ aR aW n (zI (k : Nat)) := by
  have hn := hD.2.2.2.2.2.2.1
  have hE := dE_EB hD.2.2.2.2.2
  intro n
  induction n with
  | zero => intro k h; omega
  | succ n ih =>
    intro k h1 h2 h3 iv
    simp only [wX_tracePair_25]
    refine zb_le ((j : Int) - 1) (k : Nat) (fun q => ?_) (fun q => ?_) (by rw [zI_1, zI_sub]) rfl
    · refine HP fK aS aQ aR aW (TT_w tt ?_ (by omega))
      have b := hE.2.1 i j (by omega) (by omega)
      have e : fm [((eH (dE D) i j, []) : rT)] = (eH (dE D) i j, []) := fm_ct (show eH (dE D) i j ≤ 1048576 by omega)
      rw [iv, RQ_e _ (by omega), e]
    · refine nm_r (e' := zI ((k + 1 : Nat) : Int)) (by rw [zI_1, zI_add]; rfl) ?_
      refine ⟨j + 1, tp39 hD hM hS h2 (by omega) hj tt hw HP (fun e => ih (k + 1) (by omega) (by omega) (by omega) e) (j + 1) (k + 1) (by omega) (by omega) (by omega) ?_⟩
      rw [iv, RQ_q (dE D) (by omega)]
theorem xTracePair {D : rD} (hD : XC D fL fC aB aK aT) (hM : MT (dE D) (dn D) aM) {S : List (Nat × Nat)} (hS : ∀ p, p ∈ S → Ms fr S p.1 = p.2 ∧ Ms fr S p.2 = p.1) {B wq i j : Nat} (hij : i < j) (hj : j < dn D) (al : eA (dE D) i j = true) (tt : TT (dE D) (dn D) S fK aS aQ aR aW (fm (RQ (dE D) i j (i + 1))).2 wq B) (hw : 2 * (j - i + 1) - 2 ≤ wq) {P Q : Int32} (hP : P = zI (i : Nat)) (hQ : Q = zI (j : Nat)) {post : SX → Prop} (HP : ∀ fK aS aQ aR aW, TT (dE D) (dn D) S fK aS aQ aR aW [] 0 B → post (fL, fC, fF, fT, fI, fJ, fK, aB, aK, aT, aP, aM, aG, aA, aO, aS, aQ, aR, aW)) : wpX_tracePair post (fL, fC, fF, fT, fI, fJ, fK, aB, aK, aT, aP, aM, aG, aA, aO, aS, aQ, aR, aW) P Q := by
  have hn := hD.2.2.2.2.2.2.1
  have pl := pc_lt hij (show j < 14 by omega)
  subst hP hQ
  simp only [wpX_tracePair]
  refine xPairCell rfl rfl hij (by omega) ⟨zin (by omega) (by omega), ?_⟩
  rw [zcl (by omega)]
  refine nm_r (hM.1 i j hij hj) ?_
  rw [TP_fm al]
  refine xEnd hD rfl rfl (by omega) (by omega) ?_
  refine nm_r (e' := zI ((i + 1 : Nat) : Int)) (by rw [zI_1, zI_add]; rfl) ?_
  exact ⟨j + 1, tp25 hD hM hS hj tt hw HP (j + 1) (i + 1) (by omega) (by omega) (by omega) rfl⟩
theorem xBranchFits {D : rD} (hD : XC D fL fC aB aK aT) (hM : MT (dE D) (dn D) aM) {i l j : Nat} {g : Int} (g1 : -100000 ≤ g) (g2 : g ≤ 100000) (h1 : i < l) (h2 : l ≤ j) (hj : j < dn D) {P Q R T : Int32} (hP : P = zI (i : Nat)) (hQ : Q = zI (l : Nat)) (hR : R = zI (j : Nat)) (hG : T = zI g) {post : Int32 → Prop}
    (k2 : eA (dE D) i l = true → RB (dE D) (l + 1) j ≠ [] → e14 (dE D) + eN (dE D) i l + (fm (RB (dE D) (l + 1) j)).1 + (fm (RQ (dE D) i l (i + 1))).1 = g → post 2)
    (k1 : eA (dE D) i l = true → (RB (dE D) (l + 1) j ≠ [] → e14 (dE D) + eN (dE D) i l + (fm (RB (dE D) (l + 1) j)).1 + (fm (RQ (dE D) i l (i + 1))).1 ≠ g) → e14 (dE D) + eN (dE D) i l + e15 (dE D) * ((j : Int) - l) + (fm (RQ (dE D) i l (i + 1))).1 = g → post 1)
    (k0 : (eA (dE D) i l = true → (RB (dE D) (l + 1) j ≠ [] → e14 (dE D) + eN (dE D) i l + (fm (RB (dE D) (l + 1) j)).1 + (fm (RQ (dE D) i l (i + 1))).1 ≠ g) ∧ e14 (dE D) + eN (dE D) i l + e15 (dE D) * ((j : Int) - l) + (fm (RQ (dE D) i l (i + 1))).1 ≠ g) → post 0) : wpX_branchFits post (fL, fC, fF, fT, fI, fJ, fK, aB, aK, aT, aP, aM, aG, aA, aO, aS, aQ, aR, aW) P Q R T := by
  have hd := hD.2.2.2.2.2
  have hn := hd.2.1
  have hE := dE_EB hd
  have hT := hD.2.2.2.2.1
  have pl := pc_lt h1 (show l < 14 by omega)
  have b1 := mnL_i (TP_BL hE h1 (show l < 14 by omega))
  have b2 := mnL_i (TB_BL hE (i := l + 1) (j := j) (by omega))
  obtain ⟨c1, -, -, -, c5, c6⟩ := id hE
  have c1 := c1 i l
  have c7 := mul_bd c6.1 c6.2 (x := (j : Int) - l) (by omega) (by omega)
  have nx : zI (l : Nat) + 1 = zI ((l + 1 : Nat) : Int) := by rw [zI_1, zI_add]; rfl
  have bcl : bc (l + 1) j < 200 := by
    unfold bc
    by_cases c : l + 1 < j
    · rw [if_pos c]
      have := pc_lt c (show j < 14 by omega)
      omega
    · rw [if_neg c]; omega
  subst hP hQ hR hG
  simp only [wpX_branchFits]
  refine xPairCell rfl rfl h1 (by omega) ⟨zin (by omega) (by omega), ?_⟩
  rw [zcl (by omega)]
  refine nm_r (hM.1 i l h1 (by omega)) ?_
  refine zb_lt (mnL (TPl (dE D) i l)) 1048576 (fun r => ?_) (fun r => ?_)
  · have al : eA (dE D) i l = true := by
      by_cases c : eA (dE D) i l = true
      · exact c
      · rw [TPl_f c] at r
        exact absurd r (by decide)
    rw [TP_fm al] at *
    refine xEnd hD rfl rfl (by omega) (by omega) ?_
    refine nm_r (e' := zI ((fm (RQ (dE D) i l (i + 1))).1 + e14 (dE D) + eN (dE D) i l)) (by rw [hT 14 (by omega), zI_add, zI_add]; rfl) ?_
    refine xBranchCell (i := l + 1) (j := j) nx rfl (by omega) (by omega) ⟨zin bcl (by omega), ?_⟩
    rw [zcl (by omega)]
    refine nm_r (hM.2.1 (l + 1) j hj) ?_
    rw [TB_fm] at *
    have low : (RB (dE D) (l + 1) j ≠ [] → e14 (dE D) + eN (dE D) i l + (fm (RB (dE D) (l + 1) j)).1 + (fm (RQ (dE D) i l (i + 1))).1 ≠ g) → wX_branchFits_75 post (zI (l : Nat)) (zI (j : Nat)) (zI g) (zI ((fm (RQ (dE D) i l (i + 1))).1 + e14 (dE D) + eN (dE D) i l)) fL fC fF fT fI fJ fK aB aK aT aP aM aG aA aO aS aQ aR aW := by
      intro no
      unfold wX_branchFits_75
      refine zb_eq ((fm (RQ (dE D) i l (i + 1))).1 + e14 (dE D) + eN (dE D) i l + e15 (dE D) * ((j : Int) - l)) g (fun e => k1 al no (by omega)) (fun e => k0 (fun _ => ⟨no, by omega⟩)) ?_ rfl
      rw [hT 15 (by omega), zI_sub, zI_mul, zI_add]
      rfl
    refine zb_le 1048576 (fm (RB (dE D) (l + 1) j)).1 (fun c => ?_) (fun c => ?_)
    · refine low (fun w => ?_)
      have := mn_bd (RB_BL hE (k := l + 1) (j := j) (by omega)) w
      omega
    · have ne : RB (dE D) (l + 1) j ≠ [] := by
        intro w
        rw [w] at c
        exact absurd c (by decide)
      exact zb_eq ((fm (RQ (dE D) i l (i + 1))).1 + e14 (dE D) + eN (dE D) i l + (fm (RB (dE D) (l + 1) j)).1) g (fun e => k2 al ne (by omega)) (fun e => low (fun _ => by omega)) (zI_add _ _) rfl
  · refine k0 (fun al => ?_)
    rw [TP_fm al] at r
    have := mn_bd (RQ_BL hE (i := i) (k := i + 1) (j := l) (by omega) (by omega) (by omega)) (RQ_ne (dE D) (l - (i + 1)) i l (i + 1) (Nat.le_refl _))
    omega
/-- how = 0 so far -/
theorem tb28 {D : rD} (hD : XC D fL fC aB aK aT) (hM : MT (dE D) (dn D) aM) {S : List (Nat × Nat)} (hS : ∀ p, p ∈ S → Ms fr S p.1 = p.2 ∧ Ms fr S p.2 = p.1) {B wq i j : Nat} (hij : i < j) (hj : j < dn D) (nR : RB (dE D) i j ≠ []) (tt : TT (dE D) (dn D) S fK aS aQ aR aW (fm (RB (dE D) i j)).2 wq B) (hw : 2 * (j - i + 1) - 1 ≤ wq) {post : SX → Prop} (HP : ∀ fK aS aQ aR aW, TT (dE D) (dn D) S fK aS aQ aR aW [] 0 B → post (fL, fC, fF, fT, fI, fJ, fK, aB, aK, aT, aP, aM, aG, aA, aO, aS, aQ, aR, aW)) {J : Int32 → Prop}
    (HJ : RB (dE D) (i + 1) j ≠ [] → (fm (RB (dE D) i j)).2 = (fm (RB (dE D) (i + 1) j)).2 → J (zI ((i + 1 : Nat) : Int))) :
    ∀ (n l : Nat), j + 2 - l < n → i < l → l ≤ j + 1 → fm (RB (dE D) i j) = fm (((rg l (j + 1)).flatMap (bB (dE D) j i)) ++ (RB (dE D) (i + 1) j).map (sh (e15 (dE D)))) → wX_traceBranches_28 post J (zI (j : Nat)) (zI (i : Nat)) (zI (fm (RB (dE D) i j)).1) fL fC fF fT fI fJ fK aB aK aT aP aM aG aA aO aS aQ aR aW n (zI (l : Nat)) 0 := by
  have hd := hD.2.2.2.2.2
  have hn := hd.2.1
  have hE := dE_EB hd
  have lt := RB_LT hE (k := i) (show j < 14 by omega)
  rw [RB_b (dE D) hij] at lt
  have bG := mn_bd (RB_BL hE (k := i) (j := j) (by omega)) nR
  obtain ⟨c1, -, -, -, c5, c6⟩ := id hE
  intro n
  induction n with
  | zero => intro l h; omega
  | succ n ih =>
    intro l h1 h2 h3 iv
    have nx : zI (l : Nat) + 1 = zI ((l + 1 : Nat) : Int) := by rw [zI_1, zI_add]; rfl
    simp only [wX_traceBranches_28]
    refine zb_lt (j : Nat) (l : Nat) (fun q => ?_) (fun q => ?_)
    · unfold wX_traceBranches_57
      refine br_t rfl ?_
      refine nm_r (e' := zI ((i + 1 : Nat) : Int)) (by rw [zI_1, zI_add]; rfl) ?_
      rw [rg_n (by omega)] at iv
      have iv : fm (RB (dE D) i j) = fm ((RB (dE D) (i + 1) j).map (sh (e15 (dE D)))) := iv
      have ne : RB (dE D) (i + 1) j ≠ [] := by
        intro w
        rw [w] at iv
        rw [iv] at bG
        exact absurd bG.2 (show ¬ ((1048576 : Int) ≤ 100000) by decide)
      refine HJ ne ?_
      rw [iv, fm_sh ne (RB_LT hE (by omega)) (LT_app.mp lt).2]
    · have hl : l ≤ j := by omega
      have iv2 : fm (RB (dE D) i j) = fm (bB (dE D) j i l ++ (((rg (l + 1) (j + 1)).flatMap (bB (dE D) j i)) ++ (RB (dE D) (i + 1) j).map (sh (e15 (dE D))))) := by
        rw [iv, rg_c (by omega), List.flatMap_cons, List.append_assoc]
      have lB := (LT_fl (A := []) lt (l := l) (c := l + 1) (by omega) (by omega) (by omega)).2
      have c1 := c1 i l
      have c7 := mul_bd c6.1 c6.2 (x := (j : Int) - l) (by omega) (by omega)
      have exit : ∀ r : Int32, ¬ r = 0 → wX_traceBranches_57 post J (zI (j : Nat)) (zI (i : Nat)) (zI ((l + 1 : Nat) : Int)) r fL fC fF fT fI fJ fK aB aK aT aP aM aG aA aO aS aQ aR aW → 1 ≤ n → wX_traceBranches_28 post J (zI (j : Nat)) (zI (i : Nat)) (zI (fm (RB (dE D) i j)).1) fL fC fF fT fI fJ fK aB aK aT aP aM aG aA aO aS aQ aR aW n (zI ((l + 1 : Nat) : Int)) r := by
        intro r hr h hn1
        cases n with
        | zero => omega
        | succ n =>
          simp only [wX_traceBranches_28]
          exact br_c (fun _ => h) (fun _ => br_f hr h)
      refine br_t (by trivial) ?_
      have dec : eA (dE D) i l = true → _ := fun al => blk_dec (E := dE D) (A := bB (dE D) j i l) (a := (fm (RQ (dE D) i l (i + 1))).1) (R := RB (dE D) (l + 1) j) (c := e14 (dE D) + eN (dE D) i l) (s := e14 (dE D) + eN (dE D) i l + e15 (dE D) * ((j : Int) - l)) (by rw [bB_fm hE (by omega) h2 hl al]) lB (RB_BL hE (by omega)) (by omega) (by omega)
      rw [← iv2] at dec
      have lm : zI ((l + 1 : Nat) : Int) - 1 = zI (l : Nat) := by rw [zI_1, zI_sub]; exact congrArg zI (by omega)
      refine xBranchFits hD hM bG.1 bG.2 h2 hl hj rfl rfl rfl rfl (fun al ne e => ?_) (fun al no e => ?_) (fun no => ?_)
      · obtain ⟨e1, e2⟩ := (dec al).1 ne e
        rw [bB_fm hE (by omega) h2 hl al, e1] at e2
        refine nm_r nx (exit 2 (by decide) ?_ (by omega))
        unfold wX_traceBranches_57
        refine br_f (by decide) ?_
        have lj : l + 1 < j := by
          by_cases z : l + 1 < j
          · exact z
          · exact absurd (RB_e _ z) ne
        refine xTake hn hS tt (i := i) (j := l) (R := (fm (RB (dE D) (l + 1) j)).2) (wr := 2 * (j - (l + 1) + 1)) (by rw [e2]) h2 (by omega) al (by omega) rfl lm (fun fK aS aQ aR aW t => ?_)
        refine br_t rfl ?_
        refine xAddTask hn t (kd := 1) (a := l + 1) (b := j) (R := []) (wr := 0) (fun p => ⟨Or.inl, fun z => z.elim id (fun z => nomatch z)⟩) ⟨lj, hj, Or.inr ⟨rfl, ne⟩⟩ (by rw [wt_1]; omega) rfl rfl rfl (fun fK aQ aR aW t => ?_)
        exact HP fK _ aQ aR aW t
      · obtain ⟨e1, e2⟩ := (dec al).2.1 no e
        rw [bB_fm hE (by omega) h2 hl al, e1] at e2
        refine nm_r nx (exit 1 (by decide) ?_ (by omega))
        unfold wX_traceBranches_57
        refine br_f (by decide) ?_
        refine xTake hn hS tt (i := i) (j := l) (R := []) (wr := 0) (by rw [e2]) h2 (by omega) al (by omega) rfl lm (fun fK aS aQ aR aW t => ?_)
        exact br_f (by decide) (HP fK aS aQ aR aW t)
      · refine nm_r nx (ih (l + 1) (by omega) (by omega) (by omega) ?_)
        by_cases al : eA (dE D) i l = true
        · exact (dec al).2.2 (no al).1 (no al).2
        · rw [iv2]
          unfold bB
          rw [if_neg al]
          rfl
theorem tb2 {D : rD} (hD : XC D fL fC aB aK aT) (hM : MT (dE D) (dn D) aM) {S : List (Nat × Nat)} (hS : ∀ p, p ∈ S → Ms fr S p.1 = p.2 ∧ Ms fr S p.2 = p.1) {B wq j : Nat} (hj : j < dn D) {post : SX → Prop} (HP : ∀ fK aS aQ aR aW, TT (dE D) (dn D) S fK aS aQ aR aW [] 0 B → post (fL, fC, fF, fT, fI, fJ, fK, aB, aK, aT, aP, aM, aG, aA, aO, aS, aQ, aR, aW)) :
    ∀ (n i : Nat), j - i < n → RB (dE D) i j ≠ [] → TT (dE D) (dn D) S fK aS aQ aR aW (fm (RB (dE D) i j)).2 wq B → 2 * (j - i + 1) - 1 ≤ wq → wX_traceBranches_2 post (zI (j : Nat)) fL fC fF fT fI fJ fK aB aK aT aP aM aG aA aO aS aQ aR aW n (zI (i : Nat)) := by
  have hn := hD.2.2.2.2.2.2.1
  intro n
  induction n with
  | zero => intro i h; omega
  | succ n ih =>
    intro i h1 h2 tt hw
    have hij : i < j := by
      by_cases z : i < j
      · exact z
      · exact absurd (RB_e _ z) h2
    have pl := pc_lt hij (show j < 14 by omega)
    simp only [wX_traceBranches_2]
    refine zb_le (j : Nat) (i : Nat) (fun q => by omega) (fun q => ?_)
    refine xBranchCell rfl rfl (by omega) (by omega) ?_
    have e : bc i j = 91 + pc i j := if_pos hij
    refine ⟨by rw [e]; exact zin (by omega) (by omega), ?_⟩
    rw [zcl (by omega)]
    refine nm_r (hM.2.1 i j hj) ?_
    rw [TB_fm]
    refine nm_r (e' := zI ((i + 1 : Nat) : Int)) (by rw [zI_1, zI_add]; rfl) ?_
    refine ⟨j + 3, tb28 hD hM hS hij hj h2 tt hw HP (fun ne e => ih (i + 1) (by omega) ne (TT_w tt e (Nat.le_refl _)) (by omega)) (j + 3) (i + 1) (by omega) (by omega) (by omega) ?_⟩
    rw [← RB_b (dE D) hij]
theorem xTraceBranches {D : rD} (hD : XC D fL fC aB aK aT) (hM : MT (dE D) (dn D) aM) {S : List (Nat × Nat)} (hS : ∀ p, p ∈ S → Ms fr S p.1 = p.2 ∧ Ms fr S p.2 = p.1) {B wq i j : Nat} (hj : j < dn D) (nR : RB (dE D) i j ≠ []) (tt : TT (dE D) (dn D) S fK aS aQ aR aW (fm (RB (dE D) i j)).2 wq B) (hw : 2 * (j - i + 1) - 1 ≤ wq) {P Q : Int32} (hP : P = zI (i : Nat)) (hQ : Q = zI (j : Nat)) {post : SX → Prop} (HP : ∀ fK aS aQ aR aW, TT (dE D) (dn D) S fK aS aQ aR aW [] 0 B → post (fL, fC, fF, fT, fI, fJ, fK, aB, aK, aT, aP, aM, aG, aA, aO, aS, aQ, aR, aW)) : wpX_traceBranches post (fL, fC, fF, fT, fI, fJ, fK, aB, aK, aT, aP, aM, aG, aA, aO, aS, aQ, aR, aW) P Q := by
  subst hP hQ
  simp only [wpX_traceBranches]
  exact ⟨j + 1, tb2 hD hM hS hj HP (j + 1) i (by omega) nR tt hw⟩
theorem tr32 {D : rD} (hD : XC D fL fC aB aK aT) (hM : MT (dE D) (dn D) aM) {S : List (Nat × Nat)} (hS : ∀ p, p ∈ S → Ms fr S p.1 = p.2 ∧ Ms fr S p.2 = p.1) {post : SX → Prop} (HP : ∀ fK aS aQ aR aW, AI 14 aS (Ms fr S) → post (fL, fC, fF, 1, fI, fJ, fK, aB, aK, aT, aP, aM, aG, aA, aO, aS, aQ, aR, aW)) :
    ∀ (n B x : Nat) (fK : Int32) (aS aQ aR aW : Nat → Int32), B < n → x + B ≤ 64 → TT (dE D) (dn D) S fK aS aQ aR aW [] 0 B → wX_trace_32 post n (zI (x : Nat)) fL fC fF fT fI fJ fK aB aK aT aP aM aG aA aO aS aQ aR aW := by
  have hn := hD.2.2.2.2.2.2.1
  intro n
  induction n with
  | zero => intro B x fK aS aQ aR aW h; omega
  | succ n ih =>
    intro B x fK aS aQ aR aW h1 h2 tt
    obtain ⟨f, s, top, g1, g2, g3, g4, g5⟩ := tt
    have tp := TI_top g4
    have fin : top = 0 → post (fL, fC, fF, 1, fI, fJ, fK, aB, aK, aT, aP, aM, aG, aA, aO, aS, aQ, aR, aW) := by
      intro e
      subst e
      exact HP fK aS aQ aR aW (fun y hy => by rw [g2 y hy, TI_end g4 y hy])
    have nx : zI (x : Nat) + 1 = zI ((x + 1 : Nat) : Int) := by rw [zI_1, zI_add]; rfl
    simp only [wX_trace_32]
    refine zb_le 64 (x : Nat) (fun q => fin (by omega)) (fun q => ?_)
    refine zb_le (top : Nat) 0 (fun r => fin (by omega)) (fun r => ?_) g1 rfl
    obtain ⟨t, rfl⟩ : ∃ t, top = t + 1 := ⟨top - 1, by omega⟩
    refine nm_r (e' := zI (t : Nat)) (by rw [g1, zI_1, zI_sub]; exact congrArg zI (by omega)) ?_
    rw [zcl (by omega)]
    have c := g3 t (by omega)
    obtain ⟨p1, p2⟩ := TI_pop g4
    refine ⟨zin (by omega) (by omega), nm_r c.2.1 ⟨zin (by omega) (by omega), nm_r c.2.2 ⟨zin (by omega) (by omega), ?_⟩⟩⟩
    rw [c.1]
    have tt : TT (dE D) (dn D) S (zI (t : Nat)) aS aQ aR aW (tL (dE D) (s t)) (wt (s t) - 1) (B - 1) := ⟨f, s, t, rfl, g2, fun y hy => g3 y (by omega), p1, by omega⟩
    generalize s t = v at *
    obtain ⟨kd, a, b⟩ := v
    obtain ⟨v1, v2, v3⟩ := p2
    dsimp only at v1 v2 v3 ⊢
    rcases v3 with ⟨v3, v4⟩ | ⟨v3, v4⟩
    · subst v3
      refine br_t rfl ?_
      refine xTracePair hD hM hS v1 v2 v4 (TT_w tt rfl (Nat.le_refl _)) (by rw [wt_0]; omega) rfl rfl (fun fK aS aQ aR aW t => ?_)
      exact nm_r nx (ih (B - 1) (x + 1) fK aS aQ aR aW (by omega) (by omega) t)
    · subst v3
      refine br_f (by decide) ?_
      refine xTraceBranches hD hM hS v2 v4 (TT_w tt rfl (Nat.le_refl _)) (by rw [wt_1]; omega) rfl rfl (fun fK aS aQ aR aW t => ?_)
      exact nm_r nx (ih (B - 1) (x + 1) fK aS aQ aR aW (by omega) (by omega) t)
theorem tr2 {D : rD} (hD : XC D fL fC aB aK aT) (hM : MT (dE D) (dn D) aM) {post : SX → Prop} (HP : ∀ fK aS aQ aR aW, AI 14 aS (Ms fr (fm (RO (dE D) (dn D) 0)).2) → post (fL, fC, fF, 1, fI, fJ, fK, aB, aK, aT, aP, aM, aG, aA, aO, aS, aQ, aR, aW)) :
    ∀ (n x : Nat) (aS : Nat → Int32), 14 - x < n → x ≤ 14 → (∀ y, y < x → aS y = zI (-1)) → wX_trace_2 post fL fC fF fT fI fJ fK n (zI (x : Nat)) aB aK aT aP aM aG aA aO aS aQ aR aW := by
  have hn := hD.2.2.2.2.2.2.1
  have hE := dE_EB hD.2.2.2.2.2
  intro n
  induction n with
  | zero => intro x aS h; omega
  | succ n ih =>
    intro x aS h1 h2 i1
    simp only [wX_trace_2]
    refine zb_le 14 (x : Nat) (fun q => ?_) (fun q => ?_)
    · simp only [wpX_traceOuter]
      refine ⟨dn D + 1, to2 hD hM (RO_has hE hn) (B := 28) (fun fK aS aQ aR aW tt => ?_) (dn D + 1) 0 _ aS aQ aR aW (by omega) (by omega) ?_⟩
      · exact ⟨29, tr32 hD hM (RO_has hE hn) HP 29 28 0 fK aS aQ aR aW (by omega) (by omega) tt⟩
      · refine ⟨fr, fun _ => (0, 0, 0), 0, rfl, fun y hy => i1 y (by omega), fun y hy => by omega, ⟨fun y _ => Or.inl rfl, fun p hp => Or.inr (Or.inl hp), fun y hy => by omega, fun p hp => hp, ?_⟩, Nat.le_refl _⟩
        show 0 + 2 * (dn D - 0) ≤ 28
        omega
    · rw [zcl (by omega), zI_nm1]
      refine ⟨zin (by omega) (by omega), fun a ea => ?_⟩
      refine nm_r (e' := zI ((x + 1 : Nat) : Int)) (by rw [zI_1, zI_add]; rfl) ?_
      refine ih (x + 1) a (by omega) (by omega) (fun y hy => ?_)
      rw [ea]
      by_cases e : y = x
      · subst e; rw [pk_us]
      · rw [pk_un e]; exact i1 y (by omega)
theorem xTrace {D : rD} (hD : XC D fL fC aB aK aT) (hM : MT (dE D) (dn D) aM) {post : SX → Prop} (HP : ∀ fK aS aQ aR aW, AI 14 aS (Ms fr (fm (RO (dE D) (dn D) 0)).2) → post (fL, fC, fF, 1, fI, fJ, fK, aB, aK, aT, aP, aM, aG, aA, aO, aS, aQ, aR, aW)) : wpX_trace post (fL, fC, fF, fT, fI, fJ, fK, aB, aK, aT, aP, aM, aG, aA, aO, aS, aQ, aR, aW) := by
  simp only [wpX_trace]
  exact ⟨15, tr2 hD hM HP 15 0 aS (by omega) (by omega) (fun y hy => by omega)⟩
end
end
section
/-! the reference's readers and its way through the foldings -/
def sty (x y : Int) : Int := if stx x y = 3 then -1 else stx x y
theorem sty_eq : ∀ a b : Int, 0 ≤ a → a ≤ 3 → 0 ≤ b → b ≤ 3 → sty a b = if (a = 1 ∧ b = 2) ∨ (a = 2 ∧ b = 1) then 0 else if (a = 0 ∧ b = 3) ∨ (a = 3 ∧ b = 0) then 1 else if (a = 2 ∧ b = 3) ∨ (a = 3 ∧ b = 2) then 2 else -1 := by
  intro a b a1 a2 b1 b2
  have ha : a = 0 ∨ a = 1 ∨ a = 2 ∨ a = 3 := by omega
  have hb : b = 0 ∨ b = 1 ∨ b = 2 ∨ b = 3 := by omega
  rcases ha with rfl | rfl | rfl | rfl <;> rcases hb with rfl | rfl | rfl | rfl <;> decide
theorem sty_lt {a b : Int} : stx a b < 3 → sty a b = stx a b := by
  intro h
  unfold sty
  rw [if_neg (by omega)]
theorem sty_0 {a b : Int} : sty a b = 0 ↔ stx a b = 0 := by
  unfold sty
  by_cases h : stx a b = 3
  · rw [if_pos h]; omega
  · rw [if_neg h]
theorem sty_n {a b : Int} : sty a b < 0 ↔ ¬ stx a b < 3 := by
  have := stx_r a b
  unfold sty
  by_cases h : stx a b = 3
  · rw [if_pos h]; omega
  · rw [if_neg h]; omega
def MB (M : Nat → Int) : Prop := ∀ x, x < 14 → -1 ≤ M x ∧ M x < 14
section
variable {gL gM gN : Int32} {bB bK bT bP bM bS : Nat → Int32}
theorem yStr {D : rD} (hD : XC D gM gN bB bK bT) {post : Int32 → Prop} {i j : Nat} {P Q : Int32} (hP : P = zI (i : Nat)) (hQ : Q = zI (j : Nat)) (hi : i < 14) (hj : j < 14) (h : post (zI (sty (db D i) (db D j)))) : wpY_strength post (gL, gM, gN, bB, bK, bT, bP, bM, bS) P Q := by
  obtain ⟨-, -, hB, -, -, hd⟩ := hD
  have b1 := hd.2.2.1 i hi
  have b2 := hd.2.2.1 j hj
  subst hP hQ
  rw [sty_eq _ _ b1.1 b1.2 b2.1 b2.2] at h
  simp only [wpY_strength]
  rw [zcl (by omega), zcl (by omega), hB i hi, hB j hj]
  generalize db D i = a at *
  generalize db D j = b at *
  have s72 : ¬ (a = 1 ∧ b = 2) → ¬ (a = 2 ∧ b = 1) → ¬ (a = 0 ∧ b = 3) → ¬ (a = 3 ∧ b = 0) → ¬ (a = 2 ∧ b = 3) → wY_strength_72 post (zI a) (zI b) gL gM gN bB bK bT bP bM bS := by
    intro n1 n2 n3 n4 n5
    unfold wY_strength_72
    rw [if_neg (by omega), if_neg (by omega)] at h
    refine zb_eq a 3 (fun c => zb_eq b 2 (fun d => by rw [if_pos (by omega)] at h; exact h) (fun d => by rw [if_neg (by omega)] at h; exact h)) (fun c => by rw [if_neg (by omega)] at h; exact h)
  have s61 : ¬ (a = 1 ∧ b = 2) → ¬ (a = 2 ∧ b = 1) → ¬ (a = 0 ∧ b = 3) → ¬ (a = 3 ∧ b = 0) → wY_strength_61 post (zI a) (zI b) gL gM gN bB bK bT bP bM bS := by
    intro n1 n2 n3 n4
    unfold wY_strength_61
    refine zb_eq a 2 (fun c => zb_eq b 3 (fun d => by rw [if_neg (by omega), if_neg (by omega), if_pos (by omega)] at h; exact h) (fun d => s72 n1 n2 n3 n4 (by omega))) (fun c => s72 n1 n2 n3 n4 (by omega))
  have s49 : ¬ (a = 1 ∧ b = 2) → ¬ (a = 2 ∧ b = 1) → ¬ (a = 0 ∧ b = 3) → wY_strength_49 post (zI a) (zI b) gL gM gN bB bK bT bP bM bS := by
    intro n1 n2 n3
    unfold wY_strength_49
    refine zb_eq a 3 (fun c => zb_eq b 0 (fun d => by rw [if_neg (by omega), if_pos (by omega)] at h; exact h) (fun d => s61 n1 n2 n3 (by omega))) (fun c => s61 n1 n2 n3 (by omega))
  have s39 : ¬ (a = 1 ∧ b = 2) → ¬ (a = 2 ∧ b = 1) → wY_strength_39 post (zI a) (zI b) gL gM gN bB bK bT bP bM bS := by
    intro n1 n2
    unfold wY_strength_39
    refine zb_eq a 0 (fun c => zb_eq b 3 (fun d => by rw [if_neg (by omega), if_pos (by omega)] at h; exact h) (fun d => s49 n1 n2 (by omega))) (fun c => s49 n1 n2 (by omega))
  have s26 : ¬ (a = 1 ∧ b = 2) → wY_strength_26 post (zI a) (zI b) gL gM gN bB bK bT bP bM bS := by
    intro n1
    unfold wY_strength_26
    refine zb_eq a 2 (fun c => zb_eq b 1 (fun d => by rw [if_pos (by omega)] at h; exact h) (fun d => s39 n1 (by omega))) (fun c => s39 n1 (by omega))
  refine ⟨zin hi (by omega), nm_e ⟨zin hj (by omega), nm_e ?_⟩⟩
  exact zb_eq a 1 (fun c => zb_eq b 2 (fun d => by rw [if_pos (by omega)] at h; exact h) (fun d => s26 (by omega))) (fun c => s26 (by omega))
theorem yCan {D : rD} (hD : XC D gM gN bB bK bT) {post : Int32 → Prop} {i j : Nat} {P Q : Int32} (hP : P = zI (i : Nat)) (hQ : Q = zI (j : Nat)) (hij : i < j) (hj : j < dn D) (h1 : eA (dE D) i j = true → post 1) (h0 : eA (dE D) i j = false → post 0) : wpY_canPair post (gL, gM, gN, bB, bK, bT, bP, bM, bS) P Q := by
  obtain ⟨hL, hC, hB, hK, -, hd⟩ := id hD
  have hn := hd.2.1
  have hm := hd.1
  have b1 := hd.2.2.2.1 i (by omega)
  have b2 := hd.2.2.2.1 j hj
  have s := stx_r (db D i) (db D j)
  simp only [wpY_canPair]
  refine zb_lt (i : Nat) 0 (fun c => by omega) (fun _ => ?_) hP rfl
  refine zb_le (j : Nat) (i : Nat) (fun c => by omega) (fun _ => ?_) hQ hP
  refine zb_lt (j : Nat) (dn D : Nat) (fun _ => ?_) (fun c => by omega) hQ hC
  have e : Q - P - 1 = zI ((j : Int) - i - 1) := by rw [hP, hQ, zI_1, zI_sub, zI_sub]
  refine zb_lt ((j : Int) - i - 1) (dm D) (fun c => h0 (dA_f (fun q => by omega))) (fun c => ?_) e hL
  refine ⟨by rw [hP]; exact zin (by omega) (by omega), ?_⟩
  refine zb_eq (dl D i) 0 (fun c1 => ?_) (fun c1 => h0 (dA_f (fun q => c1 q.2.1))) (by rw [hP, zcl (by omega)]; exact hK i (by omega)) rfl
  refine ⟨by rw [hQ]; exact zin (by omega) (by omega), ?_⟩
  refine zb_eq (dl D j) 0 (fun c2 => ?_) (fun c2 => h0 (dA_f (fun q => c2 q.2.2.1))) (by rw [hQ, zcl (by omega)]; exact hK j hj) rfl
  refine yStr hD hP hQ (by omega) (by omega) ?_
  have sr : -1 ≤ sty (db D i) (db D j) ∧ sty (db D i) (db D j) ≤ 3 := by unfold sty; split <;> omega
  refine zb_lt (sty (db D i) (db D j)) 0 (fun c3 => h0 (dA_f (fun q => (sty_n.mp c3) q.2.2.2))) (fun c3 => h1 (dA_t ⟨by omega, c1, c2, ?_⟩))
  have := sty_n (a := db D i) (b := db D j)
  omega
theorem yCanPair {D : rD} (hD : XC D gM gN bB bK bT) {post : Int32 → Prop} {P Q : Int32} (h1 : ∀ i j : Nat, P = zI (i : Nat) → Q = zI (j : Nat) → i < j → j < dn D → eA (dE D) i j = true → post 1) (h0 : (∀ i j : Nat, P = zI (i : Nat) → Q = zI (j : Nat) → i < j → j < dn D → eA (dE D) i j = false) → post 0) : wpY_canPair post (gL, gM, gN, bB, bK, bT, bP, bM, bS) P Q := by
  obtain ⟨p, rfl, p1, p2⟩ := zI_of P
  obtain ⟨q, rfl, q1, q2⟩ := zI_of Q
  have hn := hD.2.2.2.2.2.2.1
  have inj : ∀ {x : Int} {k : Nat}, -2147483648 ≤ x → x < 2147483648 → k < 14 → zI x = zI (k : Nat) → x = k := fun a b c d => (zI_eq a b (by omega) (by omega)).mp d
  by_cases c : 0 ≤ p ∧ p < q ∧ q < dn D
  · have ep : p = (p.toNat : Int) := by omega
    have eq : q = (q.toNat : Int) := by omega
    refine yCan hD (i := p.toNat) (j := q.toNat) (congrArg zI ep) (congrArg zI eq) (by omega) (by omega) (fun a => h1 _ _ (congrArg zI ep) (congrArg zI eq) (by omega) (by omega) a) (fun a => h0 (fun i j e1 e2 _ _ => ?_))
    have e3 := inj q1 q2 (by omega) e2
    have e4 := inj p1 p2 (by omega) e1
    rw [show i = p.toNat by omega, show j = q.toNat by omega]
    exact a
  · have z : post 0 := h0 (fun i j e1 e2 h1 h2 => by have := inj q1 q2 (by omega) e2; have := inj p1 p2 (by omega) e1; omega)
    simp only [wpY_canPair]
    refine zb_lt p 0 (fun _ => z) (fun c1 => ?_)
    refine zb_le q p (fun _ => z) (fun c2 => ?_)
    exact zb_lt q (dn D : Nat) (fun c3 => absurd ⟨c1, c2, c3⟩ c) (fun _ => z) rfl hD.2.1
/-- one pair of the folding at hand, and (i, j) -/
def noX (M : Nat → Int) (i j k : Nat) : Prop := (k : Int) < M k → ¬ ((i < k ∧ k < j ∧ (j : Int) < M k) ∨ (k < i ∧ (i : Int) < M k ∧ M k < j))
theorem yf22 {D : rD} (hD : XC D gM gN bB bK bT) {M : Nat → Int} (hM : AI 14 bM M) (mb : MB M) {post : Int32 → Prop} {i j : Nat} (hi : i < 14) (hj : j < 14) (h1 : (∀ k, k < dn D → noX M i j k) → post 1) (h0 : ¬ (∀ k, k < dn D → noX M i j k) → post 0) :
    ∀ (n k : Nat), dn D - k < n → k ≤ dn D → (∀ x, x < k → noX M i j x) → wY_fits_22 post (zI (i : Nat)) (zI (j : Nat)) gL gM gN bB bK bT bP bM bS n (zI (k : Nat)) := by
  have hn := hD.2.2.2.2.2.2.1
  intro n
  induction n with
  | zero => intro k h; omega
  | succ n ih =>
    intro k a1 a2 iv
    simp only [wY_fits_22]
    refine zb_le (dn D : Nat) (k : Nat) (fun q => h1 (fun x hx => iv x (by omega))) (fun q => ?_) hD.2.1 rfl
    have hk : k < dn D := by omega
    have b := mb k (by omega)
    rw [zcl (by omega)]
    refine ⟨zin (by omega) (by omega), nm_r (hM k (by omega)) ?_⟩
    have nx : noX M i j k → wY_fits_22 post (zI (i : Nat)) (zI (j : Nat)) gL gM gN bB bK bT bP bM bS n (zI ((k + 1 : Nat) : Int)) := fun v => ih (k + 1) (by omega) (by omega) (fun x hx => by
      by_cases e : x = k
      · subst e; exact v
      · exact iv x (by omega))
    have e1 : zI (k : Nat) + 1 = zI ((k + 1 : Nat) : Int) := by rw [zI_1, zI_add]; rfl
    have bad : ¬ noX M i j k → post 0 := fun v => h0 (fun w => v (w k hk))
    rw [e1]
    refine zb_le (M k) (k : Nat) (fun c => nm_e (nx (fun w => by omega))) (fun c => ?_)
    have late : ¬ (i < k ∧ k < j ∧ (j : Int) < M k) → wY_fits_60 post (wY_fits_22 post (zI (i : Nat)) (zI (j : Nat)) gL gM gN bB bK bT bP bM bS n) (zI (i : Nat)) (zI (j : Nat)) (zI (k : Nat)) (zI (M k)) gL gM gN bB bK bT bP bM bS := by
      intro v
      unfold wY_fits_60
      rw [e1]
      refine zb_le (i : Nat) (k : Nat) (fun d => nm_e (nx (fun w z => by omega))) (fun d => ?_)
      refine zb_le (M k) (i : Nat) (fun d1 => nm_e (nx (fun w z => by omega))) (fun d1 => ?_)
      exact zb_le (j : Nat) (M k) (fun d2 => nm_e (nx (fun w z => by omega))) (fun d2 => bad (fun w => w c (Or.inr (by omega))))
    refine zb_le (k : Nat) (i : Nat) (fun d => late (by omega)) (fun d => ?_)
    refine zb_le (j : Nat) (k : Nat) (fun d1 => late (by omega)) (fun d1 => ?_)
    exact zb_lt (j : Nat) (M k) (fun d2 => bad (fun w => w c (Or.inl (by omega)))) (fun d2 => late (by omega))
theorem yFits {D : rD} (hD : XC D gM gN bB bK bT) {M : Nat → Int} (hM : AI 14 bM M) (mb : MB M) {post : Int32 → Prop} {i j : Nat} {P Q : Int32} (hP : P = zI (i : Nat)) (hQ : Q = zI (j : Nat)) (hi : i < 14) (hj : j < 14) (h1 : fitP M (dn D) i j → post 1) (h0 : ¬ fitP M (dn D) i j → post 0) : wpY_fits post (gL, gM, gN, bB, bK, bT, bP, bM, bS) P Q := by
  have b1 := mb i hi
  have b2 := mb j hj
  subst hP hQ
  simp only [wpY_fits]
  rw [zcl (by omega), zcl (by omega)]
  refine ⟨zin hi (by omega), ?_⟩
  refine zb_le 0 (M i) (fun c => h0 (fun w => by have := w.1; omega)) (fun c => ⟨zin hj (by omega), ?_⟩) rfl (hM i hi)
  refine zb_lt (M j) 0 (fun c1 => ?_) (fun c1 => h0 (fun w => by have := w.2.1; omega)) (hM j hj) rfl
  exact ⟨dn D + 1, yf22 hD hM mb hi hj (fun w => h1 ⟨c, c1, fun k a b => w k a b⟩) (fun w => h0 (fun v => w (fun k a b => v.2.2 k a b))) (dn D + 1) 0 (by omega) (by omega) (fun x hx => by omega)⟩
theorem MB_pu {M : Nat → Int} {p q : Nat} (h : MB M) (hp : p < 14) (hq : q < 14) : MB (pu M p q) := by
  intro x hx
  unfold pu
  split
  · omega
  · split
    · omega
    · exact h x hx
theorem AI_pu {a : Nat → Int32} {M : Nat → Int} (h : AI 14 a M) {p q : Nat} (hpq : p ≠ q) : AI 14 (upd (upd a p (zI (q : Nat))) q (zI (p : Nat))) (pu M p q) := by
  intro x hx
  unfold pu
  by_cases e : x = q
  · subst e; rw [pk_us, if_neg (by omega), if_pos rfl]
  · rw [pk_un e]
    by_cases e2 : x = p
    · subst e2; rw [pk_us, if_pos rfl]
    · rw [pk_un e2, if_neg e2, if_neg e]; exact h x hx
theorem yp2 {D : rD} (hD : XC D gM gN bB bK bT) {M : Nat → Int} (hM : AI 14 bM M) (mb : MB M) {post : Int32 → SY → Prop} {p : Nat} (hp : p < dn D) {R : Nat → Int} (K : ∀ r bM, AI 14 bM R → MB R → post r (gL, gM, gN, bB, bK, bT, bP, bM, bS)) :
    ∀ (n q : Nat), dn D - q < n → p < q → q < 20 → R = pairF (dE D) (dn D) M p q → wY_pairUp_2 post (zI (p : Nat)) gL gM gN bB bK bT bP bM bS n (zI (q : Nat)) := by
  have hn := hD.2.2.2.2.2.2.1
  intro n
  induction n with
  | zero => intro q h; omega
  | succ n ih =>
    intro q a1 a2 a3 iv
    simp only [wY_pairUp_2]
    refine zb_le (dn D : Nat) (q : Nat) (fun c => ?_) (fun c => ?_) hD.2.1 rfl
    · rw [pairF_e (by omega)] at iv
      subst iv
      exact K 0 bM hM mb
    · have hq : q < dn D := by omega
      have e1 : zI (q : Nat) + 1 = zI ((q + 1 : Nat) : Int) := by rw [zI_1, zI_add]; rfl
      rw [e1]
      refine yCan hD rfl rfl a2 hq (fun al => ?_) (fun al => ?_)
      · refine br_f (by decide) ?_
        refine yFits hD hM mb rfl rfl (by omega) (by omega) (fun ft => ?_) (fun ft => ?_)
        · refine br_f (by decide) ?_
          rw [zcl (by omega), zcl (by omega)]
          refine ⟨zin (by omega) (by omega), nm_e ⟨zin (by omega) (by omega), nm_e ?_⟩⟩
          rw [pairF_t hq ⟨al, ft⟩] at iv
          subst iv
          exact K 1 _ (AI_pu hM (by omega)) (MB_pu mb (by omega) (by omega))
        · exact br_t rfl (nm_e (ih (q + 1) (by omega) (by omega) (by omega) (by rw [iv, pairF_f hq (fun w => ft w.2)])))
      · exact br_t rfl (nm_e (ih (q + 1) (by omega) (by omega) (by omega) (by rw [iv, pairF_f hq (fun w => by rw [w.1] at al; cases al)])))
theorem yPairUp {D : rD} (hD : XC D gM gN bB bK bT) {M : Nat → Int} (hM : AI 14 bM M) (mb : MB M) {post : Int32 → SY → Prop} {p q : Nat} {P Q : Int32} (hP : P = zI (p : Nat)) (hQ : Q = zI (q : Nat)) (hp : p < dn D) (hpq : p < q) (hq : q < 20) (K : ∀ r bM, AI 14 bM (pairF (dE D) (dn D) M p q) → MB (pairF (dE D) (dn D) M p q) → post r (gL, gM, gN, bB, bK, bT, bP, bM, bS)) : wpY_pairUp post (gL, gM, gN, bB, bK, bT, bP, bM, bS) P Q := by
  subst hP hQ
  simp only [wpY_pairUp]
  exact ⟨dn D + 1, yp2 hD hM mb hp K (dn D + 1) q (by omega) hpq hq rfl⟩
theorem yl2 {D : rD} (hD : XC D gM gN bB bK bT) {post : SY → Prop} {R : Nat → Int} (K : ∀ bM, AI 14 bM R → MB R → post (gL, gM, gN, bB, bK, bT, bP, bM, bS)) :
    ∀ (n p : Nat) (M : Nat → Int) (bM : Nat → Int32), AI 14 bM M → MB M → dn D - p < n → p < 20 → R = fillF (dE D) (dn D) p M → wY_fill_2 post n (zI (p : Nat)) gL gM gN bB bK bT bP bM bS := by
  have hn := hD.2.2.2.2.2.2.1
  intro n
  induction n with
  | zero => intro p M bM hM mb h; omega
  | succ n ih =>
    intro p M bM hM mb a1 a2 iv
    simp only [wY_fill_2]
    refine zb_le (dn D : Nat) (p : Nat) (fun c => ?_) (fun c => ?_) hD.2.1 rfl
    · rw [fillF_e (by omega)] at iv
      subst iv
      exact K bM hM mb
    · have hp : p < dn D := by omega
      have b := mb p (by omega)
      have e1 : zI (p : Nat) + 1 = zI ((p + 1 : Nat) : Int) := by rw [zI_1, zI_add]; rfl
      rw [zcl (by omega), e1]
      refine ⟨zin (by omega) (by omega), ?_⟩
      refine zb_le 0 (M p) (fun d => ?_) (fun d => ?_) rfl (hM p (by omega))
      · exact nm_e (ih (p + 1) M bM hM mb (by omega) (by omega) (by rw [iv, fillF_f hp (by omega)]))
      · refine yPairUp hD hM mb rfl rfl hp (by omega) (by omega) (fun r bM hM mb => ?_)
        exact nm_e (ih (p + 1) _ bM hM mb (by omega) (by omega) (by rw [iv, fillF_t hp d]))
theorem yFill {D : rD} (hD : XC D gM gN bB bK bT) {M : Nat → Int} (hM : AI 14 bM M) (mb : MB M) {post : SY → Prop} {p : Nat} {P : Int32} (hP : P = zI (p : Nat)) (hp : p < 20) (K : ∀ bM, AI 14 bM (fillF (dE D) (dn D) p M) → MB (fillF (dE D) (dn D) p M) → post (gL, gM, gN, bB, bK, bT, bP, bM, bS)) : wpY_fill post (gL, gM, gN, bB, bK, bT, bP, bM, bS) P := by
  subst hP
  simp only [wpY_fill]
  exact ⟨dn D + 1, yl2 hD K (dn D + 1) p M bM hM mb (by omega) hp rfl⟩
theorem yt2 {D : rD} (hD : XC D gM gN bB bK bT) {post : SY → Prop} (K : ∀ bM, AI 14 bM (fillF (dE D) (dn D) 0 fr) → MB (fillF (dE D) (dn D) 0 fr) → post (gL, gM, gN, bB, bK, bT, bP, bM, bS)) :
    ∀ (n x : Nat) (bM : Nat → Int32), 14 - x < n → x ≤ 14 → (∀ y, y < x → bM y = zI (-1)) → wY_toFirst_2 post gL gM gN n (zI (x : Nat)) bB bK bT bP bM bS := by
  intro n
  induction n with
  | zero => intro x bM h; omega
  | succ n ih =>
    intro x bM a1 a2 iv
    simp only [wY_toFirst_2]
    refine zb_le 14 (x : Nat) (fun c => ?_) (fun c => ?_)
    · refine yFill hD (M := fr) (p := 0) (fun y hy => iv y (by omega)) (fun y hy => by show (-1 : Int) ≤ -1 ∧ (-1 : Int) < 14; omega) rfl (by omega) (fun bM hM mb => K bM hM mb)
    · rw [zcl (by omega)]
      refine ⟨zin (by omega) (by omega), nm_e ?_⟩
      refine nm_r (e' := zI ((x + 1 : Nat) : Int)) (by rw [zI_1, zI_add]; rfl) ?_
      refine ih (x + 1) _ (by omega) (by omega) (fun y hy => ?_)
      by_cases e : y = x
      · subst e; rw [pk_us]; decide
      · rw [pk_un e]; exact iv y (by omega)
theorem yToFirst {D : rD} (hD : XC D gM gN bB bK bT) {post : SY → Prop} (K : ∀ bM, AI 14 bM (fillF (dE D) (dn D) 0 fr) → MB (fillF (dE D) (dn D) 0 fr) → post (gL, gM, gN, bB, bK, bT, bP, bM, bS)) : wpY_toFirst post (gL, gM, gN, bB, bK, bT, bP, bM, bS) := by
  simp only [wpY_toFirst]
  exact ⟨15, yt2 hD K 15 0 bM (by omega) (by omega) (fun y hy => by omega)⟩
theorem yn7 {D : rD} (hD : XC D gM gN bB bK bT) {M : Nat → Int} (hM : AI 14 bM M) (mb : MB M) {post : Int32 → SY → Prop} (K1 : ∀ M' bM, nextF (dE D) (dn D) M = some M' → AI 14 bM M' → MB M' → post 1 (gL, gM, gN, bB, bK, bT, bP, bM, bS)) (K0 : nextF (dE D) (dn D) M = none → post 0 (gL, gM, gN, bB, bK, bT, bP, bM, bS)) :
    ∀ (x n : Nat), x < n → x ≤ dn D → nextF (dE D) (dn D) M = nF (dE D) (dn D) M x → wY_toNext_7 post gL gM gN bB bK bT bP bM bS n (zI ((x : Int) - 1)) := by
  have hn := hD.2.2.2.2.2.2.1
  intro x
  induction x with
  | zero =>
    intro n a1 a2 iv
    cases n with
    | zero => omega
    | succ n =>
      simp only [wY_toNext_7]
      exact zb_lt (((0 : Nat) : Int) - 1) 0 (fun _ => K0 iv) (fun c => by omega)
  | succ x ih =>
    intro n a1 a2 iv
    cases n with
    | zero => omega
    | succ n =>
      have b := mb x (by omega)
      simp only [wY_toNext_7]
      rw [show ((x + 1 : Nat) : Int) - 1 = (x : Nat) by omega, show zI (x : Nat) + 1 = zI ((x + 1 : Nat) : Int) by rw [zI_1, zI_add]; rfl]
      refine zb_lt (x : Nat) 0 (fun c => by omega) (fun _ => ?_)
      rw [zcl (by omega)]
      refine ⟨zin (by omega) (by omega), nm_r (hM x (by omega)) ?_⟩
      have iv : nextF (dE D) (dn D) M = if (x : Int) < M x then some (stepF (dE D) (dn D) M x) else nF (dE D) (dn D) M x := iv
      refine zb_le (M x) (x : Nat) (fun c => ?_) (fun c => ?_)
      · rw [if_neg (by omega)] at iv
        exact nm_r (e' := zI ((x : Int) - 1)) (by rw [zI_m1, zI_add]; rfl) (ih n (by omega) (by omega) iv)
      · rw [if_pos c] at iv
        have em : M x = ((M x).toNat : Int) := by omega
        have ez : zI (M x) = zI (((M x).toNat : Nat) : Int) := congrArg zI em
        refine ⟨zin (by omega) (by omega), nm_e ?_⟩
        rw [ez, zcl (by omega)]
        refine ⟨zin (by omega) (by omega), nm_e ?_⟩
        have h1 : AI 14 (upd (upd bM x (-1)) (M x).toNat (-1)) (ud (ud M x (-1)) (M x).toNat (-1)) := AI_ud (AI_ud hM x (-1) (by decide)) _ (-1) (by decide)
        have h2 : MB (ud (ud M x (-1)) (M x).toNat (-1)) := by
          intro y hy
          unfold ud
          split
          · omega
          · split
            · omega
            · exact mb y hy
        refine yPairUp hD h1 h2 rfl (by rw [zI_1, zI_add]; rfl) (q := (M x).toNat + 1) (by omega) (by omega) (by omega) (fun r bM hM mb => ?_)
        refine yFill hD hM mb rfl (by omega) (fun bM hM mb => ?_)
        exact K1 _ bM iv hM mb
theorem yToNext {D : rD} (hD : XC D gM gN bB bK bT) {M : Nat → Int} (hM : AI 14 bM M) (mb : MB M) {post : Int32 → SY → Prop} (K1 : ∀ M' bM, nextF (dE D) (dn D) M = some M' → AI 14 bM M' → MB M' → post 1 (gL, gM, gN, bB, bK, bT, bP, bM, bS)) (K0 : nextF (dE D) (dn D) M = none → post 0 (gL, gM, gN, bB, bK, bT, bP, bM, bS)) : wpY_toNext post (gL, gM, gN, bB, bK, bT, bP, bM, bS) := by
  have hn := hD.2.2.2.2.2.2.1
  simp only [wpY_toNext]
  refine nm_r (e' := zI ((dn D : Int) - 1)) (by rw [hD.2.1, zI_1, zI_sub]) ?_
  exact ⟨dn D + 1, yn7 hD hM mb K1 K0 (dn D) (dn D + 1) (by omega) (by omega) rfl⟩
end
end
section
/-! the reference's energy of the folding at hand -/
theorem sA_bd (m : Nat → Int) (j : Nat) : ∀ f p, j - p ≤ f → sA m j p ≤ ((j - p : Nat) : Int) := by
  intro f
  unfold sA
  induction f with
  | zero => intro p h; rw [SC_e (by omega)]; omega
  | succ f ih =>
    intro p h
    by_cases q : p < j
    · by_cases r : (p : Int) < m p
      · rw [SC_b q (q := (m p).toNat) (by omega) (by omega)]
        have := ih ((m p).toNat + 1) (by omega)
        omega
      · rw [SC_u q (by omega)]
        have := ih (p + 1) (by omega)
        omega
    · rw [SC_e (by omega)]; omega
theorem sU_0 (m : Nat → Int) (j : Nat) : ∀ f p, j - p ≤ f → p ≤ j → sA m j p = 0 → sU m j p = (j : Int) - p := by
  intro f
  unfold sU
  induction f with
  | zero => intro p h h2 _; rw [SC_e (by omega)]; omega
  | succ f ih =>
    intro p h h2 h0
    by_cases q : p < j
    · by_cases r : (p : Int) < m p
      · have z := sA_0 m j (j - ((m p).toNat + 1)) ((m p).toNat + 1) (Nat.le_refl _)
        unfold sA at h0 z
        rw [SC_b q (q := (m p).toNat) (by omega) (by omega)] at h0
        omega
      · unfold sA at h0 ih
        rw [SC_u q (by omega)] at h0
        rw [SC_u q (by omega), ih (p + 1) (by omega) (by omega) (by omega)]
        omega
    · rw [SC_e (by omega)]; omega
theorem SK_any (m : Nat → Int) (j : Nat) : ∀ f p k k', j - p ≤ f → sA m j p ≠ 0 → SK m j p k = SK m j p k' := by
  intro f
  induction f with
  | zero => intro p k k' h h0; unfold sA at h0; rw [SC_e (by omega)] at h0; exact absurd rfl h0
  | succ f ih =>
    intro p k k' h h0
    by_cases q : p < j
    · by_cases r : (p : Int) < m p
      · rw [SK_b q (q := (m p).toNat) (by omega) (by omega), SK_b q (q := (m p).toNat) (by omega) (by omega)]
      · unfold sA at h0 ih
        rw [SC_u q (by omega)] at h0
        rw [SK_u q (by omega), SK_u q (by omega)]
        exact ih (p + 1) k k' (by omega) (by omega)
    · unfold sA at h0; rw [SC_e (by omega)] at h0; exact absurd rfl h0
theorem SK_br (m : Nat → Int) (j : Nat) : ∀ f p k, j - p ≤ f → (SK m j p k = k ∨ (p ≤ SK m j p k ∧ SK m j p k < j ∧ (SK m j p k : Int) < m (SK m j p k))) ∧ (sA m j p ≠ 0 → p ≤ SK m j p k ∧ SK m j p k < j ∧ (SK m j p k : Int) < m (SK m j p k)) := by
  intro f
  induction f with
  | zero => intro p k h; rw [SK_e (by omega)]; unfold sA; rw [SC_e (by omega)]; exact ⟨Or.inl rfl, fun h => absurd rfl h⟩
  | succ f ih =>
    intro p k h
    by_cases q : p < j
    · by_cases r : (p : Int) < m p
      · rw [SK_b q (q := (m p).toNat) (by omega) (by omega)]
        have := (ih ((m p).toNat + 1) p (by omega)).1
        have z : p ≤ SK m j ((m p).toNat + 1) p ∧ SK m j ((m p).toNat + 1) p < j ∧ (SK m j ((m p).toNat + 1) p : Int) < m (SK m j ((m p).toNat + 1) p) := by
          rcases this with e | e
          · rw [e]; exact ⟨Nat.le_refl _, q, r⟩
          · exact ⟨by omega, e.2⟩
        exact ⟨Or.inr z, fun _ => z⟩
      · rw [SK_u q (by omega)]
        have := ih (p + 1) k (by omega)
        unfold sA at this ⊢
        rw [SC_u q (by omega)]
        refine ⟨this.1.imp id (fun e => ⟨by omega, e.2⟩), fun h => ?_⟩
        have := this.2 (by omega)
        exact ⟨by omega, this.2⟩
    · rw [SK_e (by omega)]; unfold sA; rw [SC_e (by omega)]; exact ⟨Or.inl rfl, fun h => absurd rfl h⟩
section
variable {gL gM gN : Int32} {bB bK bT bP bM bS : Nat → Int32}
theorem yEnd {D : rD} (hD : XC D gM gN bB bK bT) {post : Int32 → Prop} {i j : Nat} {P Q : Int32} (hP : P = zI (i : Nat)) (hQ : Q = zI (j : Nat)) (hi : i < 14) (hj : j < 14) (h : post (zI (eN (dE D) i j))) : wpY_end post (gL, gM, gN, bB, bK, bT, bP, bM, bS) P Q := by
  have s := stx_r (db D i) (db D j)
  have sr : -1 ≤ sty (db D i) (db D j) ∧ sty (db D i) (db D j) ≤ 3 := by unfold sty; split <;> omega
  simp only [wpY_end]
  refine yStr hD hP hQ hi hj ?_
  have h : post (zI (dEn D i j)) := h
  unfold dEn at h
  refine zb_eq (sty (db D i) (db D j)) 0 (fun c => by rw [if_pos (sty_0.mp c)] at h; exact h) (fun c => by rw [if_neg (fun w => c (sty_0.mpr w))] at h; rw [hD.2.2.2.2.1 16 (by omega)]; exact h)
theorem yd18 {M : Nat → Int} (hM : AI 14 bM M) (mb : MB M) {post : Int32 → Prop} {i j k : Nat} (hk : k < 14) (hj : j ≤ 14) (h1 : vis M (i + 1) j k → post 1) (h0 : ¬ vis M (i + 1) j k → post 0) :
    ∀ (n p : Nat), k - p < n → i < p → p ≤ k → (∀ x, i < x → x < p → ¬ (M k < M x ∧ M x < j)) → wY_directlyInside_18 post (zI (k : Nat)) (zI (M k)) (zI (j : Nat)) gL gM gN bB bK bT bP bM bS n (zI (p : Nat)) := by
  have bk := mb k hk
  intro n
  induction n with
  | zero => intro p h; omega
  | succ n ih =>
    intro p a1 a2 a3 iv
    have bp := mb p
    have e1 : zI (p : Nat) + 1 = zI ((p + 1 : Nat) : Int) := by rw [zI_1, zI_add]; rfl
    simp only [wY_directlyInside_18]
    refine zb_le (k : Nat) (p : Nat) (fun c => h1 (fun x a b => iv x (by omega) (by omega))) (fun c => ?_)
    have bp := bp (by omega)
    have nx : ¬ (M k < M p ∧ M p < j) → wY_directlyInside_18 post (zI (k : Nat)) (zI (M k)) (zI (j : Nat)) gL gM gN bB bK bT bP bM bS n (zI ((p + 1 : Nat) : Int)) := fun v => ih (p + 1) (by omega) (by omega) (by omega) (fun x a b => by
      by_cases e : x = p
      · subst e; exact v
      · exact iv x a (by omega))
    rw [zcl (by omega), e1]
    refine ⟨zin (by omega) (by omega), ?_⟩
    refine zb_le (M p) (M k) (fun d => nm_e (nx (fun w => by omega))) (fun d => ⟨zin (by omega) (by omega), ?_⟩) (hM p (by omega)) rfl
    exact zb_le (j : Nat) (M p) (fun d1 => nm_e (nx (fun w => by omega))) (fun d1 => h0 (fun w => w p (by omega) (by omega) ⟨d, d1⟩)) rfl (hM p (by omega))
theorem yDirect {M : Nat → Int} (hM : AI 14 bM M) (mb : MB M) {post : Int32 → Prop} {i j k : Nat} (hik : i < k) (hk : k < 14) (hj : j ≤ 14) (hkj : M k < j) {P0 P1 P2 P3 : Int32} (p0 : P0 = zI (k : Nat)) (p1 : P1 = zI (M k)) (p2 : P2 = zI (i : Nat)) (p3 : P3 = zI (j : Nat)) (h1 : vis M (i + 1) j k → post 1) (h0 : ¬ vis M (i + 1) j k → post 0) : wpY_directlyInside post (gL, gM, gN, bB, bK, bT, bP, bM, bS) P0 P1 P2 P3 := by
  have bk := mb k hk
  subst p0 p1 p2 p3
  simp only [wpY_directlyInside]
  refine zb_le (k : Nat) (i : Nat) (fun c => by omega) (fun _ => ?_)
  refine zb_lt (M k) (j : Nat) (fun _ => ?_) (fun c => by omega)
  refine nm_r (e' := zI ((i + 1 : Nat) : Int)) (by rw [zI_1, zI_add]; rfl) ?_
  exact ⟨k + 1, yd18 hM mb hk hj h1 h0 (k + 1) (i + 1) (by omega) (by omega) (by omega) (fun x a b => by omega)⟩
theorem yq7 {M : Nat → Int} (hM : AI 14 bM M) (mb : MB M) {post : Int32 → Prop} {i j : Nat} (hj : j ≤ 14) (hV : VC M (i + 1) j) {tot : Int} (h : post (zI tot)) :
    ∀ (n k : Nat) (c : Int), j - k < n → i < k → k ≤ j → c + sT (fun k => ic ((k : Int) < M k ∧ vis M (i + 1) j k) 1 0) (j - k) k = tot → wY_pairsDirectlyInside_7 post (zI (i : Nat)) (zI (j : Nat)) gL gM gN bB bK bT bP bM bS n (zI c) (zI (k : Nat)) := by
  intro n
  induction n with
  | zero => intro k c h; omega
  | succ n ih =>
    intro k c a1 a2 a3 iv
    have e1 : zI (k : Nat) + 1 = zI ((k + 1 : Nat) : Int) := by rw [zI_1, zI_add]; rfl
    simp only [wY_pairsDirectlyInside_7]
    refine zb_le (j : Nat) (k : Nat) (fun q => ?_) (fun q => ?_)
    · rw [show j - k = 0 by omega] at iv
      have : c + 0 = tot := iv
      rw [show c = tot by omega]
      exact h
    · have bk := mb k (by omega)
      rw [show j - k = (j - (k + 1)) + 1 by omega] at iv
      have iv : c + (ic ((k : Int) < M k ∧ vis M (i + 1) j k) 1 0 + sT (fun k => ic ((k : Int) < M k ∧ vis M (i + 1) j k) 1 0) (j - (k + 1)) (k + 1)) = tot := iv
      have hkj : M k < j := by
        rcases hV.1 k (by omega) (by omega) with u | ⟨y, r⟩ <;> omega
      rw [zcl (by omega), e1]
      refine ⟨zin (by omega) (by omega), ?_⟩
      refine zb_le (M k) (k : Nat) (fun r => ?_) (fun r => ⟨zin (by omega) (by omega), ?_⟩) (hM k (by omega)) rfl
      · rw [ic_f (fun w => by omega)] at iv
        exact nm_e (ih (k + 1) c (by omega) (by omega) (by omega) (by omega))
      · refine yDirect hM mb a2 (by omega) hj hkj rfl (hM k (by omega)) rfl rfl (fun v => br_f (by decide) ?_) (fun v => br_t rfl ?_)
        · rw [ic_t ⟨r, v⟩] at iv
          refine nm_r (e' := zI (c + 1)) (by rw [zI_1, zI_add]) (nm_e ?_)
          exact ih (k + 1) (c + 1) (by omega) (by omega) (by omega) (by omega)
        · rw [ic_f (fun w => v w.2)] at iv
          exact nm_e (ih (k + 1) c (by omega) (by omega) (by omega) (by omega))
theorem yPairsIn {M : Nat → Int} (hM : AI 14 bM M) (mb : MB M) {post : Int32 → Prop} {i j : Nat} (hij : i < j) (hj : j ≤ 14) (hV : VC M (i + 1) j) {P Q : Int32} (hP : P = zI (i : Nat)) (hQ : Q = zI (j : Nat)) (h : post (zI (sA M j (i + 1)))) : wpY_pairsDirectlyInside post (gL, gM, gN, bB, bK, bT, bP, bM, bS) P Q := by
  subst hP hQ
  simp only [wpY_pairsDirectlyInside]
  refine nm_r (e' := zI ((i + 1 : Nat) : Int)) (by rw [zI_1, zI_add]; rfl) ?_
  refine ⟨j + 1, yq7 hM mb hj hV h (j + 1) (i + 1) 0 (by omega) (by omega) (by omega) ?_⟩
  rw [ys_g hV (fun _ => 1) (j - (i + 1)) (i + 1) (by omega) (by omega) (by omega) (fun x a b => by omega)]
  unfold sA
  omega
theorem yc5 {M : Nat → Int} (hM : AI 14 bM M) (mb : MB M) {post : Int32 → Prop} {i j p : Nat} (hp : p < j) (hj : j ≤ 14) (hV : VC M (i + 1) j) (h1 : cov M (i + 1) j p → post 1) (h0 : ¬ cov M (i + 1) j p → post 0) :
    ∀ (n k : Nat), p - k < n → i < k → k ≤ p → (∀ x, i < x → x < k → ¬ ((p : Int) < M x ∧ vis M (i + 1) j x)) → wY_covered_5 post (zI (p : Nat)) (zI (i : Nat)) (zI (j : Nat)) gL gM gN bB bK bT bP bM bS n (zI (k : Nat)) := by
  intro n
  induction n with
  | zero => intro k h; omega
  | succ n ih =>
    intro k a1 a2 a3 iv
    have e1 : zI (k : Nat) + 1 = zI ((k + 1 : Nat) : Int) := by rw [zI_1, zI_add]; rfl
    simp only [wY_covered_5]
    refine zb_le (p : Nat) (k : Nat) (fun q => h0 (fun ⟨x, x1, x2, x3, x4⟩ => iv x (by omega) (by omega) ⟨x3, x4⟩)) (fun q => ?_)
    have bk := mb k (by omega)
    have hkj : M k < j := by
      rcases hV.1 k (by omega) (by omega) with u | ⟨y, r⟩ <;> omega
    have nx : ¬ ((p : Int) < M k ∧ vis M (i + 1) j k) → wY_covered_5 post (zI (p : Nat)) (zI (i : Nat)) (zI (j : Nat)) gL gM gN bB bK bT bP bM bS n (zI ((k + 1 : Nat) : Int)) := fun v => ih (k + 1) (by omega) (by omega) (by omega) (fun x a b => by
      by_cases e : x = k
      · subst e; exact v
      · exact iv x a (by omega))
    rw [zcl (by omega), e1]
    refine ⟨zin (by omega) (by omega), ?_⟩
    refine zb_le (M k) (p : Nat) (fun r => nm_e (nx (fun w => by omega))) (fun r => ⟨zin (by omega) (by omega), ?_⟩) (hM k (by omega)) rfl
    exact yDirect hM mb a2 (by omega) hj hkj rfl (hM k (by omega)) rfl rfl (fun v => br_f (by decide) (h1 ⟨k, by omega, by omega, r, v⟩)) (fun v => br_t rfl (nm_e (nx (fun w => v w.2))))
theorem yu7 {M : Nat → Int} (hM : AI 14 bM M) (mb : MB M) {post : Int32 → Prop} {i j : Nat} (hj : j ≤ 14) (hV : VC M (i + 1) j) {tot : Int} (h : post (zI tot)) :
    ∀ (n k : Nat) (c : Int), j - k < n → i < k → k ≤ j → c + sT (fun k => ic (M k < 0 ∧ ¬ cov M (i + 1) j k) 1 0) (j - k) k = tot → wY_unpairedInLoop_7 post (zI (i : Nat)) (zI (j : Nat)) gL gM gN bB bK bT bP bM bS n (zI c) (zI (k : Nat)) := by
  intro n
  induction n with
  | zero => intro k c h; omega
  | succ n ih =>
    intro k c a1 a2 a3 iv
    have e1 : zI (k : Nat) + 1 = zI ((k + 1 : Nat) : Int) := by rw [zI_1, zI_add]; rfl
    simp only [wY_unpairedInLoop_7]
    refine zb_le (j : Nat) (k : Nat) (fun q => ?_) (fun q => ?_)
    · rw [show j - k = 0 by omega] at iv
      have : c + 0 = tot := iv
      rw [show c = tot by omega]
      exact h
    · have bk := mb k (by omega)
      rw [show j - k = (j - (k + 1)) + 1 by omega] at iv
      have iv : c + (ic (M k < 0 ∧ ¬ cov M (i + 1) j k) 1 0 + sT (fun k => ic (M k < 0 ∧ ¬ cov M (i + 1) j k) 1 0) (j - (k + 1)) (k + 1)) = tot := iv
      rw [zcl (by omega), e1]
      refine ⟨zin (by omega) (by omega), ?_⟩
      refine zb_le 0 (M k) (fun r => ?_) (fun r => ?_) rfl (hM k (by omega))
      · rw [ic_f (fun w => by omega)] at iv
        exact nm_e (ih (k + 1) c (by omega) (by omega) (by omega) (by omega))
      · simp only [wpY_covered]
        refine nm_r (e' := zI ((i + 1 : Nat) : Int)) (by rw [zI_1, zI_add]; rfl) ?_
        refine ⟨k + 1, yc5 hM mb (by omega) hj hV (fun v => br_f (by decide) ?_) (fun v => br_t rfl ?_) (k + 1) (i + 1) (by omega) (by omega) (by omega) (fun x a b => by omega)⟩
        · rw [ic_f (fun w => w.2 v)] at iv
          exact nm_e (ih (k + 1) c (by omega) (by omega) (by omega) (by omega))
        · rw [ic_t ⟨r, v⟩] at iv
          refine nm_r (e' := zI (c + 1)) (by rw [zI_1, zI_add]) (nm_e ?_)
          exact ih (k + 1) (c + 1) (by omega) (by omega) (by omega) (by omega)
theorem yUnpaired {M : Nat → Int} (hM : AI 14 bM M) (mb : MB M) {post : Int32 → Prop} {i j : Nat} (hij : i < j) (hj : j ≤ 14) (hV : VC M (i + 1) j) {P Q : Int32} (hP : P = zI (i : Nat)) (hQ : Q = zI (j : Nat)) (h : post (zI (sU M j (i + 1)))) : wpY_unpairedInLoop post (gL, gM, gN, bB, bK, bT, bP, bM, bS) P Q := by
  subst hP hQ
  simp only [wpY_unpairedInLoop]
  refine nm_r (e' := zI ((i + 1 : Nat) : Int)) (by rw [zI_1, zI_add]; rfl) ?_
  refine ⟨j + 1, yu7 hM mb hj hV h (j + 1) (i + 1) 0 (by omega) (by omega) (by omega) ?_⟩
  rw [ys_u hV (j - (i + 1)) (i + 1) (by omega) (by omega) (by omega) (fun x a b => by omega)]
  omega
theorem yOne {D : rD} (hD : XC D gM gN bB bK bT) {post : Int32 → Prop} {i j k l : Nat} {P Q R S : Int32} (hP : P = zI (i : Nat)) (hQ : Q = zI (j : Nat)) (hR : R = zI (k : Nat)) (hS : S = zI (l : Nat)) (h1 : i < k) (h2 : k < l) (h3 : l < j) (h4 : j < 14) (t1 : stx (db D i) (db D j) < 3) (t2 : stx (db D k) (db D l) < 3) (h : post (zI (eS (dE D) i j k l))) : wpY_oneInside post (gL, gM, gN, bB, bK, bT, bP, bM, bS) P Q R S := by
  have s1 := stx_r (db D i) (db D j)
  have s2 := stx_r (db D k) (db D l)
  have hT := hD.2.2.2.2.1
  have h : post (zI (dSg D i j k l)) := h
  simp only [wpY_oneInside]
  refine nm_r (e' := zI ((k : Int) - i - 1)) (by rw [hP, hR, zI_1, zI_sub, zI_sub]) ?_
  refine nm_r (e' := zI ((j : Int) - l - 1)) (by rw [hQ, hS, zI_1, zI_sub, zI_sub]) ?_
  refine yStr hD hP hQ (by omega) (by omega) ?_
  refine yStr hD hR hS (by omega) (by omega) ?_
  rw [sty_lt t1, sty_lt t2]
  have far : ¬ ((k : Int) - i - 1 = 0 ∧ (j : Int) - l - 1 = 0) → wY_oneInside_51 post P Q R S (zI ((k : Int) - i - 1)) (zI ((j : Int) - l - 1)) gL gM gN bB bK bT bP bM bS := by
    intro c
    unfold dSg at h
    rw [if_neg c] at h
    unfold wY_oneInside_51
    refine yEnd hD hP hQ (by omega) (by omega) ?_
    refine yEnd hD hR hS (by omega) (by omega) ?_
    refine nm_r (zI_add _ _) ?_
    have near : ((k : Int) - i - 1 = 0 ∨ (j : Int) - l - 1 = 0) → wY_oneInside_77 post (zI ((k : Int) - i - 1)) (zI ((j : Int) - l - 1)) (zI (eN (dE D) i j + eN (dE D) k l)) gL gM gN bB bK bT bP bM bS := by
      intro d
      rw [if_pos d] at h
      unfold wY_oneInside_77
      rw [hT 8 (by omega), hT 9 (by omega), zI_add, zI_mul, zI_add, zI_add]
      exact h
    refine zb_eq ((k : Int) - i - 1) 0 (fun d => near (Or.inl d)) (fun d => ?_)
    refine zb_eq ((j : Int) - l - 1) 0 (fun d => near (Or.inr d)) (fun d1 => ?_)
    rw [if_neg (by omega)] at h
    refine zb_le ((k : Int) - i - 1) ((j : Int) - l - 1) (fun d2 => ?_) (fun d2 => ?_)
    · rw [if_pos d2] at h
      unfold wY_oneInside_122
      rw [hT 10 (by omega), hT 11 (by omega), hT 12 (by omega), zI_sub, zI_add, zI_mul, zI_mul, zI_add, zI_add, zI_add]
      exact h
    · rw [if_neg (by omega)] at h
      unfold wY_oneInside_122
      rw [hT 10 (by omega), hT 11 (by omega), hT 12 (by omega), zI_sub, zI_add, zI_mul, zI_mul, zI_add, zI_add, zI_add]
      exact h
  refine zb_eq ((k : Int) - i - 1) 0 (fun c1 => ?_) (fun c1 => far (fun q => c1 q.1))
  refine zb_eq ((j : Int) - l - 1) 0 (fun c2 => ?_) (fun c2 => far (fun q => c2 q.2))
  unfold dSg at h
  rw [if_pos ⟨c1, c2⟩] at h
  generalize stx (db D i) (db D j) = a at *
  generalize stx (db D k) (db D l) = c at *
  have fin : ∀ lo hi : Int, 0 ≤ lo → lo ≤ 3 → 0 ≤ hi → hi ≤ 3 → post (zI (stk (de D) lo hi)) → wY_stackEnergy_21 post (zI lo) (zI hi) gL gM gN bB bK bT bP bM bS := by
    intro lo hi l1 l2 g1 g2 hp
    unfold stk at hp
    unfold wY_stackEnergy_21
    refine zb_eq lo 0 (fun d => ?_) (fun d => ?_)
    · rw [if_pos d] at hp
      refine ⟨zb_in hi 17, ?_⟩
      rw [zb_tz rfl g1 (by omega), hT _ (by omega)]
      exact hp
    · rw [if_neg d] at hp
      refine zb_eq lo 1 (fun d => ?_) (fun d => ?_)
      · rw [if_pos d] at hp
        have e : (2 : Int32) + zI hi = zI (2 + hi) := by rw [show (2 : Int32) = zI 2 from by decide, zI_add]
        refine ⟨zb_in (2 + hi) 17 (hx := e), ?_⟩
        rw [zb_tz e (by omega) (by omega), hT _ (by omega)]
        exact hp
      · rw [if_neg d] at hp
        rw [hT 5 (by omega)]
        exact hp
  unfold dSt at h
  simp only [wpY_stackEnergy]
  refine zb_le c a (fun d => ?_) (fun d => ?_)
  · rw [if_pos d] at h
    unfold wY_stackEnergy_10
    exact zb_le c a (fun _ => fin c a s2.1 s2.2 s1.1 s1.2 h) (fun q => by omega)
  · rw [if_neg (by omega)] at h
    unfold wY_stackEnergy_10
    exact zb_le c a (fun q => by omega) (fun _ => fin a c s1.1 s1.2 s2.1 s2.2 h)
theorem yl56 {D : rD} (hD : XC D gM gN bB bK bT) {M : Nat → Int} (hM : AI 14 bM M) (mb : MB M) {post : Int32 → Prop} {i j : Nat} (hij : i < j) (hj : j < 14) (hV : VC M (i + 1) j) {A U S : Int} {kk : Nat} (hA : 0 ≤ A ∧ A ≤ 14) (h1 : A = 1 → vp_in (zI (kk : Nat)) 14 ∧ wpY_oneInside (fun r => post r) (gL, gM, gN, bB, bK, bT, bP, bM, bS) (zI (i : Nat)) (zI (j : Nat)) (zI (kk : Nat)) (bM (zI (kk : Nat)).toNatClampNeg)) (h2 : A ≠ 1 → post (zI (e13 (dE D) + e14 (dE D) * (A + 1) + e15 (dE D) * U + eN (dE D) i j + S))) :
    ∀ (n k : Nat) (c last : Int), j - k < n → i < k → k ≤ j → c + sT (fun k => ic ((k : Int) < M k ∧ vis M (i + 1) j k) (eN (dE D) k (M k).toNat) 0) (j - k) k = S → yk M (i + 1) j (j - k) k last = (kk : Nat) → wY_loopEnergy_56 post (zI (i : Nat)) (zI (j : Nat)) (zI A) (zI U) gL gM gN bB bK bT bP bM bS n (zI c) (zI last) (zI (k : Nat)) := by
  have hT := hD.2.2.2.2.1
  intro n
  induction n with
  | zero => intro k c last h; omega
  | succ n ih =>
    intro k c last a1 a2 a3 iv iv2
    have e1 : zI (k : Nat) + 1 = zI ((k + 1 : Nat) : Int) := by rw [zI_1, zI_add]; rfl
    simp only [wY_loopEnergy_56]
    refine zb_le (j : Nat) (k : Nat) (fun q => ?_) (fun q => ?_)
    · rw [show j - k = 0 by omega] at iv iv2
      have iv : c + 0 = S := iv
      have iv2 : last = (kk : Nat) := iv2
      rw [iv2]
      refine zb_eq A 1 (fun r => h1 r) (fun r => ?_)
      refine yEnd hD rfl rfl (by omega) (by omega) ?_
      rw [hT 13 (by omega), hT 14 (by omega), hT 15 (by omega), zI_1, zI_add, zI_mul, zI_mul, zI_add, zI_add, zI_add, zI_add, show c = S by omega]
      exact h2 r
    · have bk := mb k (by omega)
      rw [show j - k = (j - (k + 1)) + 1 by omega] at iv iv2
      have iv : c + (ic ((k : Int) < M k ∧ vis M (i + 1) j k) (eN (dE D) k (M k).toNat) 0 + sT (fun k => ic ((k : Int) < M k ∧ vis M (i + 1) j k) (eN (dE D) k (M k).toNat) 0) (j - (k + 1)) (k + 1)) = S := iv
      have iv2 : yk M (i + 1) j (j - (k + 1)) (k + 1) (ic ((k : Int) < M k ∧ vis M (i + 1) j k) (k : Int) last) = (kk : Nat) := iv2
      have hkj : M k < j := by
        rcases hV.1 k (by omega) (by omega) with u | ⟨y, r⟩ <;> omega
      rw [zcl (k := k) (by omega), e1]
      refine ⟨zin (by omega) (by omega), ?_⟩
      refine zb_le (M k) (k : Nat) (fun r => ?_) (fun r => ⟨zin (by omega) (by omega), ?_⟩) (hM k (by omega)) rfl
      · rw [ic_f (fun w => by omega)] at iv iv2
        exact nm_e (ih (k + 1) c last (by omega) (by omega) (by omega) (by omega) iv2)
      · refine yDirect hM mb a2 (by omega) (by omega) hkj rfl (hM k (by omega)) rfl rfl (fun v => br_f (by decide) ⟨zin (by omega) (by omega), ?_⟩) (fun v => br_t rfl ?_)
        · rw [ic_t ⟨r, v⟩] at iv iv2
          refine yEnd hD (i := k) (j := (M k).toNat) rfl (by rw [hM k (by omega)]; exact congrArg zI (by omega)) (by omega) (by omega) ?_
          refine nm_r (zI_add _ _) (nm_e ?_)
          exact ih (k + 1) _ (k : Nat) (by omega) (by omega) (by omega) (by omega) iv2
        · rw [ic_f (fun w => v w.2)] at iv iv2
          exact nm_e (ih (k + 1) c last (by omega) (by omega) (by omega) (by omega) iv2)
theorem yLoop {D : rD} (hD : XC D gM gN bB bK bT) {M : Nat → Int} (hM : AI 14 bM M) (mb : MB M) (hV : VR (dE D) M 0 (dn D)) {post : Int32 → Prop} {i j : Nat} (hij : i < j) (hj : j < dn D) (hm : M i = j) {P Q : Int32} (hP : P = zI (i : Nat)) (hQ : Q = zI (j : Nat)) (h : post (zI (LE (dE D) M i j))) : wpY_loopEnergy post (gL, gM, gN, bB, bK, bT, bP, bM, bS) P Q := by
  have hn := hD.2.2.2.2.2.2.1
  have hT := hD.2.2.2.2.1
  have hC := VC_in (VR_VC hV) (Nat.zero_le i) hij hj hm
  have a0 := sA_0 M j (j - (i + 1)) (i + 1) (Nat.le_refl _)
  have a1 := sA_bd M j (j - (i + 1)) (i + 1) (Nat.le_refl _)
  have pr : ∀ x y : Nat, x < dn D → M x = y → x < y → eA (dE D) x y = true := by
    intro x y hx hxy hlt
    rcases hV.1 x (Nat.zero_le x) hx with u | ⟨z, r⟩
    · omega
    · have : z = y := by omega
      subst this
      exact r.2.2.2.2.2 hlt
  subst hP hQ
  simp only [wpY_loopEnergy]
  refine yPairsIn hM mb hij (by omega) hC rfl rfl ?_
  refine yUnpaired hM mb hij (by omega) hC rfl rfl ?_
  refine zb_eq (sA M j (i + 1)) 0 (fun c => ?_) (fun c => ?_)
  · refine yEnd hD rfl rfl (by omega) (by omega) ?_
    unfold LE at h
    rw [if_pos c] at h
    rw [hT 6 (by omega), hT 7 (by omega), sU_0 M j (j - (i + 1)) (i + 1) (Nat.le_refl _) (by omega) c, zI_mul, zI_add, zI_add]
    have e : de D 6 + de D 7 * ((j : Int) - ((i + 1 : Nat) : Int)) + eN (dE D) i j = eH (dE D) i j := by
      show _ = de D 6 + de D 7 * ((j : Int) - i - 1) + dEn D i j
      rw [show (j : Int) - ((i + 1 : Nat) : Int) = (j : Int) - i - 1 by omega]
      rfl
    rw [e]
    exact h
  · refine nm_r (e' := zI ((i + 1 : Nat) : Int)) (by rw [zI_1, zI_add]; rfl) ?_
    unfold LE at h
    rw [if_neg c] at h
    refine ⟨j + 1, yl56 hD hM mb hij (by omega) hC (A := sA M j (i + 1)) (U := sU M j (i + 1)) (S := sE (dE D) M j (i + 1)) (kk := SK M j (i + 1) i) (by omega) (fun e => ?_) (fun e => ?_) (j + 1) (i + 1) 0 (i : Nat) (by omega) (by omega) (by omega) ?_ (ys_k hC (j - (i + 1)) (i + 1) i (by omega) (by omega) (by omega) (fun x a b => by omega))⟩
    · rw [if_pos e, SK_any M j (j - (i + 1)) (i + 1) 0 i (Nat.le_refl _) c] at h
      obtain ⟨b1, b2, b3⟩ := (SK_br M j (j - (i + 1)) (i + 1) i (Nat.le_refl _)).2 c
      generalize SK M j (i + 1) i = k at *
      have bk := mb k (by omega)
      have hkj : M k < j := by
        rcases hC.1 k (by omega) (by omega) with u | ⟨y, r⟩ <;> omega
      refine ⟨zin (by omega) (by omega), ?_⟩
      rw [zcl (by omega)]
      exact yOne hD (i := i) (j := j) (k := k) (l := (M k).toNat) rfl rfl rfl (by rw [hM k (by omega)]; exact congrArg zI (by omega)) (by omega) (by omega) (by omega) (by omega) (dE_st (pr i j (by omega) hm hij)) (dE_st (pr k (M k).toNat (by omega) (by omega) (by omega))) h
    · rw [if_neg e] at h
      exact h
    · rw [ys_g hC (fun k => eN (dE D) k (M k).toNat) (j - (i + 1)) (i + 1) (by omega) (by omega) (by omega) (fun x a b => by omega)]
      unfold sE
      omega
theorem yo2 {M : Nat → Int} (hM : AI 14 bM M) (mb : MB M) {post : Int32 → Prop} {i n0 : Nat} (hi : i < n0) (hn : n0 ≤ 14) (hb : ∀ x, x < n0 → M x < n0) (h1 : vis M 0 n0 i → post 1) (h0 : ¬ vis M 0 n0 i → post 0) :
    ∀ (n p : Nat), i - p < n → p ≤ i → (∀ x, x < p → ¬ (M i < M x ∧ M x < n0)) → wY_outer_2 post (zI (i : Nat)) (zI (M i)) gL gM gN bB bK bT bP bM bS n (zI (p : Nat)) := by
  have bi := mb i (by omega)
  intro n
  induction n with
  | zero => intro p h; omega
  | succ n ih =>
    intro p a1 a2 iv
    have e1 : zI (p : Nat) + 1 = zI ((p + 1 : Nat) : Int) := by rw [zI_1, zI_add]; rfl
    simp only [wY_outer_2]
    refine zb_le (i : Nat) (p : Nat) (fun c => h1 (fun x a b => iv x (by omega))) (fun c => ?_)
    have bp := mb p (by omega)
    have bq := hb p (by omega)
    rw [zcl (by omega), e1]
    refine ⟨zin (by omega) (by omega), ?_⟩
    refine zb_le (M p) (M i) (fun d => nm_e ?_) (fun d => h0 (fun w => w p (by omega) (by omega) ⟨d, bq⟩)) (hM p (by omega)) rfl
    refine ih (p + 1) (by omega) (by omega) (fun x a => ?_)
    by_cases e : x = p
    · subst e; omega
    · exact iv x (by omega)
theorem ye4 {D : rD} (hD : XC D gM gN bB bK bT) {M : Nat → Int} (hM : AI 14 bM M) (mb : MB M) (hV : VR (dE D) M 0 (dn D)) {post : Int32 → Prop} {tot : Int} (h : post (zI tot)) :
    ∀ (n i : Nat) (c : Int), dn D - i < n → i ≤ dn D → c + sT (yF (dE D) M (dn D)) (dn D - i) i = tot → wY_energy_4 post gL gM gN bB bK bT bP bM bS n (zI c) (zI (i : Nat)) := by
  have hn := hD.2.2.2.2.2.2.1
  have hb : ∀ x, x < dn D → M x < dn D := by
    intro x hx
    rcases hV.1 x (Nat.zero_le x) hx with u | ⟨z, r⟩ <;> omega
  intro n
  induction n with
  | zero => intro i c h; omega
  | succ n ih =>
    intro i c a1 a2 iv
    have e1 : zI (i : Nat) + 1 = zI ((i + 1 : Nat) : Int) := by rw [zI_1, zI_add]; rfl
    simp only [wY_energy_4]
    refine zb_le (dn D : Nat) (i : Nat) (fun q => ?_) (fun q => ?_) hD.2.1 rfl
    · rw [show dn D - i = 0 by omega] at iv
      have : c + 0 = tot := iv
      rw [show c = tot by omega]
      exact h
    · have bi := mb i (by omega)
      have bj := hb i (by omega)
      rw [show dn D - i = (dn D - (i + 1)) + 1 by omega] at iv
      have iv : c + ((FE (dE D) M i + ic ((i : Int) < M i ∧ vis M 0 (dn D) i) (eN (dE D) i (M i).toNat) 0) + sT (yF (dE D) M (dn D)) (dn D - (i + 1)) (i + 1)) = tot := iv
      unfold FE at iv
      rw [zcl (by omega), e1]
      refine ⟨zin (by omega) (by omega), nm_r (hM i (by omega)) ?_⟩
      refine zb_le (M i) (i : Nat) (fun r => ?_) (fun r => ?_)
      · rw [if_neg (by omega), ic_f (fun w => by omega)] at iv
        exact nm_e (ih (i + 1) c (by omega) (by omega) (by omega))
      · rw [if_pos r] at iv
        have em : M i = ((M i).toNat : Int) := by omega
        refine yLoop hD hM mb hV (i := i) (j := (M i).toNat) (by omega) (by omega) em rfl (congrArg zI em) ?_
        refine nm_r (zI_add _ _) ?_
        simp only [wpY_outer]
        refine ⟨i + 1, yo2 hM mb (by omega) hn hb (fun v => br_f (by decide) ?_) (fun v => br_t rfl ?_) (i + 1) 0 (by omega) (by omega) (fun x a => by omega)⟩
        · rw [ic_t ⟨r, v⟩] at iv
          refine yEnd hD (i := i) (j := (M i).toNat) rfl (congrArg zI em) (by omega) (by omega) ?_
          refine nm_r (zI_add _ _) (nm_e ?_)
          exact ih (i + 1) _ (by omega) (by omega) (by omega)
        · rw [ic_f (fun w => v w.2)] at iv
          exact nm_e (ih (i + 1) _ (by omega) (by omega) (by omega))
theorem yEnergy {D : rD} (hD : XC D gM gN bB bK bT) {M : Nat → Int} (hM : AI 14 bM M) (mb : MB M) (hV : VR (dE D) M 0 (dn D)) {post : Int32 → Prop} (h : post (zI (TE (dE D) M 0 (dn D) + sE (dE D) M (dn D) 0))) : wpY_energy post (gL, gM, gN, bB, bK, bT, bP, bM, bS) := by
  simp only [wpY_energy]
  refine ⟨dn D + 1, ye4 hD hM mb hV h (dn D + 1) 0 0 (by omega) (by omega) ?_⟩
  rw [Nat.sub_zero, yF_sum (VR_VC hV)]
  omega
end
end
section
/-! the reference's searches over all foldings -/
theorem RO_z {E : rE} (hE : EB E) {n : Nat} (hn : n ≤ 14) {z : rT} (hz : z ∈ RO E n 0) : VR E (Ms fr z.2) 0 n ∧ MB (Ms fr z.2) ∧ TE E (Ms fr z.2) 0 n + sE E (Ms fr z.2) n 0 = z.1 ∧ -100000 ≤ z.1 ∧ z.1 ≤ 100000 := by
  have hs : z.2 ∈ RR E 0 n := by rw [← RO_snd E n n 0 (by omega)]; exact List.mem_map_of_mem hz
  refine ⟨VR_RR E n 0 n (by omega) z.2 hs _ (fun _ _ _ => rfl), fun x hx => ?_, RO_en E n n 0 (by omega) z hz _ (fun _ _ _ => rfl), RO_BL hE hn (Nat.zero_le n) z.1 (List.mem_map_of_mem hz)⟩
  rcases Ms_v (M := fr) (x := x) (Wi_RR hs) (Or.inl rfl) with e | e <;> omega
theorem RO_ch (E : rE) (n : Nat) : ch (nextF E n) ((RO E n 0).map (fun z => Ms fr z.2)) (fillF E n 0 fr) fr ∧ nextF E n fr = none := by
  have := enum_ch E n
  rw [← RO_snd E n n 0 (by omega), List.map_map] at this
  exact this
theorem RO_len {E : rE} (hE : ∀ p q, eA E p q = true → p + 2 < q) {n : Nat} (hn : n ≤ 14) : (RO E n 0).length < 20000 := by
  have a := RR_20000 E hE hn
  rw [← RO_snd E n n 0 (by omega), List.length_map] at a
  exact a
/-- the best so far, and a list -/
def rS (c : rT) (L : List rT) : rT := if c.1 ≤ (fm L).1 then c else fm L
theorem rS_c {c z : rT} {T : List rT} : rS c (z :: T) = rS (if c.1 ≤ z.1 then c else z) T := by
  unfold rS
  by_cases h1 : z.1 ≤ (fm T).1
  · rw [fm_ct h1]
    by_cases h2 : c.1 ≤ z.1
    · rw [if_pos h2, if_pos (by omega)]
    · rw [if_neg h2, if_pos h1]
  · rw [fm_cf h1]
    by_cases h2 : c.1 ≤ z.1
    · rw [if_pos h2]
    · rw [if_neg h2, if_neg h1, if_neg (by omega)]
theorem rS_n {c : rT} (h : c.1 ≤ 1048576) : rS c [] = c := if_pos h
/-- how many of the list have a property -/
noncomputable def kn (P : rT → Prop) : List rT → Nat
  | [] => 0
  | z :: T => ic (P z) 1 0 + kn P T
section
variable {gL gM gN : Int32} {bB bK bT bP bM bS : Nat → Int32}
theorem ys46 {post : SY → Prop} {J : Int32 → Int32 → Int32 → Int32 → Int32 → (Nat → Int32) → (Nat → Int32) → (Nat → Int32) → (Nat → Int32) → (Nat → Int32) → (Nat → Int32) → Prop} {M : Nat → Int} (hM : AI 14 bM M) {X2 : Int32} (K : ∀ bS, AI 14 bS M → wY_search_73 post J X2 gL gM gN bB bK bT bP bM bS) :
    ∀ (n x : Nat) (bS : Nat → Int32), 14 - x < n → x ≤ 14 → (∀ y, y < x → bS y = zI (M y)) → wY_search_46 post J X2 gL gM gN n (zI (x : Nat)) bB bK bT bP bM bS := by
  intro n
  induction n with
  | zero => intro x bS h; omega
  | succ n ih =>
    intro x bS a1 a2 iv
    simp only [wY_search_46]
    refine zb_le 14 (x : Nat) (fun c => K bS (fun y hy => iv y (by omega))) (fun c => ?_)
    rw [zcl (by omega)]
    refine ⟨zin (by omega) (by omega), zin (by omega) (by omega), nm_e ?_⟩
    refine nm_r (e' := zI ((x + 1 : Nat) : Int)) (by rw [zI_1, zI_add]; rfl) ?_
    refine ih (x + 1) _ (by omega) (by omega) (fun y hy => ?_)
    by_cases e : y = x
    · subst e; rw [pk_us]; exact hM y (by omega)
    · rw [pk_un e]; exact iv y (by omega)
theorem ys14 {D : rD} (hD : XC D gM gN bB bK bT) {post : SY → Prop} :
    ∀ (T : List rT) (z : rT) (n turn : Nat) (cur : rT) (gL : Int32) (bM bS : Nat → Int32), (∀ v, v ∈ z :: T → v ∈ RO (dE D) (dn D) 0) → ch (nextF (dE D) (dn D)) ((z :: T).map (fun z => Ms fr z.2)) (Ms fr z.2) fr → T.length + 2 ≤ n → turn + T.length + 1 ≤ 20000 → AI 14 bM (Ms fr z.2) → gL = zI cur.1 → (-100000 ≤ cur.1 ∧ cur.1 ≤ 1000000) → (cur.1 < 1000000 → AI 14 bS (Ms fr cur.2)) →
      (∀ gL bM bS, gL = zI (rS cur (z :: T)).1 → ((rS cur (z :: T)).1 < 1000000 → AI 14 bS (Ms fr (rS cur (z :: T)).2)) → post (gL, gM, gN, bB, bK, bT, bP, bM, bS)) → wY_search_14 post n 1 (zI (turn : Nat)) gL gM gN bB bK bT bP bM bS := by
  have hd := hD.2.2.2.2.2
  have hn := hd.2.1
  have hE := dE_EB hd
  have nfr := (RO_ch (dE D) (dn D)).2
  intro T
  induction T with
  | nil =>
    intro z n turn cur gL bM bS hm hc h1 h2 hM hL hb hS K
    obtain ⟨v1, v2, v3, v4⟩ := RO_z hE hn (hm z (List.mem_cons.mpr (Or.inl rfl)))
    have hz : Ms fr z.2 = fr := hc.2
    cases n with
    | zero => omega
    | succ n =>
      simp only [wY_search_14]
      refine zb_le 20000 (turn : Nat) (fun c => by simp only [List.length_nil] at h2; omega) (fun _ => br_f (by decide) ?_)
      refine yEnergy hD hM v2 v1 ?_
      rw [v3]
      have last : ∀ (c : rT) (gL : Int32) (bS : Nat → Int32), gL = zI c.1 → c = (if cur.1 ≤ z.1 then cur else z) → (c.1 < 1000000 → AI 14 bS (Ms fr c.2)) → wY_search_73 post (wY_search_14 post n) (zI (turn : Nat)) gL gM gN bB bK bT bP bM bS := by
        intro c gL bS e1 e2 e3
        have e4 : rS cur [z] = c := by
          rw [rS_c, ← e2, rS_n]
          rw [e2]
          split <;> omega
        unfold wY_search_73
        refine yToNext hD hM v2 (fun M' bM e _ _ => by rw [hz, nfr] at e; cases e) (fun _ => ?_)
        refine nm_r (e' := zI ((turn + 1 : Nat) : Int)) (by rw [zI_1, zI_add]; rfl) ?_
        cases n with
        | zero => simp only [List.length_nil] at h1; omega
        | succ n =>
          simp only [wY_search_14]
          have fin := K gL bM bS (by rw [e4]; exact e1) (by rw [e4]; exact e3)
          exact br_c (fun _ => fin) (fun _ => br_t (by trivial) fin)
      refine zb_le cur.1 z.1 (fun c => ?_) (fun c => ?_) hL rfl
      · exact last cur gL bS hL (by rw [if_pos c]) hS
      · refine ⟨15, ys46 (gL := zI z.1) (M := Ms fr z.2) hM (fun bS hS => last z _ bS rfl (by rw [if_neg (by omega)]) (fun _ => hS)) 15 0 bS (by omega) (by omega) (fun y hy => by omega)⟩
  | cons z' T ih =>
    intro z n turn cur gL bM bS hm hc h1 h2 hM hL hb hS K
    obtain ⟨v1, v2, v3, v4⟩ := RO_z hE hn (hm z (List.mem_cons.mpr (Or.inl rfl)))
    have hx : nextF (dE D) (dn D) (Ms fr z.2) = some (Ms fr z'.2) := hc.2.1
    cases n with
    | zero => omega
    | succ n =>
      simp only [List.length_cons] at h1 h2
      simp only [wY_search_14]
      refine zb_le 20000 (turn : Nat) (fun c => by omega) (fun _ => br_f (by decide) ?_)
      refine yEnergy hD hM v2 v1 ?_
      rw [v3]
      have next : ∀ (c : rT) (gL : Int32) (bS : Nat → Int32), gL = zI c.1 → c = (if cur.1 ≤ z.1 then cur else z) → (c.1 < 1000000 → AI 14 bS (Ms fr c.2)) → wY_search_73 post (wY_search_14 post n) (zI (turn : Nat)) gL gM gN bB bK bT bP bM bS := by
        intro c gL bS e1 e2 e3
        unfold wY_search_73
        refine yToNext hD hM v2 (fun M' bM e hM' _ => ?_) (fun e => by rw [hx] at e; cases e)
        have : M' = Ms fr z'.2 := by rw [hx] at e; exact (Option.some.inj e).symm
        subst this
        refine nm_r (e' := zI ((turn + 1 : Nat) : Int)) (by rw [zI_1, zI_add]; rfl) ?_
        refine ih z' n (turn + 1) c gL bM bS (fun v hv => hm v (List.mem_cons.mpr (Or.inr hv))) hc.2.2 (by omega) (by omega) hM' e1 (by rw [e2]; split <;> omega) e3 (fun gL bM bS q1 q2 => ?_)
        rw [e2, ← rS_c] at q1 q2
        exact K gL bM bS q1 q2
      refine zb_le cur.1 z.1 (fun c => ?_) (fun c => ?_) hL rfl
      · exact next cur gL bS hL (by rw [if_pos c]) hS
      · refine ⟨15, ys46 (gL := zI z.1) (M := Ms fr z.2) hM (fun bS hS => next z _ bS rfl (by rw [if_neg (by omega)]) (fun _ => hS)) 15 0 bS (by omega) (by omega) (fun y hy => by omega)⟩
theorem ySearch {D : rD} (hD : XC D gM gN bB bK bT) {post : SY → Prop} (K : ∀ gL bM bS, gL = zI (fm (RO (dE D) (dn D) 0)).1 → AI 14 bS (Ms fr (fm (RO (dE D) (dn D) 0)).2) → post (gL, gM, gN, bB, bK, bT, bP, bM, bS)) : wpY_search post (gL, gM, gN, bB, bK, bT, bP, bM, bS) := by
  have hd := hD.2.2.2.2.2
  have hn := hd.2.1
  have hE := dE_EB hd
  simp only [wpY_search]
  refine yToFirst hD (fun bM hM mb => ?_)
  have hl := RO_len (dE_A hd) hn
  have hc := (RO_ch (dE D) (dn D)).1
  have bd := mn_bd (RO_BL hE hn (Nat.zero_le _)) (RO_ne (dE D) (dn D) (dn D) 0 (by omega))
  have key : ∀ L : List rT, (∀ v, v ∈ L → v ∈ RO (dE D) (dn D) 0) → L.length < 20000 → ch (nextF (dE D) (dn D)) (L.map (fun z => Ms fr z.2)) (fillF (dE D) (dn D) 0 fr) fr → fm L = fm (RO (dE D) (dn D) 0) → ∃ n14, wY_search_14 post n14 1 0 1000000 gM gN bB bK bT bP bM bS := by
    intro L h1 h2 h3 h4
    cases L with
    | nil => exact absurd h3 id
    | cons z T =>
      have e : Ms fr z.2 = fillF (dE D) (dn D) 0 fr := by
        obtain ⟨R, q⟩ := ch_hd h3
        rw [List.map_cons] at q
        exact (List.cons.inj q).1
      simp only [List.length_cons] at h2
      have r : rS (1000000, []) (z :: T) = fm (RO (dE D) (dn D) 0) := by
        unfold rS
        rw [h4, if_neg (by show ¬ ((1000000 : Int) ≤ _); omega)]
      refine ⟨T.length + 2, ys14 hD T z (T.length + 2) 0 (1000000, []) _ bM bS h1 (by rw [e]; exact h3) (by omega) (by omega) (by rw [e]; exact hM) (by show _ = zI 1000000; decide) (by dsimp only; omega) (fun w => by dsimp only at w; omega) (fun gL bM bS q1 q2 => ?_)⟩
      rw [r] at q1 q2
      exact K gL bM bS q1 (q2 (by omega))
  exact key _ (fun v hv => hv) hl hc rfl
/-- countOf: what it counts -/
def cP (w : Int) (x : Int) (y : Int) (z : rT) : Prop := (x < 0 ∨ Ms fr z.2 x.toNat = y) ∧ z.1 = w
theorem yc13 {D : rD} (hD : XC D gM gN bB bK bT) {w x y : Int} (w1 : -2000000 ≤ w) (w2 : w ≤ 2000000) (x1 : -1 ≤ x) (x2 : x < 14) (y1 : -1 ≤ y) (y2 : y < 14) {post : Int32 → SY → Prop} :
    ∀ (T : List rT) (z : rT) (n turn : Nat) (c : Nat) (bM : Nat → Int32), (∀ v, v ∈ z :: T → v ∈ RO (dE D) (dn D) 0) → ch (nextF (dE D) (dn D)) ((z :: T).map (fun z => Ms fr z.2)) (Ms fr z.2) fr → T.length + 2 ≤ n → turn + T.length + 1 ≤ 20000 → AI 14 bM (Ms fr z.2) →
      (∀ bM, post (zI ((c + kn (cP w x y) (z :: T) : Nat) : Int)) (gL, gM, gN, bB, bK, bT, bP, bM, bS)) → wY_countOf_13 post (zI w) (zI x) (zI y) n (zI (c : Nat)) 1 (zI (turn : Nat)) gL gM gN bB bK bT bP bM bS := by
  have hd := hD.2.2.2.2.2
  have hn := hd.2.1
  have hE := dE_EB hd
  have nfr := (RO_ch (dE D) (dn D)).2
  -- one folding is looked at
  have look : ∀ (z : rT) (n turn c : Nat) (bM : Nat → Int32), z ∈ RO (dE D) (dn D) 0 → AI 14 bM (Ms fr z.2) → turn < 20000 → (∀ c' : Nat, c' = c + ic (cP w x y z) 1 0 → wY_countOf_51 post (wY_countOf_13 post (zI w) (zI x) (zI y) n) (zI w) (zI x) (zI y) (zI (c' : Nat)) (zI (turn : Nat)) gL gM gN bB bK bT bP bM bS) → wY_countOf_13 post (zI w) (zI x) (zI y) (n + 1) (zI (c : Nat)) 1 (zI (turn : Nat)) gL gM gN bB bK bT bP bM bS := by
    intro z n turn c bM hz hM ht H
    obtain ⟨v1, v2, v3, v4⟩ := RO_z hE hn hz
    have see : (x < 0 ∨ Ms fr z.2 x.toNat = y) → wY_countOf_40 post (wY_countOf_13 post (zI w) (zI x) (zI y) n) (zI w) (zI x) (zI y) (zI (c : Nat)) (zI (turn : Nat)) gL gM gN bB bK bT bP bM bS := by
      intro v
      unfold wY_countOf_40
      refine yEnergy hD hM v2 v1 ?_
      rw [v3]
      refine zb_eq z.1 w (fun e => ?_) (fun e => ?_)
      · refine nm_r (e' := zI ((c + 1 : Nat) : Int)) (by rw [zI_1, zI_add]; rfl) ?_
        exact H (c + 1) (by rw [ic_t ⟨v, e⟩])
      · exact H c (by rw [ic_f (fun q => e q.2), Nat.add_zero])
    simp only [wY_countOf_13]
    refine zb_le 20000 (turn : Nat) (fun q => by omega) (fun _ => br_f (by decide) ?_)
    refine zb_lt x 0 (fun q => see (Or.inl q)) (fun q => ?_)
    have ex : x = (x.toNat : Int) := by omega
    have b := v2 x.toNat (by omega)
    have ec : (zI x).toNatClampNeg = x.toNat := zb_tz rfl q (by omega)
    refine ⟨zb_in x 14, ?_⟩
    rw [ec]
    exact zb_eq (Ms fr z.2 x.toNat) y (fun e => see (Or.inr e)) (fun e => H c (by rw [ic_f (fun v => by rcases v.1 with u | u <;> omega), Nat.add_zero])) (hM _ (by omega)) rfl
  intro T
  induction T with
  | nil =>
    intro z n turn c bM hm hc h1 h2 hM K
    obtain ⟨v1, v2, v3, v4⟩ := RO_z hE hn (hm z (List.mem_cons.mpr (Or.inl rfl)))
    have hz : Ms fr z.2 = fr := hc.2
    cases n with
    | zero => omega
    | succ n =>
      simp only [List.length_nil] at h1 h2
      refine look z n turn c bM (hm z (List.mem_cons.mpr (Or.inl rfl))) hM (by omega) (fun c' e => ?_)
      unfold wY_countOf_51
      refine yToNext hD hM v2 (fun M' bM e _ _ => by rw [hz, nfr] at e; cases e) (fun _ => ?_)
      refine nm_r (e' := zI ((turn + 1 : Nat) : Int)) (by rw [zI_1, zI_add]; rfl) ?_
      cases n with
      | zero => omega
      | succ n =>
        simp only [wY_countOf_13]
        have fin := K bM
        rw [show c + kn (cP w x y) [z] = c' by rw [e]; rfl] at fin
        exact br_c (fun _ => fin) (fun _ => br_t (by trivial) fin)
  | cons z' T ih =>
    intro z n turn c bM hm hc h1 h2 hM K
    obtain ⟨v1, v2, v3, v4⟩ := RO_z hE hn (hm z (List.mem_cons.mpr (Or.inl rfl)))
    have hx : nextF (dE D) (dn D) (Ms fr z.2) = some (Ms fr z'.2) := hc.2.1
    cases n with
    | zero => omega
    | succ n =>
      simp only [List.length_cons] at h1 h2
      refine look z n turn c bM (hm z (List.mem_cons.mpr (Or.inl rfl))) hM (by omega) (fun c' ec => ?_)
      unfold wY_countOf_51
      refine yToNext hD hM v2 (fun M' bM e hM' _ => ?_) (fun e => by rw [hx] at e; cases e)
      have : M' = Ms fr z'.2 := by rw [hx] at e; exact (Option.some.inj e).symm
      subst this
      refine nm_r (e' := zI ((turn + 1 : Nat) : Int)) (by rw [zI_1, zI_add]; rfl) ?_
      refine ih z' n (turn + 1) c' bM (fun v hv => hm v (List.mem_cons.mpr (Or.inr hv))) hc.2.2 (by omega) (by omega) hM' (fun bM => ?_)
      have fin := K bM
      rw [show c + kn (cP w x y) (z :: z' :: T) = c' + kn (cP w x y) (z' :: T) by rw [ec]; show c + (ic (cP w x y z) 1 0 + kn (cP w x y) (z' :: T)) = _; omega] at fin
      exact fin
theorem yCountOf {D : rD} (hD : XC D gM gN bB bK bT) {w x y : Int} (w1 : -2000000 ≤ w) (w2 : w ≤ 2000000) (x1 : -1 ≤ x) (x2 : x < 14) (y1 : -1 ≤ y) (y2 : y < 14) {P0 P1 P2 : Int32} (p0 : P0 = zI w) (p1 : P1 = zI x) (p2 : P2 = zI y) {post : Int32 → SY → Prop} (K : ∀ bM, post (zI ((kn (cP w x y) (RO (dE D) (dn D) 0) : Nat) : Int)) (gL, gM, gN, bB, bK, bT, bP, bM, bS)) : wpY_countOf post (gL, gM, gN, bB, bK, bT, bP, bM, bS) P0 P1 P2 := by
  have hd := hD.2.2.2.2.2
  have hn := hd.2.1
  subst p0 p1 p2
  simp only [wpY_countOf]
  refine yToFirst hD (fun bM hM mb => ?_)
  have hl := RO_len (dE_A hd) hn
  have hc := (RO_ch (dE D) (dn D)).1
  have key : ∀ L : List rT, (∀ v, v ∈ L → v ∈ RO (dE D) (dn D) 0) → L.length < 20000 → ch (nextF (dE D) (dn D)) (L.map (fun z => Ms fr z.2)) (fillF (dE D) (dn D) 0 fr) fr → kn (cP w x y) L = kn (cP w x y) (RO (dE D) (dn D) 0) → ∃ n13, wY_countOf_13 post (zI w) (zI x) (zI y) n13 0 1 0 gL gM gN bB bK bT bP bM bS := by
    intro L h1 h2 h3 h4
    cases L with
    | nil => exact absurd h3 id
    | cons z T =>
      have e : Ms fr z.2 = fillF (dE D) (dn D) 0 fr := by
        obtain ⟨R, q⟩ := ch_hd h3
        rw [List.map_cons] at q
        exact (List.cons.inj q).1
      simp only [List.length_cons] at h2
      refine ⟨T.length + 2, yc13 hD w1 w2 x1 x2 y1 y2 T z (T.length + 2) 0 0 bM h1 (by rw [e]; exact h3) (by omega) (by omega) (by rw [e]; exact hM) (fun bM => ?_)⟩
      rw [Nat.zero_add, h4]
      exact K bM
  exact key _ (fun v hv => hv) hl hc rfl
theorem yr10 {D : rD} (hD : XC D gM gN bB bK bT) {post : Int32 → SY → Prop} :
    ∀ (T : List rT) (z : rT) (n turn : Nat) (c : Nat) (bM : Nat → Int32), (∀ v, v ∈ z :: T → v ∈ RO (dE D) (dn D) 0) → ch (nextF (dE D) (dn D)) ((z :: T).map (fun z => Ms fr z.2)) (Ms fr z.2) fr → T.length + 2 ≤ n → turn + T.length + 1 ≤ 20000 → AI 14 bM (Ms fr z.2) →
      (∀ bM, post (zI ((c + (z :: T).length : Nat) : Int)) (gL, gM, gN, bB, bK, bT, bP, bM, bS)) → wY_structures_10 post n (zI (c : Nat)) 1 (zI (turn : Nat)) gL gM gN bB bK bT bP bM bS := by
  have hd := hD.2.2.2.2.2
  have hn := hd.2.1
  have hE := dE_EB hd
  have nfr := (RO_ch (dE D) (dn D)).2
  intro T
  induction T with
  | nil =>
    intro z n turn c bM hm hc h1 h2 hM K
    obtain ⟨v1, v2, v3, v4⟩ := RO_z hE hn (hm z (List.mem_cons.mpr (Or.inl rfl)))
    have hz : Ms fr z.2 = fr := hc.2
    cases n with
    | zero => omega
    | succ n =>
      simp only [List.length_nil] at h1 h2
      simp only [wY_structures_10]
      refine zb_le 20000 (turn : Nat) (fun q => by omega) (fun _ => br_f (by decide) ?_)
      refine nm_r (e' := zI ((c + 1 : Nat) : Int)) (by rw [zI_1, zI_add]; rfl) ?_
      refine yToNext hD hM v2 (fun M' bM e _ _ => by rw [hz, nfr] at e; cases e) (fun _ => ?_)
      refine nm_r (e' := zI ((turn + 1 : Nat) : Int)) (by rw [zI_1, zI_add]; rfl) ?_
      cases n with
      | zero => omega
      | succ n =>
        simp only [wY_structures_10]
        exact br_c (fun _ => K bM) (fun _ => br_t (by trivial) (K bM))
  | cons z' T ih =>
    intro z n turn c bM hm hc h1 h2 hM K
    obtain ⟨v1, v2, v3, v4⟩ := RO_z hE hn (hm z (List.mem_cons.mpr (Or.inl rfl)))
    have hx : nextF (dE D) (dn D) (Ms fr z.2) = some (Ms fr z'.2) := hc.2.1
    cases n with
    | zero => omega
    | succ n =>
      simp only [List.length_cons] at h1 h2
      simp only [wY_structures_10]
      refine zb_le 20000 (turn : Nat) (fun q => by omega) (fun _ => br_f (by decide) ?_)
      refine nm_r (e' := zI ((c + 1 : Nat) : Int)) (by rw [zI_1, zI_add]; rfl) ?_
      refine yToNext hD hM v2 (fun M' bM e hM' _ => ?_) (fun e => by rw [hx] at e; cases e)
      have : M' = Ms fr z'.2 := by rw [hx] at e; exact (Option.some.inj e).symm
      subst this
      refine nm_r (e' := zI ((turn + 1 : Nat) : Int)) (by rw [zI_1, zI_add]; rfl) ?_
      refine ih z' n (turn + 1) (c + 1) bM (fun v hv => hm v (List.mem_cons.mpr (Or.inr hv))) hc.2.2 (by omega) (by omega) hM' (fun bM => ?_)
      have fin := K bM
      rw [show c + (z :: z' :: T).length = c + 1 + (z' :: T).length by simp only [List.length_cons]; omega] at fin
      exact fin
theorem yStructs {D : rD} (hD : XC D gM gN bB bK bT) {post : Int32 → SY → Prop} (K : ∀ bM, post (zI (((RO (dE D) (dn D) 0).length : Nat) : Int)) (gL, gM, gN, bB, bK, bT, bP, bM, bS)) : wpY_structures post (gL, gM, gN, bB, bK, bT, bP, bM, bS) := by
  have hd := hD.2.2.2.2.2
  have hn := hd.2.1
  simp only [wpY_structures]
  refine yToFirst hD (fun bM hM mb => ?_)
  have hl := RO_len (dE_A hd) hn
  have hc := (RO_ch (dE D) (dn D)).1
  have key : ∀ L : List rT, (∀ v, v ∈ L → v ∈ RO (dE D) (dn D) 0) → L.length < 20000 → ch (nextF (dE D) (dn D)) (L.map (fun z => Ms fr z.2)) (fillF (dE D) (dn D) 0 fr) fr → L.length = (RO (dE D) (dn D) 0).length → ∃ n10, wY_structures_10 post n10 0 1 0 gL gM gN bB bK bT bP bM bS := by
    intro L h1 h2 h3 h4
    cases L with
    | nil => exact absurd h3 id
    | cons z T =>
      have e : Ms fr z.2 = fillF (dE D) (dn D) 0 fr := by
        obtain ⟨R, q⟩ := ch_hd h3
        rw [List.map_cons] at q
        exact (List.cons.inj q).1
      simp only [List.length_cons] at h2
      refine ⟨T.length + 2, yr10 hD T z (T.length + 2) 0 0 bM h1 (by rw [e]; exact h3) (by omega) (by omega) (by rw [e]; exact hM) (fun bM => ?_)⟩
      rw [Nat.zero_add, h4]
      exact K bM
  exact key _ (fun v hv => hv) hl hc rfl
end
end
section
/-! the trial -/
theorem VR_mono {E E' : rE} {m : Nat → Int} {a b : Nat} (h : VR E m a b) (q : ∀ x y : Nat, a ≤ x → x < y → y < b → m x = y → eA E x y = true → eA E' x y = true) : VR E' m a b := by
  refine ⟨fun x h1 h2 => ?_, h.2⟩
  rcases h.1 x h1 h2 with u | ⟨y, r1, r2, r3, r4, r5, r6⟩
  · exact Or.inl u
  · exact Or.inr ⟨y, r1, r2, r3, r4, r5, fun z => q x y h1 z r2 r3 (r6 z)⟩
/-- the pair (i, j) is released -/
def rel (t : Nat → Int) (i j : Nat) : Nat → Int := fun x => if x = i then -1 else if x = j then -1 else t x
theorem VR_rel {E : rE} {t : Nat → Int} {n i j : Nat} (h : VR E t 0 n) (h1 : t i = j) (h2 : t j = i) : VR E (rel t i j) 0 n := by
  have o : ∀ x, x ≠ i → x ≠ j → rel t i j x = t x := fun x a b => by unfold rel; rw [if_neg a, if_neg b]
  have s : ∀ x, (x = i ∨ x = j) → rel t i j x = -1 := fun x a => by
    unfold rel
    by_cases e : x = i
    · rw [if_pos e]
    · rw [if_neg e, if_pos (by omega)]
  constructor
  · intro x a b
    by_cases c : x = i ∨ x = j
    · exact Or.inl (s x c)
    · rcases h.1 x a b with u | ⟨y, r1, r2, r3, r4, r5⟩
      · exact Or.inl (by rw [o x (by omega) (by omega)]; exact u)
      · refine Or.inr ⟨y, r1, r2, by rw [o x (by omega) (by omega)]; exact r3, ?_, r5⟩
        rw [o y (fun e => by subst e; omega) (fun e => by subst e; omega)]
        exact r4
  · intro x y z a b c d e
    have hx : ¬ (x = i ∨ x = j) := fun w => by rw [s x w] at e; omega
    rw [o x (by omega) (by omega)] at e
    by_cases w : z = i ∨ z = j
    · exact Or.inl (s z w)
    · rw [o z (by omega) (by omega)]
      exact h.2 x y z a b c d e
theorem VR_put {E : rE} {t : Nat → Int} {n i j : Nat} (h : VR E t 0 n) (hij : i < j) (hj : j < n) (al : eA E i j = true) (f : fitP t n i j) : VR E (pu t i j) 0 n := by
  obtain ⟨f1, f2, f3⟩ := f
  have ti : t i = -1 := by rcases h.1 i (by omega) (by omega) with u | ⟨y, r⟩ <;> omega
  have tj : t j = -1 := by rcases h.1 j (by omega) (by omega) with u | ⟨y, r⟩ <;> omega
  have un : ∀ x y : Nat, x < n → t x = y → (x ≠ i ∧ x ≠ j ∧ y ≠ i ∧ y ≠ j ∧ y < n ∧ t y = x) := by
    intro x y hx e
    rcases h.1 x (by omega) hx with u | ⟨v, r1, r2, r3, r4, r5⟩
    · omega
    · have : v = y := by omega
      subst this
      refine ⟨fun w => by subst w; omega, fun w => by subst w; omega, fun w => by subst w; omega, fun w => by subst w; omega, r2, r4⟩
  constructor
  · intro x a b
    by_cases c1 : x = i
    · subst c1; exact Or.inr ⟨j, by omega, hj, pu_1 _ _ _, pu_2 _ (by omega), by omega, fun _ => al⟩
    · by_cases c2 : x = j
      · subst c2; exact Or.inr ⟨i, by omega, by omega, pu_2 _ (by omega), pu_1 _ _ _, by omega, fun w => by omega⟩
      · rcases h.1 x a b with u | ⟨y, r1, r2, r3, r4, r5⟩
        · exact Or.inl (by rw [pu_3 _ c1 c2]; exact u)
        · have := un x y b r3
          exact Or.inr ⟨y, r1, r2, by rw [pu_3 _ c1 c2]; exact r3, by rw [pu_3 _ this.2.2.1 this.2.2.2.1]; exact r4, r5⟩
  · intro x y z a b c d e
    by_cases c1 : x = i
    · subst c1
      rw [pu_1] at e
      have : y = j := by omega
      subst this
      rw [pu_3 _ (by omega) (by omega)]
      rcases h.1 z (by omega) (by omega) with u | ⟨v, r1, r2, r3, r4, r5⟩
      · exact Or.inl u
      · have w := un z v (by omega) r3
        refine Or.inr ?_
        by_cases q1 : v < x
        · exact absurd (Or.inr ⟨q1, by omega, by omega⟩) (f3 v (by omega) (by omega))
        · by_cases q2 : y < v
          · exact absurd (Or.inl ⟨b, c, by omega⟩) (f3 z (by omega) (by omega))
          · omega
    · by_cases c2 : x = j
      · subst c2
        rw [pu_2 _ (by omega)] at e
        omega
      · rw [pu_3 _ c1 c2] at e
        have w := un x y (by omega) e
        have f4 := f3 x (by omega) (by omega)
        by_cases c3 : z = i
        · subst c3
          rw [pu_1]
          exact Or.inr (by omega)
        · by_cases c4 : z = j
          · subst c4
            rw [pu_2 _ (by omega)]
            exact Or.inr (by omega)
          · rw [pu_3 _ c3 c4]
            exact h.2 x y z a b c d e
/-- X's test of a trial pair -/
theorem fit_iff {E : rE} {t : Nat → Int} {n i j : Nat} (h : VR E t 0 n) (hij : i < j) (hj : j < n) (f1 : t i < 0) (f2 : t j < 0) : fitP t n i j ↔ ∀ p : Nat, i < p → p < j → t p < 0 ∨ ((i : Int) ≤ t p ∧ t p ≤ j) := by
  constructor
  · rintro ⟨-, -, f3⟩ p a b
    rcases h.1 p (by omega) (by omega) with u | ⟨v, r1, r2, r3, r4, r5⟩
    · omega
    · by_cases q1 : v < i
      · exact absurd (Or.inr ⟨q1, by omega, by omega⟩) (f3 v (by omega) (by omega))
      · by_cases q2 : j < v
        · exact absurd (Or.inl ⟨a, b, by omega⟩) (f3 p (by omega) (by omega))
        · omega
  · intro q
    refine ⟨f1, f2, fun k k1 k2 k3 => ?_⟩
    rcases k3 with k3 | k3
    · have := q k k3.1 k3.2.1
      omega
    · rcases h.1 k (by omega) k1 with u | ⟨v, r1, r2, r3, r4, r5⟩
      · omega
      · have := q v (by omega) (by omega)
        omega
def cT (t : Nat → Int) (i : Nat) : Int := if (i : Int) < t i then 1 else 0
section
variable {fL fC fF fT fI fJ fK : Int32} {aB aK aT aP aM aG aA aO aS aQ aR aW : Nat → Int32}
theorem xtp4 {post : Int32 → Prop} {n0 : Nat} (hC : fC = zI (n0 : Nat)) (hn : n0 ≤ 14) {t : Nat → Int} (hP : AI 14 aP t) (mb : MB t) {tot : Int} (h : post (zI tot)) :
    ∀ (n i : Nat) (c : Int), n0 - i < n → i ≤ n0 → c + sT (cT t) (n0 - i) i = tot → wX_trialPairs_4 post fL fC fF fT fI fJ fK aB aK aT aP aM aG aA aO aS aQ aR aW n (zI c) (zI (i : Nat)) := by
  intro n
  induction n with
  | zero => intro i c h; omega
  | succ n ih =>
    intro i c a1 a2 iv
    have e1 : zI (i : Nat) + 1 = zI ((i + 1 : Nat) : Int) := by rw [zI_1, zI_add]; rfl
    simp only [wX_trialPairs_4]
    refine zb_le (n0 : Nat) (i : Nat) (fun q => ?_) (fun q => ?_) hC rfl
    · rw [show n0 - i = 0 by omega] at iv
      have : c + 0 = tot := iv
      rw [show c = tot by omega]
      exact h
    · have b := mb i (by omega)
      rw [show n0 - i = (n0 - (i + 1)) + 1 by omega] at iv
      have iv : c + ((if (i : Int) < t i then 1 else 0) + sT (cT t) (n0 - (i + 1)) (i + 1)) = tot := iv
      rw [zcl (by omega), e1]
      refine ⟨zin (by omega) (by omega), ?_⟩
      refine zb_le (t i) (i : Nat) (fun r => ?_) (fun r => ?_) (hP i (by omega)) rfl
      · rw [if_neg (by omega)] at iv
        exact nm_e (ih (i + 1) c (by omega) (by omega) (by omega))
      · rw [if_pos r] at iv
        refine nm_r (e' := zI (c + 1)) (by rw [zI_1, zI_add]) (nm_e ?_)
        exact ih (i + 1) (c + 1) (by omega) (by omega) (by omega)
theorem xTrialPairs {post : Int32 → Prop} {n0 : Nat} (hC : fC = zI (n0 : Nat)) (hn : n0 ≤ 14) {t : Nat → Int} (hP : AI 14 aP t) (mb : MB t) (h : post (zI (sT (cT t) n0 0))) : wpX_trialPairs post (fL, fC, fF, fT, fI, fJ, fK, aB, aK, aT, aP, aM, aG, aA, aO, aS, aQ, aR, aW) := by
  simp only [wpX_trialPairs]
  exact ⟨n0 + 1, xtp4 hC hn hP mb h (n0 + 1) 0 0 (by omega) (by omega) (by rw [Nat.sub_zero]; omega)⟩
theorem xtl19 {D : rD} (hD : XC D fL fC aB aK aT) {t : Nat → Int} (hP : AI 14 aP t) (mb : MB t) {post : Int32 → Prop} {i j : Nat} (hij : i < j) (hj : j < 14) (hV : VC t (i + 1) j) (h : post (zI (LE (dE D) t i j))) :
    ∀ (n p : Nat) (u b s : Int) (k : Nat) (l : Int), j - p < n → i < p → p ≤ j → u + sU t j p = sU t j (i + 1) → b + sA t j p = sA t j (i + 1) → s + sE (dE D) t j p = sE (dE D) t j (i + 1) → SK t j p k = SK t j (i + 1) 0 → (b = 0 ∨ (i < k ∧ (k : Int) < t k ∧ t k < j ∧ l = t k)) → 0 ≤ b → (∀ x, i < x → x < p → t x < p) → wX_trialLoop_19 post (zI (i : Nat)) (zI (j : Nat)) fL fC fF fT fI fJ fK aB aK aT aP aM aG aA aO aS aQ aR aW n (zI u) (zI b) (zI s) (zI (k : Nat)) (zI l) (zI (p : Nat)) := by
  have hT := hD.2.2.2.2.1
  intro n
  induction n with
  | zero => intro p u b s k l h; omega
  | succ n ih =>
    intro p u b s k l a1 a2 a3 i1 i2 i3 i4 i5 i6 i7
    have bA := sA_bd t j (j - (i + 1)) (i + 1) (Nat.le_refl _)
    have bB0 := sA_0 t j (j - p) p (Nat.le_refl _)
    simp only [wX_trialLoop_19]
    refine zb_le (j : Nat) (p : Nat) (fun q => ?_) (fun q => ?_)
    · have z1 : sU t j p = 0 := SC_e (by omega)
      have z2 : sA t j p = 0 := SC_e (by omega)
      have z3 : sE (dE D) t j p = 0 := SC_e (by omega)
      rw [SK_e (by omega)] at i4
      unfold LE at h
      refine zb_eq b 0 (fun r => ?_) (fun r => ?_)
      · rw [if_pos (by omega)] at h
        exact xHair hD rfl rfl (by omega) hj h
      · rw [if_neg (by omega)] at h
        refine zb_eq b 1 (fun r1 => ?_) (fun r1 => ?_)
        · rw [if_pos (by omega), ← i4] at h
          obtain ⟨j1, j2, j3, j4⟩ := i5.resolve_left r
          have em : t k = ((t k).toNat : Int) := by omega
          exact xSingle hD (i := i) (j := j) (k := k) (l := (t k).toNat) rfl rfl rfl (by rw [j4]; exact congrArg zI em) j1 (by omega) (by omega) hj h
        · rw [if_neg (by omega)] at h
          refine xEnd hD rfl rfl (by omega) hj ?_
          rw [hT 13 (by omega), hT 14 (by omega), hT 15 (by omega), zI_1, zI_add, zI_mul, zI_mul, zI_add, zI_add, zI_add, zI_add, show b = sA t j (i + 1) by omega, show u = sU t j (i + 1) by omega, show s = sE (dE D) t j (i + 1) by omega]
          exact h
    · have hp : p < j := by omega
      have bp := mb p (by omega)
      rw [zcl (by omega)]
      refine ⟨zin (by omega) (by omega), nm_r (hP p (by omega)) ?_⟩
      refine zb_le (t p) (p : Nat) (fun r => ?_) (fun r => ?_)
      · have c1 : sU t j p = 1 + sU t j (p + 1) := SC_u hp r
        have c2 : sA t j p = 0 + sA t j (p + 1) := SC_u hp r
        have c3 : sE (dE D) t j p = 0 + sE (dE D) t j (p + 1) := SC_u hp r
        rw [SK_u hp r] at i4
        refine nm_r (e' := zI (u + 1)) (by rw [zI_1, zI_add]) ?_
        refine nm_r (e' := zI ((p + 1 : Nat) : Int)) (by rw [zI_1, zI_add]; rfl) ?_
        refine ih (p + 1) (u + 1) b s k l (by omega) (by omega) (by omega) (by omega) (by omega) (by omega) i4 i5 i6 (fun x a c => ?_)
        by_cases e : x = p
        · subst e; omega
        · have := i7 x a (by omega); omega
      · have em : t p = ((t p).toNat : Int) := by omega
        have hl : t p < j := by
          rcases hV.1 p (by omega) hp with w | ⟨y, w⟩ <;> omega
        have c1 : sU t j p = 0 + sU t j ((t p).toNat + 1) := SC_b hp em (by omega)
        have c2 : sA t j p = 1 + sA t j ((t p).toNat + 1) := SC_b hp em (by omega)
        have c3 : sE (dE D) t j p = eN (dE D) p (t p).toNat + sE (dE D) t j ((t p).toNat + 1) := SC_b hp em (by omega)
        rw [SK_b hp em (by omega)] at i4
        refine nm_r (e' := zI (b + 1)) (by rw [zI_1, zI_add]) ?_
        refine xEnd hD (i := p) (j := (t p).toNat) rfl (congrArg zI em) (by omega) (by omega) ?_
        refine nm_r (zI_add _ _) ?_
        refine nm_r (e' := zI (((t p).toNat + 1 : Nat) : Int)) (by rw [zI_1, zI_add]; exact congrArg zI (by omega)) ?_
        refine ih ((t p).toNat + 1) u (b + 1) (s + eN (dE D) p (t p).toNat) p (t p) (by omega) (by omega) (by omega) (by omega) (by omega) (by omega) i4 (Or.inr ⟨a2, r, hl, rfl⟩) (by omega) (fun x a c => ?_)
        by_cases e1 : x < p
        · have := i7 x a e1; omega
        · by_cases e2 : x = p
          · subst e2; omega
          · by_cases e3 : x = (t p).toNat
            · rcases hV.1 p (by omega) hp with w | ⟨y, w1, w2, w3, w4, w5⟩
              · omega
              · have : y = x := by omega
                subst this
                omega
            · rcases hV.2 p (t p).toNat x (by omega) (by omega) (by omega) (by omega) em with w | w <;> omega
theorem xTrialLoop {D : rD} (hD : XC D fL fC aB aK aT) {t : Nat → Int} (hP : AI 14 aP t) (mb : MB t) {post : Int32 → Prop} {i j : Nat} (hij : i < j) (hj : j < 14) (hV : VC t (i + 1) j) {P Q : Int32} (p0 : P = zI (i : Nat)) (p1 : Q = zI (j : Nat)) (h : post (zI (LE (dE D) t i j))) : wpX_trialLoop post (fL, fC, fF, fT, fI, fJ, fK, aB, aK, aT, aP, aM, aG, aA, aO, aS, aQ, aR, aW) P Q := by
  subst p0 p1
  simp only [wpX_trialLoop]
  refine nm_r (e' := zI ((i + 1 : Nat) : Int)) (by rw [zI_1, zI_add]; rfl) ?_
  exact ⟨j + 1, xtl19 hD hP mb hij hj hV h (j + 1) (i + 1) 0 0 0 0 0 (by omega) (by omega) (by omega) (by omega) (by omega) (by omega) rfl (Or.inl rfl) (by omega) (fun x a b => by omega)⟩
theorem xtg47 {D : rD} (hD : XC D fL fC aB aK aT) {t : Nat → Int} (hP : AI 14 aP t) (mb : MB t) (hV : VC t 0 (dn D)) {post : Int32 → SX → Prop} {mn : Int} (hM : aM 183 = zI mn) {tot : Int} (h : post (zI (tot - mn)) (fL, fC, fF, fT, fI, fJ, fK, aB, aK, aT, aP, aM, aG, aA, aO, aS, aQ, aR, aW)) :
    ∀ (n i : Nat) (c : Int), dn D - i < n → i ≤ dn D → c + sT (FE (dE D) t) (dn D - i) i = tot → wX_trialGap_47 post fL fC fF fT fI fJ fK aB aK aT aP aM aG aA aO aS aQ aR aW n (zI c) (zI (i : Nat)) := by
  have hn := hD.2.2.2.2.2.2.1
  intro n
  induction n with
  | zero => intro i c h; omega
  | succ n ih =>
    intro i c a1 a2 iv
    have e1 : zI (i : Nat) + 1 = zI ((i + 1 : Nat) : Int) := by rw [zI_1, zI_add]; rfl
    simp only [wX_trialGap_47]
    refine zb_le (dn D : Nat) (i : Nat) (fun q => ?_) (fun q => ?_) hD.2.1 rfl
    · rw [show dn D - i = 0 by omega] at iv
      have : c + 0 = tot := iv
      rw [show c = tot by omega, hM, zI_sub]
      exact h
    · have b := mb i (by omega)
      rw [show dn D - i = (dn D - (i + 1)) + 1 by omega] at iv
      have iv : c + (FE (dE D) t i + sT (FE (dE D) t) (dn D - (i + 1)) (i + 1)) = tot := iv
      unfold FE at iv
      rw [zcl (by omega), e1]
      refine ⟨zin (by omega) (by omega), ?_⟩
      refine zb_le (t i) (i : Nat) (fun r => ?_) (fun r => ⟨zin (by omega) (by omega), ?_⟩) (hP i (by omega)) rfl
      · rw [if_neg (by omega)] at iv
        exact nm_e (ih (i + 1) c (by omega) (by omega) (by unfold FE; omega))
      · rw [if_pos r] at iv
        have em : t i = ((t i).toNat : Int) := by omega
        have hl : t i < dn D := by
          rcases hV.1 i (by omega) (by omega) with w | ⟨y, w⟩ <;> omega
        refine xTrialLoop hD hP mb (i := i) (j := (t i).toNat) (by omega) (by omega) (VC_in hV (by omega) (by omega) (by omega) em) rfl (by rw [hP i (by omega)]; exact congrArg zI em) ?_
        refine nm_r (zI_add _ _) (nm_e ?_)
        exact ih (i + 1) _ (by omega) (by omega) (by unfold FE; omega)
theorem xtg8 {D : rD} (hD : XC D fL fC aB aK aT) {t : Nat → Int} (hP : AI 14 aP t) (mb : MB t) (hV : VC t 0 (dn D)) {post : Int32 → SX → Prop} {mn : Int} (hM : aM 183 = zI mn) (h : post (zI (TE (dE D) t 0 (dn D) + sE (dE D) t (dn D) 0 - mn)) (fL, fC, fF, fT, fI, fJ, fK, aB, aK, aT, aP, aM, aG, aA, aO, aS, aQ, aR, aW)) :
    ∀ (n p : Nat) (c : Int), dn D - p < n → p ≤ dn D → c + sE (dE D) t (dn D) p = sE (dE D) t (dn D) 0 → wX_trialGap_8 post fL fC fF fT fI fJ fK aB aK aT aP aM aG aA aO aS aQ aR aW n (zI c) (zI (p : Nat)) := by
  have hn := hD.2.2.2.2.2.2.1
  intro n
  induction n with
  | zero => intro i c h; omega
  | succ n ih =>
    intro p c a1 a2 iv
    simp only [wX_trialGap_8]
    refine zb_le (dn D : Nat) (p : Nat) (fun q => ?_) (fun q => ?_) hD.2.1 rfl
    · have z : sE (dE D) t (dn D) p = 0 := SC_e (by omega)
      refine ⟨dn D + 1, xtg47 hD hP mb hV hM h (dn D + 1) 0 c (by omega) (by omega) ?_⟩
      unfold TE
      omega
    · have hp : p < dn D := by omega
      have b := mb p (by omega)
      rw [zcl (by omega)]
      refine ⟨zin (by omega) (by omega), nm_r (hP p (by omega)) ?_⟩
      refine zb_le (t p) (p : Nat) (fun r => ?_) (fun r => ?_)
      · have c3 : sE (dE D) t (dn D) p = 0 + sE (dE D) t (dn D) (p + 1) := SC_u hp r
        refine nm_r (e' := zI ((p + 1 : Nat) : Int)) (by rw [zI_1, zI_add]; rfl) ?_
        exact ih (p + 1) c (by omega) (by omega) (by omega)
      · have em : t p = ((t p).toNat : Int) := by omega
        have hl : t p < dn D := by
          rcases hV.1 p (by omega) hp with w | ⟨y, w⟩ <;> omega
        have c3 : sE (dE D) t (dn D) p = eN (dE D) p (t p).toNat + sE (dE D) t (dn D) ((t p).toNat + 1) := SC_b hp em (by omega)
        refine xEnd hD (i := p) (j := (t p).toNat) rfl (congrArg zI em) (by omega) (by omega) ?_
        refine nm_r (zI_add _ _) ?_
        refine nm_r (e' := zI (((t p).toNat + 1 : Nat) : Int)) (by rw [zI_1, zI_add]; exact congrArg zI (by omega)) ?_
        exact ih ((t p).toNat + 1) _ (by omega) (by omega) (by omega)
end
section
variable {gL gM gN : Int32} {bB bK bT bP bM bS : Nat → Int32}
theorem ytp4 {post : Int32 → Prop} {n0 : Nat} (hC : gN = zI (n0 : Nat)) (hn : n0 ≤ 14) {t : Nat → Int} (hP : AI 14 bP t) (mb : MB t) {tot : Int} (h : post (zI tot)) :
    ∀ (n i : Nat) (c : Int), n0 - i < n → i ≤ n0 → c + sT (cT t) (n0 - i) i = tot → wY_trialPairs_4 post gL gM gN bB bK bT bP bM bS n (zI c) (zI (i : Nat)) := by
  intro n
  induction n with
  | zero => intro i c h; omega
  | succ n ih =>
    intro i c a1 a2 iv
    have e1 : zI (i : Nat) + 1 = zI ((i + 1 : Nat) : Int) := by rw [zI_1, zI_add]; rfl
    simp only [wY_trialPairs_4]
    refine zb_le (n0 : Nat) (i : Nat) (fun q => ?_) (fun q => ?_) hC rfl
    · rw [show n0 - i = 0 by omega] at iv
      have : c + 0 = tot := iv
      rw [show c = tot by omega]
      exact h
    · have b := mb i (by omega)
      rw [show n0 - i = (n0 - (i + 1)) + 1 by omega] at iv
      have iv : c + ((if (i : Int) < t i then 1 else 0) + sT (cT t) (n0 - (i + 1)) (i + 1)) = tot := iv
      rw [zcl (by omega), e1]
      refine ⟨zin (by omega) (by omega), ?_⟩
      refine zb_le (t i) (i : Nat) (fun r => ?_) (fun r => ?_) (hP i (by omega)) rfl
      · rw [if_neg (by omega)] at iv
        exact nm_e (ih (i + 1) c (by omega) (by omega) (by omega))
      · rw [if_pos r] at iv
        refine nm_r (e' := zI (c + 1)) (by rw [zI_1, zI_add]) (nm_e ?_)
        exact ih (i + 1) (c + 1) (by omega) (by omega) (by omega)
theorem yTrialPairs {post : Int32 → Prop} {n0 : Nat} (hC : gN = zI (n0 : Nat)) (hn : n0 ≤ 14) {t : Nat → Int} (hP : AI 14 bP t) (mb : MB t) (h : post (zI (sT (cT t) n0 0))) : wpY_trialPairs post (gL, gM, gN, bB, bK, bT, bP, bM, bS) := by
  simp only [wpY_trialPairs]
  exact ⟨n0 + 1, ytp4 hC hn hP mb h (n0 + 1) 0 0 (by omega) (by omega) (by rw [Nat.sub_zero]; omega)⟩
theorem ytt2 {t : Nat → Int} (hP : AI 14 bP t) {post : SY → Prop} (K : ∀ bM, AI 14 bM t → post (gL, gM, gN, bB, bK, bT, bP, bM, bS)) :
    ∀ (n x : Nat) (bM : Nat → Int32), 14 - x < n → x ≤ 14 → (∀ y, y < x → bM y = zI (t y)) → wY_takeTrial_2 post gL gM gN n (zI (x : Nat)) bB bK bT bP bM bS := by
  intro n
  induction n with
  | zero => intro x bM h; omega
  | succ n ih =>
    intro x bM a1 a2 iv
    simp only [wY_takeTrial_2]
    refine zb_le 14 (x : Nat) (fun c => K bM (fun y hy => iv y (by omega))) (fun c => ?_)
    rw [zcl (by omega)]
    refine ⟨zin (by omega) (by omega), zin (by omega) (by omega), nm_e ?_⟩
    refine nm_r (e' := zI ((x + 1 : Nat) : Int)) (by rw [zI_1, zI_add]; rfl) ?_
    refine ih (x + 1) _ (by omega) (by omega) (fun y hy => ?_)
    by_cases e : y = x
    · subst e; rw [pk_us]; exact hP y (by omega)
    · rw [pk_un e]; exact iv y (by omega)
theorem yTakeTrial {t : Nat → Int} (hP : AI 14 bP t) {post : SY → Prop} (K : ∀ bM, AI 14 bM t → post (gL, gM, gN, bB, bK, bT, bP, bM, bS)) : wpY_takeTrial post (gL, gM, gN, bB, bK, bT, bP, bM, bS) := by
  simp only [wpY_takeTrial]
  exact ⟨15, ytt2 hP K 15 0 bM (by omega) (by omega) (fun y hy => by omega)⟩
end
end
section
/-! counts; the relation; small changes of the data -/
theorem kn_le (P : rT → Prop) (L : List rT) : kn P L ≤ L.length := by
  induction L with
  | nil => exact Nat.le_refl _
  | cons z L ih =>
    show ic (P z) 1 0 + kn P L ≤ L.length + 1
    by_cases c : P z
    · rw [ic_t c]; omega
    · rw [ic_f c]; omega
theorem kn_all (w y : Int) (L : List rT) : kn (cP w (-1) y) L = cn w (L.map Prod.fst) := by
  induction L with
  | nil => rfl
  | cons z L ih =>
    show ic (cP w (-1) y z) 1 0 + kn (cP w (-1) y) L = (if z.1 = w then 1 else 0) + cn w (L.map Prod.fst)
    rw [ih]
    by_cases c : z.1 = w
    · rw [if_pos c, ic_t ⟨Or.inl (by omega), c⟩]
    · rw [if_neg c, ic_f (fun q => c q.2)]
theorem kn_with {E : rE} {n i j : Nat} (hij : i < j) (w : Int) : ∀ L : List rT, (∀ z, z ∈ L → z.2 ∈ RR E 0 n) → kn (cP w i j) L + cn w ((L.filter (nt (i, j))).map Prod.fst) = cn w (L.map Prod.fst) := by
  intro L
  induction L with
  | nil => intro _; rfl
  | cons z L ih =>
    intro h
    have r := ih (fun v hv => h v (List.mem_cons.mpr (Or.inr hv)))
    have m := Ms_iff (h z (List.mem_cons.mpr (Or.inl rfl))) hij
    show ic (cP w i j z) 1 0 + kn (cP w i j) L + _ = (if z.1 = w then 1 else 0) + cn w (L.map Prod.fst)
    rw [List.filter_cons]
    by_cases c : (i, j) ∈ z.2
    · have e : nt (i, j) z = false := by unfold nt; simp [c]
      rw [e, if_neg (by simp)]
      by_cases d : z.1 = w
      · rw [if_pos d, ic_t ⟨Or.inr (by rw [Int.toNat_natCast]; exact m.mpr c), d⟩]; omega
      · rw [if_neg d, ic_f (fun q => d q.2)]; omega
    · have e : nt (i, j) z = true := by unfold nt; simp [c]
      rw [e, if_pos rfl, List.map_cons, cn_c, ic_f (fun q => by
        rcases q.1 with u | u
        · omega
        · rw [Int.toNat_natCast] at u
          exact c (m.mp u))]
      omega
theorem RO_rr {E : rE} {n : Nat} : ∀ z, z ∈ RO E n 0 → z.2 ∈ RR E 0 n := fun z hz => by
  rw [← RO_snd E n n 0 (by omega)]
  exact List.mem_map_of_mem hz
/-- all least ones, those with the pair, those without -/
theorem opt_cnt {E : rE} {n i j : Nat} (hij : i < j) (w : Int) : kn (cP w i j) (RO E n 0) + cn w (TOl (fb E (i, j)) n 0) = cn w (TOl E n 0) := by
  unfold TOl
  rw [fb_RO E (i, j) n n 0 (by omega)]
  exact kn_with hij w _ RO_rr
theorem fb_min {E : rE} (hE : EB E) {n : Nat} (hn : n ≤ 14) (xy : Nat × Nat) : mnL (TOl E n 0) ≤ mnL (TOl (fb E xy) n 0) ∧ (0 < cn (mnL (TOl E n 0)) (TOl (fb E xy) n 0) ↔ mnL (TOl (fb E xy) n 0) ≤ mnL (TOl E n 0)) := by
  have ne : TOl (fb E xy) n 0 ≠ [] := by
    unfold TOl
    simpa using RO_ne (fb E xy) n n 0 (by omega)
  have b := mnL_b (TO_BL (fb_EB hE) hn (Nat.zero_le n)) ne
  have sub : ∀ x, x ∈ TOl (fb E xy) n 0 → x ∈ TOl E n 0 := by
    intro x hx
    unfold TOl at hx ⊢
    rw [fb_RO E xy n n 0 (by omega)] at hx
    obtain ⟨z, hz, rfl⟩ := List.mem_map.mp hx
    exact List.mem_map_of_mem (List.mem_filter.mp hz).1
  have le := mnL_le (sub _ b.1)
  refine ⟨le, ?_⟩
  rw [cn_pos]
  constructor
  · exact mnL_le
  · intro h
    rw [show mnL (TOl E n 0) = mnL (TOl (fb E xy) n 0) by omega]
    exact b.1
def TR (D : rD) (t : Nat → Int) : Prop := VR (dE D) t 0 (dn D) ∧ ∀ x, dn D ≤ x → x < 14 → t x = -1
theorem TR_MB {D : rD} {t : Nat → Int} (hn : dn D ≤ 14) (h : TR D t) : MB t := by
  intro x hx
  by_cases c : x < dn D
  · rcases h.1.1 x (by omega) c with u | ⟨y, r⟩ <;> omega
  · have := h.2 x (by omega) hx
    omega
def FF (D : rD) (fF fT : Int32) (aM aG aA aS : Nat → Int32) : Prop := fF = 0 ∨ (fF = 1 ∧ FT (dE D) (dn D) aM aG aA ∧ (fT = 0 ∨ (fT = 1 ∧ AI 14 aS (Ms fr (fm (RO (dE D) (dn D) 0)).2))))
/-- the relation at the head of a turn -/
def i_Rel (k : Nat) (u : SX) (v : SY) : Prop := match u with
  | (fL, fC, fF, fT, fI, fJ, fK, aB, aK, aT, aP, aM, aG, aA, aO, aS, aQ, aR, aW) => match v with
    | (gL, gM, gN, bB, bK, bT, bP, bM, bS) => ∃ (D : rD) (t : Nat → Int), XC D fL fC aB aK aT ∧ XC D gM gN bB bK bT ∧ AI 14 aP t ∧ AI 14 bP t ∧ TR D t ∧ FF D fF fT aM aG aA aS
section
variable {fL fC fF fT fI fJ fK : Int32} {aB aK aT aP aM aG aA aO aS aQ aR aW : Nat → Int32}
variable {gL gM gN : Int32} {bB bK bT bP bM bS : Nat → Int32}
theorem rel_i {k : Nat} {D : rD} {t : Nat → Int} (h1 : XC D fL fC aB aK aT) (h2 : XC D gM gN bB bK bT) (h3 : AI 14 aP t) (h4 : AI 14 bP t) (h5 : TR D t) (h6 : FF D fF fT aM aG aA aS) : i_Rel k (fL, fC, fF, fT, fI, fJ, fK, aB, aK, aT, aP, aM, aG, aA, aO, aS, aQ, aR, aW) (gL, gM, gN, bB, bK, bT, bP, bM, bS) := by
  unfold i_Rel
  exact ⟨D, t, h1, h2, h3, h4, h5, h6⟩
theorem rel_e {P : SX → SY → Prop} {k : Nat} {u : SX} {v : SY} (I : i_Rel k u v) (h : ∀ (fL fC fF fT fI fJ fK : Int32) (aB aK aT aP aM aG aA aO aS aQ aR aW : Nat → Int32) (gL gM gN : Int32) (bB bK bT bP bM bS : Nat → Int32) (D : rD) (t : Nat → Int), XC D fL fC aB aK aT → XC D gM gN bB bK bT → AI 14 aP t → AI 14 bP t → TR D t → FF D fF fT aM aG aA aS → P (fL, fC, fF, fT, fI, fJ, fK, aB, aK, aT, aP, aM, aG, aA, aO, aS, aQ, aR, aW) (gL, gM, gN, bB, bK, bT, bP, bM, bS)) : P u v := by
  obtain ⟨fL, fC, fF, fT, fI, fJ, fK, aB, aK, aT, aP, aM, aG, aA, aO, aS, aQ, aR, aW⟩ := u
  obtain ⟨gL, gM, gN, bB, bK, bT, bP, bM, bS⟩ := v
  unfold i_Rel at I
  obtain ⟨D, t, h1, h2, h3, h4, h5, h6⟩ := I
  exact h _ _ _ _ _ _ _ _ _ _ _ _ _ _ _ _ _ _ _ _ _ _ _ _ _ _ _ _ D t h1 h2 h3 h4 h5 h6
end
/-- changes of the data -/
def addD (D : rD) (p : Int) : rD := (dm D, dn D + 1, ud (db D) (dn D) p, ud (dl D) (dn D) 0, de D)
def dropD (D : rD) : rD := (dm D, dn D - 1, db D, dl D, de D)
def blockD (D : rD) (i : Nat) (b : Int) : rD := (dm D, dn D, db D, ud (dl D) i b, de D)
def setD (D : rD) (k : Nat) (x : Int) : rD := (dm D, dn D, db D, dl D, ud (de D) k x)
theorem XC_add {D : rD} {fL fC : Int32} {aB aK aT : Nat → Int32} (h : XC D fL fC aB aK aT) (hn : dn D < 14) {p : Int} (p1 : 0 ≤ p) (p2 : p ≤ 3) {X : Int32} (hX : X = zI ((dn D + 1 : Nat) : Int)) {Y Z : Int32} (hY : Y = zI p) (hZ : Z = zI 0) : XC (addD D p) fL X (upd aB (dn D) Y) (upd aK (dn D) Z) aT := by
  obtain ⟨h1, h2, h3, h4, h5, d1, d2, d3, d4, d5⟩ := h
  refine ⟨h1, hX, AI_ud h3 _ p hY, ?_, h5, d1, ?_, ?_, ?_, d5⟩
  · intro i hi
    have hi : i < dn D + 1 := hi
    show upd aK (dn D) Z i = zI (ud (dl D) (dn D) 0 i)
    by_cases e : i = dn D
    · subst e; rw [pk_us, ud_s, hZ]
    · rw [pk_un e, ud_n e]; exact h4 i (by omega)
  · show dn D + 1 ≤ 14
    omega
  · intro i hi
    show 0 ≤ ud (db D) (dn D) p i ∧ ud (db D) (dn D) p i ≤ 3
    by_cases e : i = dn D
    · subst e; rw [ud_s]; omega
    · rw [ud_n e]; exact d3 i hi
  · intro i hi
    have hi : i < dn D + 1 := hi
    show ud (dl D) (dn D) 0 i = 0 ∨ ud (dl D) (dn D) 0 i = 1
    by_cases e : i = dn D
    · subst e; rw [ud_s]; exact Or.inl rfl
    · rw [ud_n e]; exact d4 i (by omega)
theorem TR_add {D : rD} {t : Nat → Int} (h : TR D t) (p : Int) : TR (addD D p) (ud t (dn D) (-1)) := by
  have o : ∀ x, x ≠ dn D → ud t (dn D) (-1) x = t x := fun x e => ud_n e
  have al : ∀ x y, x < dn D → y < dn D → eA (dE D) x y = true → eA (dE (addD D p)) x y = true := by
    intro x y hx hy c
    have c : dA D x y = true := c
    unfold dA at c
    simp only [Bool.and_eq_true, decide_eq_true_eq] at c
    apply dA_t
    show dm D + x + 1 ≤ y ∧ ud (dl D) (dn D) 0 x = 0 ∧ ud (dl D) (dn D) 0 y = 0 ∧ stx (ud (db D) (dn D) p x) (ud (db D) (dn D) p y) < 3
    rw [ud_n (by omega), ud_n (by omega), ud_n (by omega), ud_n (by omega)]
    exact ⟨c.1.1.1, c.1.1.2, c.1.2, c.2⟩
  refine ⟨⟨fun x _ hx => ?_, fun x y z _ b c d e => ?_⟩, fun x a b => ?_⟩
  · have hx : x < dn D + 1 := hx
    by_cases e : x = dn D
    · subst e; exact Or.inl (ud_s _ _ _)
    · rcases h.1.1 x (by omega) (by omega) with u | ⟨y, r1, r2, r3, r4, r5, r6⟩
      · exact Or.inl (by rw [o x e]; exact u)
      · refine Or.inr ⟨y, r1, ?_, by rw [o x e]; exact r3, by rw [o y (by omega)]; exact r4, r5, fun q => al x y (by omega) r2 (r6 q)⟩
        show y < dn D + 1
        omega
  · have d : y < dn D + 1 := d
    have ex : x ≠ dn D := fun q => by subst q; rw [ud_s] at e; omega
    rw [o x ex] at e
    rw [o z (by omega)]
    have : y < dn D := by
      rcases h.1.1 x (by omega) (by omega) with u | ⟨v, r⟩ <;> omega
    exact h.1.2 x y z (by omega) b c this e
  · have a : dn D + 1 ≤ x := a
    rw [o x (by omega)]
    exact h.2 x (by omega) b
theorem XC_drop {D : rD} {fL fC : Int32} {aB aK aT : Nat → Int32} (h : XC D fL fC aB aK aT) {X : Int32} (hX : X = zI ((dn D - 1 : Nat) : Int)) : XC (dropD D) fL X aB aK aT := by
  obtain ⟨h1, h2, h3, h4, h5, d1, d2, d3, d4, d5⟩ := h
  refine ⟨h1, hX, h3, fun i hi => h4 i ?_, h5, d1, ?_, d3, fun i hi => d4 i ?_, d5⟩
  · have hi : i < dn D - 1 := hi
    omega
  · show dn D - 1 ≤ 14
    omega
  · have hi : i < dn D - 1 := hi
    omega
theorem XC_K {D : rD} {fL fC : Int32} {aB aK aK' aT : Nat → Int32} (h : XC D fL fC aB aK aT) (q : ∀ i, i < dn D → aK' i = aK i) : XC D fL fC aB aK' aT :=
  ⟨h.1, h.2.1, h.2.2.1, fun i hi => by rw [q i hi]; exact h.2.2.2.1 i hi, h.2.2.2.2⟩
/-- what a release leaves -/
def rlf (t : Nat → Int) (i : Nat) : Nat → Int := if 0 ≤ t i then rel t i (t i).toNat else t
theorem TR_rel {D : rD} {t : Nat → Int} (h : TR D t) {i : Nat} (hi : i < dn D) : TR D (rlf t i) ∧ rlf t i i = -1 := by
  unfold rlf
  rcases h.1.1 i (by omega) hi with u | ⟨y, r1, r2, r3, r4, r5, r6⟩
  · rw [if_neg (by omega)]
    exact ⟨h, u⟩
  · rw [if_pos (by omega), r3, Int.toNat_natCast]
    refine ⟨⟨VR_rel h.1 r3 r4, fun x a b => ?_⟩, ?_⟩
    · unfold rel
      rw [if_neg (by omega), if_neg (by omega)]
      exact h.2 x a b
    · unfold rel
      rw [if_pos rfl]
theorem TR_drop {D : rD} {t : Nat → Int} (h : TR D t) (h0 : 0 < dn D) (ht : t (dn D - 1) = -1) : TR (dropD D) t := by
  refine ⟨⟨fun x _ hx => ?_, fun x y z _ b c d e => ?_⟩, fun x a b => ?_⟩
  · have hx : x < dn D - 1 := hx
    rcases h.1.1 x (by omega) (by omega) with u | ⟨y, r1, r2, r3, r4, r5, r6⟩
    · exact Or.inl u
    · refine Or.inr ⟨y, r1, ?_, r3, r4, r5, r6⟩
      show y < dn D - 1
      by_cases q : y = dn D - 1
      · subst q; omega
      · omega
  · have d : y < dn D - 1 := d
    exact h.1.2 x y z (by omega) b c (by omega) e
  · have a : dn D - 1 ≤ x := a
    by_cases q : x = dn D - 1
    · subst q; exact ht
    · exact h.2 x (by omega) b
theorem XC_block {D : rD} {fL fC : Int32} {aB aK aT : Nat → Int32} (h : XC D fL fC aB aK aT) {i : Nat} {b : Int} (hb : b = 0 ∨ b = 1) {X : Int32} (hX : X = zI b) : XC (blockD D i b) fL fC aB (upd aK i X) aT := by
  obtain ⟨h1, h2, h3, h4, h5, d1, d2, d3, d4, d5⟩ := h
  refine ⟨h1, h2, h3, AI_ud h4 i b hX, h5, d1, d2, d3, fun x hx => ?_, d5⟩
  show ud (dl D) i b x = 0 ∨ ud (dl D) i b x = 1
  by_cases e : x = i
  · subst e; rw [ud_s]; exact hb
  · rw [ud_n e]; exact d4 x hx
theorem TR_block {D : rD} {t : Nat → Int} (h : TR D t) {i : Nat} {b : Int} (hb : b = 0 ∨ t i = -1) : TR (blockD D i b) t := by
  refine ⟨VR_mono h.1 (fun x y _ hxy hy e c => ?_), h.2⟩
  have hy : y < dn D := hy
  have c : dA D x y = true := c
  unfold dA at c
  simp only [Bool.and_eq_true, decide_eq_true_eq] at c
  apply dA_t
  show dm D + x + 1 ≤ y ∧ ud (dl D) i b x = 0 ∧ ud (dl D) i b y = 0 ∧ stx (db D x) (db D y) < 3
  have g : ∀ v, dl D v = 0 → (b = 0 ∨ v ≠ i) → ud (dl D) i b v = 0 := by
    intro v hv w
    by_cases q : v = i
    · subst q; rw [ud_s]; rcases w with w | w
      · exact w
      · exact absurd rfl w
    · rw [ud_n q]; exact hv
  refine ⟨c.1.1.1, g x c.1.1.2 ?_, g y c.1.2 ?_, c.2⟩
  · rcases hb with hb | hb
    · exact Or.inl hb
    · exact Or.inr (fun q => by subst q; omega)
  · rcases hb with hb | hb
    · exact Or.inl hb
    · refine Or.inr (fun q => ?_)
      subst q
      rcases h.1.1 x (by omega) (by omega) with u | ⟨v, r1, r2, r3, r4, r5⟩
      · omega
      · have : v = y := by omega
        subst this
        omega
theorem XC_set {D : rD} {fL fC : Int32} {aB aK aT : Nat → Int32} (h : XC D fL fC aB aK aT) {k : Nat} {x : Int} (x1 : -60 ≤ x) (x2 : x ≤ 60) {X : Int32} (hX : X = zI x) : XC (setD D k x) fL fC aB aK (upd aT k X) := by
  obtain ⟨h1, h2, h3, h4, h5, d1, d2, d3, d4, d5⟩ := h
  refine ⟨h1, h2, h3, h4, AI_ud h5 k x hX, d1, d2, d3, d4, fun v hv => ?_⟩
  show -60 ≤ ud (de D) k x v ∧ ud (de D) k x v ≤ 60
  by_cases e : v = k
  · subst e; rw [ud_s]; omega
  · rw [ud_n e]; exact d5 v hv
theorem TR_set {D : rD} {t : Nat → Int} (h : TR D t) (k : Nat) (x : Int) : TR (setD D k x) t := ⟨VR_mono h.1 (fun _ _ _ _ _ _ c => c), h.2⟩
section
variable {fL fC fF fT fI fJ fK : Int32} {aB aK aT aP aM aG aA aO aS aQ aR aW : Nat → Int32}
theorem xRelease {t : Nat → Int} (hP : AI 14 aP t) (mb : MB t) {i : Nat} (hi : i < 14) {P : Int32} (p0 : P = zI (i : Nat)) {post : SX → Prop} (K : ∀ aP, AI 14 aP (rlf t i) → post (fL, fC, fF, fT, fI, fJ, fK, aB, aK, aT, aP, aM, aG, aA, aO, aS, aQ, aR, aW)) : wpX_releaseTrial post (fL, fC, fF, fT, fI, fJ, fK, aB, aK, aT, aP, aM, aG, aA, aO, aS, aQ, aR, aW) P := by
  subst p0
  have b := mb i hi
  simp only [wpX_releaseTrial]
  rw [zcl (by omega)]
  refine ⟨zin hi (by omega), nm_r (hP i hi) ?_⟩
  refine zb_le 0 (t i) (fun c => ?_) (fun c => ?_)
  · have em : t i = ((t i).toNat : Int) := by omega
    refine ⟨zin hi (by omega), nm_e ?_⟩
    rw [show zI (t i) = zI (((t i).toNat : Nat) : Int) from congrArg zI em, zcl (by omega), zI_nm1]
    refine ⟨zin (by omega) (by omega), nm_e (K _ ?_)⟩
    unfold rlf
    rw [if_pos c]
    intro x hx
    unfold rel
    by_cases e : x = (t i).toNat
    · rw [← e, pk_us]
      by_cases e2 : x = i
      · rw [if_pos e2]
      · rw [if_neg e2, if_pos rfl]
    · rw [pk_un e]
      by_cases e2 : x = i
      · subst e2; rw [pk_us, if_pos rfl]
      · rw [pk_un e2, if_neg e2, if_neg e]; exact hP x hx
  · refine K aP ?_
    unfold rlf
    rw [if_neg (by omega)]
    exact hP
end
section
variable {gL gM gN : Int32} {bB bK bT bP bM bS : Nat → Int32}
theorem yDrop {t : Nat → Int} (hP : AI 14 bP t) (mb : MB t) {i : Nat} (hi : i < 14) {P : Int32} (p0 : P = zI (i : Nat)) {post : SY → Prop} (K : ∀ bP, AI 14 bP (rlf t i) → post (gL, gM, gN, bB, bK, bT, bP, bM, bS)) : wpY_dropTrialPairOf post (gL, gM, gN, bB, bK, bT, bP, bM, bS) P := by
  subst p0
  have b := mb i hi
  simp only [wpY_dropTrialPairOf]
  rw [zcl (by omega)]
  refine ⟨zin hi (by omega), ?_⟩
  refine zb_lt (t i) 0 (fun c => ⟨zin hi (by omega), nm_e (K _ ?_)⟩) (fun c => ⟨zin hi (by omega), ?_⟩) (hP i hi) rfl
  · unfold rlf
    rw [if_neg (by omega)]
    intro x hx
    by_cases e : x = i
    · subst e; rw [pk_us, show t x = -1 by omega]; decide
    · rw [pk_un e]; exact hP x hx
  · have em : t i = ((t i).toNat : Int) := by omega
    rw [hP i hi, show zI (t i) = zI (((t i).toNat : Nat) : Int) from congrArg zI em, zcl (by omega)]
    refine ⟨zin (by omega) (by omega), nm_e ⟨zin hi (by omega), nm_e (K _ ?_)⟩⟩
    unfold rlf
    rw [if_pos c]
    intro x hx
    unfold rel
    by_cases e2 : x = i
    · subst e2; rw [pk_us, if_pos rfl]; decide
    · rw [pk_un e2, if_neg e2]
      by_cases e : x = (t i).toNat
      · rw [← e, pk_us, if_pos rfl]; decide
      · rw [pk_un e, if_neg e]; exact hP x hx
end
end
section
/-! what is owed -/
theorem i_up {k : Nat} {u : SX} {v : SY} (h : i_Rel k u v) : i_Rel (k + 3) u v := h
theorem nb0 : vp_nar .boolean 0 = zI 0 := by decide
theorem nb1 : vp_nar .boolean 1 = zI 1 := by decide
section
variable {fL fC fF fT fI fJ fK : Int32} {aB aK aT aP aM aG aA aO aS aQ aR aW : Nat → Int32}
variable {gL gM gN : Int32} {bB bK bT bP bM bS : Nat → Int32}
theorem xi270 {post : SX → Prop} (K : ∀ aP, AI 14 aP fr → post (fL, fC, fF, fT, fI, fJ, fK, aB, aK, aT, aP, aM, aG, aA, aO, aS, aQ, aR, aW)) :
    ∀ (n x : Nat) (aP : Nat → Int32), 14 - x < n → x ≤ 14 → (∀ y, y < x → aP y = zI (-1)) → wX_init_270 post fL fC fF fT fI fJ fK n (zI (x : Nat)) aB aK aT aP aM aG aA aO aS aQ aR aW := by
  intro n
  induction n with
  | zero => intro x aP h; omega
  | succ n ih =>
    intro x aP a1 a2 iv
    simp only [wX_init_270]
    refine zb_le 14 (x : Nat) (fun c => K aP (fun y hy => iv y (by omega))) (fun c => ?_)
    rw [zcl (by omega), zI_nm1]
    refine ⟨zin (by omega) (by omega), nm_e ?_⟩
    refine nm_r (e' := zI ((x + 1 : Nat) : Int)) (by rw [zI_1, zI_add]; rfl) ?_
    refine ih (x + 1) _ (by omega) (by omega) (fun y hy => ?_)
    by_cases e : y = x
    · subst e; rw [pk_us]
    · rw [pk_un e]; exact iv y (by omega)
theorem yi222 {post : SY → Prop} (K : ∀ bP, AI 14 bP fr → post (gL, gM, gN, bB, bK, bT, bP, bM, bS)) :
    ∀ (n x : Nat) (bP : Nat → Int32), 14 - x < n → x ≤ 14 → (∀ y, y < x → bP y = zI (-1)) → wY_init_222 post gL gM gN n (zI (x : Nat)) bB bK bT bP bM bS := by
  intro n
  induction n with
  | zero => intro x bP h; omega
  | succ n ih =>
    intro x bP a1 a2 iv
    simp only [wY_init_222]
    refine zb_le 14 (x : Nat) (fun c => K bP (fun y hy => iv y (by omega))) (fun c => ?_)
    rw [zcl (by omega)]
    refine ⟨zin (by omega) (by omega), nm_e ?_⟩
    refine nm_r (e' := zI ((x + 1 : Nat) : Int)) (by rw [zI_1, zI_add]; rfl) ?_
    refine ih (x + 1) _ (by omega) (by omega) (fun y hy => ?_)
    by_cases e : y = x
    · subst e; rw [pk_us]; decide
    · rw [pk_un e]; exact iv y (by omega)
theorem xtc7 {post : Int32 → SX → Prop} {R : Int32} (K : ∀ aP, AI 14 aP fr → post R (fL, fC, fF, fT, fI, fJ, fK, aB, aK, aT, aP, aM, aG, aA, aO, aS, aQ, aR, aW)) :
    ∀ (n x : Nat) (aP : Nat → Int32), 14 - x < n → x ≤ 14 → (∀ y, y < x → aP y = zI (-1)) → wX_trialClear_7 post R fL fC fF fT fI fJ fK n (zI (x : Nat)) aB aK aT aP aM aG aA aO aS aQ aR aW := by
  intro n
  induction n with
  | zero => intro x aP h; omega
  | succ n ih =>
    intro x aP a1 a2 iv
    simp only [wX_trialClear_7]
    refine zb_le 14 (x : Nat) (fun c => K aP (fun y hy => iv y (by omega))) (fun c => ?_)
    rw [zcl (by omega), zI_nm1]
    refine ⟨zin (by omega) (by omega), nm_e ?_⟩
    refine nm_r (e' := zI ((x + 1 : Nat) : Int)) (by rw [zI_1, zI_add]; rfl) ?_
    refine ih (x + 1) _ (by omega) (by omega) (fun y hy => ?_)
    by_cases e : y = x
    · subst e; rw [pk_us]
    · rw [pk_un e]; exact iv y (by omega)
theorem ytc7 {post : Int32 → SY → Prop} {R : Int32} (K : ∀ bP, AI 14 bP fr → post R (gL, gM, gN, bB, bK, bT, bP, bM, bS)) :
    ∀ (n x : Nat) (bP : Nat → Int32), 14 - x < n → x ≤ 14 → (∀ y, y < x → bP y = zI (-1)) → wY_trialClear_7 post R gL gM gN n (zI (x : Nat)) bB bK bT bP bM bS := by
  intro n
  induction n with
  | zero => intro x bP h; omega
  | succ n ih =>
    intro x bP a1 a2 iv
    simp only [wY_trialClear_7]
    refine zb_le 14 (x : Nat) (fun c => K bP (fun y hy => iv y (by omega))) (fun c => ?_)
    rw [zcl (by omega)]
    refine ⟨zin (by omega) (by omega), nm_e ?_⟩
    refine nm_r (e' := zI ((x + 1 : Nat) : Int)) (by rw [zI_1, zI_add]; rfl) ?_
    refine ih (x + 1) _ (by omega) (by omega) (fun y hy => ?_)
    by_cases e : y = x
    · subst e; rw [pk_us]; decide
    · rw [pk_un e]; exact iv y (by omega)
end
def e0 (k : Nat) : Int := if k = 0 then -33 else if k = 1 then -22 else if k = 2 then -15 else if k = 3 then -11 else if k = 4 then -9 else if k = 5 then -5 else if k = 6 then 38 else if k = 7 then 3 else if k = 8 then 28 else if k = 9 then 4 else if k = 10 then 12 else if k = 11 then 3 else if k = 12 then 5 else if k = 13 then 34 else if k = 14 then 4 else if k = 16 then 5 else 0
def D0 (m : Nat) : rD := (m, 0, fun _ => 0, fun _ => 0, e0)
theorem e0_b : ∀ k, k < 17 → -60 ≤ e0 k ∧ e0 k ≤ 60 := by decide
theorem D0_XC {m : Nat} (h1 : 2 ≤ m) (h2 : m ≤ 4) {aT : Nat → Int32} (hT : AI 17 aT e0) {X : Int32} (hX : X = zI (m : Nat)) : XC (D0 m) X 0 (fun _ => 0) (fun _ => 0) aT :=
  ⟨hX, by show (0 : Int32) = zI 0; decide, fun i _ => by show (0 : Int32) = zI 0; decide, fun i _ => by show (0 : Int32) = zI 0; decide, hT, ⟨h1, h2⟩, by show 0 ≤ 14; omega, fun i _ => by show (0 : Int) ≤ 0 ∧ (0 : Int) ≤ 3; omega, fun i _ => Or.inl rfl, e0_b⟩
theorem D0_TR (m : Nat) : TR (D0 m) fr := ⟨⟨fun x _ _ => Or.inl rfl, fun x y z _ _ _ d _ => by have d : y < 0 := d; omega⟩, fun _ _ _ => rfl⟩
theorem tX : AI 17 (upd (upd (upd (upd (upd (upd (upd (upd (upd (upd (upd (upd (upd (upd (upd (upd (fun _ => 0) 0 (-33)) 1 (-22)) 2 (-15)) 3 (-11)) 4 (-9)) 5 (-5)) 6 38) 7 3) 8 28) 9 4) 10 12) 11 3) 12 5) 13 34) 14 4) 16 5) e0 := by unfold AI; decide
theorem tY : AI 17 (upd (upd (upd (upd (upd (upd (upd (upd (upd (upd (upd (upd (upd (upd (upd (upd (upd (fun _ => 0) 0 (-33)) 1 (-22)) 2 (-15)) 3 (-11)) 4 (-9)) 5 (-5)) 6 38) 7 3) 8 28) 9 4) 10 12) 11 3) 12 5) 13 34) 14 4) 15 0) 16 5) e0 := by unfold AI; decide
theorem xi123 {m : Nat} (h1 : 2 ≤ m) (h2 : m ≤ 4) {X Y : Int32} (hX : X = zI (m : Nat)) (hY : Y = zI (m : Nat)) : wX_init_123 (fun u => wY_init_77 (fun v => i_Rel 1 u v) Y 0 0 0 (fun _ => 0) (fun _ => 0) (fun _ => 0) (fun _ => 0) (fun _ => 0) (fun _ => 0)) X 0 0 0 0 0 0 0 (fun _ => 0) (fun _ => 0) (fun _ => 0) (fun _ => 0) (fun _ => 0) (fun _ => 0) (fun _ => 0) (fun _ => 0) (fun _ => 0) (fun _ => 0) (fun _ => 0) (fun _ => 0) := by
  unfold wX_init_123
  refine nm_e (nm_e (nm_e (nm_e (nm_e (nm_e (nm_e (nm_e (nm_e (nm_e (nm_e (nm_e (nm_e (nm_e (nm_e (nm_e ?_)))))))))))))))
  refine ⟨15, xi270 (fun aP hP => ?_) 15 0 _ (by omega) (by omega) (fun y hy => by omega)⟩
  unfold wY_init_77
  refine nm_e (nm_e (nm_e (nm_e (nm_e (nm_e (nm_e (nm_e (nm_e (nm_e (nm_e (nm_e (nm_e (nm_e (nm_e (nm_e (nm_e ?_))))))))))))))))
  refine ⟨15, yi222 (fun bP hQ => ?_) 15 0 _ (by omega) (by omega) (fun y hy => by omega)⟩
  exact rel_i (D0_XC h1 h2 tX hX) (D0_XC h1 h2 tY hY) hP hQ (D0_TR m) (Or.inl rfl)
theorem i_vc0 (k0 : Int32) : wpX_init (fun u => wpY_init (fun v => i_Rel 1 u v) k0) k0 := by
  obtain ⟨p, rfl, p1, p2⟩ := zI_of k0
  simp only [wpX_init, wpY_init]
  by_cases a : 2 ≤ p
  · have a' : (2 : Int32) ≤ zI p := (zI_le (x := 2) (by omega) (by omega) p1 p2).mpr a
    by_cases b : p ≤ 4
    · have b' : zI p ≤ (4 : Int32) := (zI_le (y := 4) p1 p2 (by omega) (by omega)).mpr b
      have e : zI p = zI ((p.toNat : Nat) : Int) := congrArg zI (by omega)
      simp only [a', b', true_implies, not_true, false_implies, and_true]
      exact xi123 (by omega) (by omega) e e
    · have b' : ¬ zI p ≤ (4 : Int32) := fun w => b ((zI_le (y := 4) p1 p2 (by omega) (by omega)).mp w)
      simp only [a', b', true_implies, not_true, not_false_iff, false_implies, and_true, true_and]
      exact xi123 (m := 4) (by omega) (by omega) (by decide) (by decide)
  · have a' : ¬ (2 : Int32) ≤ zI p := fun w => a ((zI_le (x := 2) (by omega) (by omega) p1 p2).mp w)
    simp only [a', true_implies, not_false_iff, false_implies, true_and]
    exact xi123 (m := 2) (by omega) (by omega) (by decide) (by decide)
theorem i_vc_addBase {k : Nat} {u : SX} {v : SY} (I : i_Rel k u v) (hk : k + 3 ≤ 1537) (v1 : Int32) : wpX_addBase (fun r u' => wpY_addBase (fun r' v' => r' = r ∧ i_Rel (k + 3) u' v') v v1) u v1 := by
  refine rel_e (P := fun u v => wpX_addBase (fun r u' => wpY_addBase (fun r' v' => r' = r ∧ i_Rel (k + 3) u' v') v v1) u v1) I ?_
  intro fL fC fF fT fI fJ fK aB aK aT aP aM aG aA aO aS aQ aR aW gL gM gN bB bK bT bP bM bS D t hX hY hP hQ hR hF
  have hn := hX.2.2.2.2.2.2.1
  have same : i_Rel (k + 3) (fL, fC, fF, fT, fI, fJ, fK, aB, aK, aT, aP, aM, aG, aA, aO, aS, aQ, aR, aW) (gL, gM, gN, bB, bK, bT, bP, bM, bS) := rel_i hX hY hP hQ hR hF
  obtain ⟨p, rfl, p1, p2⟩ := zI_of v1
  have hfC := hX.2.1
  have hgN := hY.2.1
  simp only [wpX_addBase, wpY_addBase]
  refine zb_lt (dn D : Nat) 14 (fun c => ?_) (fun c => zb_eq (dn D : Nat) 14 (fun _ => ⟨by trivial, same⟩) (fun q => by omega) hgN rfl) hfC rfl
  have ny : ∀ {A B : Prop}, B → (gN = 14 → A) ∧ (¬ gN = 14 → B) := fun h => zb_eq (dn D : Nat) 14 (fun q => by omega) (fun _ => h) hgN rfl
  refine zb_lt p 0 (fun c1 => ny (zb_lt p 0 (fun _ => ⟨by trivial, same⟩) (fun q => by omega))) (fun c1 => ?_)
  refine zb_le p 3 (fun c2 => ?_) (fun c2 => ny (zb_lt p 0 (fun q => by omega) (fun _ => zb_le p 3 (fun q => by omega) (fun _ => ⟨by trivial, same⟩))))
  rw [zI_nbb (by omega) (by omega), nb0, zI_nm1, hfC, hgN, zcl (by omega)]
  refine ⟨zin (by omega) (by omega), nm_e ⟨zin (by omega) (by omega), nm_e ⟨zin (by omega) (by omega), nm_e ?_⟩⟩⟩
  have e1 : zI (dn D : Nat) + 1 = zI ((dn D + 1 : Nat) : Int) := by rw [zI_1, zI_add]; rfl
  rw [e1]
  refine nm_e ?_
  rw [← hgN]
  refine ny (zb_lt p 0 (fun q => by omega) (fun _ => zb_le p 3 (fun _ => ?_) (fun q => by omega)))
  rw [hgN]
  refine ⟨zin (by omega) (by omega), nm_e ⟨zin (by omega) (by omega), nm_e ⟨zin (by omega) (by omega), nm_e ?_⟩⟩⟩
  refine nm_e ⟨by trivial, ?_⟩
  exact rel_i (XC_add hX (by omega) c1 c2 rfl rfl rfl) (XC_add hY (by omega) c1 c2 rfl rfl rfl) (AI_ud hP _ (-1) rfl) (AI_ud hQ _ (-1) (by decide)) (TR_add hR p) (Or.inl rfl)
end
section
/-! what is owed: the data and the plain answers -/
theorem i_vc_dropBase {k : Nat} {u : SX} {v : SY} (I : i_Rel k u v) (hk : k + 3 ≤ 1537) : wpX_dropBase (fun r u' => wpY_dropBase (fun r' v' => r' = r ∧ i_Rel (k + 3) u' v') v) u := by
  refine rel_e (P := fun u v => wpX_dropBase (fun r u' => wpY_dropBase (fun r' v' => r' = r ∧ i_Rel (k + 3) u' v') v) u) I ?_
  intro fL fC fF fT fI fJ fK aB aK aT aP aM aG aA aO aS aQ aR aW gL gM gN bB bK bT bP bM bS D t hX hY hP hQ hR hF
  have hn := hX.2.2.2.2.2.2.1
  have same : i_Rel (k + 3) (fL, fC, fF, fT, fI, fJ, fK, aB, aK, aT, aP, aM, aG, aA, aO, aS, aQ, aR, aW) (gL, gM, gN, bB, bK, bT, bP, bM, bS) := rel_i hX hY hP hQ hR hF
  have mb := TR_MB hn hR
  have hfC := hX.2.1
  have hgN := hY.2.1
  simp only [wpX_dropBase]
  refine zb_eq (dn D : Nat) 0 (fun c => ?_) (fun c => ?_) hfC rfl
  · simp only [wpY_dropBase]
    exact zb_eq (dn D : Nat) 0 (fun _ => ⟨by trivial, same⟩) (fun q => by omega) hgN rfl
  · have e1 : zI (dn D : Nat) - 1 = zI ((dn D - 1 : Nat) : Int) := by rw [zI_1, zI_sub]; exact congrArg zI (by omega)
    refine nm_r (e' := zI ((dn D - 1 : Nat) : Int)) (by rw [hfC, e1]) ?_
    refine xRelease hP mb (i := dn D - 1) (by omega) rfl (fun aP hP => ?_)
    dsimp only
    rw [zcl (by omega)]
    refine ⟨zin (by omega) (by omega), nm_e ⟨zin (by omega) (by omega), ?_⟩⟩
    simp only [wpY_dropBase]
    refine zb_eq (dn D : Nat) 0 (fun q => by omega) (fun _ => ?_) hgN rfl
    refine yDrop hQ mb (i := dn D - 1) (by omega) (by rw [hgN, e1]) (fun bP hQ => ?_)
    dsimp only
    refine nm_r (e' := zI ((dn D - 1 : Nat) : Int)) (by rw [hgN, e1]) ?_
    rw [zcl (by omega)]
    obtain ⟨r1, r2⟩ := TR_rel hR (i := dn D - 1) (by omega)
    refine ⟨zin (by omega) (by omega), by rw [hX.2.2.1 _ (by omega), hY.2.2.1 _ (by omega)], ?_⟩
    exact rel_i (XC_K (XC_drop hX rfl) (fun i hi => pk_un (by have hi : i < dn D - 1 := hi; omega))) (XC_drop hY rfl) hP hQ (TR_drop r1 (by omega) r2) (Or.inl rfl)
theorem i_vc_length {k : Nat} {u : SX} {v : SY} (I : i_Rel k u v) (hk : k + 3 ≤ 1537) : wpX_length (fun r => wpY_length (fun r' => r' = r ∧ i_Rel (k + 3) u v) v) u := by
  refine rel_e (P := fun u v => wpX_length (fun r => wpY_length (fun r' => r' = r ∧ i_Rel (k + 3) u v) v) u) I ?_
  intro fL fC fF fT fI fJ fK aB aK aT aP aM aG aA aO aS aQ aR aW gL gM gN bB bK bT bP bM bS D t hX hY hP hQ hR hF
  simp only [wpX_length, wpY_length]
  exact ⟨by rw [hX.2.1, hY.2.1], rel_i hX hY hP hQ hR hF⟩
theorem i_vc_block {k : Nat} {u : SX} {v : SY} (I : i_Rel k u v) (hk : k + 3 ≤ 1537) (v1 : Int32) (v2 : Int32) : wpX_block (fun r u' => wpY_block (fun r' v' => r' = r ∧ i_Rel (k + 3) u' v') v v1 (lw_bz v2)) u v1 (lw_bz v2) := by
  refine rel_e (P := fun u v => wpX_block (fun r u' => wpY_block (fun r' v' => r' = r ∧ i_Rel (k + 3) u' v') v v1 (lw_bz v2)) u v1 (lw_bz v2)) I ?_
  intro fL fC fF fT fI fJ fK aB aK aT aP aM aG aA aO aS aQ aR aW gL gM gN bB bK bT bP bM bS D t hX hY hP hQ hR hF
  have hn := hX.2.2.2.2.2.2.1
  have same : i_Rel (k + 3) (fL, fC, fF, fT, fI, fJ, fK, aB, aK, aT, aP, aM, aG, aA, aO, aS, aQ, aR, aW) (gL, gM, gN, bB, bK, bT, bP, bM, bS) := rel_i hX hY hP hQ hR hF
  have mb := TR_MB hn hR
  have hfC := hX.2.1
  have hgN := hY.2.1
  obtain ⟨p, rfl, p1, p2⟩ := zI_of v1
  simp only [wpX_block]
  refine zb_lt p 0 (fun c => ?_) (fun c => ?_)
  · simp only [wpY_block]
    exact zb_lt p 0 (fun _ => ⟨by trivial, same⟩) (fun q => by omega)
  · refine zb_lt p (dn D : Nat) (fun c1 => ?_) (fun c1 => ?_) rfl hfC
    · have ep : zI p = zI ((p.toNat : Nat) : Int) := congrArg zI (by omega)
      rw [ep]
      rcases lw_bz_01 v2 with e | e
      · rw [e]
        refine br_t rfl ?_
        unfold wX_block_23
        rw [zcl (by omega), nb0]
        refine ⟨zin (by omega) (by omega), nm_e ?_⟩
        simp only [wpY_block]
        refine zb_lt (p.toNat : Nat) 0 (fun q => by omega) (fun _ => zb_lt (p.toNat : Nat) (dn D : Nat) (fun _ => ?_) (fun q => by omega) rfl hgN)
        rw [zcl (by omega), nb0]
        refine ⟨zin (by omega) (by omega), nm_e (br_t (by trivial) ⟨by trivial, ?_⟩)⟩
        exact rel_i (XC_block hX (Or.inl rfl) rfl) (XC_block hY (Or.inl rfl) rfl) hP hQ (TR_block hR (Or.inl rfl)) (Or.inl rfl)
      · rw [e]
        refine br_f (by decide) ?_
        refine xRelease hP mb (i := p.toNat) (by omega) rfl (fun aP hP => ?_)
        dsimp only
        unfold wX_block_23
        rw [zcl (by omega), nb1]
        refine ⟨zin (by omega) (by omega), nm_e ?_⟩
        simp only [wpY_block]
        refine zb_lt (p.toNat : Nat) 0 (fun q => by omega) (fun _ => zb_lt (p.toNat : Nat) (dn D : Nat) (fun _ => ?_) (fun q => by omega) rfl hgN)
        rw [zcl (by omega), nb1]
        refine ⟨zin (by omega) (by omega), nm_e (br_f (by decide) ?_)⟩
        refine yDrop hQ mb (i := p.toNat) (by omega) rfl (fun bP hQ => ?_)
        obtain ⟨r1, r2⟩ := TR_rel hR (i := p.toNat) (by omega)
        exact ⟨by trivial, rel_i (XC_block hX (Or.inr rfl) rfl) (XC_block hY (Or.inr rfl) rfl) hP hQ (TR_block r1 (Or.inr r2)) (Or.inl rfl)⟩
    · simp only [wpY_block]
      exact zb_lt p 0 (fun q => by omega) (fun _ => zb_lt p (dn D : Nat) (fun q => by omega) (fun _ => ⟨by trivial, same⟩) rfl hgN)
theorem i_vc_setEnergy {k : Nat} {u : SX} {v : SY} (I : i_Rel k u v) (hk : k + 3 ≤ 1537) (v1 : Int32) (v2 : Int32) : wpX_setEnergy (fun r u' => wpY_setEnergy (fun r' v' => r' = r ∧ i_Rel (k + 3) u' v') v v1 v2) u v1 v2 := by
  refine rel_e (P := fun u v => wpX_setEnergy (fun r u' => wpY_setEnergy (fun r' v' => r' = r ∧ i_Rel (k + 3) u' v') v v1 v2) u v1 v2) I ?_
  intro fL fC fF fT fI fJ fK aB aK aT aP aM aG aA aO aS aQ aR aW gL gM gN bB bK bT bP bM bS D t hX hY hP hQ hR hF
  have same : i_Rel (k + 3) (fL, fC, fF, fT, fI, fJ, fK, aB, aK, aT, aP, aM, aG, aA, aO, aS, aQ, aR, aW) (gL, gM, gN, bB, bK, bT, bP, bM, bS) := rel_i hX hY hP hQ hR hF
  obtain ⟨p, rfl, p1, p2⟩ := zI_of v1
  obtain ⟨q, rfl, q1, q2⟩ := zI_of v2
  simp only [wpX_setEnergy, wpY_setEnergy]
  refine zb_lt p 0 (fun c => zb_lt p 0 (fun _ => ⟨by trivial, same⟩) (fun z => by omega)) (fun c => ?_)
  refine zb_le p 16 (fun c1 => ?_) (fun c1 => zb_lt p 0 (fun z => by omega) (fun _ => zb_lt 16 p (fun _ => ⟨by trivial, same⟩) (fun z => by omega)))
  refine zb_lt q (-60) (fun c2 => zb_lt p 0 (fun z => by omega) (fun _ => zb_lt 16 p (fun z => by omega) (fun _ => zb_lt q (-60) (fun _ => ⟨by trivial, same⟩) (fun z => by omega)))) (fun c2 => ?_)
  refine zb_le q 60 (fun c3 => ?_) (fun c3 => zb_lt p 0 (fun z => by omega) (fun _ => zb_lt 16 p (fun z => by omega) (fun _ => zb_lt q (-60) (fun z => by omega) (fun _ => zb_le q 60 (fun z => by omega) (fun _ => ⟨by trivial, same⟩)))))
  have ep : zI p = zI ((p.toNat : Nat) : Int) := congrArg zI (by omega)
  rw [ep, zcl (by omega)]
  refine ⟨zin (by omega) (by omega), nm_e ?_⟩
  refine zb_lt (p.toNat : Nat) 0 (fun z => by omega) (fun _ => zb_lt 16 (p.toNat : Nat) (fun z => by omega) (fun _ => zb_lt q (-60) (fun z => by omega) (fun _ => zb_le q 60 (fun _ => ?_) (fun z => by omega))))
  refine ⟨zin (by omega) (by omega), nm_e ⟨by trivial, ?_⟩⟩
  exact rel_i (XC_set hX c2 c3 rfl) (XC_set hY c2 c3 rfl) hP hQ (TR_set hR _ _) (Or.inl rfl)
theorem i_vc_canPair {k : Nat} {u : SX} {v : SY} (I : i_Rel k u v) (hk : k + 3 ≤ 1537) (v1 : Int32) (v2 : Int32) : wpX_canPair (fun r => wpY_canPair (fun r' => r' = r ∧ i_Rel (k + 3) u v) v v1 v2) u v1 v2 := by
  refine rel_e (P := fun u v => wpX_canPair (fun r => wpY_canPair (fun r' => r' = r ∧ i_Rel (k + 3) u v) v v1 v2) u v1 v2) I ?_
  intro fL fC fF fT fI fJ fK aB aK aT aP aM aG aA aO aS aQ aR aW gL gM gN bB bK bT bP bM bS D t hX hY hP hQ hR hF
  have same : i_Rel (k + 3) (fL, fC, fF, fT, fI, fJ, fK, aB, aK, aT, aP, aM, aG, aA, aO, aS, aQ, aR, aW) (gL, gM, gN, bB, bK, bT, bP, bM, bS) := rel_i hX hY hP hQ hR hF
  refine xCanPair hX (fun i j e1 e2 h1 h2 al => ?_) (fun no => ?_)
  · exact yCan hY e1 e2 h1 h2 (fun _ => ⟨rfl, same⟩) (fun w => by rw [al] at w; cases w)
  · exact yCanPair hY (fun i j e1 e2 h1 h2 al => by rw [no i j e1 e2 h1 h2] at al; cases al) (fun _ => ⟨rfl, same⟩)
theorem FF_fold {D : rD} {fF fT : Int32} {aM aG aA aS : Nat → Int32} (h : FF D fF fT aM aG aA aS) : fF = 0 ∨ (fF = 1 ∧ FT (dE D) (dn D) aM aG aA) := h.imp id (fun q => ⟨q.1, q.2.1⟩)
section
variable {fL fC fF fT fI fJ fK : Int32} {aB aK aT aP aM aG aA aO aS aQ aR aW : Nat → Int32}
/-- after a fold the table stands, and the relation's part on it -/
theorem xFoldF {D : rD} (hD : XC D fL fC aB aK aT) (hF : FF D fF fT aM aG aA aS) {post : SX → Prop} (K : ∀ fF fT fI fJ aM aG aA aO, FT (dE D) (dn D) aM aG aA → fF = 1 → (fT = 0 ∨ (fT = 1 ∧ AI 14 aS (Ms fr (fm (RO (dE D) (dn D) 0)).2))) → post (fL, fC, fF, fT, fI, fJ, fK, aB, aK, aT, aP, aM, aG, aA, aO, aS, aQ, aR, aW)) : wpX_fold post (fL, fC, fF, fT, fI, fJ, fK, aB, aK, aT, aP, aM, aG, aA, aO, aS, aQ, aR, aW) := by
  refine xFold hD (FF_fold hF) (fun _ aM aG aA aO t => K 1 0 (-1) (-1) aM aG aA aO t rfl (Or.inl rfl)) (fun e t => ?_)
  rcases hF with h | h
  · rw [h] at e; exact absurd e (by decide)
  · exact K fF fT fI fJ aM aG aA aO t h.1 h.2.2
end
theorem FT_183 {E : rE} {n : Nat} {aM aG aA : Nat → Int32} (h : FT E n aM aG aA) : aM 183 = zI (mnL (TOl E n 0)) ∧ (∀ g : Nat, g < 8 → aG (1464 + g) = zI ((cn (mnL (TOl E n 0) + g) (TOl E n 0) : Nat) : Int)) ∧ aA 183 = zI (((TOl E n 0).length : Nat) : Int) := by
  obtain ⟨Tab, ts, sr⟩ := h
  have c := ts 183 (by omega)
  have e : Tab 183 = TOl E n 0 := sr.2.2.1 0 (Nat.le_refl _) (Nat.zero_le _)
  rw [e] at c
  exact ⟨c.2.1, c.2.2.1, c.2.2.2⟩
theorem i_vc_leastEnergy {k : Nat} {u : SX} {v : SY} (I : i_Rel k u v) (hk : k + 3 ≤ 1537) : wpX_leastEnergy (fun r u' => wpY_leastEnergy (fun r' v' => r' = r ∧ i_Rel (k + 3) u' v') v) u := by
  refine rel_e (P := fun u v => wpX_leastEnergy (fun r u' => wpY_leastEnergy (fun r' v' => r' = r ∧ i_Rel (k + 3) u' v') v) u) I ?_
  intro fL fC fF fT fI fJ fK aB aK aT aP aM aG aA aO aS aQ aR aW gL gM gN bB bK bT bP bM bS D t hX hY hP hQ hR hF
  simp only [wpX_leastEnergy]
  refine xFoldF hX hF (fun fF fT fI fJ aM aG aA aO ft e1 e2 => ?_)
  dsimp only
  simp only [wpY_leastEnergy]
  refine ySearch hY (fun gL bM bS h1 h2 => ?_)
  exact ⟨by rw [h1, (FT_183 ft).1, TO_fm], rel_i hX hY hP hQ hR (Or.inr ⟨e1, ft, e2⟩)⟩
theorem i_vc_structures {k : Nat} {u : SX} {v : SY} (I : i_Rel k u v) (hk : k + 3 ≤ 1537) : wpX_structures (fun r u' => wpY_structures (fun r' v' => r' = r ∧ i_Rel (k + 3) u' v') v) u := by
  refine rel_e (P := fun u v => wpX_structures (fun r u' => wpY_structures (fun r' v' => r' = r ∧ i_Rel (k + 3) u' v') v) u) I ?_
  intro fL fC fF fT fI fJ fK aB aK aT aP aM aG aA aO aS aQ aR aW gL gM gN bB bK bT bP bM bS D t hX hY hP hQ hR hF
  simp only [wpX_structures]
  refine xFoldF hX hF (fun fF fT fI fJ aM aG aA aO ft e1 e2 => ?_)
  dsimp only
  refine yStructs hY (fun bM => ?_)
  exact ⟨by rw [(FT_183 ft).2.2]; unfold TOl; rw [List.length_map], rel_i hX hY hP hQ hR (Or.inr ⟨e1, ft, e2⟩)⟩
theorem i_vc_atGap {k : Nat} {u : SX} {v : SY} (I : i_Rel k u v) (hk : k + 3 ≤ 1537) (v1 : Int32) : wpX_atGap (fun r u' => wpY_atGap (fun r' v' => r' = r ∧ i_Rel (k + 3) u' v') v v1) u v1 := by
  refine rel_e (P := fun u v => wpX_atGap (fun r u' => wpY_atGap (fun r' v' => r' = r ∧ i_Rel (k + 3) u' v') v v1) u v1) I ?_
  intro fL fC fF fT fI fJ fK aB aK aT aP aM aG aA aO aS aQ aR aW gL gM gN bB bK bT bP bM bS D t hX hY hP hQ hR hF
  have hd := hX.2.2.2.2.2
  have hn := hd.2.1
  have same : i_Rel (k + 3) (fL, fC, fF, fT, fI, fJ, fK, aB, aK, aT, aP, aM, aG, aA, aO, aS, aQ, aR, aW) (gL, gM, gN, bB, bK, bT, bP, bM, bS) := rel_i hX hY hP hQ hR hF
  obtain ⟨p, rfl, p1, p2⟩ := zI_of v1
  simp only [wpX_atGap]
  refine zb_lt p 0 (fun c => ?_) (fun c => zb_le p 7 (fun c1 => ?_) (fun c1 => ?_))
  · simp only [wpY_atGap]
    exact zb_lt p 0 (fun _ => ⟨by trivial, same⟩) (fun z => by omega)
  · have ep : zI p = zI ((p.toNat : Nat) : Int) := congrArg zI (by omega)
    rw [ep]
    refine xFoldF hX hF (fun fF fT fI fJ aM aG aA aO ft e1 e2 => ?_)
    dsimp only
    rw [show (1464 : Int32) + zI ((p.toNat : Nat) : Int) = zI ((1464 + p.toNat : Nat) : Int) by rw [show (1464 : Int32) = zI 1464 from by decide, zI_add]; exact congrArg zI (by omega), zcl (by omega)]
    refine ⟨zin (by omega) (by omega), ?_⟩
    simp only [wpY_atGap]
    refine zb_lt (p.toNat : Nat) 0 (fun z => by omega) (fun _ => zb_le (p.toNat : Nat) 7 (fun _ => ?_) (fun z => by omega))
    refine ySearch hY (fun gL bM bS h1 h2 => ?_)
    dsimp only
    have bd := mn_bd (RO_BL (dE_EB hd) hn (Nat.zero_le _)) (RO_ne (dE D) (dn D) (dn D) 0 (by omega))
    refine yCountOf hY (w := (fm (RO (dE D) (dn D) 0)).1 + (p.toNat : Nat)) (x := -1) (y := -1) (by omega) (by omega) (by omega) (by omega) (by omega) (by omega) (by rw [h1, zI_add]) (by decide) (by decide) (fun bM => ?_)
    refine ⟨?_, rel_i hX hY hP hQ hR (Or.inr ⟨e1, ft, e2⟩)⟩
    rw [(FT_183 ft).2.1 p.toNat (by omega), kn_all, TO_fm]
    rfl
  · simp only [wpY_atGap]
    exact zb_lt p 0 (fun z => by omega) (fun _ => zb_le p 7 (fun z => by omega) (fun _ => ⟨by trivial, same⟩))
theorem i_vc_partner {k : Nat} {u : SX} {v : SY} (I : i_Rel k u v) (hk : k + 3 ≤ 1537) (v1 : Int32) : wpX_partner (fun r u' => wpY_partner (fun r' v' => r' = r ∧ i_Rel (k + 3) u' v') v v1) u v1 := by
  refine rel_e (P := fun u v => wpX_partner (fun r u' => wpY_partner (fun r' v' => r' = r ∧ i_Rel (k + 3) u' v') v v1) u v1) I ?_
  intro fL fC fF fT fI fJ fK aB aK aT aP aM aG aA aO aS aQ aR aW gL gM gN bB bK bT bP bM bS D t hX hY hP hQ hR hF
  have hd := hX.2.2.2.2.2
  have hn := hd.2.1
  have hgN := hY.2.1
  have same : i_Rel (k + 3) (fL, fC, fF, fT, fI, fJ, fK, aB, aK, aT, aP, aM, aG, aA, aO, aS, aQ, aR, aW) (gL, gM, gN, bB, bK, bT, bP, bM, bS) := rel_i hX hY hP hQ hR hF
  obtain ⟨p, rfl, p1, p2⟩ := zI_of v1
  simp only [wpX_partner]
  refine zb_lt p 0 (fun c => ?_) (fun c => zb_lt p (dn D : Nat) (fun c1 => ?_) (fun c1 => ?_) rfl hX.2.1)
  · simp only [wpY_partner]
    exact zb_lt p 0 (fun _ => ⟨by trivial, same⟩) (fun z => by omega)
  · have ep : zI p = zI ((p.toNat : Nat) : Int) := congrArg zI (by omega)
    rw [ep]
    have mbS := (RO_z (dE_EB hd) hn (fm_mem (RO_LT (dE_EB hd) hn (Nat.zero_le _)) (RO_ne (dE D) (dn D) (dn D) 0 (by omega)))).2.1
    have bi := mbS p.toNat (by omega)
    -- the answer, once the best folding stands
    have ans : ∀ fF fT fI fJ fK aM aG aA aO aS aQ aR aW, FT (dE D) (dn D) aM aG aA → fF = 1 → fT = 1 → AI 14 aS (Ms fr (fm (RO (dE D) (dn D) 0)).2) → wX_partner_30 (fun r u' => wpY_partner (fun r' v' => r' = r ∧ i_Rel (k + 3) u' v') (gL, gM, gN, bB, bK, bT, bP, bM, bS) (zI ((p.toNat : Nat) : Int))) (zI ((p.toNat : Nat) : Int)) fL fC fF fT fI fJ fK aB aK aT aP aM aG aA aO aS aQ aR aW := by
      intro fF fT fI fJ fK aM aG aA aO aS aQ aR aW ft e1 e2 hS
      unfold wX_partner_30
      rw [zcl (by omega)]
      refine ⟨zin (by omega) (by omega), ?_⟩
      refine zb_le 0 (Ms fr (fm (RO (dE D) (dn D) 0)).2 p.toNat) (fun d => ⟨zin (by omega) (by omega), ?_⟩) (fun d => ?_) rfl (hS _ (by omega))
      · simp only [wpY_partner]
        refine zb_lt (p.toNat : Nat) 0 (fun z => by omega) (fun _ => zb_lt (p.toNat : Nat) (dn D : Nat) (fun _ => ?_) (fun z => by omega) rfl hgN)
        refine ySearch hY (fun gL bM bS h1 h2 => ?_)
        dsimp only
        rw [zcl (by omega)]
        refine ⟨zin (by omega) (by omega), ?_⟩
        refine zb_le 0 (Ms fr (fm (RO (dE D) (dn D) 0)).2 p.toNat) (fun _ => ⟨zin (by omega) (by omega), ?_⟩) (fun z => by omega) rfl (h2 _ (by omega))
        exact ⟨by rw [hS _ (by omega), h2 _ (by omega)], rel_i hX hY hP hQ hR (Or.inr ⟨e1, ft, Or.inr ⟨e2, hS⟩⟩)⟩
      · simp only [wpY_partner]
        refine zb_lt (p.toNat : Nat) 0 (fun z => by omega) (fun _ => zb_lt (p.toNat : Nat) (dn D : Nat) (fun _ => ?_) (fun z => by omega) rfl hgN)
        refine ySearch hY (fun gL bM bS h1 h2 => ?_)
        dsimp only
        rw [zcl (by omega)]
        refine ⟨zin (by omega) (by omega), ?_⟩
        refine zb_le 0 (Ms fr (fm (RO (dE D) (dn D) 0)).2 p.toNat) (fun z => by omega) (fun _ => ?_) rfl (h2 _ (by omega))
        exact ⟨by trivial, rel_i hX hY hP hQ hR (Or.inr ⟨e1, ft, Or.inr ⟨e2, hS⟩⟩)⟩
    refine xFoldF hX hF (fun fF fT fI fJ aM aG aA aO ft e1 e2 => ?_)
    dsimp only
    rcases e2 with e2 | ⟨e2, hS⟩
    · refine br_t e2 ?_
      refine xTrace hX (FT_MT hn ft) (fun fK aS aQ aR aW hS => ?_)
      exact ans fF 1 fI fJ fK aM aG aA aO aS aQ aR aW ft e1 rfl hS
    · refine br_f (by rw [e2]; decide) ?_
      exact ans fF fT fI fJ fK aM aG aA aO aS aQ aR aW ft e1 e2 hS
  · simp only [wpY_partner]
    exact zb_lt p 0 (fun z => by omega) (fun _ => zb_lt p (dn D : Nat) (fun z => by omega) (fun _ => ⟨by trivial, same⟩) rfl hgN)
end
section
/-! what is owed: needed, optimaWith, the trial -/
theorem kn_lt {D : rD} (hd : DB D) (P : rT → Prop) : kn P (RO (dE D) (dn D) 0) < 20000 := Nat.lt_of_le_of_lt (kn_le P _) (RO_len (dE_A hd) hd.2.1)
theorem i_vc_needed {k : Nat} {u : SX} {v : SY} (I : i_Rel k u v) (hk : k + 3 ≤ 1537) (v1 : Int32) (v2 : Int32) : wpX_needed (fun r u' => wpY_needed (fun r' v' => r' = r ∧ i_Rel (k + 3) u' v') v v1 v2) u v1 v2 := by
  refine rel_e (P := fun u v => wpX_needed (fun r u' => wpY_needed (fun r' v' => r' = r ∧ i_Rel (k + 3) u' v') v v1 v2) u v1 v2) I ?_
  intro fL fC fF fT fI fJ fK aB aK aT aP aM aG aA aO aS aQ aR aW gL gM gN bB bK bT bP bM bS D t hX hY hP hQ hR hF
  have hd := hX.2.2.2.2.2
  have hn := hd.2.1
  have hE := dE_EB hd
  have same : i_Rel (k + 3) (fL, fC, fF, fT, fI, fJ, fK, aB, aK, aT, aP, aM, aG, aA, aO, aS, aQ, aR, aW) (gL, gM, gN, bB, bK, bT, bP, bM, bS) := rel_i hX hY hP hQ hR hF
  simp only [wpX_needed]
  refine xCanPair hX (fun i j e1 e2 hij hj al => ?_) (fun no => ?_)
  · refine br_f (by decide) ?_
    refine xFoldF hX hF (fun fF fT fI fJ aM aG aA aO ft _ _ => ?_)
    dsimp only
    refine nm_r (FT_183 ft).1 ?_
    refine xFoldWithout hX e1 e2 (by omega) (by omega) (fun aM' aG' aA' aO' ft' => ?_)
    dsimp only
    obtain ⟨m1, m2⟩ := fb_min hE hn (i, j)
    have b1 := mnL_i (TO_BL hE hn (Nat.zero_le (dn D)))
    have b2 := mnL_i (TO_BL (fb_EB (xy := (i, j)) hE) hn (Nat.zero_le (dn D)))
    have oc := opt_cnt (E := dE D) (n := dn D) hij (mnL (TOl (dE D) (dn D) 0))
    have k1 := kn_lt hd (cP (mnL (TOl (dE D) (dn D) 0)) i j)
    have k2 := kn_lt hd (cP (mnL (TOl (dE D) (dn D) 0)) (-1) (-1))
    have ka : kn (cP (mnL (TOl (dE D) (dn D) 0)) (-1) (-1)) (RO (dE D) (dn D) 0) = cn (mnL (TOl (dE D) (dn D) 0)) (TOl (dE D) (dn D) 0) := kn_all _ _ _
    -- the reference
    have ref : ∀ (r : Int32) (u' : SX), (∀ bM bS gL, i_Rel (k + 3) u' (gL, gM, gN, bB, bK, bT, bP, bM, bS)) → (r = if cn (mnL (TOl (dE D) (dn D) 0)) (TOl (fb (dE D) (i, j)) (dn D) 0) = 0 then 1 else 0) → wpY_needed (fun r' v' => r' = r ∧ i_Rel (k + 3) u' v') (gL, gM, gN, bB, bK, bT, bP, bM, bS) v1 v2 := by
      intro r u' hu hr
      simp only [wpY_needed]
      refine yCan hY e1 e2 hij hj (fun _ => br_f (by decide) ?_) (fun w => by rw [al] at w; cases w)
      refine ySearch hY (fun gL bM bS h1 h2 => ?_)
      dsimp only
      rw [← TO_fm] at h1
      refine yCountOf hY (w := mnL (TOl (dE D) (dn D) 0)) (x := i) (y := j) (by omega) (by omega) (by omega) (by omega) (by omega) (by omega) h1 e1 e2 (fun bM => ?_)
      dsimp only
      refine yCountOf hY (w := mnL (TOl (dE D) (dn D) 0)) (x := -1) (y := -1) (by omega) (by omega) (by omega) (by omega) (by omega) (by omega) h1 (by decide) (by decide) (fun bM => ?_)
      dsimp only
      refine zb_eq ((kn (cP (mnL (TOl (dE D) (dn D) 0)) i j) (RO (dE D) (dn D) 0) : Nat) : Int) ((kn (cP (mnL (TOl (dE D) (dn D) 0)) (-1) (-1)) (RO (dE D) (dn D) 0) : Nat) : Int) (fun q => ⟨?_, hu bM bS gL⟩) (fun q => ⟨?_, hu bM bS gL⟩)
      · rw [hr, if_pos (by omega)]
      · rw [hr, if_neg (by omega)]
    refine zb_le (mnL (TOl (fb (dE D) (i, j)) (dn D) 0)) (mnL (TOl (dE D) (dn D) 0)) (fun q => ?_) (fun q => ?_) (FT_183 ft').1 rfl
    · refine ref 0 _ (fun bM bS gL => rel_i hX hY hP hQ hR (Or.inl rfl)) ?_
      rw [if_neg (by have := m2.mpr q; omega)]
    · refine ref 1 _ (fun bM bS gL => rel_i hX hY hP hQ hR (Or.inl rfl)) ?_
      rw [if_pos]
      by_cases z : 0 < cn (mnL (TOl (dE D) (dn D) 0)) (TOl (fb (dE D) (i, j)) (dn D) 0)
      · have := m2.mp z
        omega
      · omega
  · refine br_t rfl ?_
    simp only [wpY_needed]
    exact yCanPair hY (fun i j e1 e2 h1 h2 al => by rw [no i j e1 e2 h1 h2] at al; cases al) (fun _ => br_t rfl ⟨by trivial, same⟩)
theorem i_vc_optimaWith {k : Nat} {u : SX} {v : SY} (I : i_Rel k u v) (hk : k + 3 ≤ 1537) (v1 : Int32) (v2 : Int32) : wpX_optimaWith (fun r u' => wpY_optimaWith (fun r' v' => r' = r ∧ i_Rel (k + 3) u' v') v v1 v2) u v1 v2 := by
  refine rel_e (P := fun u v => wpX_optimaWith (fun r u' => wpY_optimaWith (fun r' v' => r' = r ∧ i_Rel (k + 3) u' v') v v1 v2) u v1 v2) I ?_
  intro fL fC fF fT fI fJ fK aB aK aT aP aM aG aA aO aS aQ aR aW gL gM gN bB bK bT bP bM bS D t hX hY hP hQ hR hF
  have hd := hX.2.2.2.2.2
  have hn := hd.2.1
  have hE := dE_EB hd
  have same : i_Rel (k + 3) (fL, fC, fF, fT, fI, fJ, fK, aB, aK, aT, aP, aM, aG, aA, aO, aS, aQ, aR, aW) (gL, gM, gN, bB, bK, bT, bP, bM, bS) := rel_i hX hY hP hQ hR hF
  simp only [wpX_optimaWith]
  refine xCanPair hX (fun i j e1 e2 hij hj al => ?_) (fun no => ?_)
  · refine br_f (by decide) ?_
    refine xFoldF hX hF (fun fF fT fI fJ aM aG aA aO ft _ _ => ?_)
    dsimp only
    refine nm_r (FT_183 ft).1 ?_
    have g0 := (FT_183 ft).2.1 0 (by omega)
    rw [show ((0 : Nat) : Int) = 0 from rfl, Int.add_zero] at g0
    refine nm_r g0 ?_
    refine xFoldWithout hX e1 e2 (by omega) (by omega) (fun aM' aG' aA' aO' ft' => ?_)
    dsimp only
    obtain ⟨m1, m2⟩ := fb_min hE hn (i, j)
    have b1 := mnL_i (TO_BL hE hn (Nat.zero_le (dn D)))
    have b2 := mnL_i (TO_BL (fb_EB (xy := (i, j)) hE) hn (Nat.zero_le (dn D)))
    have oc := opt_cnt (E := dE D) (n := dn D) hij (mnL (TOl (dE D) (dn D) 0))
    -- the reference
    have ref : ∀ (r : Int32) (u' : SX), (∀ bM bS gL, i_Rel (k + 3) u' (gL, gM, gN, bB, bK, bT, bP, bM, bS)) → r = zI ((kn (cP (mnL (TOl (dE D) (dn D) 0)) i j) (RO (dE D) (dn D) 0) : Nat) : Int) → wpY_optimaWith (fun r' v' => r' = r ∧ i_Rel (k + 3) u' v') (gL, gM, gN, bB, bK, bT, bP, bM, bS) v1 v2 := by
      intro r u' hu hr
      simp only [wpY_optimaWith]
      refine yCan hY e1 e2 hij hj (fun _ => br_f (by decide) ?_) (fun w => by rw [al] at w; cases w)
      refine ySearch hY (fun gL bM bS h1 h2 => ?_)
      dsimp only
      rw [← TO_fm] at h1
      refine yCountOf hY (w := mnL (TOl (dE D) (dn D) 0)) (x := i) (y := j) (by omega) (by omega) (by omega) (by omega) (by omega) (by omega) h1 e1 e2 (fun bM => ?_)
      exact ⟨hr.symm, hu bM bS gL⟩
    refine zb_le (mnL (TOl (fb (dE D) (i, j)) (dn D) 0)) (mnL (TOl (dE D) (dn D) 0)) (fun q => ?_) (fun q => ?_) (FT_183 ft').1 rfl
    · refine ref _ _ (fun bM bS gL => rel_i hX hY hP hQ hR (Or.inl rfl)) ?_
      have g1 := (FT_183 ft').2.1 0 (by omega)
      rw [show ((0 : Nat) : Int) = 0 from rfl, Int.add_zero, show mnL (TOl (fb (dE D) (i, j)) (dn D) 0) = mnL (TOl (dE D) (dn D) 0) by omega] at g1
      rw [show aG' 1464 = _ from g1, zI_sub]
      exact congrArg zI (by omega)
    · refine ref _ _ (fun bM bS gL => rel_i hX hY hP hQ hR (Or.inl rfl)) ?_
      have z : cn (mnL (TOl (dE D) (dn D) 0)) (TOl (fb (dE D) (i, j)) (dn D) 0) = 0 := by
        by_cases z : 0 < cn (mnL (TOl (dE D) (dn D) 0)) (TOl (fb (dE D) (i, j)) (dn D) 0)
        · have := m2.mp z
          omega
        · omega
      exact congrArg zI (by omega)
  · refine br_t rfl ?_
    simp only [wpY_optimaWith]
    exact yCanPair hY (fun i j e1 e2 h1 h2 al => by rw [no i j e1 e2 h1 h2] at al; cases al) (fun _ => br_t rfl ⟨by trivial, same⟩)
section
variable {fL fC fF fT fI fJ fK : Int32} {aB aK aT aP aM aG aA aO aS aQ aR aW : Nat → Int32}
theorem xp37 {t : Nat → Int} (hP : AI 14 aP t) (mb : MB t) {i j : Nat} (hij : i < j) (hj : j < 14) {post : Int32 → SX → Prop} (h0 : ¬ (∀ p : Nat, i < p → p < j → t p < 0 ∨ ((i : Int) ≤ t p ∧ t p ≤ j)) → post (-3) (fL, fC, fF, fT, fI, fJ, fK, aB, aK, aT, aP, aM, aG, aA, aO, aS, aQ, aR, aW)) (h1 : (∀ p : Nat, i < p → p < j → t p < 0 ∨ ((i : Int) ≤ t p ∧ t p ≤ j)) → ∀ aP, AI 14 aP (pu t i j) → wpX_trialPairs (fun r => post r (fL, fC, fF, fT, fI, fJ, fK, aB, aK, aT, aP, aM, aG, aA, aO, aS, aQ, aR, aW)) (fL, fC, fF, fT, fI, fJ, fK, aB, aK, aT, aP, aM, aG, aA, aO, aS, aQ, aR, aW)) :
    ∀ (n p : Nat), j - p < n → i < p → p ≤ j → (∀ x : Nat, i < x → x < p → t x < 0 ∨ ((i : Int) ≤ t x ∧ t x ≤ j)) → wX_trialPair_37 post (zI (i : Nat)) (zI (j : Nat)) fL fC fF fT fI fJ fK aB aK aT aP aM aG aA aO aS aQ aR aW n (zI (p : Nat)) := by
  intro n
  induction n with
  | zero => intro p h; omega
  | succ n ih =>
    intro p a1 a2 a3 iv
    have e1 : zI (p : Nat) + 1 = zI ((p + 1 : Nat) : Int) := by rw [zI_1, zI_add]; rfl
    simp only [wX_trialPair_37]
    refine zb_le (j : Nat) (p : Nat) (fun c => ?_) (fun c => ?_)
    · rw [zcl (by omega), zcl (by omega), zI_nbb (by omega) (by omega), zI_nbb (by omega) (by omega)]
      refine ⟨zin (by omega) (by omega), nm_e ⟨zin (by omega) (by omega), nm_e ?_⟩⟩
      exact h1 (fun x a b => iv x a (by omega)) _ (AI_pu hP (by omega))
    · have b := mb p (by omega)
      have nx : (t p < 0 ∨ ((i : Int) ≤ t p ∧ t p ≤ j)) → wX_trialPair_37 post (zI (i : Nat)) (zI (j : Nat)) fL fC fF fT fI fJ fK aB aK aT aP aM aG aA aO aS aQ aR aW n (zI ((p + 1 : Nat) : Int)) := fun v => ih (p + 1) (by omega) (by omega) (by omega) (fun x a b => by
        by_cases e : x = p
        · subst e; exact v
        · exact iv x a (by omega))
      have bad : ¬ (t p < 0 ∨ ((i : Int) ≤ t p ∧ t p ≤ j)) → post (-3) (fL, fC, fF, fT, fI, fJ, fK, aB, aK, aT, aP, aM, aG, aA, aO, aS, aQ, aR, aW) := fun v => h0 (fun w => v (w p a2 (by omega)))
      rw [zcl (by omega), e1]
      refine ⟨zin (by omega) (by omega), nm_r (hP p (by omega)) ?_⟩
      refine zb_lt (t p) 0 (fun d => nm_e (nx (by omega))) (fun d => ?_)
      refine zb_lt (t p) (i : Nat) (fun d1 => bad (by omega)) (fun d1 => ?_)
      exact zb_le (t p) (j : Nat) (fun d2 => nm_e (nx (by omega))) (fun d2 => bad (by omega))
end
theorem i_vc_trialPair {k : Nat} {u : SX} {v : SY} (I : i_Rel k u v) (hk : k + 3 ≤ 1537) (v1 : Int32) (v2 : Int32) : wpX_trialPair (fun r u' => wpY_trialPair (fun r' v' => r' = r ∧ i_Rel (k + 3) u' v') v v1 v2) u v1 v2 := by
  refine rel_e (P := fun u v => wpX_trialPair (fun r u' => wpY_trialPair (fun r' v' => r' = r ∧ i_Rel (k + 3) u' v') v v1 v2) u v1 v2) I ?_
  intro fL fC fF fT fI fJ fK aB aK aT aP aM aG aA aO aS aQ aR aW gL gM gN bB bK bT bP bM bS D t hX hY hP hQ hR hF
  have hd := hX.2.2.2.2.2
  have hn := hd.2.1
  have mb := TR_MB hn hR
  have same : i_Rel (k + 3) (fL, fC, fF, fT, fI, fJ, fK, aB, aK, aT, aP, aM, aG, aA, aO, aS, aQ, aR, aW) (gL, gM, gN, bB, bK, bT, bP, bM, bS) := rel_i hX hY hP hQ hR hF
  simp only [wpX_trialPair]
  refine xCanPair hX (fun i j e1 e2 hij hj al => ?_) (fun no => ?_)
  · refine br_f (by decide) ?_
    subst e1 e2
    have b1 := mb i (by omega)
    have b2 := mb j (by omega)
    -- the reference: refused
    have refu : ¬ fitP t (dn D) i j → ∀ r : Int32, r = -3 → wpY_trialPair (fun r' v' => r' = r ∧ i_Rel (k + 3) (fL, fC, fF, fT, fI, fJ, fK, aB, aK, aT, aP, aM, aG, aA, aO, aS, aQ, aR, aW) v') (gL, gM, gN, bB, bK, bT, bP, bM, bS) (zI (i : Nat)) (zI (j : Nat)) := by
      intro nf r hr
      simp only [wpY_trialPair]
      refine yCan hY rfl rfl hij hj (fun _ => br_f (by decide) ?_) (fun w => by rw [al] at w; cases w)
      refine yTakeTrial hQ (fun bM hM => ?_)
      dsimp only
      refine yFits hY hM mb rfl rfl (by omega) (by omega) (fun w => absurd w nf) (fun _ => br_t rfl ?_)
      exact ⟨hr.symm, rel_i hX hY hP hQ hR hF⟩
    rw [zcl (by omega), zcl (by omega)]
    refine ⟨zin (by omega) (by omega), ?_⟩
    refine zb_le 0 (t i) (fun c => refu (fun w => by have := w.1; omega) _ rfl) (fun c => ⟨zin (by omega) (by omega), ?_⟩) rfl (hP i (by omega))
    refine zb_lt (t j) 0 (fun c1 => ?_) (fun c1 => refu (fun w => by have := w.2.1; omega) _ rfl) (hP j (by omega)) rfl
    have fi := fit_iff hR.1 hij hj c c1
    refine nm_r (e' := zI ((i + 1 : Nat) : Int)) (by rw [zI_1, zI_add]; rfl) ?_
    refine ⟨j + 1, xp37 hP mb hij (by omega) (fun w => refu (fun f => w (fi.mp f)) _ rfl) (fun w aP hP => ?_) (j + 1) (i + 1) (by omega) (by omega) (by omega) (fun x a b => by omega)⟩
    have f := fi.mpr w
    have mb' := MB_pu mb (show i < 14 by omega) (show j < 14 by omega)
    have hR' : TR D (pu t i j) := ⟨VR_put hR.1 hij hj al f, fun x a b => by rw [pu_3 _ (by omega) (by omega)]; exact hR.2 x a b⟩
    refine xTrialPairs hX.2.1 hn hP mb' ?_
    simp only [wpY_trialPair]
    refine yCan hY rfl rfl hij hj (fun _ => br_f (by decide) ?_) (fun w => by rw [al] at w; cases w)
    refine yTakeTrial hQ (fun bM hM => ?_)
    dsimp only
    refine yFits hY hM mb rfl rfl (by omega) (by omega) (fun _ => br_f (by decide) ?_) (fun z => absurd f z)
    rw [zcl (by omega), zcl (by omega)]
    refine ⟨zin (by omega) (by omega), nm_e ⟨zin (by omega) (by omega), nm_e ?_⟩⟩
    have hQ' := AI_pu hQ (show i ≠ j by omega)
    refine yTrialPairs hY.2.1 hn hQ' mb' ?_
    exact ⟨rfl, rel_i hX hY hP hQ' hR' hF⟩
  · refine br_t rfl ?_
    simp only [wpY_trialPair]
    exact yCanPair hY (fun i j e1 e2 h1 h2 al => by rw [no i j e1 e2 h1 h2] at al; cases al) (fun _ => br_t rfl ⟨by trivial, same⟩)
theorem TR_fr (D : rD) : TR D fr := ⟨⟨fun x _ _ => Or.inl rfl, fun x y z _ _ _ _ e => by have e : (-1 : Int) = y := e; omega⟩, fun _ _ _ => rfl⟩
theorem i_vc_trialClear {k : Nat} {u : SX} {v : SY} (I : i_Rel k u v) (hk : k + 3 ≤ 1537) : wpX_trialClear (fun r u' => wpY_trialClear (fun r' v' => r' = r ∧ i_Rel (k + 3) u' v') v) u := by
  refine rel_e (P := fun u v => wpX_trialClear (fun r u' => wpY_trialClear (fun r' v' => r' = r ∧ i_Rel (k + 3) u' v') v) u) I ?_
  intro fL fC fF fT fI fJ fK aB aK aT aP aM aG aA aO aS aQ aR aW gL gM gN bB bK bT bP bM bS D t hX hY hP hQ hR hF
  have hd := hX.2.2.2.2.2
  have hn := hd.2.1
  have mb := TR_MB hn hR
  simp only [wpX_trialClear]
  refine xTrialPairs hX.2.1 hn hP mb ?_
  refine ⟨15, xtc7 (fun aP hP => ?_) 15 0 aP (by omega) (by omega) (fun y hy => by omega)⟩
  simp only [wpY_trialClear]
  refine yTrialPairs hY.2.1 hn hQ mb ?_
  refine ⟨15, ytc7 (fun bP hQ => ?_) 15 0 bP (by omega) (by omega) (fun y hy => by omega)⟩
  exact ⟨rfl, rel_i hX hY hP hQ (TR_fr D) hF⟩
theorem i_vc_trialGap {k : Nat} {u : SX} {v : SY} (I : i_Rel k u v) (hk : k + 3 ≤ 1537) : wpX_trialGap (fun r u' => wpY_trialGap (fun r' v' => r' = r ∧ i_Rel (k + 3) u' v') v) u := by
  refine rel_e (P := fun u v => wpX_trialGap (fun r u' => wpY_trialGap (fun r' v' => r' = r ∧ i_Rel (k + 3) u' v') v) u) I ?_
  intro fL fC fF fT fI fJ fK aB aK aT aP aM aG aA aO aS aQ aR aW gL gM gN bB bK bT bP bM bS D t hX hY hP hQ hR hF
  have hd := hX.2.2.2.2.2
  have hn := hd.2.1
  have mb := TR_MB hn hR
  simp only [wpX_trialGap]
  refine xFoldF hX hF (fun fF fT fI fJ aM aG aA aO ft e1 e2 => ?_)
  dsimp only
  refine ⟨dn D + 1, xtg8 hX hP mb (VR_VC hR.1) (FT_183 ft).1 ?_ (dn D + 1) 0 0 (by omega) (by omega) (by omega)⟩
  simp only [wpY_trialGap]
  refine ySearch hY (fun gL bM bS h1 h2 => ?_)
  dsimp only
  refine yTakeTrial hQ (fun bM hM => ?_)
  dsimp only
  refine yEnergy hY hM mb hR.1 ?_
  refine ⟨?_, rel_i hX hY hP hQ hR (Or.inr ⟨e1, ft, e2⟩)⟩
  rw [h1, ← TO_fm, zI_sub]
end
