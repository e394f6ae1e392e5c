section
theorem pk_us {f : Nat → Int32} {k : Nat} {x : Int32} : upd f k x k = x := if_pos rfl
theorem pk_un {f : Nat → Int32} {k j : Nat} {x : Int32} (h : j ≠ k) : upd f k x j = f j := if_neg h
theorem pk_uLs {f : Nat → Int64} {k : Nat} {x : Int64} : vp_updL f k x k = x := if_pos rfl
theorem pk_uLn {f : Nat → Int64} {k j : Nat} {x : Int64} (h : j ≠ k) : vp_updL f k x j = f j := if_neg h
theorem pk_sub {a b : Nat} (h : b ≤ a) : nI a - nI b = nI (a - b) := by
  obtain ⟨c, rfl⟩ : ∃ c, a = c + b := ⟨a - b, by omega⟩
  rw [← nI_add, Int32.add_sub_cancel, Nat.add_sub_cancel]
theorem pk_m1 (n : Nat) : nI (n + 1) + (-1) = nI n := by
  rw [← nI_1, Int32.add_assoc, show (1 : Int32) + (-1) = 0 from rfl, Int32.add_zero]
theorem pk_mul (a b : Nat) : nI a * nI b = nI (a * b) := (Int32.ofNat_mul a b).symm
theorem pk_div {a d : Nat} (ha : a < 2 ^ 31) (h0 : 0 < d) (hd : d < 2 ^ 31) : nI a / nI d = nI (a / d) := by
  apply Int32.toInt_inj.mp
  rw [lg_idiv_nonneg (by rw [nI_toInt ha]; omega) (by rw [nI_toInt hd]; omega), nI_toInt ha, nI_toInt hd, nI_toInt (Nat.lt_of_le_of_lt (Nat.div_le_self a d) ha)]
  first | rfl | exact (Int.natCast_ediv _ _).symm
theorem pk_rem {a d : Nat} (ha : a < 2 ^ 31) (h0 : 0 < d) (hd : d < 2 ^ 31) : nI a - nI a / nI d * nI d = nI (a % d) := by
  rw [pk_div ha h0 hd, pk_mul, pk_sub (Nat.div_mul_le_self a d)]
  exact congrArg nI (by have := Nat.div_add_mod' a d; omega)
theorem pk_sub_toInt {a b : Nat} (ha : a < 2 ^ 30) (hb : b < 2 ^ 30) : (nI a - nI b).toInt = (a : Int) - b := by
  rw [Int32.toInt_sub, nI_toInt (by omega), nI_toInt (by omega)]
  exact Int.bmod_eq_of_le (by omega) (by omega)
theorem pk_sneg {a b : Nat} (hb : b < 2 ^ 30) (h : a < b) : nI a - nI b < 0 := by
  rw [Int32.lt_iff_toInt_lt, pk_sub_toInt (by omega) hb, show (0 : Int32).toInt = 0 from by decide]
  omega
theorem pk_ix (x : Int32) {n : Nat} (hn : n < 2 ^ 31) : x < 0 ∨ nI n ≤ x ∨ ∃ j : Nat, j < n ∧ x = nI j := by
  by_cases h : x < 0
  · exact Or.inl h
  · obtain ⟨j, hj, rfl⟩ := nI_of h
    by_cases h2 : j < n
    · exact Or.inr (Or.inr ⟨j, h2, rfl⟩)
    · exact Or.inr (Or.inl (nI_le (by omega) hj))
theorem pk_le {x y : Int32} {A B : Prop} (a b : Nat) (f : a ≤ b → A) (g : b < a → B) (hx : x = nI a := by rfl) (hy : y = nI b := by rfl) (ha : a < 2 ^ 31 := by omega) (hb : b < 2 ^ 31 := by omega) : (x ≤ y → A) ∧ (¬ x ≤ y → B) := by
  subst hx hy
  rw [nI_leI ha hb]
  exact ⟨f, fun z => g (by omega)⟩
theorem pk_lt {x y : Int32} {A B : Prop} (a b : Nat) (f : a < b → A) (g : b ≤ a → B) (hx : x = nI a := by rfl) (hy : y = nI b := by rfl) (ha : a < 2 ^ 31 := by omega) (hb : b < 2 ^ 31 := by omega) : (x < y → A) ∧ (¬ x < y → B) := by
  subst hx hy
  rw [nI_ltI ha hb]
  exact ⟨f, fun z => g (by omega)⟩
theorem pk_eq {x y : Int32} {A B : Prop} (a b : Nat) (f : a = b → A) (g : a ≠ b → B) (hx : x = nI a := by rfl) (hy : y = nI b := by rfl) (ha : a < 2 ^ 31 := by omega) (hb : b < 2 ^ 31 := by omega) : (x = y → A) ∧ (¬ x = y → B) := by
  subst hx hy
  rw [nI_eq ha hb]
  exact ⟨f, g⟩
theorem pk_in {x : Int32} (n N : Nat) (h : n < N) (hx : x = nI n := by rfl) (hN : N < 2 ^ 31 := by omega) : vp_in x N := by
  subst hx
  exact vp_in_nI h hN
theorem pk_cl {x : Int32} (n : Nat) (hx : x = nI n := by rfl) (h : n < 2 ^ 31 := by omega) : x.toNatClampNeg = n := by
  subst hx
  exact nI_clamp h
theorem pk_tn {n : Nat} (h : n < 2 ^ 32) : (nI n).toBitVec.toNat = n := Nat.mod_eq_of_lt h
/-! JoinTrees: numbers, lists, the pool -/
def jt_up (f : Nat → Nat) (k v : Nat) : Nat → Nat := fun j => if j = k then v else f j
theorem jt_up_s {f : Nat → Nat} {k v : Nat} : jt_up f k v k = v := if_pos rfl
theorem jt_up_n {f : Nat → Nat} {k v j : Nat} (h : j ≠ k) : jt_up f k v j = f j := if_neg h
theorem jt_upd {f : Nat → Nat} {k v : Nat} : upd (fun i => nI (f i)) k (nI v) = fun i => nI (jt_up f k v i) := by
  funext j
  show (if j = k then nI v else nI (f j)) = nI (if j = k then v else f j)
  by_cases e : j = k
  · rw [if_pos e, if_pos e]
  · rw [if_neg e, if_neg e]
theorem jt_i16 {n : Nat} (h : n < 32768) : (nI n).toInt16.toInt32 = nI n := lg_i2s_small (by rw [nI_toInt (by omega)]; omega) (by rw [nI_toInt (by omega)]; omega)
theorem jt_i8 {n : Nat} (h : n < 128) : (nI n).toInt8.toInt32 = nI n := lg_i2b_small (by rw [nI_toInt (by omega)]; omega) (by rw [nI_toInt (by omega)]; omega)
theorem jt_sh {n : Nat} (h : n < 32768) : vp_nar .short (nI n) = nI n := by rw [vp_nar_short, jt_i16 h]
theorem jt_sh2 {n : Nat} (h : n < 32768) : vp_nar .short (nI n).toInt16.toInt32 = nI n := by rw [jt_i16 h, jt_sh h]
theorem jt_by {n : Nat} (h : n < 128) : vp_nar .byte (nI n) = nI n := by rw [vp_nar_byte, jt_i8 h]
theorem jt_by2 {n : Nat} (h : n < 128) : vp_nar .byte (nI n).toInt8.toInt32 = nI n := by rw [jt_i8 h, jt_by h]
theorem jt_bo0 : vp_nar .boolean 0 = 0 := rfl
theorem jt_bo1 : vp_nar .boolean 1 = 1 := rfl
theorem jt_cl {n : Nat} (h : n < 32768) : (nI n).toNatClampNeg = n := nI_clamp (by omega)
/-! lists and counts -/
def jt_FL (fc : Nat) (fr : Nat → Nat) : List Nat := (List.range fc).map fr
theorem jt_FL_s (fc : Nat) (fr : Nat → Nat) : jt_FL (fc + 1) fr = jt_FL fc fr ++ [fr fc] := by
  unfold jt_FL
  rw [List.range_succ, List.map_append]
  rfl
theorem jt_FL_up (fc k v : Nat) (fr : Nat → Nat) (h : fc ≤ k) : jt_FL fc (jt_up fr k v) = jt_FL fc fr := by
  unfold jt_FL
  apply List.map_congr_left
  intro a ha
  rw [List.mem_range] at ha
  exact jt_up_n (by omega)
def jt_PI (fc : Nat) (fr : Nat → Nat) (own : List Nat) : Prop := ∀ a, own.count a + (jt_FL fc fr).count a = if 1 ≤ a ∧ a < 256 then 1 else 0
theorem jt_PI_congr {fc : Nat} {fr : Nat → Nat} {o o' : List Nat} (h : jt_PI fc fr o) (e : ∀ a, o'.count a = o.count a) : jt_PI fc fr o' := by
  intro a
  rw [e a]
  exact h a
theorem jt_PI_len {fc : Nat} {fr : Nat → Nat} {o : List Nat} (h : jt_PI fc fr o) : fc + o.length = 255 := by
  have p : (o ++ jt_FL fc fr).Perm (List.range' 1 255) := by
    rw [List.perm_iff_count]
    intro a
    rw [List.count_append, h a, List.count_range_1']
  have q := p.length_eq
  rw [List.length_append, List.length_range'] at q
  unfold jt_FL at q
  rw [List.length_map, List.length_range] at q
  omega
theorem jt_PI_le {fc : Nat} {fr : Nat → Nat} {o : List Nat} (h : jt_PI fc fr o) (a : Nat) : o.count a ≤ 1 := by
  have q := h a
  split at q <;> omega
theorem jt_PI_nd {fc : Nat} {fr : Nat → Nat} {o : List Nat} (h : jt_PI fc fr o) : o.Nodup := List.nodup_iff_count.mpr (jt_PI_le h)
theorem jt_PI_mem {fc : Nat} {fr : Nat → Nat} {o : List Nat} (h : jt_PI fc fr o) {a : Nat} (m : a ∈ o) : 1 ≤ a ∧ a < 256 := by
  have q := h a
  have z := List.count_pos_iff.mpr m
  by_cases c : 1 ≤ a ∧ a < 256
  · exact c
  · rw [if_neg c] at q
    omega
theorem jt_PI_new {fc : Nat} {fr : Nat → Nat} {o : List Nat} (h : jt_PI (fc + 1) fr o) : jt_PI fc fr (fr fc :: o) := by
  intro a
  have q := h a
  rw [jt_FL_s, List.count_append, List.count_singleton] at q
  rw [List.count_cons]
  omega
theorem jt_PI_rel {fc n : Nat} {fr : Nat → Nat} {o : List Nat} (h : jt_PI fc fr (n :: o)) : jt_PI (fc + 1) (jt_up fr fc n) o := by
  intro a
  have q := h a
  rw [List.count_cons] at q
  rw [jt_FL_s, List.count_append, jt_FL_up fc fc n fr (Nat.le_refl _), jt_up_s, List.count_singleton]
  omega
theorem jt_nd_app {a b : List Nat} : (a ++ b).Nodup ↔ a.Nodup ∧ b.Nodup ∧ ∀ i, i ∈ a → i ∉ b := by
  rw [List.nodup_append]
  constructor
  · intro ⟨h1, h2, h3⟩
    exact ⟨h1, h2, fun i hi hj => h3 i hi i hj rfl⟩
  · intro ⟨h1, h2, h3⟩
    exact ⟨h1, h2, fun i hi j hj e => h3 i hi (e ▸ hj)⟩
end
section
/-! trees in the pool: (left, right, count) as functions on naturals; a tree by its root and its in-order list of nodes -/
abbrev jt_H : Type := (Nat → Nat) × (Nat → Nat) × (Nat → Nat)
abbrev jt_F : Type := (Nat → Nat) × (Nat → Nat) × (Nat → Nat) × (Nat → Int32) × (Nat → Int32)
def jt_T (h : jt_H) (n : Nat) (l : List Nat) : Prop := ∀ S : Nat → List Nat → Prop, (h.2.2 0 = 0 → S 0 []) → (∀ n l1 l2, n ≠ 0 → n < 256 → S (h.1 n) l1 → S (h.2.1 n) l2 → h.2.2 n = l1.length + l2.length + 1 → S n (l1 ++ n :: l2)) → S n l
theorem jt_T0 {h : jt_H} (z : h.2.2 0 = 0) : jt_T h 0 [] := fun S b _ => b z
theorem jt_Tn {h : jt_H} {n : Nat} {l1 l2 : List Nat} (hn : n ≠ 0) (hb : n < 256) (t1 : jt_T h (h.1 n) l1) (t2 : jt_T h (h.2.1 n) l2) (c : h.2.2 n = l1.length + l2.length + 1) : jt_T h n (l1 ++ n :: l2) := fun S b s => s n l1 l2 hn hb (t1 S b s) (t2 S b s) c
theorem jt_T_ind {h : jt_H} {P : Nat → List Nat → Prop} (b : h.2.2 0 = 0 → P 0 []) (s : ∀ n l1 l2, n ≠ 0 → n < 256 → jt_T h (h.1 n) l1 → jt_T h (h.2.1 n) l2 → h.2.2 n = l1.length + l2.length + 1 → P (h.1 n) l1 → P (h.2.1 n) l2 → P n (l1 ++ n :: l2)) {n : Nat} {l : List Nat} (t : jt_T h n l) : P n l :=
  (t (fun n l => jt_T h n l ∧ P n l) (fun z => ⟨jt_T0 z, b z⟩) (fun n l1 l2 hn hb h1 h2 c => ⟨jt_Tn hn hb h1.1 h2.1 c, s n l1 l2 hn hb h1.1 h2.1 c h1.2 h2.2⟩)).2
theorem jt_T_inv {h : jt_H} {n : Nat} {l : List Nat} (t : jt_T h n l) : (n = 0 ∧ l = [] ∧ h.2.2 0 = 0) ∨ (n ≠ 0 ∧ n < 256 ∧ ∃ l1 l2, l = l1 ++ n :: l2 ∧ jt_T h (h.1 n) l1 ∧ jt_T h (h.2.1 n) l2 ∧ h.2.2 n = l1.length + l2.length + 1) :=
  jt_T_ind (P := fun n l => (n = 0 ∧ l = [] ∧ h.2.2 0 = 0) ∨ (n ≠ 0 ∧ n < 256 ∧ ∃ l1 l2, l = l1 ++ n :: l2 ∧ jt_T h (h.1 n) l1 ∧ jt_T h (h.2.1 n) l2 ∧ h.2.2 n = l1.length + l2.length + 1))
    (fun z => Or.inl ⟨rfl, rfl, z⟩) (fun n l1 l2 hn hb t1 t2 c _ _ => Or.inr ⟨hn, hb, l1, l2, rfl, t1, t2, c⟩) t
theorem jt_T_ne {h : jt_H} {n : Nat} {l : List Nat} (t : jt_T h n l) (hn : n ≠ 0) : ∃ l1 l2, l = l1 ++ n :: l2 ∧ jt_T h (h.1 n) l1 ∧ jt_T h (h.2.1 n) l2 ∧ h.2.2 n = l1.length + l2.length + 1 := by
  rcases jt_T_inv t with ⟨e, _⟩ | ⟨_, _, r⟩
  · exact absurd e hn
  · exact r
theorem jt_T_nil {h : jt_H} {l : List Nat} (t : jt_T h 0 l) : l = [] := by
  rcases jt_T_inv t with ⟨_, e, _⟩ | ⟨c, _⟩
  · exact e
  · exact absurd rfl c
theorem jt_T_c {h : jt_H} {n : Nat} {l : List Nat} (t : jt_T h n l) : h.2.2 n = l.length := by
  rcases jt_T_inv t with ⟨rfl, rfl, z⟩ | ⟨_, _, l1, l2, rfl, _, _, c⟩
  · exact z
  · rw [c, List.length_append, List.length_cons]
    omega
theorem jt_T_lt {h : jt_H} {n : Nat} {l : List Nat} (t : jt_T h n l) : n < 256 := by
  rcases jt_T_inv t with ⟨rfl, _⟩ | ⟨_, b, _⟩
  · decide
  · exact b
theorem jt_T_z {h : jt_H} {n : Nat} {l : List Nat} (t : jt_T h n l) : h.2.2 0 = 0 :=
  jt_T_ind (P := fun _ _ => h.2.2 0 = 0) (fun z => z) (fun _ _ _ _ _ _ _ _ p _ => p) t
theorem jt_T_mem {h : jt_H} {n : Nat} {l : List Nat} (t : jt_T h n l) : ∀ i, i ∈ l → i ≠ 0 ∧ i < 256 := by
  refine jt_T_ind (P := fun _ l => ∀ i, i ∈ l → i ≠ 0 ∧ i < 256) ?_ ?_ t
  · intro _ i hi
    exact absurd hi List.not_mem_nil
  · intro n l1 l2 hn hb _ _ _ p1 p2 i hi
    rw [List.mem_append, List.mem_cons] at hi
    rcases hi with hi | rfl | hi
    · exact p1 i hi
    · exact ⟨hn, hb⟩
    · exact p2 i hi
theorem jt_T_m0 {h : jt_H} {n : Nat} {l : List Nat} (t : jt_T h n l) : 0 ∉ l := fun q => (jt_T_mem t 0 q).1 rfl
theorem jt_T_root {h : jt_H} {n : Nat} {l : List Nat} (t : jt_T h n l) (hn : n ≠ 0) : n ∈ l := by
  obtain ⟨l1, l2, rfl, _⟩ := jt_T_ne t hn
  exact List.mem_append_right _ List.mem_cons_self
theorem jt_T_pos {h : jt_H} {n : Nat} {l : List Nat} (t : jt_T h n l) (hl : 0 < l.length) : n ≠ 0 := by
  rintro rfl
  rw [jt_T_nil t] at hl
  exact absurd hl (by decide)
/-! agreement of two pools off a list -/
def jt_O (h h' : jt_H) (l : List Nat) : Prop := ∀ i, i ∉ l → h'.1 i = h.1 i ∧ h'.2.1 i = h.2.1 i ∧ h'.2.2 i = h.2.2 i
theorem jt_O_rf {h : jt_H} {l : List Nat} : jt_O h h l := fun _ _ => ⟨rfl, rfl, rfl⟩
theorem jt_O_tr {h h1 h2 : jt_H} {l : List Nat} (a : jt_O h h1 l) (b : jt_O h1 h2 l) : jt_O h h2 l := fun i hi =>
  ⟨(b i hi).1.trans (a i hi).1, (b i hi).2.1.trans (a i hi).2.1, (b i hi).2.2.trans (a i hi).2.2⟩
theorem jt_O_mo {h h1 : jt_H} {l l' : List Nat} (a : jt_O h h1 l) (m : ∀ i, i ∈ l → i ∈ l') : jt_O h h1 l' := fun i hi => a i (fun z => hi (m i z))
theorem jt_O_l {h : jt_H} {m v : Nat} : jt_O h (jt_up h.1 m v, h.2.1, h.2.2) [m] := fun i hi => ⟨jt_up_n (fun e => hi (e ▸ List.mem_cons_self)), rfl, rfl⟩
theorem jt_O_r {h : jt_H} {m v : Nat} : jt_O h (h.1, jt_up h.2.1 m v, h.2.2) [m] := fun i hi => ⟨rfl, jt_up_n (fun e => hi (e ▸ List.mem_cons_self)), rfl⟩
theorem jt_O_c {h : jt_H} {m v : Nat} : jt_O h (h.1, h.2.1, jt_up h.2.2 m v) [m] := fun i hi => ⟨rfl, rfl, jt_up_n (fun e => hi (e ▸ List.mem_cons_self))⟩
theorem jt_T_fr {h h' : jt_H} {n : Nat} {l : List Nat} (t : jt_T h n l) (z : h'.2.2 0 = 0) (a : ∀ i, i ∈ l → h'.1 i = h.1 i ∧ h'.2.1 i = h.2.1 i ∧ h'.2.2 i = h.2.2 i) : jt_T h' n l := by
  refine jt_T_ind (P := fun n l => (∀ i, i ∈ l → h'.1 i = h.1 i ∧ h'.2.1 i = h.2.1 i ∧ h'.2.2 i = h.2.2 i) → jt_T h' n l) ?_ ?_ t a
  · intro _ a
    exact jt_T0 z
  · intro n l1 l2 hn hb _ _ c p1 p2 a
    have an := a n (List.mem_append_right _ List.mem_cons_self)
    refine jt_Tn hn hb ?_ ?_ (an.2.2.trans c)
    · rw [an.1]
      exact p1 (fun i hi => a i (List.mem_append_left _ hi))
    · rw [an.2.1]
      exact p2 (fun i hi => a i (List.mem_append_right _ (List.mem_cons_of_mem _ hi)))
theorem jt_T_off {h h' : jt_H} {n : Nat} {l m : List Nat} (t : jt_T h n l) (o : jt_O h h' m) (d : ∀ i, i ∈ l → i ∉ m) (z : 0 ∉ m) : jt_T h' n l :=
  jt_T_fr t ((o 0 z).2.2.trans (jt_T_z t)) (fun i hi => o i (d i hi))
/-! rotations -/
theorem jt_rotL {h : jt_H} {m y v1 v2 : Nat} {lx ly : List Nat} (hm : m ≠ 0) (hb : m < 256) (tx : jt_T h (h.1 m) lx) (hy : y ≠ 0) (ty : jt_T h y ly) (nd : (lx ++ m :: ly).Nodup)
    (e1 : v1 = h.2.2 (h.1 m) + h.2.2 (h.1 y) + 1) (e2 : v2 = v1 + h.2.2 (h.2.1 y) + 1) :
    jt_T (jt_up h.1 y m, jt_up h.2.1 m (h.1 y), jt_up (jt_up h.2.2 m v1) y v2) y (lx ++ m :: ly) ∧ jt_O h (jt_up h.1 y m, jt_up h.2.1 m (h.1 y), jt_up (jt_up h.2.2 m v1) y v2) (lx ++ m :: ly) := by
  obtain ⟨l1, l2, rfl, t1, t2, c⟩ := jt_T_ne ty hy
  have hyb := jt_T_lt ty
  have d : m ≠ y ∧ m ∉ lx ∧ m ∉ l1 ∧ m ∉ l2 ∧ y ∉ lx ∧ y ∉ l1 ∧ y ∉ l2 := by grind
  obtain ⟨d1, d2, d3, d4, d5, d6, d7⟩ := d
  have o : jt_O h (jt_up h.1 y m, jt_up h.2.1 m (h.1 y), jt_up (jt_up h.2.2 m v1) y v2) [m, y] := by
    intro i hi
    have i1 : i ≠ m := fun e => hi (e ▸ List.mem_cons_self)
    have i2 : i ≠ y := fun e => hi (e ▸ List.mem_cons_of_mem _ List.mem_cons_self)
    exact ⟨jt_up_n i2, jt_up_n i1, (jt_up_n i2).trans (jt_up_n i1)⟩
  have z : 0 ∉ [m, y] := by
    intro q
    rw [List.mem_cons, List.mem_cons] at q
    rcases q with q | q | q
    · exact hm q.symm
    · exact hy q.symm
    · exact List.not_mem_nil q
  have ni : ∀ l : List Nat, m ∉ l → y ∉ l → ∀ i, i ∈ l → i ∉ [m, y] := by
    intro l a b i hi q
    rw [List.mem_cons, List.mem_cons] at q
    rcases q with rfl | rfl | q
    · exact a hi
    · exact b hi
    · exact List.not_mem_nil q
  have tx' := jt_T_off tx o (ni _ d2 d5) z
  have t1' := jt_T_off t1 o (ni _ d3 d6) z
  have t2' := jt_T_off t2 o (ni _ d4 d7) z
  have tm : jt_T (jt_up h.1 y m, jt_up h.2.1 m (h.1 y), jt_up (jt_up h.2.2 m v1) y v2) m (lx ++ m :: l1) := by
    refine jt_Tn hm hb ?_ ?_ ?_
    · show jt_T _ (jt_up h.1 y m m) lx
      rw [jt_up_n d1]
      exact tx'
    · show jt_T _ (jt_up h.2.1 m (h.1 y) m) l1
      rw [jt_up_s]
      exact t1'
    · show jt_up (jt_up h.2.2 m v1) y v2 m = _
      rw [jt_up_n d1, jt_up_s, e1, jt_T_c tx, jt_T_c t1]
  constructor
  · rw [show lx ++ m :: (l1 ++ y :: l2) = (lx ++ m :: l1) ++ y :: l2 by simp]
    refine jt_Tn hy hyb ?_ ?_ ?_
    · show jt_T _ (jt_up h.1 y m y) _
      rw [jt_up_s]
      exact tm
    · show jt_T _ (jt_up h.2.1 m (h.1 y) y) l2
      rw [jt_up_n (Ne.symm d1)]
      exact t2'
    · show jt_up (jt_up h.2.2 m v1) y v2 y = _
      rw [jt_up_s, e2, e1, jt_T_c tx, jt_T_c t1, jt_T_c t2, List.length_append, List.length_cons]
      omega
  · refine jt_O_mo o ?_
    intro i hi
    simp only [List.mem_cons, List.not_mem_nil, or_false] at hi
    simp only [List.mem_append, List.mem_cons]
    rcases hi with rfl | rfl <;> simp
theorem jt_rotR {h : jt_H} {m y v1 v2 : Nat} {lx ly : List Nat} (hm : m ≠ 0) (hb : m < 256) (tx : jt_T h (h.2.1 m) lx) (hy : y ≠ 0) (ty : jt_T h y ly) (nd : (ly ++ m :: lx).Nodup)
    (e1 : v1 = h.2.2 (h.2.1 y) + h.2.2 (h.2.1 m) + 1) (e2 : v2 = h.2.2 (h.1 y) + v1 + 1) :
    jt_T (jt_up h.1 m (h.2.1 y), jt_up h.2.1 y m, jt_up (jt_up h.2.2 m v1) y v2) y (ly ++ m :: lx) ∧ jt_O h (jt_up h.1 m (h.2.1 y), jt_up h.2.1 y m, jt_up (jt_up h.2.2 m v1) y v2) (ly ++ m :: lx) := by
  obtain ⟨l1, l2, rfl, t1, t2, c⟩ := jt_T_ne ty hy
  have hyb := jt_T_lt ty
  have d : m ≠ y ∧ m ∉ lx ∧ m ∉ l1 ∧ m ∉ l2 ∧ y ∉ lx ∧ y ∉ l1 ∧ y ∉ l2 := by grind
  obtain ⟨d1, d2, d3, d4, d5, d6, d7⟩ := d
  have o : jt_O h (jt_up h.1 m (h.2.1 y), jt_up h.2.1 y m, jt_up (jt_up h.2.2 m v1) y v2) [m, y] := by
    intro i hi
    have i1 : i ≠ m := fun e => hi (e ▸ List.mem_cons_self)
    have i2 : i ≠ y := fun e => hi (e ▸ List.mem_cons_of_mem _ List.mem_cons_self)
    exact ⟨jt_up_n i1, jt_up_n i2, (jt_up_n i2).trans (jt_up_n i1)⟩
  have z : 0 ∉ [m, y] := by
    intro q
    rw [List.mem_cons, List.mem_cons] at q
    rcases q with q | q | q
    · exact hm q.symm
    · exact hy q.symm
    · exact List.not_mem_nil q
  have ni : ∀ l : List Nat, m ∉ l → y ∉ l → ∀ i, i ∈ l → i ∉ [m, y] := by
    intro l a b i hi q
    rw [List.mem_cons, List.mem_cons] at q
    rcases q with rfl | rfl | q
    · exact a hi
    · exact b hi
    · exact List.not_mem_nil q
  have tx' := jt_T_off tx o (ni _ d2 d5) z
  have t1' := jt_T_off t1 o (ni _ d3 d6) z
  have t2' := jt_T_off t2 o (ni _ d4 d7) z
  have tm : jt_T (jt_up h.1 m (h.2.1 y), jt_up h.2.1 y m, jt_up (jt_up h.2.2 m v1) y v2) m (l2 ++ m :: lx) := by
    refine jt_Tn hm hb ?_ ?_ ?_
    · show jt_T _ (jt_up h.1 m (h.2.1 y) m) l2
      rw [jt_up_s]
      exact t2'
    · show jt_T _ (jt_up h.2.1 y m m) lx
      rw [jt_up_n d1]
      exact tx'
    · show jt_up (jt_up h.2.2 m v1) y v2 m = _
      rw [jt_up_n d1, jt_up_s, e1, jt_T_c tx, jt_T_c t2]
  constructor
  · rw [show (l1 ++ y :: l2) ++ m :: lx = l1 ++ y :: (l2 ++ m :: lx) by simp]
    refine jt_Tn hy hyb ?_ ?_ ?_
    · show jt_T _ (jt_up h.1 m (h.2.1 y) y) l1
      rw [jt_up_n (Ne.symm d1)]
      exact t1'
    · show jt_T _ (jt_up h.2.1 y m y) _
      rw [jt_up_s]
      exact tm
    · show jt_up (jt_up h.2.2 m v1) y v2 y = _
      rw [jt_up_s, e2, e1, jt_T_c tx, jt_T_c t1, jt_T_c t2, List.length_append, List.length_cons]
      omega
  · refine jt_O_mo o ?_
    intro i hi
    simp only [List.mem_cons, List.not_mem_nil, or_false] at hi
    simp only [List.mem_append, List.mem_cons]
    rcases hi with rfl | rfl <;> simp
end
section
/-! the component's state by naturals, and its small methods -/
abbrev jt_s (fc we lo hi ex : Nat) (h : jt_H) (K : Nat → Int32) (rt fr wy : Nat → Nat) (wr : Nat → Int32) (F : jt_F) : SX :=
  (nI fc, nI we, nI lo, nI hi, nI ex, (fun i => nI (h.1 i)), (fun i => nI (h.2.1 i)), K, (fun i => nI (h.2.2 i)), (fun i => nI (rt i)), (fun i => nI (fr i)), (fun i => nI (wy i)), wr, (fun i => nI (F.1 i)), (fun i => nI (F.2.1 i)), (fun i => nI (F.2.2.1 i)), F.2.2.2.1, F.2.2.2.2)
theorem jt_rd {f : Nat → Nat} {n v : Nat} (hn : n < 32768) (e : f n = v) : (fun i => nI (f i)) (nI n).toNatClampNeg = nI v := by
  rw [jt_cl hn]
  exact congrArg nI e
theorem jt_wr {f : Nat → Nat} {k v : Nat} (hk : k < 32768) (hv : v < 32768) : upd (fun i => nI (f i)) (nI k).toNatClampNeg (vp_nar .short (nI v).toInt16.toInt32) = fun i => nI (jt_up f k v i) := by
  rw [jt_cl hk, jt_sh2 hv, jt_upd]
theorem jt_wr0 {f : Nat → Nat} {k : Nat} (hk : k < 32768) : upd (fun i => nI (f i)) (nI k).toNatClampNeg (vp_nar .short 0) = fun i => nI (jt_up f k 0 i) := by
  rw [jt_cl hk, show (0 : Int32) = nI 0 from rfl, jt_sh (by omega), jt_upd]
theorem jt_wr3 {f g : Nat → Nat} {k y v : Nat} (hk : k < 32768) (hy : y < 32768) (e : g y = v) (hv : v < 32768) : upd (fun i => nI (f i)) (nI k).toNatClampNeg (vp_nar .short ((fun i => nI (g i)) (nI y).toNatClampNeg)) = fun i => nI (jt_up f k v i) := by
  rw [jt_cl hk, jt_rd hy e, jt_sh hv, jt_upd]
theorem jt_wb1 {f : Nat → Nat} {k : Nat} (hk : k < 32768) : upd (fun i => nI (f i)) (nI k).toNatClampNeg (vp_nar .byte 1) = fun i => nI (jt_up f k 1 i) := by
  rw [jt_cl hk, show (1 : Int32) = nI 1 from rfl, jt_by (by omega), jt_upd]
theorem jt_wb3 {f g : Nat → Nat} {k y v : Nat} (hk : k < 32768) (hy : y < 32768) (e : g y = v) (hv : v < 128) : upd (fun i => nI (f i)) (nI k).toNatClampNeg (vp_nar .byte ((fun i => nI (g i)) (nI y).toNatClampNeg)) = fun i => nI (jt_up f k v i) := by
  rw [jt_cl hk, jt_rd hy e, jt_by hv, jt_upd]
theorem jt_vr {f : Nat → Nat} {n v N : Nat} (hn : n < 32768) (e : f n = v) (hv : v < N) (hN : N < 2 ^ 31) : vp_in ((fun i => nI (f i)) (nI n).toNatClampNeg) N := by
  rw [jt_rd hn e]
  exact vp_in_nI hv hN
theorem jt_v256 {n : Nat} (h : n < 256) : vp_in (nI n) 256 := vp_in_nI h (by decide)
theorem jt_v64 {n : Nat} (h : n < 64) : vp_in (nI n) 64 := vp_in_nI h (by decide)
theorem jt_v32 {n : Nat} (h : n < 32) : vp_in (nI n) 32 := vp_in_nI h (by decide)
theorem jt_v4 {n : Nat} (h : n < 4) : vp_in (nI n) 4 := vp_in_nI h (by decide)
section
variable {fc we lo hi ex : Nat} {h : jt_H} {K : Nat → Int32} {rt fr wy : Nat → Nat} {wr : Nat → Int32} {F : jt_F}
theorem jt_push {post : SX → Prop} {p : Int32} {n : Nat} {b : Int32} (hp : p = nI n) (hk : we < 64) (hn : n < 32768) (hb : vp_nar .boolean b = b) (H : post (jt_s fc (we + 1) lo hi ex h K rt fr (jt_up wy we n) (upd wr we b) F)) : wpX_pushWay post (jt_s fc we lo hi ex h K rt fr wy wr F) p b := by
  subst hp
  have e : (nI we).toNatClampNeg = we := jt_cl (by omega)
  refine And.intro (jt_v64 hk) (nm_r (e' := fun i => nI (jt_up wy we n i)) (jt_wr (by omega) hn) (And.intro (jt_v64 hk) (nm_r (e' := upd wr we b) ?_ (nm_r (e' := nI (we + 1)) (nI_1 we) H))))
  rw [e, hb]
theorem jt_weight {post : Int32 → Prop} {p : Int32} {n v : Nat} (hp : p = nI n) (hn : n < 256) (ev : h.2.2 n = v) (H : post (nI (v + 1))) : wpX_weight post (jt_s fc we lo hi ex h K rt fr wy wr F) p := by
  subst hp
  have e : (fun i => nI (h.2.2 i)) (nI n).toNatClampNeg + 1 = nI (v + 1) := by
    rw [jt_rd (by omega) ev, nI_1]
  exact And.intro (jt_v256 hn) ((congrArg post e).mpr H)
theorem jt_update {post : SX → Prop} {n v : Nat} (hn : n < 256) (hl : h.1 n < 256) (hr : h.2.1 n < 256) (ev : h.2.2 (h.1 n) + h.2.2 (h.2.1 n) + 1 = v) (hv : v < 128) (H : post (jt_s fc we lo hi ex (h.1, h.2.1, jt_up h.2.2 n v) K rt fr wy wr F)) : wpX_update post (jt_s fc we lo hi ex h K rt fr wy wr F) (nI n) := by
  refine And.intro (jt_v256 hn) (And.intro (jt_vr (by omega) rfl hl (by decide)) (And.intro (jt_v256 hn) (And.intro (jt_vr (by omega) rfl hr (by decide)) (And.intro (jt_v256 hn) (nm_r (e' := fun i => nI (jt_up h.2.2 n v i)) ?_ H)))))
  have e1 : (fun i => nI (h.1 i)) (nI n).toNatClampNeg = nI (h.1 n) := jt_rd (by omega) rfl
  have e2 : (fun i => nI (h.2.1 i)) (nI n).toNatClampNeg = nI (h.2.1 n) := jt_rd (by omega) rfl
  have e3 : (fun i => nI (h.2.2 i)) (nI (h.1 n)).toNatClampNeg = nI (h.2.2 (h.1 n)) := jt_rd (by omega) rfl
  have e4 : (fun i => nI (h.2.2 i)) (nI (h.2.1 n)).toNatClampNeg = nI (h.2.2 (h.2.1 n)) := jt_rd (by omega) rfl
  dsimp only at e1 e2 e3 e4 ⊢
  rw [e1, e2, e3, e4, nI_add, nI_1, ev, jt_by2 hv, jt_cl (by omega), jt_upd]
theorem jt_wrotL {post : Int32 → SX → Prop} {m : Nat} {lx ly : List Nat} (hm : m ≠ 0) (hb : m < 256) (tx : jt_T h (h.1 m) lx) (ty : jt_T h (h.2.1 m) ly) (hy : h.2.1 m ≠ 0) (nd : (lx ++ m :: ly).Nodup) (hl : lx.length + ly.length < 120)
    (H : ∀ h' r, jt_T h' r (lx ++ m :: ly) → jt_O h h' (lx ++ m :: ly) → post (nI r) (jt_s fc we lo hi ex h' K rt fr wy wr F)) : wpX_rotatedLeft post (jt_s fc we lo hi ex h K rt fr wy wr F) (nI m) := by
  obtain ⟨y, ey⟩ : ∃ y, h.2.1 m = y := ⟨_, rfl⟩
  rw [ey] at ty hy
  have R := jt_rotL (v1 := h.2.2 (h.1 m) + h.2.2 (h.1 y) + 1) (v2 := h.2.2 (h.1 m) + h.2.2 (h.1 y) + 1 + h.2.2 (h.2.1 y) + 1) hm hb tx hy ty nd rfl rfl
  obtain ⟨l1, l2, rfl, t1, t2, c⟩ := jt_T_ne ty hy
  have hyb := jt_T_lt ty
  have b1 := jt_T_lt t1
  have b2 := jt_T_lt t2
  have b3 := jt_T_lt tx
  have d : m ≠ y ∧ m ∉ l2 := by grind
  have d2 : h.2.1 y ≠ m := fun e => d.2 (e ▸ jt_T_root t2 (fun z => hm (e.symm.trans z)))
  have c1 := jt_T_c tx
  have c2 := jt_T_c t1
  have c3 := jt_T_c t2
  rw [List.length_append, List.length_cons] at hl
  generalize hv1 : h.2.2 (h.1 m) + h.2.2 (h.1 y) + 1 = v1 at R
  generalize hv2 : v1 + h.2.2 (h.2.1 y) + 1 = v2 at R
  have q1 : jt_up h.1 y m m = h.1 m := jt_up_n d.1
  have q2 : jt_up h.2.1 m (h.1 y) m = h.1 y := jt_up_s
  have q3 : jt_up h.1 y m y = m := jt_up_s
  have q4 : jt_up h.2.1 m (h.1 y) y = h.2.1 y := jt_up_n (Ne.symm d.1)
  refine And.intro (jt_v256 hb) (nm_r (e' := nI y) (jt_rd (by omega) ey) (And.intro (jt_v256 hyb) (And.intro (jt_v256 hb) (nm_r (e' := fun i => nI (jt_up h.2.1 m (h.1 y) i)) (jt_wr3 (by omega) (by omega) rfl (by omega)) (And.intro (jt_v256 hyb) (nm_r (e' := fun i => nI (jt_up h.1 y m i)) (jt_wr (by omega) (by omega)) ?_))))))
  refine jt_update (h := (jt_up h.1 y m, jt_up h.2.1 m (h.1 y), h.2.2)) (v := v1) hb ?_ ?_ ?_ (by omega) ?_
  · show jt_up h.1 y m m < 256
    rw [q1]; exact b3
  · show jt_up h.2.1 m (h.1 y) m < 256
    rw [q2]; exact b1
  · show h.2.2 (jt_up h.1 y m m) + h.2.2 (jt_up h.2.1 m (h.1 y) m) + 1 = v1
    rw [q1, q2]; exact hv1
  refine jt_update (h := (jt_up h.1 y m, jt_up h.2.1 m (h.1 y), jt_up h.2.2 m v1)) (v := v2) hyb ?_ ?_ ?_ (by omega) ?_
  · show jt_up h.1 y m y < 256
    rw [q3]; exact hb
  · show jt_up h.2.1 m (h.1 y) y < 256
    rw [q4]; exact b2
  · show jt_up h.2.2 m v1 (jt_up h.1 y m y) + jt_up h.2.2 m v1 (jt_up h.2.1 m (h.1 y) y) + 1 = v2
    rw [q3, q4, jt_up_s, jt_up_n d2]; exact hv2
  exact H _ y R.1 R.2
theorem jt_wrotR {post : Int32 → SX → Prop} {m : Nat} {lx ly : List Nat} (hm : m ≠ 0) (hb : m < 256) (tx : jt_T h (h.1 m) lx) (ty : jt_T h (h.2.1 m) ly) (hx : h.1 m ≠ 0) (nd : (lx ++ m :: ly).Nodup) (hl : lx.length + ly.length < 120)
    (H : ∀ h' r, jt_T h' r (lx ++ m :: ly) → jt_O h h' (lx ++ m :: ly) → post (nI r) (jt_s fc we lo hi ex h' K rt fr wy wr F)) : wpX_rotatedRight post (jt_s fc we lo hi ex h K rt fr wy wr F) (nI m) := by
  obtain ⟨y, ey⟩ : ∃ y, h.1 m = y := ⟨_, rfl⟩
  rw [ey] at tx hx
  have R := jt_rotR (v1 := h.2.2 (h.2.1 y) + h.2.2 (h.2.1 m) + 1) (v2 := h.2.2 (h.1 y) + (h.2.2 (h.2.1 y) + h.2.2 (h.2.1 m) + 1) + 1) hm hb ty hx tx nd rfl rfl
  obtain ⟨l1, l2, rfl, t1, t2, c⟩ := jt_T_ne tx hx
  have hyb := jt_T_lt tx
  have b1 := jt_T_lt t1
  have b2 := jt_T_lt t2
  have b3 := jt_T_lt ty
  have d : m ≠ y ∧ m ∉ l1 := by grind
  have d2 : h.1 y ≠ m := fun e => d.2 (e ▸ jt_T_root t1 (fun z => hm (e.symm.trans z)))
  have c1 := jt_T_c ty
  have c2 := jt_T_c t1
  have c3 := jt_T_c t2
  rw [List.length_append, List.length_cons] at hl
  generalize hv1 : h.2.2 (h.2.1 y) + h.2.2 (h.2.1 m) + 1 = v1 at R
  generalize hv2 : h.2.2 (h.1 y) + v1 + 1 = v2 at R
  have q1 : jt_up h.2.1 y m m = h.2.1 m := jt_up_n d.1
  have q2 : jt_up h.1 m (h.2.1 y) m = h.2.1 y := jt_up_s
  have q3 : jt_up h.2.1 y m y = m := jt_up_s
  have q4 : jt_up h.1 m (h.2.1 y) y = h.1 y := jt_up_n (Ne.symm d.1)
  refine And.intro (jt_v256 hb) (nm_r (e' := nI y) (jt_rd (by omega) ey) (And.intro (jt_v256 hyb) (And.intro (jt_v256 hb) (nm_r (e' := fun i => nI (jt_up h.1 m (h.2.1 y) i)) (jt_wr3 (by omega) (by omega) rfl (by omega)) (And.intro (jt_v256 hyb) (nm_r (e' := fun i => nI (jt_up h.2.1 y m i)) (jt_wr (by omega) (by omega)) ?_))))))
  refine jt_update (h := (jt_up h.1 m (h.2.1 y), jt_up h.2.1 y m, h.2.2)) (v := v1) hb ?_ ?_ ?_ (by omega) ?_
  · show jt_up h.1 m (h.2.1 y) m < 256
    rw [q2]; exact b2
  · show jt_up h.2.1 y m m < 256
    rw [q1]; exact b3
  · show h.2.2 (jt_up h.1 m (h.2.1 y) m) + h.2.2 (jt_up h.2.1 y m m) + 1 = v1
    rw [q1, q2]; exact hv1
  refine jt_update (h := (jt_up h.1 m (h.2.1 y), jt_up h.2.1 y m, jt_up h.2.2 m v1)) (v := v2) hyb ?_ ?_ ?_ (by omega) ?_
  · show jt_up h.1 m (h.2.1 y) y < 256
    rw [q4]; exact b1
  · show jt_up h.2.1 y m y < 256
    rw [q3]; exact hb
  · show jt_up h.2.2 m v1 (jt_up h.1 m (h.2.1 y) y) + jt_up h.2.2 m v1 (jt_up h.2.1 y m y) + 1 = v2
    rw [q3, q4, jt_up_s, jt_up_n d2]; exact hv2
  exact H _ y R.1 R.2
end
end
section
/-! balanced: any node whose sides are trees becomes a tree of the same list -/
section
variable {fc we lo hi ex : Nat} {h : jt_H} {K : Nat → Int32} {rt fr wy : Nat → Nat} {wr : Nat → Int32} {F : jt_F}
theorem jt_bal {post : Int32 → SX → Prop} {m : Nat} {lx ly : List Nat} (hm : m ≠ 0) (hb : m < 256) (tx : jt_T h (h.1 m) lx) (ty : jt_T h (h.2.1 m) ly) (nd : (lx ++ m :: ly).Nodup) (hl : lx.length + ly.length < 120)
    (H : ∀ h' r, jt_T h' r (lx ++ m :: ly) → jt_O h h' (lx ++ m :: ly) → post (nI r) (jt_s fc we lo hi ex h' K rt fr wy wr F)) : wpX_balanced post (jt_s fc we lo hi ex h K rt fr wy wr F) (nI m) := by
  have bx := jt_T_lt tx
  have by' := jt_T_lt ty
  have cx := jt_T_c tx
  have cy := jt_T_c ty
  have dx : m ∉ lx := by grind
  have dy : m ∉ ly := by grind
  have o1 : jt_O h (h.1, h.2.1, jt_up h.2.2 m (lx.length + ly.length + 1)) [m] := jt_O_c
  have z1 : 0 ∉ [m] := fun q => hm (List.mem_singleton.mp q).symm
  have nm : ∀ l : List Nat, m ∉ l → ∀ i, i ∈ l → i ∉ [m] := fun l d i hi q => d ((List.mem_singleton.mp q) ▸ hi)
  have inM : ∀ i, i ∈ [m] → i ∈ lx ++ m :: ly := by
    intro i hi
    rw [List.mem_singleton.mp hi]
    exact List.mem_append_right _ List.mem_cons_self
  have tx1 := jt_T_off tx o1 (nm _ dx) z1
  have ty1 := jt_T_off ty o1 (nm _ dy) z1
  unfold wpX_balanced
  refine jt_update (v := lx.length + ly.length + 1) hb bx by' (by rw [cx, cy]) (by omega) ?_
  have cm : jt_up h.2.2 m (lx.length + ly.length + 1) m = lx.length + ly.length + 1 := jt_up_s
  generalize jt_up h.2.2 m (lx.length + ly.length + 1) = C1 at o1 tx1 ty1 cm
  have cx1 : C1 (h.1 m) = lx.length := jt_T_c tx1
  have cy1 : C1 (h.2.1 m) = ly.length := jt_T_c ty1
  refine And.intro (jt_v256 hb) (nm_r (e' := nI (h.1 m)) (jt_rd (by omega) rfl) (And.intro (jt_v256 hb) (nm_r (e' := nI (h.2.1 m)) (jt_rd (by omega) rfl) ?_)))
  refine jt_weight (h := (h.1, h.2.1, C1)) (n := h.2.1 m) rfl by' cy1 ?_
  refine jt_weight (h := (h.1, h.2.1, C1)) (n := h.1 m) rfl bx cx1 ?_
  refine pk_le (ly.length + 1) (3 * (lx.length + 1)) (fun c1 => ?_) (fun c1 => ?_) rfl (pk_mul 3 _) (by omega) (by omega)
  · refine jt_weight (h := (h.1, h.2.1, C1)) (n := h.1 m) rfl bx cx1 ?_
    refine jt_weight (h := (h.1, h.2.1, C1)) (n := h.2.1 m) rfl by' cy1 ?_
    refine pk_le (lx.length + 1) (3 * (ly.length + 1)) (fun c2 => ?_) (fun c2 => ?_) rfl (pk_mul 3 _) (by omega) (by omega)
    · exact H (h.1, h.2.1, C1) m (jt_Tn hm hb tx1 ty1 cm) (jt_O_mo o1 inM)
    · have hx0 : h.1 m ≠ 0 := jt_T_pos tx (by omega)
      obtain ⟨l1, l2, e, t1, t2, c⟩ := jt_T_ne tx1 hx0
      have u1 : h.1 (h.1 m) < 256 := jt_T_lt t1
      have u2 : h.2.1 (h.1 m) < 256 := jt_T_lt t2
      have w1 : C1 (h.1 (h.1 m)) = l1.length := jt_T_c t1
      have w2 : C1 (h.2.1 (h.1 m)) = l2.length := jt_T_c t2
      have el : lx.length = l1.length + l2.length + 1 := by rw [e, List.length_append, List.length_cons]; omega
      refine And.intro (jt_v256 bx) ?_
      refine jt_weight (h := (h.1, h.2.1, C1)) (n := h.2.1 (h.1 m)) (jt_rd (by omega) rfl) u2 w2 ?_
      refine And.intro (jt_v256 bx) ?_
      refine jt_weight (h := (h.1, h.2.1, C1)) (n := h.1 (h.1 m)) (jt_rd (by omega) rfl) u1 w1 ?_
      refine pk_lt (l2.length + 1) (2 * (l1.length + 1)) (fun c3 => ?_) (fun c3 => ?_) rfl (pk_mul 2 _) (by omega) (by omega)
      · unfold wX_balanced_129
        refine jt_wrotR (h := (h.1, h.2.1, C1)) (lx := lx) (ly := ly) hm hb tx1 ty1 hx0 nd hl ?_
        intro h' r t o
        exact H h' r t (jt_O_tr (jt_O_mo o1 inM) o)
      · have nx : (l1 ++ h.1 m :: l2).Nodup := by rw [← e]; exact (jt_nd_app.mp nd).1
        refine jt_wrotL (h := (h.1, h.2.1, C1)) (lx := l1) (ly := l2) hx0 bx t1 t2 (jt_T_pos t2 (by omega)) nx (by omega) ?_
        rw [← e]
        intro h2 r2 t2' o2
        have r2b := jt_T_lt t2'
        have z2 : 0 ∉ lx := jt_T_m0 tx
        have dxy : ∀ i, i ∈ ly → i ∉ lx := by grind
        have ty2 := jt_T_off ty1 o2 dxy z2
        have em : h2.2.1 m = h.2.1 m := (o2 m dx).2.1
        have o3 : jt_O h2 (jt_up h2.1 m r2, h2.2.1, h2.2.2) [m] := jt_O_l
        have tx3 := jt_T_off t2' o3 (nm _ dx) z1
        have ty3 := jt_T_off ty2 o3 (nm _ dy) z1
        refine And.intro (jt_v256 hb) (nm_r (e' := fun i => nI (jt_up h2.1 m r2 i)) (jt_wr (by omega) (by omega)) ?_)
        unfold wX_balanced_129
        refine jt_wrotR (h := (jt_up h2.1 m r2, h2.2.1, h2.2.2)) (lx := lx) (ly := ly) hm hb ?_ ?_ ?_ nd hl ?_
        · show jt_T _ (jt_up h2.1 m r2 m) lx
          rw [jt_up_s]; exact tx3
        · show jt_T _ (h2.2.1 m) ly
          rw [em]; exact ty3
        · show jt_up h2.1 m r2 m ≠ 0
          rw [jt_up_s]; exact jt_T_pos t2' (by omega)
        intro h' r t o
        refine H h' r t (jt_O_tr (jt_O_mo o1 inM) (jt_O_tr (jt_O_mo o2 ?_) (jt_O_tr (jt_O_mo o3 inM) o)))
        intro i hi
        exact List.mem_append_left _ hi
  · have hy0 : h.2.1 m ≠ 0 := jt_T_pos ty (by omega)
    obtain ⟨l1, l2, e, t1, t2, c⟩ := jt_T_ne ty1 hy0
    have u1 : h.1 (h.2.1 m) < 256 := jt_T_lt t1
    have u2 : h.2.1 (h.2.1 m) < 256 := jt_T_lt t2
    have w1 : C1 (h.1 (h.2.1 m)) = l1.length := jt_T_c t1
    have w2 : C1 (h.2.1 (h.2.1 m)) = l2.length := jt_T_c t2
    have el : ly.length = l1.length + l2.length + 1 := by rw [e, List.length_append, List.length_cons]; omega
    refine And.intro (jt_v256 by') ?_
    refine jt_weight (h := (h.1, h.2.1, C1)) (n := h.1 (h.2.1 m)) (jt_rd (by omega) rfl) u1 w1 ?_
    refine And.intro (jt_v256 by') ?_
    refine jt_weight (h := (h.1, h.2.1, C1)) (n := h.2.1 (h.2.1 m)) (jt_rd (by omega) rfl) u2 w2 ?_
    refine pk_lt (l1.length + 1) (2 * (l2.length + 1)) (fun c3 => ?_) (fun c3 => ?_) rfl (pk_mul 2 _) (by omega) (by omega)
    · unfold wX_balanced_71
      refine jt_wrotL (h := (h.1, h.2.1, C1)) (lx := lx) (ly := ly) hm hb tx1 ty1 hy0 nd hl ?_
      intro h' r t o
      exact H h' r t (jt_O_tr (jt_O_mo o1 inM) o)
    · have ny : (l1 ++ h.2.1 m :: l2).Nodup := by rw [← e]; grind
      refine jt_wrotR (h := (h.1, h.2.1, C1)) (lx := l1) (ly := l2) hy0 by' t1 t2 (jt_T_pos t1 (by omega)) ny (by omega) ?_
      rw [← e]
      intro h2 r2 t2' o2
      have r2b := jt_T_lt t2'
      have z2 : 0 ∉ ly := jt_T_m0 ty
      have dxy : ∀ i, i ∈ lx → i ∉ ly := by grind
      have tx2 := jt_T_off tx1 o2 dxy z2
      have em : h2.1 m = h.1 m := (o2 m dy).1
      have o3 : jt_O h2 (h2.1, jt_up h2.2.1 m r2, h2.2.2) [m] := jt_O_r
      have ty3 := jt_T_off t2' o3 (nm _ dy) z1
      have tx3 := jt_T_off tx2 o3 (nm _ dx) z1
      refine And.intro (jt_v256 hb) (nm_r (e' := fun i => nI (jt_up h2.2.1 m r2 i)) (jt_wr (by omega) (by omega)) ?_)
      unfold wX_balanced_71
      refine jt_wrotL (h := (h2.1, jt_up h2.2.1 m r2, h2.2.2)) (lx := lx) (ly := ly) hm hb ?_ ?_ ?_ nd hl ?_
      · show jt_T _ (h2.1 m) lx
        rw [em]; exact tx3
      · show jt_T _ (jt_up h2.2.1 m r2 m) ly
        rw [jt_up_s]; exact ty3
      · show jt_up h2.2.1 m r2 m ≠ 0
        rw [jt_up_s]; exact jt_T_pos t2' (by omega)
      intro h' r t o
      refine H h' r t (jt_O_tr (jt_O_mo o1 inM) (jt_O_tr (jt_O_mo o2 ?_) (jt_O_tr (jt_O_mo o3 inM) o)))
      intro i hi
      exact List.mem_append_right _ (List.mem_cons_of_mem _ hi)
end
end
section
/-! join: down the near side, then up again; the continuation at a lower height of the way is a hypothesis -/
def jt_j161 (post : Int32 → SX → Prop) (x6 : Int32) (n : Nat) (x9 : Int32) (u : SX) : Prop := wX_join_161 post x6 n x9 u.1 u.2.1 u.2.2.1 u.2.2.2.1 u.2.2.2.2.1 u.2.2.2.2.2.1 u.2.2.2.2.2.2.1 u.2.2.2.2.2.2.2.1 u.2.2.2.2.2.2.2.2.1 u.2.2.2.2.2.2.2.2.2.1 u.2.2.2.2.2.2.2.2.2.2.1 u.2.2.2.2.2.2.2.2.2.2.2.1 u.2.2.2.2.2.2.2.2.2.2.2.2.1 u.2.2.2.2.2.2.2.2.2.2.2.2.2.1 u.2.2.2.2.2.2.2.2.2.2.2.2.2.2.1 u.2.2.2.2.2.2.2.2.2.2.2.2.2.2.2.1 u.2.2.2.2.2.2.2.2.2.2.2.2.2.2.2.2.1 u.2.2.2.2.2.2.2.2.2.2.2.2.2.2.2.2.2
def jt_j136 (post : Int32 → SX → Prop) (x2 x4 x5 x6 : Int32) (u : SX) : Prop := wX_join_136 post x2 x4 x5 x6 u.1 u.2.1 u.2.2.1 u.2.2.2.1 u.2.2.2.2.1 u.2.2.2.2.2.1 u.2.2.2.2.2.2.1 u.2.2.2.2.2.2.2.1 u.2.2.2.2.2.2.2.2.1 u.2.2.2.2.2.2.2.2.2.1 u.2.2.2.2.2.2.2.2.2.2.1 u.2.2.2.2.2.2.2.2.2.2.2.1 u.2.2.2.2.2.2.2.2.2.2.2.2.1 u.2.2.2.2.2.2.2.2.2.2.2.2.2.1 u.2.2.2.2.2.2.2.2.2.2.2.2.2.2.1 u.2.2.2.2.2.2.2.2.2.2.2.2.2.2.2.1 u.2.2.2.2.2.2.2.2.2.2.2.2.2.2.2.2.1 u.2.2.2.2.2.2.2.2.2.2.2.2.2.2.2.2.2
def jt_j96 (post : Int32 → SX → Prop) (x1 x2 x4 x6 x8 : Int32) (n : Nat) (x5 : Int32) (u : SX) : Prop := wX_join_96 post x1 x2 x4 x6 x8 n x5 u.1 u.2.1 u.2.2.1 u.2.2.2.1 u.2.2.2.2.1 u.2.2.2.2.2.1 u.2.2.2.2.2.2.1 u.2.2.2.2.2.2.2.1 u.2.2.2.2.2.2.2.2.1 u.2.2.2.2.2.2.2.2.2.1 u.2.2.2.2.2.2.2.2.2.2.1 u.2.2.2.2.2.2.2.2.2.2.2.1 u.2.2.2.2.2.2.2.2.2.2.2.2.1 u.2.2.2.2.2.2.2.2.2.2.2.2.2.1 u.2.2.2.2.2.2.2.2.2.2.2.2.2.2.1 u.2.2.2.2.2.2.2.2.2.2.2.2.2.2.2.1 u.2.2.2.2.2.2.2.2.2.2.2.2.2.2.2.2.1 u.2.2.2.2.2.2.2.2.2.2.2.2.2.2.2.2.2
def jt_j56 (post : Int32 → SX → Prop) (x1 x2 x3 x5 x6 x7 x8 : Int32) (n : Nat) (x4 : Int32) (u : SX) : Prop := wX_join_56 post x1 x2 x3 x5 x6 x7 x8 n x4 u.1 u.2.1 u.2.2.1 u.2.2.2.1 u.2.2.2.2.1 u.2.2.2.2.2.1 u.2.2.2.2.2.2.1 u.2.2.2.2.2.2.2.1 u.2.2.2.2.2.2.2.2.1 u.2.2.2.2.2.2.2.2.2.1 u.2.2.2.2.2.2.2.2.2.2.1 u.2.2.2.2.2.2.2.2.2.2.2.1 u.2.2.2.2.2.2.2.2.2.2.2.2.1 u.2.2.2.2.2.2.2.2.2.2.2.2.2.1 u.2.2.2.2.2.2.2.2.2.2.2.2.2.2.1 u.2.2.2.2.2.2.2.2.2.2.2.2.2.2.2.1 u.2.2.2.2.2.2.2.2.2.2.2.2.2.2.2.2.1 u.2.2.2.2.2.2.2.2.2.2.2.2.2.2.2.2.2
section
variable {fc we lo hi ex : Nat} {h : jt_H} {K : Nat → Int32} {rt fr wy : Nat → Nat} {wr : Nat → Int32} {F : jt_F}
theorem jt_161_0 {post : Int32 → SX → Prop} {t n : Nat} (hw : we < 2 ^ 31) (H : post (nI t) (jt_s fc we lo hi ex h K rt fr wy wr F)) : jt_j161 post (nI we) (n + 1) (nI t) (jt_s fc we lo hi ex h K rt fr wy wr F) :=
  br_t (nI_le (Nat.le_refl we) hw) H
theorem jt_161_l {post : Int32 → SX → Prop} {t n f x : Nat} (hf : f ≤ we) (hw : we < 64) (ex' : wy we = x) (hx : x < 256) (ht : t < 256) (hr : wr we = 0)
    (H : wpX_balanced (fun r u => jt_j161 post (nI f) n r u) (jt_s fc we lo hi ex (jt_up h.1 x t, h.2.1, h.2.2) K rt fr wy wr F) (nI x)) : jt_j161 post (nI f) (n + 1) (nI t) (jt_s fc (we + 1) lo hi ex h K rt fr wy wr F) := by
  refine br_f (nI_ge (by omega) (by omega)) (nm_r (e' := nI we) (nI_pred we) (And.intro (jt_v64 hw) (nm_r (e' := nI x) (jt_rd (by omega) ex') (And.intro (jt_v64 hw) (br_t ?_ (And.intro (jt_v256 hx) (nm_r (e' := fun i => nI (jt_up h.1 x t i)) (jt_wr (by omega) (by omega)) ?_)))))))
  · rw [jt_cl (by omega)]; exact hr
  · exact H
theorem jt_161_r {post : Int32 → SX → Prop} {t n f x : Nat} (hf : f ≤ we) (hw : we < 64) (ex' : wy we = x) (hx : x < 256) (ht : t < 256) (hr : wr we = 1)
    (H : wpX_balanced (fun r u => jt_j161 post (nI f) n r u) (jt_s fc we lo hi ex (h.1, jt_up h.2.1 x t, h.2.2) K rt fr wy wr F) (nI x)) : jt_j161 post (nI f) (n + 1) (nI t) (jt_s fc (we + 1) lo hi ex h K rt fr wy wr F) := by
  refine br_f (nI_ge (by omega) (by omega)) (nm_r (e' := nI we) (nI_pred we) (And.intro (jt_v64 hw) (nm_r (e' := nI x) (jt_rd (by omega) ex') (And.intro (jt_v64 hw) (br_f ?_ (And.intro (jt_v256 hx) (nm_r (e' := fun i => nI (jt_up h.2.1 x t i)) (jt_wr (by omega) (by omega)) ?_)))))))
  · rw [jt_cl (by omega)]
    show ¬ wr we = 0
    rw [hr]; decide
  · exact H
theorem jt_136 {post : Int32 → SX → Prop} {m x y : Nat} {f : Int32} {lx ly : List Nat} (hm : m ≠ 0) (hb : m < 256) (tx : jt_T h x lx) (ty : jt_T h y ly) (nd : (lx ++ m :: ly).Nodup) (hl : lx.length + ly.length < 120)
    (H : ∀ h' t, jt_T h' t (lx ++ m :: ly) → jt_O h h' (lx ++ m :: ly) → ∃ n, jt_j161 post f n (nI t) (jt_s fc we lo hi ex h' K rt fr wy wr F)) : jt_j136 post (nI m) (nI x) (nI y) f (jt_s fc we lo hi ex h K rt fr wy wr F) := by
  have bx := jt_T_lt tx
  have by' := jt_T_lt ty
  have dx : m ∉ lx := by grind
  have dy : m ∉ ly := by grind
  have o1 : jt_O h (jt_up h.1 m x, jt_up h.2.1 m y, h.2.2) [m] := fun i hi => ⟨jt_up_n (fun e => hi (e ▸ List.mem_cons_self)), jt_up_n (fun e => hi (e ▸ List.mem_cons_self)), rfl⟩
  have z1 : 0 ∉ [m] := fun q => hm (List.mem_singleton.mp q).symm
  have nm : ∀ l : List Nat, m ∉ l → ∀ i, i ∈ l → i ∉ [m] := fun l d i hi q => d ((List.mem_singleton.mp q) ▸ hi)
  have inM : ∀ i, i ∈ [m] → i ∈ lx ++ m :: ly := by
    intro i hi
    rw [List.mem_singleton.mp hi]
    exact List.mem_append_right _ List.mem_cons_self
  have tx1 := jt_T_off tx o1 (nm _ dx) z1
  have ty1 := jt_T_off ty o1 (nm _ dy) z1
  refine And.intro (jt_v256 hb) (nm_r (e' := fun i => nI (jt_up h.1 m x i)) (jt_wr (by omega) (by omega)) (And.intro (jt_v256 hb) (nm_r (e' := fun i => nI (jt_up h.2.1 m y i)) (jt_wr (by omega) (by omega)) ?_)))
  refine jt_bal (h := (jt_up h.1 m x, jt_up h.2.1 m y, h.2.2)) (lx := lx) (ly := ly) hm hb ?_ ?_ nd hl ?_
  · show jt_T _ (jt_up h.1 m x m) lx
    rw [jt_up_s]; exact tx1
  · show jt_T _ (jt_up h.2.1 m y m) ly
    rw [jt_up_s]; exact ty1
  intro h' t T o
  exact H h' t T (jt_O_tr (jt_O_mo o1 inM) o)
theorem jt_d56 {post : Int32 → SX → Prop} {f m b : Nat} {p1 : Int32} {lb : List Nat} (hm : m ≠ 0) (hmb : m < 256) (tb : jt_T h b lb) {x : Nat} {lx : List Nat} (tx : jt_T h x lx) :
    ∀ (we : Nat) (wy : Nat → Nat) (wr : Nat → Int32), f ≤ we → we + lx.length ≤ 64 → lx.length + lb.length < 120 → (lx ++ m :: lb).Nodup →
    (∀ h' t wy' wr', jt_T h' t (lx ++ m :: lb) → jt_O h h' (lx ++ m :: lb) → (∀ i, i < we → wy' i = wy i) → (∀ i, i < we → wr' i = wr i) → ∀ n, we - f < n → jt_j161 post (nI f) n (nI t) (jt_s fc we lo hi ex h' K rt fr wy' wr' F)) →
    ∀ n, lx.length < n → jt_j56 post p1 (nI m) (nI b) (nI b) (nI f) 1 0 n (nI x) (jt_s fc we lo hi ex h K rt fr wy wr F) := by
  have bb := jt_T_lt tb
  have cb := jt_T_c tb
  have stop : ∀ {x : Nat} {lx : List Nat} (tx : jt_T h x lx) (we : Nat) (wy : Nat → Nat) (wr : Nat → Int32), f ≤ we → we + lx.length ≤ 64 → lx.length + lb.length < 120 → (lx ++ m :: lb).Nodup →
      (∀ h' t wy' wr', jt_T h' t (lx ++ m :: lb) → jt_O h h' (lx ++ m :: lb) → (∀ i, i < we → wy' i = wy i) → (∀ i, i < we → wr' i = wr i) → ∀ n, we - f < n → jt_j161 post (nI f) n (nI t) (jt_s fc we lo hi ex h' K rt fr wy' wr' F)) →
      jt_j96 post p1 (nI m) (nI x) (nI f) 0 1 (nI b) (jt_s fc we lo hi ex h K rt fr wy wr F) := by
    intro x lx tx we wy wr hf hw hl nd kont
    refine br_t rfl ?_
    refine jt_136 (lx := lx) (ly := lb) hm hmb tx tb nd hl ?_
    intro h' t T o
    exact ⟨we - f + 1, kont h' t wy wr T o (fun _ _ => rfl) (fun _ _ => rfl) _ (by omega)⟩
  refine jt_T_ind (P := fun x lx => ∀ (we : Nat) (wy : Nat → Nat) (wr : Nat → Int32), f ≤ we → we + lx.length ≤ 64 → lx.length + lb.length < 120 → (lx ++ m :: lb).Nodup →
    (∀ h' t wy' wr', jt_T h' t (lx ++ m :: lb) → jt_O h h' (lx ++ m :: lb) → (∀ i, i < we → wy' i = wy i) → (∀ i, i < we → wr' i = wr i) → ∀ n, we - f < n → jt_j161 post (nI f) n (nI t) (jt_s fc we lo hi ex h' K rt fr wy' wr' F)) →
    ∀ n, lx.length < n → jt_j56 post p1 (nI m) (nI b) (nI b) (nI f) 1 0 n (nI x) (jt_s fc we lo hi ex h K rt fr wy wr F)) ?_ ?_ tx
  · intro z we wy wr hf hw hl nd kont n hn
    obtain ⟨n, rfl⟩ : ∃ k, n = k + 1 := ⟨n - 1, by omega⟩
    refine br_f (by decide) ?_
    refine jt_weight (n := 0) rfl (by omega) z ?_
    refine jt_weight (n := b) rfl bb cb ?_
    refine br_t ?_ ⟨1, stop (jt_T0 z) we wy wr hf hw hl nd kont⟩
    rw [show (3 : Int32) * nI (lb.length + 1) = nI (3 * (lb.length + 1)) from pk_mul 3 _]
    exact nI_le (by omega) (by omega)
  · intro x l1 l2 hx hxb t1 t2 c _ ih we wy wr hf hw hl nd kont n hn
    have tx := jt_Tn hx hxb t1 t2 c
    have cx := jt_T_c tx
    have hlen : (l1 ++ x :: l2).length = l1.length + l2.length + 1 := by rw [List.length_append, List.length_cons]; omega
    obtain ⟨n, rfl⟩ : ∃ k, n = k + 1 := ⟨n - 1, by omega⟩
    refine br_f (by decide) ?_
    refine jt_weight (n := x) rfl hxb cx ?_
    refine jt_weight (n := b) rfl bb cb ?_
    refine pk_le ((l1 ++ x :: l2).length + 1) (3 * (lb.length + 1)) (fun c1 => ?_) (fun c1 => ?_) rfl (pk_mul 3 _) (by omega) (by omega)
    · exact ⟨1, stop tx we wy wr hf hw hl nd kont⟩
    · refine jt_push (n := x) rfl (by omega) (by omega) jt_bo1 ?_
      refine And.intro (jt_v256 hxb) (nm_r (e' := nI (h.2.1 x)) (jt_rd (by omega) rfl) ?_)
      have d : (l2 ++ m :: lb).Nodup ∧ x ∉ l2 ++ m :: lb ∧ x ∉ l1 ∧ (∀ i, i ∈ l1 → i ∉ l2 ++ m :: lb) ∧ (l1 ++ x :: (l2 ++ m :: lb)).Nodup := by grind
      obtain ⟨d1, d2, d3, d4, d5⟩ := d
      refine ih (we + 1) (jt_up wy we x) (upd wr we 1) (by omega) (by omega) (by omega) d1 ?_ n (by omega)
      intro h' t wy' wr' T o a1 a2 n' hn'
      obtain ⟨n', rfl⟩ : ∃ k, n' = k + 1 := ⟨n' - 1, by omega⟩
      have tb' := jt_T_lt T
      have z0 : 0 ∉ l2 ++ m :: lb := jt_T_m0 T
      have z1 : 0 ∉ [x] := fun q => hx (List.mem_singleton.mp q).symm
      have o2 : jt_O h' (h'.1, jt_up h'.2.1 x t, h'.2.2) [x] := jt_O_r
      have t1' := jt_T_off (jt_T_off t1 o d4 z0) o2 (fun i hi q => d3 ((List.mem_singleton.mp q) ▸ hi)) z1
      have T' := jt_T_off T o2 (fun i hi q => d2 ((List.mem_singleton.mp q) ▸ hi)) z1
      refine jt_161_r (x := x) hf (by omega) ((a1 we (by omega)).trans jt_up_s) hxb tb' ((a2 we (by omega)).trans pk_us) ?_
      refine jt_bal (h := (h'.1, jt_up h'.2.1 x t, h'.2.2)) (lx := l1) (ly := l2 ++ m :: lb) hx hxb ?_ ?_ d5 ?_ ?_
      · show jt_T _ (h'.1 x) l1
        rw [(o x d2).1]; exact t1'
      · show jt_T _ (jt_up h'.2.1 x t x) _
        rw [jt_up_s]; exact T'
      · rw [List.length_append, List.length_cons]; omega
      intro h3 r T3 o3
      have ea : l1 ++ x :: (l2 ++ m :: lb) = (l1 ++ x :: l2) ++ m :: lb := by simp
      rw [ea] at T3 o3
      refine kont h3 r wy' wr' T3 (jt_O_tr (jt_O_mo o ?_) (jt_O_tr (jt_O_mo o2 ?_) o3)) ?_ ?_ n' (by omega)
      · intro i hi
        rw [← ea]
        exact List.mem_append_right _ (List.mem_cons_of_mem _ hi)
      · intro i hi
        rw [← ea, List.mem_singleton.mp hi]
        exact List.mem_append_right _ List.mem_cons_self
      · intro i hi
        rw [a1 i (by omega), jt_up_n (by omega)]
      · intro i hi
        rw [a2 i (by omega), pk_un (by omega)]
theorem jt_d96 {post : Int32 → SX → Prop} {f m a : Nat} {la : List Nat} (hm : m ≠ 0) (hmb : m < 256) (ta : jt_T h a la) {y : Nat} {ly : List Nat} (ty : jt_T h y ly) :
    ∀ (we : Nat) (wy : Nat → Nat) (wr : Nat → Int32), f ≤ we → we + ly.length ≤ 64 → la.length + ly.length < 120 → (la ++ m :: ly).Nodup →
    (∀ h' t wy' wr', jt_T h' t (la ++ m :: ly) → jt_O h h' (la ++ m :: ly) → (∀ i, i < we → wy' i = wy i) → (∀ i, i < we → wr' i = wr i) → ∀ n, we - f < n → jt_j161 post (nI f) n (nI t) (jt_s fc we lo hi ex h' K rt fr wy' wr' F)) →
    ∀ n, ly.length < n → jt_j96 post (nI a) (nI m) (nI a) (nI f) 1 n (nI y) (jt_s fc we lo hi ex h K rt fr wy wr F) := by
  have ba := jt_T_lt ta
  have ca := jt_T_c ta
  have stop : ∀ {y : Nat} {ly : List Nat} (ty : jt_T h y ly) (we : Nat) (wy : Nat → Nat) (wr : Nat → Int32), f ≤ we → we + ly.length ≤ 64 → la.length + ly.length < 120 → (la ++ m :: ly).Nodup →
      (∀ h' t wy' wr', jt_T h' t (la ++ m :: ly) → jt_O h h' (la ++ m :: ly) → (∀ i, i < we → wy' i = wy i) → (∀ i, i < we → wr' i = wr i) → ∀ n, we - f < n → jt_j161 post (nI f) n (nI t) (jt_s fc we lo hi ex h' K rt fr wy' wr' F)) →
      jt_j136 post (nI m) (nI a) (nI y) (nI f) (jt_s fc we lo hi ex h K rt fr wy wr F) := by
    intro y ly ty we wy wr hf hw hl nd kont
    refine jt_136 (lx := la) (ly := ly) hm hmb ta ty nd hl ?_
    intro h' t T o
    exact ⟨we - f + 1, kont h' t wy wr T o (fun _ _ => rfl) (fun _ _ => rfl) _ (by omega)⟩
  refine jt_T_ind (P := fun y ly => ∀ (we : Nat) (wy : Nat → Nat) (wr : Nat → Int32), f ≤ we → we + ly.length ≤ 64 → la.length + ly.length < 120 → (la ++ m :: ly).Nodup →
    (∀ h' t wy' wr', jt_T h' t (la ++ m :: ly) → jt_O h h' (la ++ m :: ly) → (∀ i, i < we → wy' i = wy i) → (∀ i, i < we → wr' i = wr i) → ∀ n, we - f < n → jt_j161 post (nI f) n (nI t) (jt_s fc we lo hi ex h' K rt fr wy' wr' F)) →
    ∀ n, ly.length < n → jt_j96 post (nI a) (nI m) (nI a) (nI f) 1 n (nI y) (jt_s fc we lo hi ex h K rt fr wy wr F)) ?_ ?_ ty
  · intro z we wy wr hf hw hl nd kont n hn
    obtain ⟨n, rfl⟩ : ∃ k, n = k + 1 := ⟨n - 1, by omega⟩
    refine br_f (by decide) ?_
    refine jt_weight (n := 0) rfl (by omega) z ?_
    refine jt_weight (n := a) rfl ba ca ?_
    refine br_t ?_ (stop (jt_T0 z) we wy wr hf hw hl nd kont)
    rw [show (3 : Int32) * nI (la.length + 1) = nI (3 * (la.length + 1)) from pk_mul 3 _]
    exact nI_le (by omega) (by omega)
  · intro y l1 l2 hy hyb t1 t2 c ih _ we wy wr hf hw hl nd kont n hn
    have ty := jt_Tn hy hyb t1 t2 c
    have cy := jt_T_c ty
    have hlen : (l1 ++ y :: l2).length = l1.length + l2.length + 1 := by rw [List.length_append, List.length_cons]; omega
    obtain ⟨n, rfl⟩ : ∃ k, n = k + 1 := ⟨n - 1, by omega⟩
    refine br_f (by decide) ?_
    refine jt_weight (n := y) rfl hyb cy ?_
    refine jt_weight (n := a) rfl ba ca ?_
    refine pk_le ((l1 ++ y :: l2).length + 1) (3 * (la.length + 1)) (fun c1 => ?_) (fun c1 => ?_) rfl (pk_mul 3 _) (by omega) (by omega)
    · exact stop ty we wy wr hf hw hl nd kont
    · refine jt_push (n := y) rfl (by omega) (by omega) jt_bo0 ?_
      refine And.intro (jt_v256 hyb) (nm_r (e' := nI (h.1 y)) (jt_rd (by omega) rfl) ?_)
      have d : (la ++ m :: l1).Nodup ∧ y ∉ la ++ m :: l1 ∧ y ∉ l2 ∧ (∀ i, i ∈ l2 → i ∉ la ++ m :: l1) ∧ ((la ++ m :: l1) ++ y :: l2).Nodup := by grind
      obtain ⟨d1, d2, d3, d4, d5⟩ := d
      refine ih (we + 1) (jt_up wy we y) (upd wr we 0) (by omega) (by omega) (by omega) d1 ?_ n (by omega)
      intro h' t wy' wr' T o a1 a2 n' hn'
      obtain ⟨n', rfl⟩ : ∃ k, n' = k + 1 := ⟨n' - 1, by omega⟩
      have tb' := jt_T_lt T
      have z0 : 0 ∉ la ++ m :: l1 := jt_T_m0 T
      have z1 : 0 ∉ [y] := fun q => hy (List.mem_singleton.mp q).symm
      have o2 : jt_O h' (jt_up h'.1 y t, h'.2.1, h'.2.2) [y] := jt_O_l
      have t2' := jt_T_off (jt_T_off t2 o d4 z0) o2 (fun i hi q => d3 ((List.mem_singleton.mp q) ▸ hi)) z1
      have T' := jt_T_off T o2 (fun i hi q => d2 ((List.mem_singleton.mp q) ▸ hi)) z1
      refine jt_161_l (x := y) hf (by omega) ((a1 we (by omega)).trans jt_up_s) hyb tb' ((a2 we (by omega)).trans pk_us) ?_
      refine jt_bal (h := (jt_up h'.1 y t, h'.2.1, h'.2.2)) (lx := la ++ m :: l1) (ly := l2) hy hyb ?_ ?_ d5 ?_ ?_
      · show jt_T _ (jt_up h'.1 y t y) _
        rw [jt_up_s]; exact T'
      · show jt_T _ (h'.2.1 y) l2
        rw [(o y d2).2.1]; exact t2'
      · rw [List.length_append, List.length_cons]; omega
      intro h3 r T3 o3
      have ea : (la ++ m :: l1) ++ y :: l2 = la ++ m :: (l1 ++ y :: l2) := by simp
      rw [ea] at T3 o3
      refine kont h3 r wy' wr' T3 (jt_O_tr (jt_O_mo o ?_) (jt_O_tr (jt_O_mo o2 ?_) o3)) ?_ ?_ n' (by omega)
      · intro i hi
        rw [← ea]
        exact List.mem_append_left _ hi
      · intro i hi
        rw [← ea, List.mem_singleton.mp hi]
        exact List.mem_append_right _ List.mem_cons_self
      · intro i hi
        rw [a1 i (by omega), jt_up_n (by omega)]
      · intro i hi
        rw [a2 i (by omega), pk_un (by omega)]
theorem jt_join {post : Int32 → SX → Prop} {p0 p1 p2 : Int32} {a m b : Nat} {la lb : List Nat} (e0 : p0 = nI a) (e1 : p1 = nI m) (e2 : p2 = nI b) (hm : m ≠ 0) (hmb : m < 256) (ta : jt_T h a la) (tb : jt_T h b lb) (nd : (la ++ m :: lb).Nodup) (hw : we + la.length + lb.length ≤ 64)
    (H : ∀ h' r wy' wr', jt_T h' r (la ++ m :: lb) → jt_O h h' (la ++ m :: lb) → (∀ i, i < we → wy' i = wy i) → (∀ i, i < we → wr' i = wr i) → post (nI r) (jt_s fc we lo hi ex h' K rt fr wy' wr' F)) :
    wpX_join post (jt_s fc we lo hi ex h K rt fr wy wr F) p0 p1 p2 := by
  subst e0 e1 e2
  have ba := jt_T_lt ta
  have ca := jt_T_c ta
  have bb := jt_T_lt tb
  have cb := jt_T_c tb
  have kont : ∀ h' t wy' wr', jt_T h' t (la ++ m :: lb) → jt_O h h' (la ++ m :: lb) → (∀ i, i < we → wy' i = wy i) → (∀ i, i < we → wr' i = wr i) → ∀ n, we - we < n → jt_j161 post (nI we) n (nI t) (jt_s fc we lo hi ex h' K rt fr wy' wr' F) := by
    intro h' t wy' wr' T o a1 a2 n hn
    obtain ⟨n, rfl⟩ : ∃ k, n = k + 1 := ⟨n - 1, by omega⟩
    exact jt_161_0 (by omega) (H h' t wy' wr' T o a1 a2)
  unfold wpX_join
  refine jt_weight (n := a) rfl ba ca ?_
  refine jt_weight (n := b) rfl bb cb ?_
  refine pk_le (la.length + 1) (3 * (lb.length + 1)) (fun c1 => ?_) (fun c1 => ?_) rfl (pk_mul 3 _) (by omega) (by omega)
  · unfold wX_join_32
    refine jt_weight (n := b) rfl bb cb ?_
    refine jt_weight (n := a) rfl ba ca ?_
    refine pk_le (lb.length + 1) (3 * (la.length + 1)) (fun c2 => ?_) (fun c2 => ?_) rfl (pk_mul 3 _) (by omega) (by omega)
    · refine ⟨1, br_t rfl ⟨1, br_t rfl ?_⟩⟩
      refine jt_136 (lx := la) (ly := lb) hm hmb ta tb nd (by omega) ?_
      intro h' t T o
      exact ⟨1, kont h' t wy wr T o (fun _ _ => rfl) (fun _ _ => rfl) 1 (by omega)⟩
    · exact ⟨1, br_t rfl ⟨lb.length + 1, jt_d96 hm hmb ta tb we wy wr (Nat.le_refl _) (by omega) (by omega) nd kont _ (by omega)⟩⟩
  · unfold wX_join_32
    refine jt_weight (n := b) rfl bb cb ?_
    refine jt_weight (n := a) rfl ba ca ?_
    refine pk_le (lb.length + 1) (3 * (la.length + 1)) (fun c2 => ?_) (fun c2 => ?_) rfl (pk_mul 3 _) (by omega) (by omega)
    · exact ⟨la.length + 1, jt_d56 hm hmb tb ta we wy wr (Nat.le_refl _) (by omega) (by omega) nd kont _ (by omega)⟩
    · exact absurd c2 (by omega)
end
end
section
/-! splitTree -/
def jt_S (K : Nat → Int32) (l : List Nat) : Prop := l.Pairwise (fun i j => K i < K j)
def jt_SR (K : Nat → Int32) (x : Int32) (l : List Nat) (e : Nat) (ll lh : List Nat) : Prop :=
  ((e = 0 ∧ l = ll ++ lh) ∨ (e ≠ 0 ∧ l = ll ++ e :: lh ∧ K e = x)) ∧ (∀ i, i ∈ ll → K i < x) ∧ (∀ i, i ∈ lh → x < K i)
theorem jt_S_nd {K : Nat → Int32} {l : List Nat} (s : jt_S K l) : l.Nodup :=
  List.Pairwise.imp (fun {a b} q (e : a = b) => Int32.lt_irrefl (e ▸ q)) s
theorem jt_S_app {K : Nat → Int32} {a b : List Nat} : jt_S K (a ++ b) ↔ jt_S K a ∧ jt_S K b ∧ ∀ i, i ∈ a → ∀ j, j ∈ b → K i < K j := List.pairwise_append
theorem jt_S_node {K : Nat → Int32} {a b : List Nat} {n : Nat} : jt_S K (a ++ n :: b) ↔ jt_S K a ∧ jt_S K b ∧ (∀ i, i ∈ a → K i < K n) ∧ (∀ i, i ∈ b → K n < K i) := by
  rw [jt_S_app]
  constructor
  · intro ⟨h1, h2, h3⟩
    have h4 := List.pairwise_cons.mp h2
    exact ⟨h1, h4.2, fun i hi => h3 i hi n List.mem_cons_self, h4.1⟩
  · intro ⟨h1, h2, h3, h4⟩
    refine ⟨h1, List.pairwise_cons.mpr ⟨h4, h2⟩, ?_⟩
    intro i hi j hj
    rcases List.mem_cons.mp hj with rfl | hj
    · exact h3 i hi
    · exact Int32.lt_trans (h3 i hi) (h4 j hj)
def jt_p101 (post : SX → Prop) (x3 : Int32) (n : Nat) (x4 x5 : Int32) (u : SX) : Prop := wX_splitTree_101 post x3 n x4 x5 u.1 u.2.1 u.2.2.1 u.2.2.2.1 u.2.2.2.2.1 u.2.2.2.2.2.1 u.2.2.2.2.2.2.1 u.2.2.2.2.2.2.2.1 u.2.2.2.2.2.2.2.2.1 u.2.2.2.2.2.2.2.2.2.1 u.2.2.2.2.2.2.2.2.2.2.1 u.2.2.2.2.2.2.2.2.2.2.2.1 u.2.2.2.2.2.2.2.2.2.2.2.2.1 u.2.2.2.2.2.2.2.2.2.2.2.2.2.1 u.2.2.2.2.2.2.2.2.2.2.2.2.2.2.1 u.2.2.2.2.2.2.2.2.2.2.2.2.2.2.2.1 u.2.2.2.2.2.2.2.2.2.2.2.2.2.2.2.2.1 u.2.2.2.2.2.2.2.2.2.2.2.2.2.2.2.2.2
def jt_p69 (post : SX → Prop) (x3 : Int32) (u : SX) : Prop := wX_splitTree_69 post x3 u.1 u.2.1 u.2.2.1 u.2.2.2.1 u.2.2.2.2.1 u.2.2.2.2.2.1 u.2.2.2.2.2.2.1 u.2.2.2.2.2.2.2.1 u.2.2.2.2.2.2.2.2.1 u.2.2.2.2.2.2.2.2.2.1 u.2.2.2.2.2.2.2.2.2.2.1 u.2.2.2.2.2.2.2.2.2.2.2.1 u.2.2.2.2.2.2.2.2.2.2.2.2.1 u.2.2.2.2.2.2.2.2.2.2.2.2.2.1 u.2.2.2.2.2.2.2.2.2.2.2.2.2.2.1 u.2.2.2.2.2.2.2.2.2.2.2.2.2.2.2.1 u.2.2.2.2.2.2.2.2.2.2.2.2.2.2.2.2.1 u.2.2.2.2.2.2.2.2.2.2.2.2.2.2.2.2.2
def jt_p7 (post : SX → Prop) (x2 : Int32) (n : Nat) (x3 : Int32) (u : SX) : Prop := wX_splitTree_7 post x2 n x3 u.1 u.2.1 u.2.2.1 u.2.2.2.1 u.2.2.2.2.1 u.2.2.2.2.2.1 u.2.2.2.2.2.2.1 u.2.2.2.2.2.2.2.1 u.2.2.2.2.2.2.2.2.1 u.2.2.2.2.2.2.2.2.2.1 u.2.2.2.2.2.2.2.2.2.2.1 u.2.2.2.2.2.2.2.2.2.2.2.1 u.2.2.2.2.2.2.2.2.2.2.2.2.1 u.2.2.2.2.2.2.2.2.2.2.2.2.2.1 u.2.2.2.2.2.2.2.2.2.2.2.2.2.2.1 u.2.2.2.2.2.2.2.2.2.2.2.2.2.2.2.1 u.2.2.2.2.2.2.2.2.2.2.2.2.2.2.2.2.1 u.2.2.2.2.2.2.2.2.2.2.2.2.2.2.2.2.2
theorem jt_00 : nI 0 ≤ 0 := by decide
theorem jt_rdp {f : Nat → Nat} {n v : Nat} (hn : n < 32768) (e : f n = v) : (fun i => nI (f i)) (nI (n + 1) - 1).toNatClampNeg = nI v := by
  rw [nI_pred, jt_cl hn]
  exact congrArg nI e
theorem jt_v64p {n : Nat} (h : n < 64) : vp_in (nI (n + 1) - 1) 64 := by
  rw [nI_pred]
  exact jt_v64 h
section
variable {fc we lo hi ex : Nat} {h : jt_H} {K : Nat → Int32} {rt fr wy : Nat → Nat} {wr : Nat → Int32} {F : jt_F}
theorem jt_101_z {post : SX → Prop} {n a b : Nat} (H : post (jt_s fc 0 a b 0 h K rt fr wy wr F)) : jt_p101 post (nI 0) (n + 1) (nI a) (nI b) (jt_s fc 0 lo hi ex h K rt fr wy wr F) :=
  br_t jt_00 (br_t rfl H)
theorem jt_101_e {post : SX → Prop} {n a b e : Nat} (he : e ≠ 0) (hb : e < 256) (H : post (jt_s fc 0 a b e (jt_up h.1 e 0, jt_up h.2.1 e 0, jt_up h.2.2 e 1) K rt fr wy wr F)) : jt_p101 post (nI e) (n + 1) (nI a) (nI b) (jt_s fc 0 lo hi ex h K rt fr wy wr F) :=
  br_t jt_00 (br_f (nI_ne0 (by omega) (by omega)) (And.intro (jt_v256 hb) (nm_r (e' := fun i => nI (jt_up h.1 e 0 i)) (jt_wr0 (by omega)) (And.intro (jt_v256 hb) (nm_r (e' := fun i => nI (jt_up h.2.1 e 0 i)) (jt_wr0 (by omega)) (And.intro (jt_v256 hb) (nm_r (e' := fun i => nI (jt_up h.2.2 e 1 i)) (jt_wb1 (by omega)) H)))))))
theorem jt_101_r {post : SX → Prop} {n a b p : Nat} {x3 : Int32} (hw : we < 64) (ep : wy we = p) (hp : p < 256) (hr : wr we = 1)
    (H : wpX_join (fun r u => jt_p101 post x3 n r (nI b) u) (jt_s fc we lo hi ex h K rt fr wy wr F) (nI (h.1 p)) (nI p) (nI a)) : jt_p101 post x3 (n + 1) (nI a) (nI b) (jt_s fc (we + 1) lo hi ex h K rt fr wy wr F) := by
  refine br_f (nI_nle (by omega) (by omega)) (And.intro (jt_v64p hw) (nm_r (e' := nI p) (jt_rdp (by omega) ep) (And.intro (jt_v64p hw) (nm_r (e' := 1) ?_ (nm_r (e' := nI we) (nI_pred we) (br_f (by decide) (And.intro (jt_v256 hp) ?_)))))))
  · rw [nI_pred, jt_cl (by omega)]; exact hr
  · exact (congrArg (fun z => wpX_join (fun r u => jt_p101 post x3 n r (nI b) u) (jt_s fc we lo hi ex h K rt fr wy wr F) z (nI p) (nI a)) (jt_rd (by omega) rfl)).mpr H
theorem jt_101_l {post : SX → Prop} {n a b p : Nat} {x3 : Int32} (hw : we < 64) (ep : wy we = p) (hp : p < 256) (hr : wr we = 0)
    (H : wpX_join (fun r u => jt_p101 post x3 n (nI a) r u) (jt_s fc we lo hi ex h K rt fr wy wr F) (nI b) (nI p) (nI (h.2.1 p))) : jt_p101 post x3 (n + 1) (nI a) (nI b) (jt_s fc (we + 1) lo hi ex h K rt fr wy wr F) := by
  refine br_f (nI_nle (by omega) (by omega)) (And.intro (jt_v64p hw) (nm_r (e' := nI p) (jt_rdp (by omega) ep) (And.intro (jt_v64p hw) (nm_r (e' := 0) ?_ (nm_r (e' := nI we) (nI_pred we) (br_t rfl (And.intro (jt_v256 hp) ?_)))))))
  · rw [nI_pred, jt_cl (by omega)]; exact hr
  · exact (congrArg (fun z => wpX_join (fun r u => jt_p101 post x3 n (nI a) r u) (jt_s fc we lo hi ex h K rt fr wy wr F) (nI b) (nI p) z) (jt_rd (by omega) rfl)).mpr H
theorem jt_69_z {post : SX → Prop} (H : ∃ n, jt_p101 post (nI 0) n (nI 0) (nI 0) (jt_s fc we lo hi ex h K rt fr wy wr F)) : jt_p69 post (nI 0) (jt_s fc we lo hi ex h K rt fr wy wr F) :=
  br_t rfl (br_t rfl H)
theorem jt_69_n {post : SX → Prop} {p : Nat} (hp : p ≠ 0) (hb : p < 256) (H : ∃ n, jt_p101 post (nI p) n (nI (h.1 p)) (nI (h.2.1 p)) (jt_s fc we lo hi ex h K rt fr wy wr F)) : jt_p69 post (nI p) (jt_s fc we lo hi ex h K rt fr wy wr F) :=
  br_f (nI_ne0 (by omega) (by omega)) (And.intro (jt_v256 hb) (br_f (nI_ne0 (by omega) (by omega)) (And.intro (jt_v256 hb) (nm_r (e' := nI (h.2.1 p)) (jt_rd (by omega) rfl) ((congrArg (fun z => ∃ n, jt_p101 post (nI p) n z (nI (h.2.1 p)) (jt_s fc we lo hi ex h K rt fr wy wr F)) (jt_rd (by omega) rfl)).mpr H)))))
theorem jt_7_z {post : SX → Prop} {x : Int32} {n : Nat} (H : jt_p69 post (nI 0) (jt_s fc we lo hi ex h K rt fr wy wr F)) : jt_p7 post x (n + 1) (nI 0) (jt_s fc we lo hi ex h K rt fr wy wr F) := br_t rfl H
theorem jt_7_e {post : SX → Prop} {x : Int32} {n p : Nat} (hp : p ≠ 0) (hb : p < 256) (e : K p = x) (H : jt_p69 post (nI p) (jt_s fc we lo hi ex h K rt fr wy wr F)) : jt_p7 post x (n + 1) (nI p) (jt_s fc we lo hi ex h K rt fr wy wr F) :=
  br_f (nI_ne0 (by omega) (by omega)) (And.intro (jt_v256 hb) (br_t (by rw [jt_cl (by omega)]; exact e) H))
theorem jt_7_l {post : SX → Prop} {x : Int32} {n p : Nat} (hp : p ≠ 0) (hb : p < 256) (e : x < K p) (hw : we < 64) (H : jt_p7 post x n (nI (h.1 p)) (jt_s fc (we + 1) lo hi ex h K rt fr (jt_up wy we p) (upd wr we 0) F)) : jt_p7 post x (n + 1) (nI p) (jt_s fc we lo hi ex h K rt fr wy wr F) := by
  have ec : (nI p).toNatClampNeg = p := jt_cl (by omega)
  refine br_f (nI_ne0 (by omega) (by omega)) (And.intro (jt_v256 hb) (br_f ?_ (And.intro (jt_v256 hb) (br_t ?_ ?_))))
  · rw [ec]; intro (q : K p = x); rw [q] at e; exact Int32.lt_irrefl e
  · rw [ec]; exact Int32.le_of_lt e
  · unfold wX_splitTree_36
    refine jt_push (n := p) rfl hw (by omega) jt_bo0 ?_
    exact br_t rfl (And.intro (jt_v256 hb) (nm_r (e' := nI (h.1 p)) (jt_rd (by omega) rfl) H))
theorem jt_7_r {post : SX → Prop} {x : Int32} {n p : Nat} (hp : p ≠ 0) (hb : p < 256) (e : K p < x) (hw : we < 64) (H : jt_p7 post x n (nI (h.2.1 p)) (jt_s fc (we + 1) lo hi ex h K rt fr (jt_up wy we p) (upd wr we 1) F)) : jt_p7 post x (n + 1) (nI p) (jt_s fc we lo hi ex h K rt fr wy wr F) := by
  have ec : (nI p).toNatClampNeg = p := jt_cl (by omega)
  refine br_f (nI_ne0 (by omega) (by omega)) (And.intro (jt_v256 hb) (br_f ?_ (And.intro (jt_v256 hb) (br_f ?_ ?_))))
  · rw [ec]; intro (q : K p = x); rw [q] at e; exact Int32.lt_irrefl e
  · rw [ec]; exact Int32.not_le.mpr e
  · unfold wX_splitTree_36
    refine jt_push (n := p) rfl hw (by omega) jt_bo1 ?_
    exact br_f (by decide) (And.intro (jt_v256 hb) (nm_r (e' := nI (h.2.1 p)) (jt_rd (by omega) rfl) H))
/-- the list-side of one step up: to the right -/
theorem jt_SR_r {x : Int32} {l1 l2 ll lh : List Nat} {p e : Nat} (s : jt_S K (l1 ++ p :: l2)) (hp : K p < x) (r : jt_SR K x l2 e ll lh) :
    jt_SR K x (l1 ++ p :: l2) e (l1 ++ p :: ll) lh ∧ (l1 ++ p :: ll).Nodup ∧ (∀ i, i ∈ lh → i ∉ l1 ++ p :: ll) ∧ (∀ i, i ∈ l1 → i ∉ l2) ∧ p ∉ l2 ∧ ll.length + lh.length ≤ l2.length ∧ (∀ i, i ∈ ll → i ∈ l2) := by
  have nd := jt_S_nd s
  obtain ⟨s1, s2, s3, s4⟩ := jt_S_node.mp s
  obtain ⟨r1, r2, r3⟩ := r
  have r2' : ∀ i, i ∈ l1 ++ p :: ll → K i < x := by
    intro i hi
    rw [List.mem_append, List.mem_cons] at hi
    rcases hi with hi | rfl | hi
    · exact Int32.lt_trans (s3 i hi) hp
    · exact hp
    · exact r2 i hi
  rcases r1 with ⟨rfl, rfl⟩ | ⟨e0, rfl, ek⟩
  · refine ⟨⟨Or.inl ⟨rfl, by simp⟩, r2', r3⟩, by grind, by grind, by grind, by grind, by simp, by grind⟩
  · refine ⟨⟨Or.inr ⟨e0, by simp, ek⟩, r2', r3⟩, by grind, by grind, by grind, by grind, by simp, by grind⟩
theorem jt_SR_l {x : Int32} {l1 l2 ll lh : List Nat} {p e : Nat} (s : jt_S K (l1 ++ p :: l2)) (hp : x < K p) (r : jt_SR K x l1 e ll lh) :
    jt_SR K x (l1 ++ p :: l2) e ll (lh ++ p :: l2) ∧ (lh ++ p :: l2).Nodup ∧ (∀ i, i ∈ ll → i ∉ lh ++ p :: l2) ∧ (∀ i, i ∈ l2 → i ∉ l1) ∧ p ∉ l1 ∧ ll.length + lh.length ≤ l1.length ∧ (∀ i, i ∈ lh → i ∈ l1) := by
  have nd := jt_S_nd s
  obtain ⟨s1, s2, s3, s4⟩ := jt_S_node.mp s
  obtain ⟨r1, r2, r3⟩ := r
  have r3' : ∀ i, i ∈ lh ++ p :: l2 → x < K i := by
    intro i hi
    rw [List.mem_append, List.mem_cons] at hi
    rcases hi with hi | rfl | hi
    · exact r3 i hi
    · exact hp
    · exact Int32.lt_trans hp (s4 i hi)
  rcases r1 with ⟨rfl, rfl⟩ | ⟨e0, rfl, ek⟩
  · refine ⟨⟨Or.inl ⟨rfl, by simp⟩, r2, r3'⟩, by grind, by grind, by grind, by grind, by simp, by grind⟩
  · refine ⟨⟨Or.inr ⟨e0, by simp, ek⟩, r2, r3'⟩, by grind, by grind, by grind, by grind, by simp, by grind⟩
theorem jt_d7 {post : SX → Prop} {x : Int32} {t : Nat} {l : List Nat} (T : jt_T h t l) :
    ∀ (we : Nat) (wy : Nat → Nat) (wr : Nat → Int32), we + l.length ≤ 64 → jt_S K l →
    (∀ h' a b e ll lh wy' wr', jt_SR K x l e ll lh → jt_T h' a ll → jt_T h' b lh → jt_O h h' l → (∀ i, i < we → wy' i = wy i) → (∀ i, i < we → wr' i = wr i) → ∀ n, we < n → jt_p101 post (nI e) n (nI a) (nI b) (jt_s fc we lo hi ex h' K rt fr wy' wr' F)) →
    ∀ n, l.length < n → jt_p7 post x n (nI t) (jt_s fc we lo hi ex h K rt fr wy wr F) := by
  refine jt_T_ind (P := fun t l => ∀ (we : Nat) (wy : Nat → Nat) (wr : Nat → Int32), we + l.length ≤ 64 → jt_S K l →
    (∀ h' a b e ll lh wy' wr', jt_SR K x l e ll lh → jt_T h' a ll → jt_T h' b lh → jt_O h h' l → (∀ i, i < we → wy' i = wy i) → (∀ i, i < we → wr' i = wr i) → ∀ n, we < n → jt_p101 post (nI e) n (nI a) (nI b) (jt_s fc we lo hi ex h' K rt fr wy' wr' F)) →
    ∀ n, l.length < n → jt_p7 post x n (nI t) (jt_s fc we lo hi ex h K rt fr wy wr F)) ?_ ?_ T
  · intro z we wy wr hw s kont n hn
    obtain ⟨n, rfl⟩ : ∃ k, n = k + 1 := ⟨n - 1, by omega⟩
    refine jt_7_z (jt_69_z ⟨we + 1, ?_⟩)
    exact kont h 0 0 0 [] [] wy wr ⟨Or.inl ⟨rfl, rfl⟩, fun i hi => absurd hi List.not_mem_nil, fun i hi => absurd hi List.not_mem_nil⟩ (jt_T0 z) (jt_T0 z) jt_O_rf (fun _ _ => rfl) (fun _ _ => rfl) _ (by omega)
  · intro p l1 l2 hp hb t1 t2 c ih1 ih2 we wy wr hw s kont n hn
    have hlen : (l1 ++ p :: l2).length = l1.length + l2.length + 1 := by rw [List.length_append, List.length_cons]; omega
    obtain ⟨n, rfl⟩ : ∃ k, n = k + 1 := ⟨n - 1, by omega⟩
    obtain ⟨s1, s2, s3, s4⟩ := jt_S_node.mp s
    by_cases c1 : K p = x
    · refine jt_7_e hp hb c1 (jt_69_n hp hb ⟨we + 1, ?_⟩)
      exact kont h _ _ p l1 l2 wy wr ⟨Or.inr ⟨hp, rfl, c1⟩, fun i hi => c1 ▸ s3 i hi, fun i hi => c1 ▸ s4 i hi⟩ t1 t2 jt_O_rf (fun _ _ => rfl) (fun _ _ => rfl) _ (by omega)
    · by_cases c2 : K p < x
      · refine jt_7_r hp hb c2 (by omega) (ih2 (we + 1) _ _ (by omega) s2 ?_ n (by omega))
        intro h' a b e ll lh wy' wr' r ta tb o a1 a2 n' hn'
        obtain ⟨n', rfl⟩ : ∃ k, n' = k + 1 := ⟨n' - 1, by omega⟩
        obtain ⟨r', q1, q2, q3, q4, q5, q6⟩ := jt_SR_r s c2 r
        have z2 : 0 ∉ l2 := jt_T_m0 t2
        refine jt_101_r (p := p) (by omega) ((a1 we (by omega)).trans jt_up_s) hb ((a2 we (by omega)).trans pk_us) ?_
        have t1' : jt_T h' (h'.1 p) l1 := by
          rw [(o p q4).1]
          exact jt_T_off t1 o q3 z2
        refine jt_join rfl rfl rfl hp hb t1' ta q1 (by omega) ?_
        intro h3 r wy3 wr3 T3 o3 b1 b2
        refine kont h3 r b e _ lh wy3 wr3 r' T3 (jt_T_off tb o3 q2 (jt_T_m0 T3)) (jt_O_tr (jt_O_mo o ?_) (jt_O_mo o3 ?_)) ?_ ?_ n' (by omega)
        · intro i hi
          exact List.mem_append_right _ (List.mem_cons_of_mem _ hi)
        · intro i hi
          rw [List.mem_append, List.mem_cons] at hi ⊢
          exact hi.imp id (fun q => q.imp id (q6 i))
        · intro i hi
          rw [b1 i hi, a1 i (by omega), jt_up_n (by omega)]
        · intro i hi
          rw [b2 i hi, a2 i (by omega), pk_un (by omega)]
      · have c3 : x < K p := by
          rw [Int32.lt_iff_toInt_lt] at c2 ⊢
          have : (K p).toInt ≠ x.toInt := fun q => c1 (Int32.toInt_inj.mp q)
          omega
        refine jt_7_l hp hb c3 (by omega) (ih1 (we + 1) _ _ (by omega) s1 ?_ n (by omega))
        intro h' a b e ll lh wy' wr' r ta tb o a1 a2 n' hn'
        obtain ⟨n', rfl⟩ : ∃ k, n' = k + 1 := ⟨n' - 1, by omega⟩
        obtain ⟨r', q1, q2, q3, q4, q5, q6⟩ := jt_SR_l s c3 r
        have z2 : 0 ∉ l1 := jt_T_m0 t1
        refine jt_101_l (p := p) (by omega) ((a1 we (by omega)).trans jt_up_s) hb ((a2 we (by omega)).trans pk_us) ?_
        have t2' : jt_T h' (h'.2.1 p) l2 := by
          rw [(o p q4).2.1]
          exact jt_T_off t2 o q3 z2
        refine jt_join rfl rfl rfl hp hb tb t2' q1 (by omega) ?_
        intro h3 r wy3 wr3 T3 o3 b1 b2
        refine kont h3 a r e ll _ wy3 wr3 r' (jt_T_off ta o3 q2 (jt_T_m0 T3)) T3 (jt_O_tr (jt_O_mo o ?_) (jt_O_mo o3 ?_)) ?_ ?_ n' (by omega)
        · intro i hi
          exact List.mem_append_left _ hi
        · intro i hi
          rw [List.mem_append, List.mem_cons] at hi ⊢
          exact hi.imp (q6 i) id
        · intro i hi
          rw [b1 i hi, a1 i (by omega), jt_up_n (by omega)]
        · intro i hi
          rw [b2 i hi, a2 i (by omega), pk_un (by omega)]
theorem jt_split {post : SX → Prop} {p0 x : Int32} {t : Nat} {l : List Nat} (e0 : p0 = nI t) (T : jt_T h t l) (s : jt_S K l) (hl : l.length ≤ 64)
    (H : ∀ h' a b e ll lh wy' wr', jt_SR K x l e ll lh → jt_T h' a ll → jt_T h' b lh → jt_O h h' l → post (jt_s fc 0 a b e h' K rt fr wy' wr' F)) :
    wpX_splitTree post (jt_s fc we lo hi ex h K rt fr wy wr F) p0 x := by
  subst e0
  refine ⟨l.length + 1, ?_⟩
  refine jt_d7 T 0 wy wr (by omega) s ?_ _ (by omega)
  intro h' a b e ll lh wy' wr' r ta tb o _ _ n hn
  obtain ⟨n, rfl⟩ : ∃ k, n = k + 1 := ⟨n - 1, by omega⟩
  by_cases c : e = 0
  · subst c
    exact jt_101_z (H h' a b 0 ll lh wy' wr' r ta tb o)
  · have nd := jt_S_nd s
    have hm : e ∈ l ∧ e ∉ ll ∧ e ∉ lh := by
      rcases r.1 with ⟨q, _⟩ | ⟨_, q, _⟩
      · exact absurd q c
      · rw [q] at nd ⊢
        grind
    have eb := (jt_T_mem T e hm.1).2
    have z1 : 0 ∉ [e] := fun q => c (List.mem_singleton.mp q).symm
    have o2 : jt_O h' (jt_up h'.1 e 0, jt_up h'.2.1 e 0, jt_up h'.2.2 e 1) [e] := fun i hi => ⟨jt_up_n (fun q => hi (q ▸ List.mem_cons_self)), jt_up_n (fun q => hi (q ▸ List.mem_cons_self)), jt_up_n (fun q => hi (q ▸ List.mem_cons_self))⟩
    refine jt_101_e c eb (H _ a b e ll lh wy' wr' r (jt_T_off ta o2 ?_ z1) (jt_T_off tb o2 ?_ z1) (jt_O_tr o (jt_O_mo o2 ?_)))
    · exact fun i hi q => hm.2.1 ((List.mem_singleton.mp q) ▸ hi)
    · exact fun i hi q => hm.2.2 ((List.mem_singleton.mp q) ▸ hi)
    · exact fun i hi => (List.mem_singleton.mp hi).symm ▸ hm.1
end
end
section
/-! nodes: newNode, release, releaseTree, twin, joinTwo -/
theorem jt_up_up {f : Nat → Nat} {k v w : Nat} : jt_up (jt_up f k v) k w = jt_up f k w := by
  funext j
  by_cases e : j = k
  · rw [e, jt_up_s, jt_up_s]
  · rw [jt_up_n e, jt_up_n e, jt_up_n e]
def jt_r11 (post : SX → Prop) (n : Nat) (u : SX) : Prop := wX_releaseTree_11 post n u.1 u.2.1 u.2.2.1 u.2.2.2.1 u.2.2.2.2.1 u.2.2.2.2.2.1 u.2.2.2.2.2.2.1 u.2.2.2.2.2.2.2.1 u.2.2.2.2.2.2.2.2.1 u.2.2.2.2.2.2.2.2.2.1 u.2.2.2.2.2.2.2.2.2.2.1 u.2.2.2.2.2.2.2.2.2.2.2.1 u.2.2.2.2.2.2.2.2.2.2.2.2.1 u.2.2.2.2.2.2.2.2.2.2.2.2.2.1 u.2.2.2.2.2.2.2.2.2.2.2.2.2.2.1 u.2.2.2.2.2.2.2.2.2.2.2.2.2.2.2.1 u.2.2.2.2.2.2.2.2.2.2.2.2.2.2.2.2.1 u.2.2.2.2.2.2.2.2.2.2.2.2.2.2.2.2.2
def jt_j8 (post : Int32 → SX → Prop) (x1 x2 : Int32) (n : Nat) (x3 : Int32) (u : SX) : Prop := wX_joinTwo_8 post x1 x2 u.1 u.2.1 u.2.2.1 u.2.2.2.1 u.2.2.2.2.1 u.2.2.2.2.2.1 u.2.2.2.2.2.2.1 u.2.2.2.2.2.2.2.1 u.2.2.2.2.2.2.2.2.1 u.2.2.2.2.2.2.2.2.2.1 u.2.2.2.2.2.2.2.2.2.2.1 u.2.2.2.2.2.2.2.2.2.2.2.1 u.2.2.2.2.2.2.2.2.2.2.2.2.1 u.2.2.2.2.2.2.2.2.2.2.2.2.2.1 u.2.2.2.2.2.2.2.2.2.2.2.2.2.2.1 u.2.2.2.2.2.2.2.2.2.2.2.2.2.2.2.1 u.2.2.2.2.2.2.2.2.2.2.2.2.2.2.2.2.1 u.2.2.2.2.2.2.2.2.2.2.2.2.2.2.2.2.2 n x3
section
variable {fc we lo hi ex : Nat} {h : jt_H} {K : Nat → Int32} {rt fr wy : Nat → Nat} {wr : Nat → Int32} {F : jt_F}
theorem jt_new {post : Int32 → SX → Prop} {p0 : Int32} {n : Nat} (hf : fc < 256) (en : fr fc = n) (hn : n < 256) (H : post (nI n) (jt_s fc we lo hi ex (jt_up h.1 n 0, jt_up h.2.1 n 0, jt_up h.2.2 n 1) (upd K n p0) rt fr wy wr F)) : wpX_newNode post (jt_s (fc + 1) we lo hi ex h K rt fr wy wr F) p0 := by
  refine nm_r (e' := nI fc) (nI_pred fc) (And.intro (jt_v256 hf) (nm_r (e' := nI n) (jt_rd (by omega) en) (And.intro (jt_v256 hn) (nm_r (e' := upd K n p0) ?_ (And.intro (jt_v256 hn) (nm_r (e' := fun i => nI (jt_up h.1 n 0 i)) (jt_wr0 (by omega)) (And.intro (jt_v256 hn) (nm_r (e' := fun i => nI (jt_up h.2.1 n 0 i)) (jt_wr0 (by omega)) (And.intro (jt_v256 hn) (nm_r (e' := fun i => nI (jt_up h.2.2 n 1 i)) (jt_wb1 (by omega)) H))))))))))
  rw [jt_cl (by omega)]
theorem jt_rel0 {post : SX → Prop} {p : Int32} (e : p = nI 0) (H : post (jt_s fc we lo hi ex h K rt fr wy wr F)) : wpX_release post (jt_s fc we lo hi ex h K rt fr wy wr F) p := by
  subst e
  exact br_t rfl H
theorem jt_rel {post : SX → Prop} {p : Int32} {n : Nat} (e : p = nI n) (hn : n ≠ 0) (hb : n < 256) (hf : fc < 256) (H : post (jt_s (fc + 1) we lo hi ex h K rt (jt_up fr fc n) wy wr F)) : wpX_release post (jt_s fc we lo hi ex h K rt fr wy wr F) p := by
  subst e
  exact br_f (nI_ne0 (by omega) (by omega)) (And.intro (jt_v256 hf) (nm_r (e' := fun i => nI (jt_up fr fc n i)) (jt_wr (by omega) (by omega)) (nm_r (e' := nI (fc + 1)) (nI_1 fc) H)))
theorem jt_relSR {post : SX → Prop} {p x : Int32} {e : Nat} {l ll lh rest : List Nat} (ep : p = nI e) (r : jt_SR K x l e ll lh) (P : jt_PI fc fr (l ++ rest))
    (H : ∀ fc' fr', jt_PI fc' fr' (ll ++ (lh ++ rest)) → post (jt_s fc' we lo hi ex h K rt fr' wy wr F)) : wpX_release post (jt_s fc we lo hi ex h K rt fr wy wr F) p := by
  rcases r.1 with ⟨rfl, rfl⟩ | ⟨e0, rfl, _⟩
  · refine jt_rel0 ep (H fc fr ?_)
    rw [← List.append_assoc]
    exact P
  · have m := jt_PI_mem P (a := e) (by simp)
    have ln := jt_PI_len P
    refine jt_rel ep e0 m.2 (by omega) (H _ _ (jt_PI_rel ?_))
    refine jt_PI_congr P ?_
    intro a
    simp only [List.count_append, List.count_cons]
    omega
theorem jt_r11_0 {post : SX → Prop} {n : Nat} (H : post (jt_s fc 0 lo hi ex h K rt fr wy wr F)) : jt_r11 post (n + 1) (jt_s fc 0 lo hi ex h K rt fr wy wr F) := br_t jt_00 H
theorem jt_r11_z {post : SX → Prop} {n : Nat} (hw : we < 64) (e : wy we = 0) (H : jt_r11 post n (jt_s fc we lo hi ex h K rt fr wy wr F)) : jt_r11 post (n + 1) (jt_s fc (we + 1) lo hi ex h K rt fr wy wr F) :=
  br_f (nI_nle (by omega) (by omega)) (nm_r (e' := nI we) (nI_pred we) (And.intro (jt_v64 hw) (nm_r (e' := nI 0) (jt_rd (by omega) e) (br_t rfl H))))
theorem jt_r11_n {post : SX → Prop} {n p : Nat} (hw : we + 1 < 64) (e : wy we = p) (hp : p ≠ 0) (hb : p < 256) (hf : fc < 256) (hL : h.1 p < 256) (hR : h.2.1 p < 256)
    (H : jt_r11 post n (jt_s (fc + 1) (we + 2) lo hi ex h K rt (jt_up fr fc p) (jt_up (jt_up wy we (h.1 p)) (we + 1) (h.2.1 p)) (upd (upd wr we 0) (we + 1) 0) F)) : jt_r11 post (n + 1) (jt_s fc (we + 1) lo hi ex h K rt fr wy wr F) := by
  refine br_f (nI_nle (by omega) (by omega)) (nm_r (e' := nI we) (nI_pred we) (And.intro (jt_v64 (by omega)) (nm_r (e' := nI p) (jt_rd (by omega) e) (br_f (nI_ne0 (by omega) (by omega)) ?_))))
  refine jt_rel rfl hp hb hf ?_
  refine And.intro (jt_v256 hb) ?_
  refine jt_push (n := h.1 p) (jt_rd (by omega) rfl) (by omega) (by omega) jt_bo0 ?_
  refine And.intro (jt_v256 hb) ?_
  refine jt_push (n := h.2.1 p) (jt_rd (by omega) rfl) (by omega) (by omega) jt_bo0 ?_
  exact H
theorem jt_dr {post : SX → Prop} {t : Nat} {l : List Nat} (T : jt_T h t l) :
    ∀ (fc we N0 : Nat) (fr wy : Nat → Nat) (wr : Nat → Int32) (rest : List Nat), we + l.length + 1 ≤ 64 → wy we = t → jt_PI fc fr (l ++ rest) →
    (∀ fc' fr' wy' wr', jt_PI fc' fr' rest → (∀ i, i < we → wy' i = wy i) → ∀ n, N0 ≤ n → jt_r11 post n (jt_s fc' we lo hi ex h K rt fr' wy' wr' F)) →
    ∀ n, N0 + 2 * l.length + 1 ≤ n → jt_r11 post n (jt_s fc (we + 1) lo hi ex h K rt fr wy wr F) := by
  refine jt_T_ind (P := fun t l => ∀ (fc we N0 : Nat) (fr wy : Nat → Nat) (wr : Nat → Int32) (rest : List Nat), we + l.length + 1 ≤ 64 → wy we = t → jt_PI fc fr (l ++ rest) →
    (∀ fc' fr' wy' wr', jt_PI fc' fr' rest → (∀ i, i < we → wy' i = wy i) → ∀ n, N0 ≤ n → jt_r11 post n (jt_s fc' we lo hi ex h K rt fr' wy' wr' F)) →
    ∀ n, N0 + 2 * l.length + 1 ≤ n → jt_r11 post n (jt_s fc (we + 1) lo hi ex h K rt fr wy wr F)) ?_ ?_ T
  · intro z fc we N0 fr wy wr rest hw e P kont n hn
    obtain ⟨n, rfl⟩ : ∃ k, n = k + 1 := ⟨n - 1, by omega⟩
    exact jt_r11_z (by omega) e (kont fc fr wy wr P (fun _ _ => rfl) n (by omega))
  · intro p l1 l2 hp hb t1 t2 c ih1 ih2 fc we N0 fr wy wr rest hw e P kont n hn
    have hlen : (l1 ++ p :: l2).length = l1.length + l2.length + 1 := by rw [List.length_append, List.length_cons]; omega
    obtain ⟨n, rfl⟩ : ∃ k, n = k + 1 := ⟨n - 1, by omega⟩
    have ln := jt_PI_len P
    rw [List.length_append] at ln
    have P1 : jt_PI (fc + 1) (jt_up fr fc p) (l2 ++ (l1 ++ rest)) := by
      refine jt_PI_rel (jt_PI_congr P ?_)
      intro a
      simp only [List.count_append, List.count_cons]
      omega
    refine jt_r11_n (by omega) e hp hb (by omega) (jt_T_lt t1) (jt_T_lt t2) ?_
    refine ih2 (fc + 1) (we + 1) (N0 + 2 * l1.length + 1) _ _ _ (l1 ++ rest) (by omega) jt_up_s P1 ?_ n (by omega)
    intro fc2 fr2 wy2 wr2 P2 a2 n2 hn2
    have e2 : wy2 we = h.1 p := by rw [a2 we (by omega), jt_up_n (by omega), jt_up_s]
    refine ih1 fc2 we N0 fr2 wy2 wr2 rest (by omega) e2 P2 ?_ n2 (by omega)
    intro fc3 fr3 wy3 wr3 P3 a3 n3 hn3
    refine kont fc3 fr3 wy3 wr3 P3 ?_ n3 hn3
    intro i hi
    rw [a3 i hi, a2 i (by omega), jt_up_n (by omega), jt_up_n (by omega)]
theorem jt_relTree {post : SX → Prop} {p0 : Int32} {t : Nat} {l rest : List Nat} (e0 : p0 = nI t) (T : jt_T h t l) (P : jt_PI fc fr (l ++ rest)) (hl : l.length < 64)
    (H : ∀ fc' fr' wy' wr', jt_PI fc' fr' rest → post (jt_s fc' 0 lo hi ex h K rt fr' wy' wr' F)) : wpX_releaseTree post (jt_s fc we lo hi ex h K rt fr wy wr F) p0 := by
  have tb := jt_T_lt T
  unfold wpX_releaseTree
  refine jt_push (we := 0) (n := t) e0 (by omega) (by omega) jt_bo0 ?_
  refine ⟨2 * l.length + 2, ?_⟩
  refine jt_dr T fc 0 1 fr _ _ rest (by omega) jt_up_s P ?_ _ (by omega)
  intro fc' fr' wy' wr' P' _ n hn
  obtain ⟨n, rfl⟩ : ∃ k, n = k + 1 := ⟨n - 1, by omega⟩
  exact jt_r11_0 (H fc' fr' wy' wr' P')
theorem jt_d8 {post : Int32 → SX → Prop} {p1 p2 : Int32} {x : Nat} {lx : List Nat} (T : jt_T h x lx) :
    x ≠ 0 → (∀ pre z, lx = pre ++ [z] → wpX_splitTree (fun u => wpX_join post u u.2.2.1 u.2.2.2.2.1 p2) (jt_s fc we lo hi ex h K rt fr wy wr F) p1 (K z)) →
    ∀ n, lx.length < n → jt_j8 post p1 p2 n (nI x) (jt_s fc we lo hi ex h K rt fr wy wr F) := by
  refine jt_T_ind (P := fun x lx => x ≠ 0 → (∀ pre z, lx = pre ++ [z] → wpX_splitTree (fun u => wpX_join post u u.2.2.1 u.2.2.2.2.1 p2) (jt_s fc we lo hi ex h K rt fr wy wr F) p1 (K z)) →
    ∀ n, lx.length < n → jt_j8 post p1 p2 n (nI x) (jt_s fc we lo hi ex h K rt fr wy wr F)) ?_ ?_ T
  · intro _ q
    exact absurd rfl q
  · intro x l1 l2 hx hb t1 t2 c _ ih2 _ H n hn
    have hlen : (l1 ++ x :: l2).length = l1.length + l2.length + 1 := by rw [List.length_append, List.length_cons]; omega
    obtain ⟨n, rfl⟩ : ∃ k, n = k + 1 := ⟨n - 1, by omega⟩
    have e : (fun i => nI (h.2.1 i)) (nI x).toNatClampNeg = nI (h.2.1 x) := jt_rd (by omega) rfl
    have b2 := jt_T_lt t2
    refine And.intro (jt_v256 hb) ?_
    by_cases c0 : h.2.1 x = 0
    · refine br_t (e.trans (congrArg nI c0)) (And.intro (jt_v256 hb) ?_)
      have H' := H l1 x (by rw [c0] at t2; rw [jt_T_nil t2])
      exact (congrArg (fun z => wpX_splitTree (fun u => wpX_join post u u.2.2.1 u.2.2.2.2.1 p2) (jt_s fc we lo hi ex h K rt fr wy wr F) p1 (K z)) (jt_cl (show x < 32768 by omega))).mpr H'
    · refine br_f (fun q => nI_ne0 (n := h.2.1 x) (by omega) (by omega) (e.symm.trans q)) (And.intro (jt_v256 hb) (nm_r (e' := nI (h.2.1 x)) e ?_))
      refine ih2 c0 ?_ n (by omega)
      intro pre z q
      exact H (l1 ++ x :: pre) z (by rw [q]; simp)
theorem jt_join2 {post : Int32 → SX → Prop} {p0 p1 : Int32} {a b : Nat} {la lb : List Nat} (e0 : p0 = nI a) (e1 : p1 = nI b) (ta : jt_T h a la) (tb : jt_T h b lb) (s : jt_S K (la ++ lb)) (hl : la.length + lb.length ≤ 64)
    (H : ∀ h' r we' lo' hi' ex' wy' wr', jt_T h' r (la ++ lb) → jt_O h h' (la ++ lb) → post (nI r) (jt_s fc we' lo' hi' ex' h' K rt fr wy' wr' F)) : wpX_joinTwo post (jt_s fc we lo hi ex h K rt fr wy wr F) p0 p1 := by
  subst e0 e1
  by_cases c : a = 0
  · subst c
    rw [jt_T_nil ta] at H
    exact br_t rfl (H h b we lo hi ex wy wr tb jt_O_rf)
  · have ba := jt_T_lt ta
    refine br_f (nI_ne0 (by omega) (by omega)) ⟨la.length + 1, ?_⟩
    refine jt_d8 ta c ?_ _ (by omega)
    intro pre z ez
    obtain ⟨s1, s2, s3⟩ := jt_S_app.mp s
    refine jt_split rfl ta s1 (by omega) ?_
    intro h' lw hg e ll lh wy' wr' r tl th o
    have zm : z ∈ la := by rw [ez]; exact List.mem_append_right _ (List.mem_singleton.mpr rfl)
    have top : ∀ i, i ∈ la → K i < K z ∨ i = z := by
      intro i hi
      rw [ez] at hi s1
      rcases List.mem_append.mp hi with q | q
      · exact Or.inl ((jt_S_app.mp s1).2.2 i q z (List.mem_singleton.mpr rfl))
      · exact Or.inr (List.mem_singleton.mp q)
    have nlt : ∀ i, i ∈ la → ¬ K z < K i := by
      intro i hi q
      rcases top i hi with w | w
      · exact Int32.lt_irrefl (Int32.lt_trans q w)
      · rw [w] at q
        exact Int32.lt_irrefl q
    have lh0 : lh = [] := by
      rcases lh with _ | ⟨i, lh⟩
      · rfl
      · refine absurd (r.2.2 i List.mem_cons_self) (nlt i ?_)
        rcases r.1 with ⟨_, q⟩ | ⟨_, q, _⟩ <;> rw [q] <;> simp
    subst lh0
    have e0 : e ≠ 0 ∧ la = ll ++ [e] := by
      rcases r.1 with ⟨_, q⟩ | ⟨q0, q, _⟩
      · rw [List.append_nil] at q
        exact absurd (r.2.1 z (q ▸ zm)) Int32.lt_irrefl
      · exact ⟨q0, q⟩
    obtain ⟨e0, el⟩ := e0
    have ea : la ++ lb = ll ++ e :: lb := by rw [el]; simp
    have nd := jt_S_nd s
    have em : e ∈ la := by rw [el]; exact List.mem_append_right _ (List.mem_singleton.mpr rfl)
    have dab : ∀ i, i ∈ lb → i ∉ la := by grind
    have tb' := jt_T_off tb o dab (jt_T_m0 ta)
    have ll' : ll.length ≤ la.length := by rw [el]; simp
    show wpX_join post (jt_s fc 0 lw hg e h' K rt fr wy' wr' F) (nI lw) (nI e) (nI b)
    refine jt_join rfl rfl rfl e0 (jt_T_mem ta e em).2 tl tb' (ea ▸ nd) (by omega) ?_
    intro h3 r3 wy3 wr3 T3 o3 _ _
    rw [← ea] at T3 o3
    exact H h3 r3 0 lw hg e wy3 wr3 T3 (jt_O_tr (jt_O_mo o (fun i hi => List.mem_append_left _ hi)) o3)
end
end
section
/-! twin, copyOf -/
def jt_c23 (post : Int32 → SX → Prop) (x2 : Int32) (n : Nat) (u : SX) : Prop := wX_copyOf_23 post x2 n u.1 u.2.1 u.2.2.1 u.2.2.2.1 u.2.2.2.2.1 u.2.2.2.2.2.1 u.2.2.2.2.2.2.1 u.2.2.2.2.2.2.2.1 u.2.2.2.2.2.2.2.2.1 u.2.2.2.2.2.2.2.2.2.1 u.2.2.2.2.2.2.2.2.2.2.1 u.2.2.2.2.2.2.2.2.2.2.2.1 u.2.2.2.2.2.2.2.2.2.2.2.2.1 u.2.2.2.2.2.2.2.2.2.2.2.2.2.1 u.2.2.2.2.2.2.2.2.2.2.2.2.2.2.1 u.2.2.2.2.2.2.2.2.2.2.2.2.2.2.2.1 u.2.2.2.2.2.2.2.2.2.2.2.2.2.2.2.2.1 u.2.2.2.2.2.2.2.2.2.2.2.2.2.2.2.2.2
def jt_c87 (post : Int32 → SX → Prop) (n : Nat) (x2 x3 : Int32) (u : SX) : Prop := wX_copyOf_87 post (wX_copyOf_23 post x2 n) x2 x3 u.1 u.2.1 u.2.2.1 u.2.2.2.1 u.2.2.2.2.1 u.2.2.2.2.2.1 u.2.2.2.2.2.2.1 u.2.2.2.2.2.2.2.1 u.2.2.2.2.2.2.2.2.1 u.2.2.2.2.2.2.2.2.2.1 u.2.2.2.2.2.2.2.2.2.2.1 u.2.2.2.2.2.2.2.2.2.2.2.1 u.2.2.2.2.2.2.2.2.2.2.2.2.1 u.2.2.2.2.2.2.2.2.2.2.2.2.2.1 u.2.2.2.2.2.2.2.2.2.2.2.2.2.2.1 u.2.2.2.2.2.2.2.2.2.2.2.2.2.2.2.1 u.2.2.2.2.2.2.2.2.2.2.2.2.2.2.2.2.1 u.2.2.2.2.2.2.2.2.2.2.2.2.2.2.2.2.2
section
variable {fc we lo hi ex : Nat} {h : jt_H} {K : Nat → Int32} {rt fr wy : Nat → Nat} {wr : Nat → Int32} {F : jt_F}
theorem jt_twin {post : Int32 → SX → Prop} {p0 : Int32} {o n : Nat} (e0 : p0 = nI o) (ho : o < 256) (hf : fc < 256) (en : fr fc = n) (hn : n < 256) (hne : o ≠ n) (hL : h.1 o < 256) (hR : h.2.1 o < 256) (hC : h.2.2 o < 128)
    (H : post (nI n) (jt_s fc we lo hi ex (jt_up h.1 n (h.1 o), jt_up h.2.1 n (h.2.1 o), jt_up h.2.2 n (h.2.2 o)) (upd K n (K o)) rt fr wy wr F)) : wpX_twin post (jt_s (fc + 1) we lo hi ex h K rt fr wy wr F) p0 := by
  subst e0
  refine And.intro (jt_v256 ho) ?_
  refine jt_new hf en hn ?_
  refine And.intro (jt_v256 ho) (And.intro (jt_v256 hn) (nm_r (e' := fun i => nI (jt_up h.1 n (h.1 o) i)) ?_ (And.intro (jt_v256 ho) (And.intro (jt_v256 hn) (nm_r (e' := fun i => nI (jt_up h.2.1 n (h.2.1 o) i)) ?_ (And.intro (jt_v256 ho) (And.intro (jt_v256 hn) (nm_r (e' := fun i => nI (jt_up h.2.2 n (h.2.2 o) i)) ?_ ?_))))))))
  · exact (jt_wr3 (g := jt_up h.1 n 0) (by omega) (by omega) (jt_up_n hne) (by omega)).trans (by rw [jt_up_up])
  · exact (jt_wr3 (g := jt_up h.2.1 n 0) (by omega) (by omega) (jt_up_n hne) (by omega)).trans (by rw [jt_up_up])
  · exact (jt_wb3 (g := jt_up h.2.2 n 1) (by omega) (by omega) (jt_up_n hne) (by omega)).trans (by rw [jt_up_up])
  · exact (congrArg (fun z => post (nI n) (jt_s fc we lo hi ex (jt_up h.1 n (h.1 o), jt_up h.2.1 n (h.2.1 o), jt_up h.2.2 n (h.2.2 o)) (upd K n (K z)) rt fr wy wr F)) (jt_cl (show o < 32768 by omega))).mpr H
theorem jt_c87_z {post : Int32 → SX → Prop} {n c : Nat} {x2 : Int32} (hb : c < 256) (e : h.2.1 c = 0) (H : jt_c23 post x2 n (jt_s fc we lo hi ex h K rt fr wy wr F)) : jt_c87 post n x2 (nI c) (jt_s fc we lo hi ex h K rt fr wy wr F) :=
  And.intro (jt_v256 hb) (br_t (jt_rd (v := 0) (by omega) e) H)
theorem jt_c87_n {post : Int32 → SX → Prop} {n c o m : Nat} {x2 : Int32} (hb : c < 256) (e : h.2.1 c = o) (ho : o ≠ 0) (hob : o < 256) (hf : fc < 256) (en : fr fc = m) (hm : m < 256) (hne : o ≠ m) (hL : h.1 o < 256) (hR : h.2.1 o < 256) (hC : h.2.2 o < 128) (hw : we < 64)
    (H : jt_c23 post x2 n (jt_s fc (we + 1) lo hi ex (jt_up h.1 m (h.1 o), jt_up (jt_up h.2.1 m (h.2.1 o)) c m, jt_up h.2.2 m (h.2.2 o)) (upd K m (K o)) rt fr (jt_up wy we m) (upd wr we 0) F)) : jt_c87 post n x2 (nI c) (jt_s (fc + 1) we lo hi ex h K rt fr wy wr F) := by
  have q : (fun i => nI (h.2.1 i)) (nI c).toNatClampNeg = nI o := jt_rd (by omega) e
  refine And.intro (jt_v256 hb) (br_f (fun z => nI_ne0 (n := o) (by omega) (by omega) (q.symm.trans z)) (And.intro (jt_v256 hb) ?_))
  refine jt_twin (o := o) (n := m) q hob hf en hm hne hL hR hC ?_
  refine And.intro (jt_v256 hb) (nm_r (e' := fun i => nI (jt_up (jt_up h.2.1 m (h.2.1 o)) c m i)) (jt_wr (by omega) (by omega)) (And.intro (jt_v256 hb) ?_))
  have q2 : (fun i => nI (jt_up (jt_up h.2.1 m (h.2.1 o)) c m i)) (nI c).toNatClampNeg = nI m := jt_rd (by omega) jt_up_s
  exact jt_push (h := (jt_up h.1 m (h.1 o), jt_up (jt_up h.2.1 m (h.2.1 o)) c m, jt_up h.2.2 m (h.2.2 o))) q2 hw (by omega) jt_bo0 H
theorem jt_c23_0 {post : Int32 → SX → Prop} {n : Nat} {x2 : Int32} (H : post x2 (jt_s fc 0 lo hi ex h K rt fr wy wr F)) : jt_c23 post x2 (n + 1) (jt_s fc 0 lo hi ex h K rt fr wy wr F) := br_t jt_00 H
theorem jt_c23_z {post : Int32 → SX → Prop} {n c : Nat} {x2 : Int32} (hw : we < 64) (ec : wy we = c) (hb : c < 256) (e : h.1 c = 0) (H : jt_c87 post n x2 (nI c) (jt_s fc we lo hi ex h K rt fr wy wr F)) : jt_c23 post x2 (n + 1) (jt_s fc (we + 1) lo hi ex h K rt fr wy wr F) :=
  br_f (nI_nle (by omega) (by omega)) (nm_r (e' := nI we) (nI_pred we) (And.intro (jt_v64 hw) (nm_r (e' := nI c) (jt_rd (by omega) ec) (And.intro (jt_v256 hb) (br_t (jt_rd (v := 0) (by omega) e) H)))))
theorem jt_c23_n {post : Int32 → SX → Prop} {n c o m : Nat} {x2 : Int32} (hw : we < 64) (ec : wy we = c) (hb : c < 256) (e : h.1 c = o) (ho : o ≠ 0) (hob : o < 256) (hf : fc < 256) (en : fr fc = m) (hm : m < 256) (hne : o ≠ m) (hL : h.1 o < 256) (hR : h.2.1 o < 256) (hC : h.2.2 o < 128)
    (H : jt_c87 post n x2 (nI c) (jt_s fc (we + 1) lo hi ex (jt_up (jt_up h.1 m (h.1 o)) c m, jt_up h.2.1 m (h.2.1 o), jt_up h.2.2 m (h.2.2 o)) (upd K m (K o)) rt fr (jt_up wy we m) (upd wr we 0) F)) : jt_c23 post x2 (n + 1) (jt_s (fc + 1) (we + 1) lo hi ex h K rt fr wy wr F) := by
  have q : (fun i => nI (h.1 i)) (nI c).toNatClampNeg = nI o := jt_rd (by omega) e
  refine br_f (nI_nle (by omega) (by omega)) (nm_r (e' := nI we) (nI_pred we) (And.intro (jt_v64 hw) (nm_r (e' := nI c) (jt_rd (by omega) ec) (And.intro (jt_v256 hb) (br_f (fun z => nI_ne0 (n := o) (by omega) (by omega) (q.symm.trans z)) (And.intro (jt_v256 hb) ?_))))))
  refine jt_twin (o := o) (n := m) q hob hf en hm hne hL hR hC ?_
  refine And.intro (jt_v256 hb) (nm_r (e' := fun i => nI (jt_up (jt_up h.1 m (h.1 o)) c m i)) (jt_wr (by omega) (by omega)) (And.intro (jt_v256 hb) ?_))
  have q2 : (fun i => nI (jt_up (jt_up h.1 m (h.1 o)) c m i)) (nI c).toNatClampNeg = nI m := jt_rd (by omega) jt_up_s
  exact jt_push (h := (jt_up (jt_up h.1 m (h.1 o)) c m, jt_up h.2.1 m (h.2.1 o), jt_up h.2.2 m (h.2.2 o))) q2 hw (by omega) jt_bo0 H
end
/-- heaps agree at a node -/
def jt_G (h h' : jt_H) (i : Nat) : Prop := h'.1 i = h.1 i ∧ h'.2.1 i = h.2.1 i ∧ h'.2.2 i = h.2.2 i
theorem jt_G_tr {h h1 h2 : jt_H} {i : Nat} (a : jt_G h h1 i) (b : jt_G h1 h2 i) : jt_G h h2 i := ⟨b.1.trans a.1, b.2.1.trans a.2.1, b.2.2.trans a.2.2⟩
/-- a pending copy c on top of the way: its sides are still the original's trees; when it is popped and worked off, they are copies -/
def jt_CP (post : Int32 → SX → Prop) (x2 : Int32) (lo hi ex : Nat) (rt : Nat → Nat) (F : jt_F) (N : Nat) : Prop :=
  ∀ (h : jt_H) (K : Nat → Int32) (fc we N0 c : Nat) (fr wy : Nat → Nat) (wr : Nat → Int32) (la lb own : List Nat),
  la.length + lb.length < N → c ≠ 0 → c < 256 → wy we = c → jt_T h (h.1 c) la → jt_T h (h.2.1 c) lb → jt_PI fc fr own → (∀ i, i ∈ la → i ∈ own ∧ i ≠ c) → (∀ i, i ∈ lb → i ∈ own ∧ i ≠ c) → c ∈ own →
  la.length + lb.length ≤ fc → we + la.length + lb.length + 1 ≤ 64 →
  (∀ h' K' fc' fr' wy' wr' la' lb', jt_T h' (h'.1 c) la' → jt_T h' (h'.2.1 c) lb' → la'.map K' = la.map K → lb'.map K' = lb.map K → jt_PI fc' fr' (la' ++ lb' ++ own) → (∀ i, i ∈ own → i ≠ c → jt_G h h' i) → h'.2.2 c = h.2.2 c → (∀ i, i ∈ own → K' i = K i) → (∀ i, i < we → wy' i = wy i) →
    ∀ n, N0 ≤ n → jt_c23 post x2 n (jt_s fc' we lo hi ex h' K' rt fr' wy' wr' F)) →
  ∀ n, N0 + la.length + lb.length + 1 ≤ n → jt_c23 post x2 n (jt_s fc (we + 1) lo hi ex h K rt fr wy wr F)
theorem jt_map_len {K K' : Nat → Int32} {a b : List Nat} (e : a.map K' = b.map K) : a.length = b.length := by
  have := congrArg List.length e
  rw [List.length_map, List.length_map] at this
  exact this
/-- the right side of a copy that has been popped -/
theorem jt_cR {post : Int32 → SX → Prop} {x2 : Int32} {lo hi ex : Nat} {rt : Nat → Nat} {F : jt_F} {N : Nat} (IH : jt_CP post x2 lo hi ex rt F N)
    {h : jt_H} {K : Nat → Int32} {fc we N0 c : Nat} {fr wy : Nat → Nat} {wr : Nat → Int32} {lb own : List Nat}
    (hN : lb.length ≤ N) (hc : c ≠ 0) (hb : c < 256) (tb : jt_T h (h.2.1 c) lb) (P : jt_PI fc fr own) (sb : ∀ i, i ∈ lb → i ∈ own ∧ i ≠ c) (co : c ∈ own) (hf : lb.length ≤ fc) (hw : we + lb.length ≤ 64)
    (kont : ∀ h' K' fc' fr' wy' wr' lb', jt_T h' (h'.2.1 c) lb' → lb'.map K' = lb.map K → jt_PI fc' fr' (lb' ++ own) → (∀ i, i ∈ own → i ≠ c → jt_G h h' i) → h'.1 c = h.1 c → h'.2.2 c = h.2.2 c → (∀ i, i ∈ own → K' i = K i) → (∀ i, i < we → wy' i = wy i) →
      ∀ n, N0 ≤ n → jt_c23 post x2 n (jt_s fc' we lo hi ex h' K' rt fr' wy' wr' F)) :
    ∀ n, N0 + lb.length ≤ n → jt_c87 post n x2 (nI c) (jt_s fc we lo hi ex h K rt fr wy wr F) := by
  intro n hn
  obtain ⟨o, eo⟩ : ∃ o, h.2.1 c = o := ⟨_, rfl⟩
  by_cases c0 : o = 0
  · subst c0
    have tb0 := tb
    rw [eo] at tb0
    have lb0 := jt_T_nil tb0
    subst lb0
    exact jt_c87_z hb eo (kont h K fc fr wy wr [] tb rfl P (fun _ _ _ => ⟨rfl, rfl, rfl⟩) rfl rfl (fun _ _ => rfl) (fun _ _ => rfl) n hn)
  · have tb0 := tb
    rw [eo] at tb0
    obtain ⟨b1, b2, rfl, t1, t2, cc⟩ := jt_T_ne tb0 c0
    have hlen : (b1 ++ o :: b2).length = b1.length + b2.length + 1 := by rw [List.length_append, List.length_cons]; omega
    obtain ⟨fc, rfl⟩ : ∃ k, fc = k + 1 := ⟨fc - 1, by omega⟩
    have ln := jt_PI_len P
    obtain ⟨m, em⟩ : ∃ m, fr fc = m := ⟨_, rfl⟩
    have P1 := jt_PI_new P
    rw [em] at P1
    have mo : m ∉ own := by
      have := jt_PI_nd P1
      exact (List.nodup_cons.mp this).1
    have mb := jt_PI_mem P1 (List.mem_cons_self (a := m))
    have m0 : m ≠ 0 := by omega
    have oo := (sb o (by simp)).1
    have ob := jt_T_lt tb0
    have om : o ≠ m := fun q => mo (q ▸ oo)
    have cm : c ≠ m := fun q => mo (q ▸ co)
    have s1 : ∀ i, i ∈ b1 → i ∈ own ∧ i ≠ c := fun i hi => sb i (by simp [hi])
    have s2 : ∀ i, i ∈ b2 → i ∈ own ∧ i ≠ c := fun i hi => sb i (by simp [hi])
    refine jt_c87_n hb eo c0 ob (by omega) em mb.2 om (jt_T_lt t1) (jt_T_lt t2) (by omega) (by omega) ?_
    have g1 : ∀ i, i ∈ own → i ≠ c → jt_G h (jt_up h.1 m (h.1 o), jt_up (jt_up h.2.1 m (h.2.1 o)) c m, jt_up h.2.2 m (h.2.2 o)) i := by
      intro i hi hic
      have im : i ≠ m := fun q => mo (q ▸ hi)
      exact ⟨jt_up_n im, (jt_up_n hic).trans (jt_up_n im), jt_up_n im⟩
    have z1 : jt_up h.2.2 m (h.2.2 o) 0 = 0 := (jt_up_n (Ne.symm m0)).trans (jt_T_z tb0)
    have k1 : ∀ i, i ∈ own → upd K m (K o) i = K i := fun i hi => pk_un (fun q => mo (q ▸ hi))
    refine IH _ _ fc we N0 m fr _ _ b1 b2 (m :: own) (by omega) m0 mb.2 jt_up_s ?_ ?_ P1 ?_ ?_ List.mem_cons_self (by omega) (by omega) ?_ n (by omega)
    · show jt_T _ (jt_up h.1 m (h.1 o) m) b1
      rw [jt_up_s]
      exact jt_T_fr t1 z1 (fun i hi => g1 i (s1 i hi).1 (s1 i hi).2)
    · show jt_T _ (jt_up (jt_up h.2.1 m (h.2.1 o)) c m m) b2
      rw [jt_up_n (Ne.symm cm), jt_up_s]
      exact jt_T_fr t2 z1 (fun i hi => g1 i (s2 i hi).1 (s2 i hi).2)
    · exact fun i hi => ⟨List.mem_cons_of_mem _ (s1 i hi).1, fun q => mo (q ▸ (s1 i hi).1)⟩
    · exact fun i hi => ⟨List.mem_cons_of_mem _ (s2 i hi).1, fun q => mo (q ▸ (s2 i hi).1)⟩
    intro h' K' fc' fr' wy' wr' la' lb' ta' tb' ka kb P' g' c' k' w' n' hn'
    have gc := g' c (List.mem_cons_of_mem _ co) cm
    have e1 : h'.2.1 c = m := gc.2.1.trans jt_up_s
    have hla := jt_map_len ka
    have hlb := jt_map_len kb
    refine kont h' K' fc' fr' wy' wr' (la' ++ m :: lb') ?_ ?_ ?_ ?_ ?_ ?_ ?_ ?_ n' hn'
    · rw [e1]
      refine jt_Tn m0 mb.2 ta' tb' ?_
      rw [c']
      show jt_up h.2.2 m (h.2.2 o) m = _
      rw [jt_up_s, cc, hla, hlb]
    · rw [List.map_append, List.map_append, List.map_cons, List.map_cons, ka, kb, k' m List.mem_cons_self, pk_us]
      rw [List.map_congr_left (fun i hi => k1 i (s1 i hi).1), List.map_congr_left (fun i hi => k1 i (s2 i hi).1)]
    · refine jt_PI_congr P' ?_
      intro a
      simp only [List.count_append, List.count_cons]
      omega
    · exact fun i hi hic => jt_G_tr (g1 i hi hic) (g' i (List.mem_cons_of_mem _ hi) (fun q => mo (q ▸ hi)))
    · exact gc.1.trans (jt_up_n cm)
    · exact gc.2.2.trans (jt_up_n cm)
    · exact fun i hi => (k' i (List.mem_cons_of_mem _ hi)).trans (k1 i hi)
    · exact fun i hi => (w' i hi).trans (by rw [jt_up_n (by omega)])
/-- a pending copy worked off -/
theorem jt_dc {post : Int32 → SX → Prop} {x2 : Int32} {lo hi ex : Nat} {rt : Nat → Nat} {F : jt_F} : ∀ N, jt_CP post x2 lo hi ex rt F N := by
  intro N
  induction N with
  | zero => intro h K fc we N0 c fr wy wr la lb own hN; omega
  | succ N IH =>
    intro h K fc we N0 c fr wy wr la lb own hN hc hb ec ta tb P sa sb co hf hw kont n hn
    obtain ⟨n, rfl⟩ : ∃ k, n = k + 1 := ⟨n - 1, by omega⟩
    obtain ⟨o, eo⟩ : ∃ o, h.1 c = o := ⟨_, rfl⟩
    by_cases c0 : o = 0
    · subst c0
      have ta0 := ta
      rw [eo] at ta0
      have la0 := jt_T_nil ta0
      subst la0
      refine jt_c23_z (by omega) ec hb eo ?_
      refine jt_cR IH (by simp at hN; omega) hc hb tb P sb co (by omega) (by omega) ?_ n (by simp at hn; omega)
      intro h' K' fc' fr' wy' wr' lb' tb' kb P' g' e1 e2 k' w' n' hn'
      refine kont h' K' fc' fr' wy' wr' [] lb' ?_ tb' rfl kb P' g' e2 k' w' n' hn'
      rw [e1, eo]
      exact jt_T0 (jt_T_z tb')
    · have ta0 := ta
      rw [eo] at ta0
      obtain ⟨a1, a2, rfl, t1, t2, cc⟩ := jt_T_ne ta0 c0
      have hlen : (a1 ++ o :: a2).length = a1.length + a2.length + 1 := by rw [List.length_append, List.length_cons]; omega
      obtain ⟨fc, rfl⟩ : ∃ k, fc = k + 1 := ⟨fc - 1, by omega⟩
      have ln := jt_PI_len P
      obtain ⟨m, em⟩ : ∃ m, fr fc = m := ⟨_, rfl⟩
      have P1 := jt_PI_new P
      rw [em] at P1
      have mo : m ∉ own := (List.nodup_cons.mp (jt_PI_nd P1)).1
      have mb := jt_PI_mem P1 (List.mem_cons_self (a := m))
      have m0 : m ≠ 0 := by omega
      have oo := (sa o (by simp)).1
      have ob := jt_T_lt ta0
      have om : o ≠ m := fun q => mo (q ▸ oo)
      have cm : c ≠ m := fun q => mo (q ▸ co)
      have s1 : ∀ i, i ∈ a1 → i ∈ own ∧ i ≠ c := fun i hi => sa i (by simp [hi])
      have s2 : ∀ i, i ∈ a2 → i ∈ own ∧ i ≠ c := fun i hi => sa i (by simp [hi])
      refine jt_c23_n (by omega) ec hb eo c0 ob (by omega) em mb.2 om (jt_T_lt t1) (jt_T_lt t2) (by omega) ?_
      have g1 : ∀ i, i ∈ own → i ≠ c → jt_G h (jt_up (jt_up h.1 m (h.1 o)) c m, jt_up h.2.1 m (h.2.1 o), jt_up h.2.2 m (h.2.2 o)) i := by
        intro i hi hic
        have im : i ≠ m := fun q => mo (q ▸ hi)
        exact ⟨(jt_up_n hic).trans (jt_up_n im), jt_up_n im, jt_up_n im⟩
      have z1 : jt_up h.2.2 m (h.2.2 o) 0 = 0 := (jt_up_n (Ne.symm m0)).trans (jt_T_z ta0)
      have k1 : ∀ i, i ∈ own → upd K m (K o) i = K i := fun i hi => pk_un (fun q => mo (q ▸ hi))
      refine jt_cR IH (N0 := N0 + a1.length + a2.length + 1) (own := m :: own) (lb := lb) (by omega) hc hb ?_ P1 ?_ (List.mem_cons_of_mem _ co) (by omega) (by omega) ?_ n (by omega)
      · show jt_T _ (jt_up h.2.1 m (h.2.1 o) c) lb
        rw [jt_up_n cm]
        exact jt_T_fr tb z1 (fun i hi => g1 i (sb i hi).1 (sb i hi).2)
      · exact fun i hi => ⟨List.mem_cons_of_mem _ (sb i hi).1, (sb i hi).2⟩
      intro h2 K2 fc2 fr2 wy2 wr2 lb' tb' kb P2 g2 e1 e2 k2 w2 n2 hn2
      have gm := g2 m List.mem_cons_self (Ne.symm cm)
      have em1 : h2.1 m = h.1 o := gm.1.trans ((jt_up_n (Ne.symm cm)).trans jt_up_s)
      have em2 : h2.2.1 m = h.2.1 o := gm.2.1.trans jt_up_s
      have em3 : h2.2.2 m = h.2.2 o := gm.2.2.trans jt_up_s
      have gg : ∀ i, i ∈ own → i ≠ c → jt_G h h2 i := fun i hi hic => jt_G_tr (g1 i hi hic) (g2 i (List.mem_cons_of_mem _ hi) hic)
      have kk : ∀ i, i ∈ own → K2 i = K i := fun i hi => (k2 i (List.mem_cons_of_mem _ hi)).trans (k1 i hi)
      have z2 := jt_T_z tb'
      have ln2 := jt_PI_len P2
      have hlb := jt_map_len kb
      rw [List.length_append, List.length_cons] at ln2
      refine IH h2 K2 fc2 we N0 m fr2 wy2 wr2 a1 a2 (lb' ++ m :: own) (by omega) m0 mb.2 ((w2 we (by omega)).trans jt_up_s) ?_ ?_ P2 ?_ ?_ (by simp) (by omega) (by omega) ?_ n2 (by omega)
      · rw [em1]
        exact jt_T_fr t1 z2 (fun i hi => gg i (s1 i hi).1 (s1 i hi).2)
      · rw [em2]
        exact jt_T_fr t2 z2 (fun i hi => gg i (s2 i hi).1 (s2 i hi).2)
      · exact fun i hi => ⟨List.mem_append_right _ (List.mem_cons_of_mem _ (s1 i hi).1), fun q => mo (q ▸ (s1 i hi).1)⟩
      · exact fun i hi => ⟨List.mem_append_right _ (List.mem_cons_of_mem _ (s2 i hi).1), fun q => mo (q ▸ (s2 i hi).1)⟩
      intro h3 K3 fc3 fr3 wy3 wr3 a1' a2' ta1 ta2 ka1 ka2 P3 g3 c3 k3 w3 n3 hn3
      have nd2 := jt_PI_nd P2
      have mlb : ∀ i, i ∈ lb' → i ≠ m := by
        intro i hi q
        exact (jt_nd_app.mp nd2).2.2 i hi (q ▸ List.mem_cons_self)
      have own2 : ∀ i, i ∈ own → i ∈ lb' ++ m :: own := fun i hi => List.mem_append_right _ (List.mem_cons_of_mem _ hi)
      have gc := g3 c (own2 c co) cm
      have ec1 : h3.1 c = m := gc.1.trans (e1.trans jt_up_s)
      have hla1 := jt_map_len ka1
      have hla2 := jt_map_len ka2
      refine kont h3 K3 fc3 fr3 wy3 wr3 (a1' ++ m :: a2') lb' ?_ ?_ ?_ ?_ ?_ ?_ ?_ ?_ ?_ n3 hn3
      · rw [ec1]
        refine jt_Tn m0 mb.2 ta1 ta2 ?_
        rw [c3, em3, cc, hla1, hla2]
      · rw [gc.2.1]
        exact jt_T_fr tb' (jt_T_z ta1) (fun i hi => g3 i (List.mem_append_left _ hi) (mlb i hi))
      · rw [List.map_append, List.map_append, List.map_cons, List.map_cons, ka1, ka2, k3 m (by simp), k2 m List.mem_cons_self, pk_us]
        rw [List.map_congr_left (fun i hi => kk i (s1 i hi).1), List.map_congr_left (fun i hi => kk i (s2 i hi).1)]
      · rw [List.map_congr_left (fun i hi => k3 i (List.mem_append_left _ hi)), kb]
        exact List.map_congr_left (fun i hi => k1 i (sb i hi).1)
      · refine jt_PI_congr P3 ?_
        intro a
        simp only [List.count_append, List.count_cons]
        omega
      · exact fun i hi hic => jt_G_tr (gg i hi hic) (g3 i (own2 i hi) (fun q => mo (q ▸ hi)))
      · exact gc.2.2.trans (e2.trans (jt_up_n cm))
      · exact fun i hi => (k3 i (own2 i hi)).trans (kk i hi)
      · exact fun i hi => (w3 i hi).trans ((w2 i (by omega)).trans (by rw [jt_up_n (by omega)]))
section
variable {fc we lo hi ex : Nat} {h : jt_H} {K : Nat → Int32} {rt fr wy : Nat → Nat} {wr : Nat → Int32} {F : jt_F}
theorem jt_copy {post : Int32 → SX → Prop} {p0 : Int32} {t : Nat} {l own : List Nat} (e0 : p0 = nI t) (T : jt_T h t l) (P : jt_PI fc fr own) (sub : ∀ i, i ∈ l → i ∈ own) (hf : l.length ≤ fc) (hl : l.length < 64)
    (H : ∀ h' K' fc' fr' we' wy' wr' r l', jt_T h' r l' → l'.map K' = l.map K → jt_PI fc' fr' (l' ++ own) → (∀ i, i ∈ own → jt_G h h' i) → (∀ i, i ∈ own → K' i = K i) → post (nI r) (jt_s fc' we' lo hi ex h' K' rt fr' wy' wr' F)) :
    wpX_copyOf post (jt_s fc we lo hi ex h K rt fr wy wr F) p0 := by
  subst e0
  by_cases c0 : t = 0
  · subst c0
    have l0 := jt_T_nil T
    subst l0
    exact br_t rfl (H h K fc fr we wy wr 0 [] T rfl P (fun _ _ => ⟨rfl, rfl, rfl⟩) (fun _ _ => rfl))
  · obtain ⟨a1, a2, rfl, t1, t2, cc⟩ := jt_T_ne T c0
    have hlen : (a1 ++ t :: a2).length = a1.length + a2.length + 1 := by rw [List.length_append, List.length_cons]; omega
    have tb := jt_T_lt T
    obtain ⟨fc, rfl⟩ : ∃ k, fc = k + 1 := ⟨fc - 1, by omega⟩
    have ln := jt_PI_len P
    obtain ⟨m, em⟩ : ∃ m, fr fc = m := ⟨_, rfl⟩
    have P1 := jt_PI_new P
    rw [em] at P1
    have mo : m ∉ own := (List.nodup_cons.mp (jt_PI_nd P1)).1
    have mb := jt_PI_mem P1 (List.mem_cons_self (a := m))
    have m0 : m ≠ 0 := by omega
    have oo := sub t (by simp)
    have om : t ≠ m := fun q => mo (q ▸ oo)
    have s1 : ∀ i, i ∈ a1 → i ∈ own := fun i hi => sub i (by simp [hi])
    have s2 : ∀ i, i ∈ a2 → i ∈ own := fun i hi => sub i (by simp [hi])
    have g1 : ∀ i, i ∈ own → jt_G h (jt_up h.1 m (h.1 t), jt_up h.2.1 m (h.2.1 t), jt_up h.2.2 m (h.2.2 t)) i := by
      intro i hi
      have im : i ≠ m := fun q => mo (q ▸ hi)
      exact ⟨jt_up_n im, jt_up_n im, jt_up_n im⟩
    have z1 : jt_up h.2.2 m (h.2.2 t) 0 = 0 := (jt_up_n (Ne.symm m0)).trans (jt_T_z T)
    have k1 : ∀ i, i ∈ own → upd K m (K t) i = K i := fun i hi => pk_un (fun q => mo (q ▸ hi))
    refine br_f (nI_ne0 (by omega) (by omega)) ?_
    refine jt_twin (o := t) (n := m) rfl tb (by omega) em mb.2 om (jt_T_lt t1) (jt_T_lt t2) (by omega) ?_
    refine jt_push (we := 0) (h := (jt_up h.1 m (h.1 t), jt_up h.2.1 m (h.2.1 t), jt_up h.2.2 m (h.2.2 t))) (n := m) rfl (by omega) (by omega) jt_bo0 ?_
    refine ⟨a1.length + a2.length + 2, ?_⟩
    refine jt_dc (a1.length + a2.length + 1) (jt_up h.1 m (h.1 t), jt_up h.2.1 m (h.2.1 t), jt_up h.2.2 m (h.2.2 t)) (upd K m (K t)) fc 0 1 m fr (jt_up wy 0 m) (upd wr 0 0) a1 a2 (m :: own) (by omega) m0 mb.2 jt_up_s ?_ ?_ P1 ?_ ?_ List.mem_cons_self (by omega) (by omega) ?_ _ (by omega)
    · show jt_T _ (jt_up h.1 m (h.1 t) m) a1
      rw [jt_up_s]
      exact jt_T_fr t1 z1 (fun i hi => g1 i (s1 i hi))
    · show jt_T _ (jt_up h.2.1 m (h.2.1 t) m) a2
      rw [jt_up_s]
      exact jt_T_fr t2 z1 (fun i hi => g1 i (s2 i hi))
    · exact fun i hi => ⟨List.mem_cons_of_mem _ (s1 i hi), fun q => mo (q ▸ (s1 i hi))⟩
    · exact fun i hi => ⟨List.mem_cons_of_mem _ (s2 i hi), fun q => mo (q ▸ (s2 i hi))⟩
    intro h' K' fc' fr' wy' wr' la' lb' ta' tb' ka kb P' g' c' k' w' n' hn'
    obtain ⟨n', rfl⟩ : ∃ k, n' = k + 1 := ⟨n' - 1, by omega⟩
    have hla := jt_map_len ka
    have hlb := jt_map_len kb
    refine jt_c23_0 (H h' K' fc' fr' 0 wy' wr' m (la' ++ m :: lb') ?_ ?_ ?_ ?_ ?_)
    · refine jt_Tn m0 mb.2 ta' tb' ?_
      rw [c']
      show jt_up h.2.2 m (h.2.2 t) m = _
      rw [jt_up_s, cc, hla, hlb]
    · rw [List.map_append, List.map_append, List.map_cons, List.map_cons, ka, kb, k' m List.mem_cons_self, pk_us]
      rw [List.map_congr_left (fun i hi => k1 i (s1 i hi)), List.map_congr_left (fun i hi => k1 i (s2 i hi))]
    · refine jt_PI_congr P' ?_
      intro a
      simp only [List.count_append, List.count_cons]
      omega
    · exact fun i hi => jt_G_tr (g1 i hi) (g' i (List.mem_cons_of_mem _ hi) (fun q => mo (q ▸ hi)))
    · exact fun i hi => (k' i (List.mem_cons_of_mem _ hi)).trans (k1 i hi)
end
end
section
/-! withNothing, finished, the steps of combined -/
def jt_bel (how : Nat) (A B : Prop) : Prop := (how = 0 ∧ (A ∨ B)) ∨ (how = 1 ∧ A ∧ B) ∨ (how = 2 ∧ A ∧ ¬ B) ∨ (how = 3 ∧ ((A ∧ ¬ B) ∨ (B ∧ ¬ A)))
def jt_CB (K : Nat → Int32) (how : Nat) (la lb lr : List Nat) : Prop := ∀ z, z ∈ lr.map K ↔ jt_bel how (z ∈ la.map K) (z ∈ lb.map K)
def jt_st (how : Nat) (b : Int32) : Prop := how = 0 ∨ (how = 1 ∧ b = 1) ∨ (how = 2 ∧ b = 0)
def jt_f36 (post : Int32 → SX → Prop) (x2 x3 x4 z0 : Int32) (u : SX) : Prop := wX_finished_36 post x2 x3 x4 z0 u.1 u.2.1 u.2.2.1 u.2.2.2.1 u.2.2.2.2.1 u.2.2.2.2.2.1 u.2.2.2.2.2.2.1 u.2.2.2.2.2.2.2.1 u.2.2.2.2.2.2.2.2.1 u.2.2.2.2.2.2.2.2.2.1 u.2.2.2.2.2.2.2.2.2.2.1 u.2.2.2.2.2.2.2.2.2.2.2.1 u.2.2.2.2.2.2.2.2.2.2.2.2.1 u.2.2.2.2.2.2.2.2.2.2.2.2.2.1 u.2.2.2.2.2.2.2.2.2.2.2.2.2.2.1 u.2.2.2.2.2.2.2.2.2.2.2.2.2.2.2.1 u.2.2.2.2.2.2.2.2.2.2.2.2.2.2.2.2.1 u.2.2.2.2.2.2.2.2.2.2.2.2.2.2.2.2.2
def jt_m15 (post : Int32 → SX → Prop) (x1 : Int32) (n : Nat) (x4 x5 x6 x7 x8 : Int32) (u : SX) : Prop := wX_combined_15 post x1 n x4 x5 x6 x7 x8 u.1 u.2.1 u.2.2.1 u.2.2.2.1 u.2.2.2.2.1 u.2.2.2.2.2.1 u.2.2.2.2.2.2.1 u.2.2.2.2.2.2.2.1 u.2.2.2.2.2.2.2.2.1 u.2.2.2.2.2.2.2.2.2.1 u.2.2.2.2.2.2.2.2.2.2.1 u.2.2.2.2.2.2.2.2.2.2.2.1 u.2.2.2.2.2.2.2.2.2.2.2.2.1 u.2.2.2.2.2.2.2.2.2.2.2.2.2.1 u.2.2.2.2.2.2.2.2.2.2.2.2.2.2.1 u.2.2.2.2.2.2.2.2.2.2.2.2.2.2.2.1 u.2.2.2.2.2.2.2.2.2.2.2.2.2.2.2.2.1 u.2.2.2.2.2.2.2.2.2.2.2.2.2.2.2.2.2
def jt_m25 (post : Int32 → SX → Prop) (n : Nat) (x1 x4 x5 x6 x7 x8 : Int32) (u : SX) : Prop := wX_combined_25 post (wX_combined_15 post x1 n) x1 x4 x5 x6 x7 x8 u.1 u.2.1 u.2.2.1 u.2.2.2.1 u.2.2.2.2.1 u.2.2.2.2.2.1 u.2.2.2.2.2.2.1 u.2.2.2.2.2.2.2.1 u.2.2.2.2.2.2.2.2.1 u.2.2.2.2.2.2.2.2.2.1 u.2.2.2.2.2.2.2.2.2.2.1 u.2.2.2.2.2.2.2.2.2.2.2.1 u.2.2.2.2.2.2.2.2.2.2.2.2.1 u.2.2.2.2.2.2.2.2.2.2.2.2.2.1 u.2.2.2.2.2.2.2.2.2.2.2.2.2.2.1 u.2.2.2.2.2.2.2.2.2.2.2.2.2.2.2.1 u.2.2.2.2.2.2.2.2.2.2.2.2.2.2.2.2.1 u.2.2.2.2.2.2.2.2.2.2.2.2.2.2.2.2.2
def jt_m131 (post : Int32 → SX → Prop) (n : Nat) (x1 x4 x5 x6 x7 x8 : Int32) (u : SX) : Prop := wX_combined_131 post (wX_combined_15 post x1 n) x1 x4 x5 x6 x7 x8 u.1 u.2.1 u.2.2.1 u.2.2.2.1 u.2.2.2.2.1 u.2.2.2.2.2.1 u.2.2.2.2.2.2.1 u.2.2.2.2.2.2.2.1 u.2.2.2.2.2.2.2.2.1 u.2.2.2.2.2.2.2.2.2.1 u.2.2.2.2.2.2.2.2.2.2.1 u.2.2.2.2.2.2.2.2.2.2.2.1 u.2.2.2.2.2.2.2.2.2.2.2.2.1 u.2.2.2.2.2.2.2.2.2.2.2.2.2.1 u.2.2.2.2.2.2.2.2.2.2.2.2.2.2.1 u.2.2.2.2.2.2.2.2.2.2.2.2.2.2.2.1 u.2.2.2.2.2.2.2.2.2.2.2.2.2.2.2.2.1 u.2.2.2.2.2.2.2.2.2.2.2.2.2.2.2.2.2
def jt_m93 (post : Int32 → SX → Prop) (n : Nat) (x1 x4 x5 x7 x8 z0 z1 : Int32) (u : SX) : Prop := wX_combined_93 post (wX_combined_15 post x1 n) x1 x4 x5 x7 x8 z0 z1 u.1 u.2.1 u.2.2.1 u.2.2.2.1 u.2.2.2.2.1 u.2.2.2.2.2.1 u.2.2.2.2.2.2.1 u.2.2.2.2.2.2.2.1 u.2.2.2.2.2.2.2.2.1 u.2.2.2.2.2.2.2.2.2.1 u.2.2.2.2.2.2.2.2.2.2.1 u.2.2.2.2.2.2.2.2.2.2.2.1 u.2.2.2.2.2.2.2.2.2.2.2.2.1 u.2.2.2.2.2.2.2.2.2.2.2.2.2.1 u.2.2.2.2.2.2.2.2.2.2.2.2.2.2.1 u.2.2.2.2.2.2.2.2.2.2.2.2.2.2.2.1 u.2.2.2.2.2.2.2.2.2.2.2.2.2.2.2.2.1 u.2.2.2.2.2.2.2.2.2.2.2.2.2.2.2.2.2
section
variable {fc we lo hi ex : Nat} {h : jt_H} {K : Nat → Int32} {rt fr wy : Nat → Nat} {wr : Nat → Int32} {F : jt_F}
theorem jt_wn {post : Int32 → SX → Prop} {how x y : Nat} {lx ly rest : List Nat} (hh : how < 3) (c0 : x = 0 ∨ y = 0) (tx : jt_T h x lx) (ty : jt_T h y ly) (sx : jt_S K lx) (sy : jt_S K ly) (P : jt_PI fc fr (lx ++ (ly ++ rest))) (hx : lx.length < 64) (hy : ly.length < 64)
    (H : ∀ r lr fc' fr' we' wy' wr', jt_T h r lr → jt_S K lr → jt_CB K how lx ly lr → (∀ i, i ∈ lr → i ∈ lx ++ ly) → lr.length ≤ lx.length + ly.length → jt_PI fc' fr' (lr ++ rest) → post (nI r) (jt_s fc' we' lo hi ex h K rt fr' wy' wr' F)) :
    wpX_withNothing post (jt_s fc we lo hi ex h K rt fr wy wr F) (nI how) (nI x) (nI y) := by
  have bx := jt_T_lt tx
  have hn : lx = [] ∨ ly = [] := by
    rcases c0 with rfl | rfl
    · exact Or.inl (jt_T_nil tx)
    · exact Or.inr (jt_T_nil ty)
  have P2 : jt_PI fc fr (ly ++ (lx ++ rest)) := by
    refine jt_PI_congr P ?_
    intro a
    simp only [List.count_append]
    omega
  by_cases h0 : how = 0
  · subst h0
    refine br_t rfl ?_
    by_cases x0 : x = 0
    · subst x0
      have l0 := jt_T_nil tx
      subst l0
      refine br_t rfl (H y ly fc fr we wy wr ty sy ?_ ?_ ?_ P)
      · intro z; simp [jt_bel]
      · intro i hi; exact hi
      · simp
    · have y0 : y = 0 := c0.resolve_left x0
      subst y0
      have l0 := jt_T_nil ty
      subst l0
      refine br_f (nI_ne0 (by omega) (by omega)) (H x lx fc fr we wy wr tx sx ?_ ?_ ?_ P)
      · intro z; simp [jt_bel]
      · intro i hi; simp [hi]
      · simp
  · refine br_f (nI_ne0 (by omega) (by omega)) ?_
    refine jt_relTree rfl ty P2 hy ?_
    intro fc1 fr1 wy1 wr1 P3
    by_cases h2 : how = 2
    · subst h2
      refine br_t rfl (H x lx fc1 fr1 0 wy1 wr1 tx sx ?_ ?_ ?_ P3)
      · intro z
        rcases hn with rfl | rfl <;> simp [jt_bel]
      · intro i hi; simp [hi]
      · omega
    · have h1 : how = 1 := by omega
      subst h1
      refine br_f (by decide) ?_
      refine jt_relTree rfl tx P3 hx ?_
      intro fc2 fr2 wy2 wr2 P4
      refine H 0 [] fc2 fr2 0 wy2 wr2 (jt_T0 (jt_T_z tx)) List.Pairwise.nil ?_ ?_ ?_ P4
      · intro z
        rcases hn with rfl | rfl <;> simp [jt_bel]
      · intro i hi; exact absurd hi List.not_mem_nil
      · simp
theorem jt_f36_s {post : Int32 → SX → Prop} {f n lw up : Nat} {ll lu : List Nat} (hf : f < 32) (eL : F.2.2.1 f = lw) (hn : n ≠ 0) (hb : n < 256) (tl : jt_T h lw ll) (tu : jt_T h up lu) (nd : (ll ++ n :: lu).Nodup) (hl : ll.length + lu.length ≤ 64)
    (H : ∀ h' r wy' wr', jt_T h' r (ll ++ n :: lu) → jt_O h h' (ll ++ n :: lu) → post (nI r) (jt_s fc 0 lo hi ex h' K rt fr wy' wr' F)) : jt_f36 post (nI f) (nI up) (nI n) 1 (jt_s fc we lo hi ex h K rt fr wy wr F) := by
  refine br_f (by decide) (And.intro (jt_v32 hf) ?_)
  refine jt_join (we := 0) (jt_rd (by omega) eL) rfl rfl hn hb tl tu nd (by omega) ?_
  intro h' r wy' wr' T o _ _
  exact H h' r wy' wr' T o
theorem jt_f36_g {post : Int32 → SX → Prop} {f n lw up : Nat} {ll lu rest : List Nat} (hf : f < 32) (eL : F.2.2.1 f = lw) (hn : n ≠ 0) (hb : n < 256) (tl : jt_T h lw ll) (tu : jt_T h up lu) (s : jt_S K (ll ++ lu)) (hl : ll.length + lu.length ≤ 64) (P : jt_PI fc fr (ll ++ n :: lu ++ rest))
    (H : ∀ h' r fc' fr' we' lo' hi' ex' wy' wr', jt_T h' r (ll ++ lu) → jt_O h h' (ll ++ lu) → jt_PI fc' fr' (ll ++ lu ++ rest) → post (nI r) (jt_s fc' we' lo' hi' ex' h' K rt fr' wy' wr' F)) : jt_f36 post (nI f) (nI up) (nI n) 0 (jt_s fc we lo hi ex h K rt fr wy wr F) := by
  have ln := jt_PI_len P
  simp only [List.length_append, List.length_cons] at ln
  refine br_t rfl ?_
  refine jt_rel (we := 0) rfl hn hb (by omega) (And.intro (jt_v32 hf) ?_)
  refine jt_join2 (we := 0) (jt_rd (by omega) eL) rfl tl tu s hl ?_
  intro h' r we' lo' hi' ex' wy' wr' T o
  refine H h' r (fc + 1) (jt_up fr fc n) we' lo' hi' ex' wy' wr' T o (jt_PI_rel (jt_PI_congr P ?_))
  intro a
  simp only [List.count_append, List.count_cons]
  omega
theorem jt_fin {post : Int32 → SX → Prop} {how f n lw up : Nat} {b : Int32} {ll lu rest : List Nat} (hh : how < 3) (hf : f < 32) (eN : F.1 f = n) (eL : F.2.2.1 f = lw) (eB : F.2.2.2.1 f = b) (b01 : b = 0 ∨ b = 1) (hn : n ≠ 0) (hb : n < 256) (tl : jt_T h lw ll) (tu : jt_T h up lu) (s : jt_S K (ll ++ n :: lu)) (hl : ll.length + lu.length ≤ 64) (P : jt_PI fc fr (ll ++ n :: lu ++ rest))
    (H : ∀ h' r lr fc' fr' we' lo' hi' ex' wy' wr', jt_T h' r lr → ((jt_st how b ∧ lr = ll ++ n :: lu) ∨ (¬ jt_st how b ∧ lr = ll ++ lu)) → jt_O h h' (ll ++ n :: lu) → jt_PI fc' fr' (lr ++ rest) → post (nI r) (jt_s fc' we' lo' hi' ex' h' K rt fr' wy' wr' F)) :
    wpX_finished post (jt_s fc we lo hi ex h K rt fr wy wr F) (nI how) (nI f) (nI up) := by
  have stays : jt_st how b → jt_f36 post (nI f) (nI up) (nI n) 1 (jt_s fc we lo hi ex h K rt fr wy wr F) := by
    intro q
    refine jt_f36_s hf eL hn hb tl tu (jt_S_nd s) hl ?_
    intro h' r wy' wr' T o
    exact H h' r _ fc fr 0 lo hi ex wy' wr' T (Or.inl ⟨q, rfl⟩) o P
  have goes : ¬ jt_st how b → jt_f36 post (nI f) (nI up) (nI n) 0 (jt_s fc we lo hi ex h K rt fr wy wr F) := by
    intro q
    obtain ⟨s1, s2, s3, s4⟩ := jt_S_node.mp s
    refine jt_f36_g hf eL hn hb tl tu (jt_S_app.mpr ⟨s1, s2, fun i hi j hj => Int32.lt_trans (s3 i hi) (s4 j hj)⟩) hl P ?_
    intro h' r fc' fr' we' lo' hi' ex' wy' wr' T o P'
    refine H h' r _ fc' fr' we' lo' hi' ex' wy' wr' T (Or.inr ⟨q, rfl⟩) (jt_O_mo o ?_) P'
    intro i hi
    simp only [List.mem_append, List.mem_cons] at hi ⊢
    rcases hi with hi | hi
    · exact Or.inl hi
    · exact Or.inr (Or.inr hi)
  have eB' : F.2.2.2.1 (nI f).toNatClampNeg = b := by rw [jt_cl (by omega)]; exact eB
  refine And.intro (jt_v32 hf) (nm_r (e' := nI n) (jt_rd (by omega) eN) ?_)
  by_cases h0 : how = 0
  · subst h0
    exact br_t rfl (stays (Or.inl rfl))
  · refine br_f (nI_ne0 (by omega) (by omega)) (And.intro (jt_v32 hf) ?_)
    by_cases h1 : how = 1
    · subst h1
      refine br_t rfl ?_
      rcases b01 with rfl | rfl
      · exact br_f (fun z => absurd (eB'.symm.trans z) (by decide)) (goes (by simp [jt_st]))
      · exact br_t eB' (stays (by simp [jt_st]))
    · have h2 : how = 2 := by omega
      subst h2
      refine br_f (by decide) ?_
      rcases b01 with rfl | rfl
      · exact br_t eB' (stays (by simp [jt_st]))
      · exact br_f (fun z => absurd (eB'.symm.trans z) (by decide)) (goes (by simp [jt_st]))
theorem jt_m15_end {post : Int32 → SX → Prop} {n : Nat} {x1 x5 x6 x7 : Int32} {u : SX} (H : post x7 u) : jt_m15 post x1 (n + 1) (nI 0) x5 x6 x7 0 u := br_t rfl (br_t jt_00 H)
theorem jt_m15_up {post : Int32 → SX → Prop} {n top : Nat} {x1 x5 x6 x7 : Int32} {u : SX} (ht : top < 64) (H : jt_m131 post n x1 (nI (top + 1)) x5 x6 x7 0 u) : jt_m15 post x1 (n + 1) (nI (top + 1)) x5 x6 x7 0 u :=
  br_t rfl (br_f (nI_nle (by omega) (by omega)) (br_t rfl H))
theorem jt_m15_dn {post : Int32 → SX → Prop} {n : Nat} {x1 x4 x5 x6 x7 : Int32} {u : SX} (H : jt_m25 post n x1 x4 x5 x6 x7 1 u) : jt_m15 post x1 (n + 1) x4 x5 x6 x7 1 u := br_f (by decide) H
theorem jt_m25_z {post : Int32 → SX → Prop} {n x y : Nat} {x1 x4 x7 : Int32} {u : SX} (c : x = 0 ∨ y = 0) (hx : x < 256) (H : jt_m131 post n x1 x4 (nI x) (nI y) x7 1 u) : jt_m25 post n x1 x4 (nI x) (nI y) x7 1 u := by
  refine br_f (by decide) ?_
  by_cases x0 : x = 0
  · subst x0
    exact br_t rfl H
  · have y0 := c.resolve_left x0
    subst y0
    exact br_f (nI_ne0 (by omega) (by omega)) (br_t rfl H)
theorem jt_m131_w {post : Int32 → SX → Prop} {n : Nat} {x1 x4 x5 x6 x7 : Int32} {u : SX} (H : wpX_withNothing (fun r u => jt_m15 post x1 n x4 x5 x6 r 0 u) u x1 x5 x6) : jt_m131 post n x1 x4 x5 x6 x7 1 u := br_f (by decide) H
theorem jt_m131_s {post : Int32 → SX → Prop} {n top x y r : Nat} {x1 x5 x6 : Int32} (ht : top < 32) (hr : r < 256) (eN : F.1 top = x) (hx : x < 256) (eU : F.2.1 top = y) (eS : F.2.2.2.2 top = 0)
    (H : jt_m15 post x1 n (nI (top + 1)) (nI (h.2.1 x)) (nI y) (nI r) 1 (jt_s fc we lo hi ex h K rt fr wy wr (F.1, F.2.1, jt_up F.2.2.1 top r, F.2.2.2.1, upd F.2.2.2.2 top 1))) : jt_m131 post n x1 (nI (top + 1)) x5 x6 (nI r) 0 (jt_s fc we lo hi ex h K rt fr wy wr F) := by
  have ec : (nI top).toNatClampNeg = top := jt_cl (by omega)
  have e1 : (fun i => nI (F.1 i)) (nI top).toNatClampNeg = nI x := jt_rd (by omega) eN
  refine br_t rfl (nm_r (e' := nI top) (nI_pred top) (And.intro (jt_v32 ht) (br_t ?_ (And.intro (jt_v32 ht) (nm_r (e' := fun i => nI (jt_up F.2.2.1 top r i)) (jt_wr (by omega) (by omega)) (And.intro (jt_v32 ht) (nm_r (e' := upd F.2.2.2.2 top 1) ?_ (And.intro (jt_v32 ht) (And.intro ?_ (nm_r (e' := nI (h.2.1 x)) ?_ (And.intro (jt_v32 ht) (nm_r (e' := nI y) (jt_rd (by omega) eU) ?_))))))))))))
  · rw [ec]; exact eS
  · rw [ec, jt_bo1]
  · exact jt_vr (by omega) eN hx (by decide)
  · refine Eq.trans (congrArg (fun z => (fun i => nI (h.2.1 i)) z.toNatClampNeg) e1) (jt_rd (by omega) rfl)
  · exact H
theorem jt_m131_f {post : Int32 → SX → Prop} {n top : Nat} {x1 x5 x6 x7 : Int32} (ht : top < 32) (eS : F.2.2.2.2 top = 1)
    (H : wpX_finished (fun r u => jt_m15 post x1 n (nI top) x5 x6 r 0 u) (jt_s fc we lo hi ex h K rt fr wy wr F) x1 (nI top) x7) : jt_m131 post n x1 (nI (top + 1)) x5 x6 x7 0 (jt_s fc we lo hi ex h K rt fr wy wr F) := by
  have ec : (nI top).toNatClampNeg = top := jt_cl (by omega)
  refine br_t rfl (nm_r (e' := nI top) (nI_pred top) (And.intro (jt_v32 ht) (br_f ?_ ?_)))
  · rw [ec]
    show ¬ F.2.2.2.2 top = 0
    rw [eS]; decide
  · have e : nI (top + 1) + (-1) = nI top := pk_m1 top
    refine (congrArg (fun P => wpX_finished P (jt_s fc we lo hi ex h K rt fr wy wr F) x1 (nI top) x7) ?_).mp H
    funext r u
    apply propext
    constructor
    · exact fun q => nm_r e q
    · exact fun q => e ▸ q _ rfl
theorem jt_m25_n {post : Int32 → SX → Prop} {n x y top : Nat} {x1 x7 : Int32} {ly : List Nat} (hx : x ≠ 0) (hxb : x < 256) (hy : y ≠ 0) (ty : jt_T h y ly) (s : jt_S K ly) (hl : ly.length ≤ 64) (ht : top < 32) {rest : List Nat} (P : jt_PI fc fr (ly ++ rest))
    (H : ∀ h' a b e ll lh fc' fr' wy' wr' bo, jt_SR K (K x) ly e ll lh → jt_T h' a ll → jt_T h' b lh → jt_O h h' ly → ((e = 0 ∧ bo = 0) ∨ (e ≠ 0 ∧ bo = 1)) → jt_PI fc' fr' (ll ++ (lh ++ rest)) →
      jt_m15 post x1 n (nI (top + 1)) (nI (h'.1 x)) (nI a) x7 1 (jt_s fc' 0 a b e h' K rt fr' wy' wr' (jt_up F.1 top x, jt_up F.2.1 top b, F.2.2.1, upd F.2.2.2.1 top bo, upd F.2.2.2.2 top 0))) :
    jt_m25 post n x1 (nI top) (nI x) (nI y) x7 1 (jt_s fc we lo hi ex h K rt fr wy wr F) := by
  have yb := jt_T_lt ty
  have ec : (nI x).toNatClampNeg = x := jt_cl (by omega)
  have et : (nI top).toNatClampNeg = top := jt_cl (by omega)
  refine br_f (by decide) (br_f (nI_ne0 (by omega) (by omega)) (br_f (nI_ne0 (by omega) (by omega)) (And.intro (jt_v256 hxb) ?_)))
  refine (congrArg (fun z => wpX_splitTree _ (jt_s fc we lo hi ex h K rt fr wy wr F) (nI y) (K z)) ec).mpr ?_
  refine jt_split rfl ty s hl ?_
  intro h' a b e ll lh wy' wr' r ta tb o
  have bb := jt_T_lt tb
  refine And.intro (jt_v32 ht) (nm_r (e' := fun i => nI (jt_up F.1 top x i)) (jt_wr (by omega) (by omega)) (And.intro (jt_v32 ht) (nm_r (e' := fun i => nI (jt_up F.2.1 top b i)) (jt_wr (by omega) (by omega)) ?_)))
  have go : ∀ bo : Int32, vp_nar .boolean bo = bo → ((e = 0 ∧ bo = 0) ∨ (e ≠ 0 ∧ bo = 1)) → jt_m93 post n x1 (nI top) (nI x) x7 1 bo (nI top) (jt_s fc 0 a b e h' K rt fr wy' wr' (jt_up F.1 top x, jt_up F.2.1 top b, F.2.2.1, F.2.2.2.1, F.2.2.2.2)) := by
    intro bo hbo hc
    refine And.intro (jt_v32 ht) (nm_r (e' := upd F.2.2.2.1 top bo) ?_ (And.intro (jt_v32 ht) (nm_r (e' := upd F.2.2.2.2 top 0) ?_ ?_)))
    · rw [et, hbo]
    · rw [et, jt_bo0]
    · refine jt_relSR (F := (jt_up F.1 top x, jt_up F.2.1 top b, F.2.2.1, upd F.2.2.2.1 top bo, upd F.2.2.2.2 top 0)) rfl r P ?_
      intro fc' fr' P'
      exact nm_r (e' := nI (top + 1)) (nI_1 top) (And.intro (jt_v256 hxb) (nm_r (e' := nI (h'.1 x)) (jt_rd (by omega) rfl) (H h' a b e ll lh fc' fr' wy' wr' bo r ta tb o hc P')))
  by_cases e0 : e = 0
  · subst e0
    exact br_t rfl (go 0 rfl (Or.inl ⟨rfl, rfl⟩))
  · have eb : e < 256 := by
      refine (jt_T_mem ty e ?_).2
      rcases r.1 with ⟨q, _⟩ | ⟨_, q, _⟩
      · exact absurd q e0
      · rw [q]; simp
    exact br_f (nI_ne0 (by omega) (by omega)) (go 1 rfl (Or.inr ⟨e0, rfl⟩))
end
end
section
/-! combined: by induction on the first tree, the rest of the work as a hypothesis -/
theorem jt_S_map {K : Nat → Int32} {l : List Nat} : jt_S K l ↔ (l.map K).Pairwise (fun a b => a < b) := List.pairwise_map.symm
theorem jt_bel_or {how : Nat} {A B : Prop} (q : jt_bel how A B) : A ∨ B := by
  unfold jt_bel at q
  grind
theorem jt_SR_sub {K : Nat → Int32} {x : Int32} {l ll lh : List Nat} {e : Nat} (s : jt_S K l) (r : jt_SR K x l e ll lh) :
    (∀ i, i ∈ ll → i ∈ l) ∧ (∀ i, i ∈ lh → i ∈ l) ∧ (∀ i, i ∈ ll → i ∉ lh) ∧ ll.length + lh.length ≤ l.length ∧ jt_S K ll ∧ jt_S K lh := by
  have nd := jt_S_nd s
  rcases r.1 with ⟨_, rfl⟩ | ⟨e0, rfl, _⟩
  · obtain ⟨s1, s2, _⟩ := jt_S_app.mp s
    exact ⟨by grind, by grind, by grind, by simp, s1, s2⟩
  · obtain ⟨s1, s2, _⟩ := jt_S_node.mp s
    exact ⟨by grind, by grind, by grind, by simp, s1, s2⟩
theorem jt_SR_mem {K : Nat → Int32} {x : Int32} {l ll lh : List Nat} {e : Nat} (r : jt_SR K x l e ll lh) (z : Int32) :
    z ∈ l.map K ↔ z ∈ ll.map K ∨ (e ≠ 0 ∧ z = x) ∨ z ∈ lh.map K := by
  rcases r.1 with ⟨e0, rfl⟩ | ⟨e0, rfl, ek⟩
  · simp only [List.map_append, List.mem_append, e0]
    constructor
    · intro q; exact q.imp id Or.inr
    · intro q
      rcases q with q | q | q
      · exact Or.inl q
      · exact absurd rfl q.1
      · exact Or.inr q
  · simp only [List.map_append, List.mem_append, List.map_cons, List.mem_cons, ek]
    constructor
    · intro q
      rcases q with q | q | q
      · exact Or.inl q
      · exact Or.inr (Or.inl ⟨e0, q⟩)
      · exact Or.inr (Or.inr q)
    · intro q
      rcases q with q | q | q
      · exact Or.inl q
      · exact Or.inr (Or.inl q.2)
      · exact Or.inr (Or.inr q)
theorem jt_bel_core {how e : Nat} {bo : Int32} {A1 A2 B1 B2 L G E : Prop} (hh : how < 3) (hbo : (e = 0 ∧ bo = 0) ∨ (e ≠ 0 ∧ bo = 1)) (a1 : A1 → L) (a2 : A2 → G) (b1 : B1 → L) (b2 : B2 → G) (x1 : L → ¬ E) (x2 : G → ¬ E) (x3 : L → ¬ G) :
    (jt_bel how A1 B1 ∨ (jt_st how bo ∧ E) ∨ jt_bel how A2 B2) ↔ jt_bel how (A1 ∨ E ∨ A2) (B1 ∨ (e ≠ 0 ∧ E) ∨ B2) := by
  unfold jt_bel jt_st
  rcases hbo with ⟨e0, rfl⟩ | ⟨e0, rfl⟩
  · rcases (by omega : how = 0 ∨ how = 1 ∨ how = 2) with rfl | rfl | rfl <;> simp [e0] <;> grind
  · rcases (by omega : how = 0 ∨ how = 1 ∨ how = 2) with rfl | rfl | rfl <;> simp [e0] <;> grind
theorem jt_CB_node {K : Nat → Int32} {how x e : Nat} {l1 l2 ly ll lh lr1 lr2 lr : List Nat} {bo : Int32} (hh : how < 3) (s : jt_S K (l1 ++ x :: l2)) (r : jt_SR K (K x) ly e ll lh) (hbo : (e = 0 ∧ bo = 0) ∨ (e ≠ 0 ∧ bo = 1))
    (c1 : jt_CB K how l1 ll lr1) (c2 : jt_CB K how l2 lh lr2) (hlr : (jt_st how bo ∧ lr = lr1 ++ x :: lr2) ∨ (¬ jt_st how bo ∧ lr = lr1 ++ lr2)) : jt_CB K how (l1 ++ x :: l2) ly lr := by
  intro z
  obtain ⟨s1, s2, s3, s4⟩ := jt_S_node.mp s
  have a1 : z ∈ l1.map K → z < K x := by
    intro q
    obtain ⟨i, hi, rfl⟩ := List.mem_map.mp q
    exact s3 i hi
  have a2 : z ∈ l2.map K → K x < z := by
    intro q
    obtain ⟨i, hi, rfl⟩ := List.mem_map.mp q
    exact s4 i hi
  have b1 : z ∈ ll.map K → z < K x := by
    intro q
    obtain ⟨i, hi, rfl⟩ := List.mem_map.mp q
    exact r.2.1 i hi
  have b2 : z ∈ lh.map K → K x < z := by
    intro q
    obtain ⟨i, hi, rfl⟩ := List.mem_map.mp q
    exact r.2.2 i hi
  have x1 : z < K x → ¬ z = K x := fun q w => Int32.lt_irrefl (w ▸ q)
  have x2 : K x < z → ¬ z = K x := fun q w => Int32.lt_irrefl (w ▸ q)
  have x3 : z < K x → ¬ K x < z := fun q w => Int32.lt_irrefl (Int32.lt_trans q w)
  have m1 : z ∈ (l1 ++ x :: l2).map K ↔ z ∈ l1.map K ∨ z = K x ∨ z ∈ l2.map K := by
    simp only [List.map_append, List.mem_append, List.map_cons, List.mem_cons]
  have m2 := jt_SR_mem r z
  have m3 : z ∈ lr.map K ↔ z ∈ lr1.map K ∨ (jt_st how bo ∧ z = K x) ∨ z ∈ lr2.map K := by
    rcases hlr with ⟨q, rfl⟩ | ⟨q, rfl⟩
    · simp only [List.map_append, List.mem_append, List.map_cons, List.mem_cons, q, true_and]
    · simp only [List.map_append, List.mem_append, q, false_and, false_or]
  have d1 := c1 z
  have d2 := c2 z
  rw [m1, m2, m3, d1, d2]
  exact jt_bel_core hh hbo a1 a2 b1 b2 x1 x2 x3
def jt_FA (F F' : jt_F) (top : Nat) : Prop := ∀ i, i < top → F'.1 i = F.1 i ∧ F'.2.1 i = F.2.1 i ∧ F'.2.2.1 i = F.2.2.1 i ∧ F'.2.2.2.1 i = F.2.2.2.1 i ∧ F'.2.2.2.2 i = F.2.2.2.2 i
def jt_MB (post : Int32 → SX → Prop) (how : Nat) (K : Nat → Int32) (rt : Nat → Nat) (N : Nat) : Prop :=
  ∀ (h : jt_H) (fc we lo hi ex N0 top x y : Nat) (fr wy : Nat → Nat) (wr : Nat → Int32) (F : jt_F) (res : Int32) (lx ly rest : List Nat),
  lx.length < N → jt_T h x lx → jt_T h y ly → jt_S K lx → jt_S K ly → jt_PI fc fr (lx ++ (ly ++ rest)) → top + lx.length ≤ 32 → lx.length + ly.length ≤ 60 →
  (∀ h' fc' fr' we' lo' hi' ex' wy' wr' F' (x' y' : Int32) r lr, jt_T h' r lr → jt_S K lr → jt_CB K how lx ly lr → (∀ i, i ∈ lr → i ∈ lx ++ ly) → lr.length ≤ lx.length + ly.length → jt_PI fc' fr' (lr ++ rest) → jt_O h h' (lx ++ ly) → jt_FA F F' top →
    ∀ n, N0 ≤ n → jt_m15 post (nI how) n (nI top) x' y' (nI r) 0 (jt_s fc' we' lo' hi' ex' h' K rt fr' wy' wr' F')) →
  ∀ n, N0 + 4 * lx.length + 1 ≤ n → jt_m15 post (nI how) n (nI top) (nI x) (nI y) res 1 (jt_s fc we lo hi ex h K rt fr wy wr F)
theorem jt_dm {post : Int32 → SX → Prop} {how : Nat} {K : Nat → Int32} {rt : Nat → Nat} (hh : how < 3) : ∀ N, jt_MB post how K rt N := by
  intro N
  induction N with
  | zero => intro h fc we lo hi ex N0 top x y fr wy wr F res lx ly rest hN; omega
  | succ N IH =>
    intro h fc we lo hi ex N0 top x y fr wy wr F res lx ly rest hN tx ty sx sy P ht hl kont n hn
    obtain ⟨n, rfl⟩ : ∃ k, n = k + 1 := ⟨n - 1, by omega⟩
    have bx := jt_T_lt tx
    have by' := jt_T_lt ty
    by_cases c : x = 0 ∨ y = 0
    · refine jt_m15_dn (jt_m25_z c bx (jt_m131_w (jt_wn hh c tx ty sx sy P (by omega) (by omega) ?_)))
      intro r lr fc' fr' we' wy' wr' T S CB sub len P'
      exact kont h fc' fr' we' lo hi ex wy' wr' F _ _ r lr T S CB sub len P' jt_O_rf (fun _ _ => ⟨rfl, rfl, rfl, rfl, rfl⟩) n (by omega)
    · have hx : x ≠ 0 := fun q => c (Or.inl q)
      have hy : y ≠ 0 := fun q => c (Or.inr q)
      obtain ⟨l1, l2, rfl, t1, t2, cc⟩ := jt_T_ne tx hx
      have hlen : (l1 ++ x :: l2).length = l1.length + l2.length + 1 := by rw [List.length_append, List.length_cons]; omega
      obtain ⟨s1, s2, s3, s4⟩ := jt_S_node.mp sx
      have nd := jt_PI_nd P
      have P' : jt_PI fc fr (ly ++ (l1 ++ x :: l2 ++ rest)) := by
        refine jt_PI_congr P ?_
        intro a
        simp only [List.count_append, List.count_cons]
        omega
      refine jt_m15_dn (jt_m25_n hx bx hy ty sy (by omega) (by omega) P' ?_)
      intro h1 a b e ll lh fc1 fr1 wy1 wr1 bo r ta tb o1 hbo P1
      obtain ⟨u1, u2, u3, u4, sl, sh⟩ := jt_SR_sub sy r
      have z0 : 0 ∉ ly := jt_T_m0 ty
      have dxy : (∀ i, i ∈ l1 → i ∉ ly) ∧ (∀ i, i ∈ l2 → i ∉ ly) ∧ x ∉ ly := by grind
      have dx12 : x ∉ l1 ∧ x ∉ l2 ∧ ∀ i, i ∈ l1 → i ∉ l2 := by grind
      have e1 := o1 x dxy.2.2
      have t1' : jt_T h1 (h1.1 x) l1 := by
        rw [e1.1]
        exact jt_T_off t1 o1 dxy.1 z0
      have P1' : jt_PI fc1 fr1 (l1 ++ (ll ++ (x :: (l2 ++ (lh ++ rest))))) := by
        refine jt_PI_congr P1 ?_
        intro a
        simp only [List.count_append, List.count_cons]
        omega
      refine IH h1 fc1 0 a b e (N0 + 4 * l2.length + 3) (top + 1) (h1.1 x) a fr1 wy1 wr1 _ res l1 ll (x :: (l2 ++ (lh ++ rest))) (by omega) t1' ta s1 sl P1' (by omega) (by omega) ?_ n (by omega)
      intro h2 fc2 fr2 we2 lo2 hi2 ex2 wy2 wr2 F2 x' y' r1 lr1 T1 S1 CB1 sub1 len1 P2 o2 fa2 n2 hn2
      obtain ⟨n2, rfl⟩ : ∃ k, n2 = k + 1 := ⟨n2 - 1, by omega⟩
      obtain ⟨f1, f2, f3, f4, f5⟩ := fa2 top (by omega)
      have d2 : ∀ i, i ∈ l2 → i ∉ l1 ++ ll := by grind
      have dx2 : x ∉ l1 ++ ll := by grind
      have dh2 : ∀ i, i ∈ lh → i ∉ l1 ++ ll := by grind
      have z2 : 0 ∉ l1 ++ ll := by
        intro q
        rcases List.mem_append.mp q with q | q
        · exact jt_T_m0 t1 q
        · exact z0 (u1 0 q)
      have e2 := o2 x dx2
      have t2' : jt_T h2 (h2.2.1 x) l2 := by
        rw [e2.2.1, e1.2.1]
        exact jt_T_off (jt_T_off t2 o1 dxy.2.1 z0) o2 d2 z2
      have tb' := jt_T_off tb o2 dh2 z2
      refine jt_m15_up (by omega) (jt_m131_s (x := x) (y := b) (by omega) (jt_T_lt T1) (f1.trans jt_up_s) bx (f2.trans jt_up_s) (f5.trans pk_us) ?_)
      have P2' : jt_PI fc2 fr2 (l2 ++ (lh ++ (lr1 ++ x :: rest))) := by
        refine jt_PI_congr P2 ?_
        intro a
        simp only [List.count_append, List.count_cons]
        omega
      refine IH h2 fc2 we2 lo2 hi2 ex2 (N0 + 1) (top + 1) (h2.2.1 x) b fr2 wy2 wr2 _ (nI r1) l2 lh (lr1 ++ x :: rest) (by omega) t2' tb' s2 sh P2' (by omega) (by omega) ?_ n2 (by omega)
      intro h3 fc3 fr3 we3 lo3 hi3 ex3 wy3 wr3 F3 x'' y'' r2 lr2 T2 S2 CB2 sub2 len2 P3 o3 fa3 n3 hn3
      obtain ⟨n3, rfl⟩ : ∃ k, n3 = k + 1 := ⟨n3 - 1, by omega⟩
      obtain ⟨g1, g2, g3, g4, g5⟩ := fa3 top (by omega)
      have dr1 : ∀ i, i ∈ lr1 → i ∉ l2 ++ lh := by
        intro i hi
        have := sub1 i hi
        grind
      have z3 : 0 ∉ l2 ++ lh := by
        intro q
        rcases List.mem_append.mp q with q | q
        · exact jt_T_m0 t2 q
        · exact z0 (u2 0 q)
      have T1' := jt_T_off T1 o3 dr1 z3
      have k1 : ∀ i, i ∈ lr1 → K i < K x := by
        intro i hi
        have q := jt_bel_or ((CB1 (K i)).mp (List.mem_map.mpr ⟨i, hi, rfl⟩))
        rcases q with q | q
        · obtain ⟨j, hj, ej⟩ := List.mem_map.mp q
          exact ej ▸ s3 j hj
        · obtain ⟨j, hj, ej⟩ := List.mem_map.mp q
          exact ej ▸ r.2.1 j hj
      have k2 : ∀ i, i ∈ lr2 → K x < K i := by
        intro i hi
        have q := jt_bel_or ((CB2 (K i)).mp (List.mem_map.mpr ⟨i, hi, rfl⟩))
        rcases q with q | q
        · obtain ⟨j, hj, ej⟩ := List.mem_map.mp q
          exact ej ▸ s4 j hj
        · obtain ⟨j, hj, ej⟩ := List.mem_map.mp q
          exact ej ▸ r.2.2 j hj
      have sAll : jt_S K (lr1 ++ x :: lr2) := jt_S_node.mpr ⟨S1, S2, k1, k2⟩
      have sAll2 : jt_S K (lr1 ++ lr2) := jt_S_app.mpr ⟨S1, S2, fun i hi j hj => Int32.lt_trans (k1 i hi) (k2 j hj)⟩
      have P3' : jt_PI fc3 fr3 (lr1 ++ x :: lr2 ++ rest) := by
        refine jt_PI_congr P3 ?_
        intro a
        simp only [List.count_append, List.count_cons]
        omega
      have b01 : bo = 0 ∨ bo = 1 := hbo.imp (fun q => q.2) (fun q => q.2)
      have eB : F3.2.2.2.1 top = bo := g4.trans (f4.trans pk_us)
      refine jt_m15_up (by omega) (jt_m131_f (by omega) (g5.trans pk_us) ?_)
      refine jt_fin hh (by omega) (g1.trans (f1.trans jt_up_s)) (g3.trans jt_up_s) eB b01 hx bx T1' T2 sAll (by omega) P3' ?_
      intro h4 r4 lr fc4 fr4 we4 lo4 hi4 ex4 wy4 wr4 T4 hlr o4 P4
      have sub : ∀ i, i ∈ lr1 ++ x :: lr2 → i ∈ l1 ++ x :: l2 ++ ly := by
        intro i hi
        have q1 := sub1 i
        have q2 := sub2 i
        grind
      refine kont h4 fc4 fr4 we4 lo4 hi4 ex4 wy4 wr4 F3 _ _ r4 lr T4 ?_ (jt_CB_node hh sx r hbo CB1 CB2 hlr) ?_ ?_ P4 ?_ ?_ n3 (by omega)
      · rcases hlr with ⟨_, rfl⟩ | ⟨_, rfl⟩
        · exact sAll
        · exact sAll2
      · intro i hi
        refine sub i ?_
        rcases hlr with ⟨_, rfl⟩ | ⟨_, rfl⟩
        · exact hi
        · simp only [List.mem_append, List.mem_cons] at hi ⊢
          exact hi.imp id Or.inr
      · rcases hlr with ⟨_, rfl⟩ | ⟨_, rfl⟩ <;> simp only [List.length_append, List.length_cons] <;> omega
      · refine jt_O_tr (jt_O_mo o1 ?_) (jt_O_tr (jt_O_mo o2 ?_) (jt_O_tr (jt_O_mo o3 ?_) (jt_O_mo o4 sub)))
        · intro i hi; exact List.mem_append_right _ hi
        · intro i hi
          have := u1 i
          grind
        · intro i hi
          have := u2 i
          grind
      · intro i hi
        obtain ⟨a1, a2, a3, a4, a5⟩ := fa2 i (by omega)
        obtain ⟨b1, b2, b3, b4, b5⟩ := fa3 i (by omega)
        have ne : i ≠ top := by omega
        exact ⟨b1.trans (a1.trans (jt_up_n ne)), b2.trans (a2.trans (jt_up_n ne)), (b3.trans (jt_up_n ne)).trans a3, b4.trans (a4.trans (pk_un ne)), (b5.trans (pk_un ne)).trans (a5.trans (pk_un ne))⟩
section
variable {fc we lo hi ex : Nat} {h : jt_H} {K : Nat → Int32} {rt fr wy : Nat → Nat} {wr : Nat → Int32} {F : jt_F}
theorem jt_comb {post : Int32 → SX → Prop} {how a b : Nat} {p0 p1 p2 : Int32} {la lb rest : List Nat} (hh : how < 3) (e0 : p0 = nI how) (e1 : p1 = nI a) (e2 : p2 = nI b) (ta : jt_T h a la) (tb : jt_T h b lb) (sa : jt_S K la) (sb : jt_S K lb) (P : jt_PI fc fr (la ++ (lb ++ rest))) (hla : la.length ≤ 32) (hl : la.length + lb.length ≤ 60)
    (H : ∀ h' fc' fr' we' lo' hi' ex' wy' wr' F' r lr, jt_T h' r lr → jt_S K lr → jt_CB K how la lb lr → lr.length ≤ la.length + lb.length → jt_PI fc' fr' (lr ++ rest) → jt_O h h' (la ++ lb) → post (nI r) (jt_s fc' we' lo' hi' ex' h' K rt fr' wy' wr' F')) :
    wpX_combined post (jt_s fc we lo hi ex h K rt fr wy wr F) p0 p1 p2 := by
  subst e0 e1 e2
  refine ⟨4 * la.length + 2, ?_⟩
  refine jt_dm hh (la.length + 1) h fc we lo hi ex 1 0 a b fr wy wr F 0 la lb rest (by omega) ta tb sa sb P (by omega) hl ?_ _ (by omega)
  intro h' fc' fr' we' lo' hi' ex' wy' wr' F' x' y' r lr T S CB _ len P' o _ n hn
  obtain ⟨n, rfl⟩ : ∃ k, n = k + 1 := ⟨n - 1, by omega⟩
  exact jt_m15_end (H h' fc' fr' we' lo' hi' ex' wy' wr' F' r lr T S CB len P' o)
end
end
section
/-! the component's invariant, and the methods that only read -/
def jt_ow (ls : Nat → List Nat) : List Nat := ls 0 ++ (ls 1 ++ (ls 2 ++ ls 3))
def jt_ul (ls : Nat → List Nat) (s : Nat) (l : List Nat) : Nat → List Nat := fun j => if j = s then l else ls j
def jt_uf (f : Nat → List Int32) (s : Nat) (l : List Int32) : Nat → List Int32 := fun j => if j = s then l else f j
def jt_ot (ls : Nat → List Nat) (s : Nat) : List Nat := jt_ow (jt_ul ls s [])
theorem jt_ul_s {ls : Nat → List Nat} {s : Nat} {l : List Nat} : jt_ul ls s l s = l := if_pos rfl
theorem jt_ul_n {ls : Nat → List Nat} {s t : Nat} {l : List Nat} (h : t ≠ s) : jt_ul ls s l t = ls t := if_neg h
theorem jt_uf_s {f : Nat → List Int32} {s : Nat} {l : List Int32} : jt_uf f s l s = l := if_pos rfl
theorem jt_uf_n {f : Nat → List Int32} {s t : Nat} {l : List Int32} (h : t ≠ s) : jt_uf f s l t = f t := if_neg h
theorem jt_ow_c {ls : Nat → List Nat} {s : Nat} (hs : s < 4) (l : List Nat) (a : Nat) : (jt_ow (jt_ul ls s l)).count a = l.count a + (jt_ot ls s).count a := by
  unfold jt_ot jt_ow jt_ul
  rcases (by omega : s = 0 ∨ s = 1 ∨ s = 2 ∨ s = 3) with rfl | rfl | rfl | rfl <;> simp [List.count_append] <;> omega
theorem jt_ul_id {ls : Nat → List Nat} {s : Nat} : jt_ul ls s (ls s) = ls := by
  funext j
  by_cases e : j = s
  · rw [e, jt_ul_s]
  · rw [jt_ul_n e]
theorem jt_ow_c' {ls : Nat → List Nat} {s : Nat} (hs : s < 4) (a : Nat) : (jt_ow ls).count a = (ls s).count a + (jt_ot ls s).count a := by
  have q := jt_ow_c (ls := ls) hs (ls s) a
  rw [jt_ul_id] at q
  exact q
theorem jt_ow_m {ls : Nat → List Nat} {s i : Nat} (hs : s < 4) (hi : i ∈ ls s) : i ∈ jt_ow ls := by
  have q := jt_ow_c' (ls := ls) hs i
  have p := List.count_pos_iff.mpr hi
  exact List.count_pos_iff.mp (by omega)
theorem jt_ot_m {ls : Nat → List Nat} {s t i : Nat} (ht : t < 4) (n : t ≠ s) (hi : i ∈ ls t) : i ∈ jt_ot ls s := jt_ow_m ht (by rw [jt_ul_n n]; exact hi)
theorem jt_ot_o {ls : Nat → List Nat} {s i : Nat} (hs : s < 4) (hi : i ∈ jt_ot ls s) : i ∈ jt_ow ls := by
  have q := jt_ow_c' (ls := ls) hs i
  have p := List.count_pos_iff.mpr hi
  exact List.count_pos_iff.mp (by omega)
def jt_XB (h : jt_H) (K : Nat → Int32) (rt : Nat → Nat) (fc : Nat) (fr : Nat → Nat) (ls : Nat → List Nat) (f : Nat → List Int32) (xt : List Nat) : Prop :=
  (∀ s, s < 4 → jt_T h (rt s) (ls s) ∧ (ls s).map K = f s ∧ jt_S K (ls s) ∧ (ls s).length ≤ 20) ∧ jt_PI fc fr (jt_ow ls ++ xt)
def jt_XI (u : SX) (f : Nat → List Int32) : Prop := ∃ fc we lo hi ex h K rt fr wy wr F ls, u = jt_s fc we lo hi ex h K rt fr wy wr F ∧ jt_XB h K rt fc fr ls f []
theorem jt_XI_mk {fc we lo hi ex : Nat} {h : jt_H} {K : Nat → Int32} {rt fr wy : Nat → Nat} {wr : Nat → Int32} {F : jt_F} {ls : Nat → List Nat} {f : Nat → List Int32} (B : jt_XB h K rt fc fr ls f []) : jt_XI (jt_s fc we lo hi ex h K rt fr wy wr F) f :=
  ⟨fc, we, lo, hi, ex, h, K, rt, fr, wy, wr, F, ls, rfl, B⟩
theorem jt_XI_el {P : SX → Prop} {u : SX} {f : Nat → List Int32} (I : jt_XI u f) (H : ∀ fc we lo hi ex h K rt fr wy wr F ls, jt_XB h K rt fc fr ls f [] → P (jt_s fc we lo hi ex h K rt fr wy wr F)) : P u := by
  obtain ⟨fc, we, lo, hi, ex, h, K, rt, fr, wy, wr, F, ls, e, B⟩ := I
  rw [e]
  exact H fc we lo hi ex h K rt fr wy wr F ls B
section
variable {h h' : jt_H} {K K' : Nat → Int32} {rt fr fr' : Nat → Nat} {fc fc' : Nat} {ls : Nat → List Nat} {f : Nat → List Int32} {xt xt' : List Nat}
theorem jt_XB_out (B : jt_XB h K rt fc fr ls f xt) {s : Nat} (hs : s < 4) : jt_PI fc fr (ls s ++ (jt_ot ls s ++ xt)) := by
  refine jt_PI_congr B.2 ?_
  intro a
  rw [List.count_append, List.count_append, List.count_append, jt_ow_c' hs]
  omega
theorem jt_XB_len (B : jt_XB h K rt fc fr ls f xt) : (jt_ow ls).length ≤ 80 := by
  unfold jt_ow
  have h0 := (B.1 0 (by omega)).2.2.2
  have h1 := (B.1 1 (by omega)).2.2.2
  have h2 := (B.1 2 (by omega)).2.2.2
  have h3 := (B.1 3 (by omega)).2.2.2
  simp only [List.length_append]
  omega
theorem jt_XB_fc (B : jt_XB h K rt fc fr ls f xt) : 175 ≤ fc + xt.length := by
  have a := jt_XB_len B
  have b := jt_PI_len B.2
  rw [List.length_append] at b
  omega
theorem jt_XB_put (B : jt_XB h K rt fc fr ls f xt) {s r : Nat} {l : List Nat} (hs : s < 4) (T : jt_T h' r l) (P : jt_PI fc' fr' (l ++ (jt_ot ls s ++ xt'))) (g : ∀ i, i ∈ jt_ot ls s → jt_G h h' i ∧ K' i = K i) (S : jt_S K' l) (len : l.length ≤ 20) :
    jt_XB h' K' (jt_up rt s r) fc' fr' (jt_ul ls s l) (jt_uf f s (l.map K')) xt' := by
  constructor
  · intro t ht
    by_cases e : t = s
    · subst e
      rw [jt_up_s, jt_ul_s, jt_uf_s]
      exact ⟨T, rfl, S, len⟩
    · rw [jt_up_n e, jt_ul_n e, jt_uf_n e]
      obtain ⟨b1, b2, b3, b4⟩ := B.1 t ht
      have gt : ∀ i, i ∈ ls t → jt_G h h' i ∧ K' i = K i := fun i hi => g i (jt_ot_m ht e hi)
      have em : (ls t).map K' = (ls t).map K := List.map_congr_left (fun i hi => (gt i hi).2)
      refine ⟨jt_T_fr b1 (jt_T_z T) (fun i hi => (gt i hi).1), em.trans b2, ?_, b4⟩
      rw [jt_S_map, em, ← jt_S_map]
      exact b3
  · refine jt_PI_congr P ?_
    intro a
    rw [List.count_append, List.count_append, List.count_append, jt_ow_c hs]
    omega
theorem jt_XB_keep (B : jt_XB h K rt fc fr ls f xt) (z : h'.2.2 0 = 0) (P : jt_PI fc' fr' (jt_ow ls ++ xt')) (g : ∀ i, i ∈ jt_ow ls → jt_G h h' i ∧ K' i = K i) : jt_XB h' K' rt fc' fr' ls f xt' := by
  constructor
  · intro t ht
    obtain ⟨b1, b2, b3, b4⟩ := B.1 t ht
    have gt : ∀ i, i ∈ ls t → jt_G h h' i ∧ K' i = K i := fun i hi => g i (jt_ow_m ht hi)
    have em : (ls t).map K' = (ls t).map K := List.map_congr_left (fun i hi => (gt i hi).2)
    refine ⟨jt_T_fr b1 z (fun i hi => (gt i hi).1), em.trans b2, ?_, b4⟩
    rw [jt_S_map, em, ← jt_S_map]
    exact b3
  · exact P
end
/-! sets and no sets -/
def jt_bad (p : Int32) : Prop := p < 0 ∨ nI 4 ≤ p
theorem jt_set (p : Int32) : jt_bad p ∨ ∃ s, s < 4 ∧ p = nI s := by
  rcases pk_ix p (n := 4) (by decide) with q | q | q
  · exact Or.inl (Or.inl q)
  · exact Or.inl (Or.inr q)
  · exact Or.inr q
theorem jt_is_t {post : Int32 → Prop} {u : SX} {s : Nat} (hs : s < 4) (H : post 1) : wpX_isSet post u (nI s) :=
  br_f (nI_pos (by omega)) (br_f (nI_nlt (a := 3) (b := s) (by omega) (by omega) : ¬ nI 3 < nI s) H)
theorem jt_is_f {post : Int32 → Prop} {u : SX} {p : Int32} (hp : jt_bad p) (H : post 0) : wpX_isSet post u p := by
  by_cases c : p < 0
  · exact br_t c H
  · refine br_f c (br_t ?_ H)
    have q := hp.resolve_left c
    rw [Int32.le_iff_toInt_le] at q
    rw [Int32.lt_iff_toInt_lt]
    rw [show (nI 4).toInt = 4 from by decide] at q
    rw [show (3 : Int32).toInt = 3 from by decide]
    omega
def jt_h17 (post : Int32 → Prop) (x2 : Int32) (n : Nat) (x3 : Int32) (u : SX) : Prop := wX_has_17 post x2 u.1 u.2.1 u.2.2.1 u.2.2.2.1 u.2.2.2.2.1 u.2.2.2.2.2.1 u.2.2.2.2.2.2.1 u.2.2.2.2.2.2.2.1 u.2.2.2.2.2.2.2.2.1 u.2.2.2.2.2.2.2.2.2.1 u.2.2.2.2.2.2.2.2.2.2.1 u.2.2.2.2.2.2.2.2.2.2.2.1 u.2.2.2.2.2.2.2.2.2.2.2.2.1 u.2.2.2.2.2.2.2.2.2.2.2.2.2.1 u.2.2.2.2.2.2.2.2.2.2.2.2.2.2.1 u.2.2.2.2.2.2.2.2.2.2.2.2.2.2.2.1 u.2.2.2.2.2.2.2.2.2.2.2.2.2.2.2.2.1 u.2.2.2.2.2.2.2.2.2.2.2.2.2.2.2.2.2 n x3
def jt_k20 (post : Int32 → Prop) (x2 : Int32) (n : Nat) (x3 x4 : Int32) (u : SX) : Prop := wX_rank_20 post x2 u.1 u.2.1 u.2.2.1 u.2.2.2.1 u.2.2.2.2.1 u.2.2.2.2.2.1 u.2.2.2.2.2.2.1 u.2.2.2.2.2.2.2.1 u.2.2.2.2.2.2.2.2.1 u.2.2.2.2.2.2.2.2.2.1 u.2.2.2.2.2.2.2.2.2.2.1 u.2.2.2.2.2.2.2.2.2.2.2.1 u.2.2.2.2.2.2.2.2.2.2.2.2.1 u.2.2.2.2.2.2.2.2.2.2.2.2.2.1 u.2.2.2.2.2.2.2.2.2.2.2.2.2.2.1 u.2.2.2.2.2.2.2.2.2.2.2.2.2.2.2.1 u.2.2.2.2.2.2.2.2.2.2.2.2.2.2.2.2.1 u.2.2.2.2.2.2.2.2.2.2.2.2.2.2.2.2.2 n x3 x4
def jt_t39 (post : Int32 → Prop) (n : Nat) (x3 x4 : Int32) (u : SX) : Prop := wX_at_39 post u.1 u.2.1 u.2.2.1 u.2.2.2.1 u.2.2.2.2.1 u.2.2.2.2.2.1 u.2.2.2.2.2.2.1 u.2.2.2.2.2.2.2.1 u.2.2.2.2.2.2.2.2.1 u.2.2.2.2.2.2.2.2.2.1 u.2.2.2.2.2.2.2.2.2.2.1 u.2.2.2.2.2.2.2.2.2.2.2.1 u.2.2.2.2.2.2.2.2.2.2.2.2.1 u.2.2.2.2.2.2.2.2.2.2.2.2.2.1 u.2.2.2.2.2.2.2.2.2.2.2.2.2.2.1 u.2.2.2.2.2.2.2.2.2.2.2.2.2.2.2.1 u.2.2.2.2.2.2.2.2.2.2.2.2.2.2.2.2.1 u.2.2.2.2.2.2.2.2.2.2.2.2.2.2.2.2.2 n x3 x4
def jt_rk (x : Int32) (l : List Int32) : Nat := l.countP (fun z => decide (z < x))
section
variable {fc we lo hi ex : Nat} {h : jt_H} {K : Nat → Int32} {rt fr wy : Nat → Nat} {wr : Nat → Int32} {F : jt_F}
theorem jt_dh {post : Int32 → Prop} {x : Int32} {t : Nat} {l : List Nat} (T : jt_T h t l) : jt_S K l → (x ∈ l.map K → post 1) → (x ∉ l.map K → post 0) → ∀ n, l.length < n → jt_h17 post x n (nI t) (jt_s fc we lo hi ex h K rt fr wy wr F) := by
  refine jt_T_ind (P := fun t l => jt_S K l → (x ∈ l.map K → post 1) → (x ∉ l.map K → post 0) → ∀ n, l.length < n → jt_h17 post x n (nI t) (jt_s fc we lo hi ex h K rt fr wy wr F)) ?_ ?_ T
  · intro z s H1 H0 n hn
    obtain ⟨n, rfl⟩ : ∃ k, n = k + 1 := ⟨n - 1, by omega⟩
    exact br_t rfl (br_t rfl (H0 (by simp)))
  · intro p l1 l2 hp hb t1 t2 c ih1 ih2 s H1 H0 n hn
    have hlen : (l1 ++ p :: l2).length = l1.length + l2.length + 1 := by rw [List.length_append, List.length_cons]; omega
    obtain ⟨n, rfl⟩ : ∃ k, n = k + 1 := ⟨n - 1, by omega⟩
    obtain ⟨s1, s2, s3, s4⟩ := jt_S_node.mp s
    have p0 : ¬ nI p = 0 := nI_ne0 (by omega) (by omega)
    have ec : (nI p).toNatClampNeg = p := jt_cl (by omega)
    have mm : x ∈ (l1 ++ p :: l2).map K ↔ x ∈ l1.map K ∨ x = K p ∨ x ∈ l2.map K := by
      simp only [List.map_append, List.mem_append, List.map_cons, List.mem_cons]
    rw [mm] at H1 H0
    have a1 : x ∈ l1.map K → x < K p := by
      intro q
      obtain ⟨i, hi, rfl⟩ := List.mem_map.mp q
      exact s3 i hi
    have a2 : x ∈ l2.map K → K p < x := by
      intro q
      obtain ⟨i, hi, rfl⟩ := List.mem_map.mp q
      exact s4 i hi
    refine br_f p0 (And.intro (jt_v256 hb) ?_)
    by_cases c1 : K p = x
    · exact br_t (by rw [ec]; exact c1) (br_f p0 (H1 (Or.inr (Or.inl c1.symm))))
    · refine br_f (by rw [ec]; exact c1) (And.intro (jt_v256 hb) ?_)
      by_cases c2 : K p ≤ x
      · refine br_t (by rw [ec]; exact c2) (And.intro (jt_v256 hb) (nm_r (e' := nI (h.2.1 p)) (jt_rd (by omega) rfl) ?_))
        refine ih2 s2 (fun q => H1 (Or.inr (Or.inr q))) (fun q => H0 ?_) n (by omega)
        intro w
        rcases w with w | w | w
        · exact absurd c2 (Int32.not_le.mpr (a1 w))
        · exact c1 w.symm
        · exact q w
      · refine br_f (by rw [ec]; exact c2) (And.intro (jt_v256 hb) (nm_r (e' := nI (h.1 p)) (jt_rd (by omega) rfl) ?_))
        refine ih1 s1 (fun q => H1 (Or.inl q)) (fun q => H0 ?_) n (by omega)
        intro w
        rcases w with w | w | w
        · exact q w
        · exact c1 w.symm
        · exact c2 (Int32.le_of_lt (a2 w))
theorem jt_rk_node {l1 l2 : List Int32} {y x : Int32} : jt_rk x (l1 ++ y :: l2) = jt_rk x l1 + jt_rk x l2 + (if y < x then 1 else 0) := by
  unfold jt_rk
  rw [List.countP_append, List.countP_cons]
  simp only [decide_eq_true_eq]
  omega
theorem jt_rk_all {l : List Int32} {x : Int32} (a : ∀ z, z ∈ l → z < x) : jt_rk x l = l.length := by
  unfold jt_rk
  rw [List.countP_eq_length]
  intro z hz
  exact decide_eq_true (a z hz)
theorem jt_rk_none {l : List Int32} {x : Int32} (a : ∀ z, z ∈ l → ¬ z < x) : jt_rk x l = 0 := by
  unfold jt_rk
  rw [List.countP_eq_zero]
  intro z hz q
  exact a z hz (of_decide_eq_true q)
theorem jt_dk {post : Int32 → Prop} {x : Int32} {t : Nat} {l : List Nat} (T : jt_T h t l) : ∀ acc, jt_S K l → post (nI (acc + jt_rk x (l.map K))) → ∀ n, l.length < n → jt_k20 post x n (nI t) (nI acc) (jt_s fc we lo hi ex h K rt fr wy wr F) := by
  refine jt_T_ind (P := fun t l => ∀ acc, jt_S K l → post (nI (acc + jt_rk x (l.map K))) → ∀ n, l.length < n → jt_k20 post x n (nI t) (nI acc) (jt_s fc we lo hi ex h K rt fr wy wr F)) ?_ ?_ T
  · intro z acc s H n hn
    obtain ⟨n, rfl⟩ : ∃ k, n = k + 1 := ⟨n - 1, by omega⟩
    exact br_t rfl H
  · intro p l1 l2 hp hb t1 t2 c ih1 ih2 acc s H n hn
    have hlen : (l1 ++ p :: l2).length = l1.length + l2.length + 1 := by rw [List.length_append, List.length_cons]; omega
    obtain ⟨n, rfl⟩ : ∃ k, n = k + 1 := ⟨n - 1, by omega⟩
    obtain ⟨s1, s2, s3, s4⟩ := jt_S_node.mp s
    have ec : (nI p).toNatClampNeg = p := jt_cl (by omega)
    have u1 := jt_T_lt t1
    have w1 := jt_T_c t1
    rw [List.map_append, List.map_cons, jt_rk_node] at H
    refine br_f (nI_ne0 (by omega) (by omega)) (And.intro (jt_v256 hb) ?_)
    by_cases c1 : x ≤ K p
    · refine br_t (by rw [ec]; exact c1) (And.intro (jt_v256 hb) (nm_r (e' := nI (h.1 p)) (jt_rd (by omega) rfl) ?_))
      refine ih1 acc s1 ?_ n (by omega)
      rw [if_neg (Int32.not_lt.mpr c1), jt_rk_none (l := l2.map K)] at H
      · exact H
      · intro z hz
        obtain ⟨i, hi, rfl⟩ := List.mem_map.mp hz
        exact Int32.not_lt.mpr (Int32.le_of_lt (Int32.lt_of_le_of_lt c1 (s4 i hi)))
    · have c2 : K p < x := Int32.not_le.mp c1
      have e1 : (fun i => nI (h.1 i)) (nI p).toNatClampNeg = nI (h.1 p) := jt_rd (by omega) rfl
      have e2 : (fun i => nI (h.2.2 i)) ((fun i => nI (h.1 i)) (nI p).toNatClampNeg).toNatClampNeg = nI l1.length := by
        rw [e1]
        exact jt_rd (by omega) w1
      have e3 : nI acc + ((fun i => nI (h.2.2 i)) ((fun i => nI (h.1 i)) (nI p).toNatClampNeg).toNatClampNeg + 1) = nI (acc + (l1.length + 1)) := by
        rw [e2, nI_1, nI_add]
      refine br_f (by rw [ec]; exact c1) (And.intro (jt_v256 hb) (And.intro (jt_vr (by omega) rfl u1 (by decide)) (nm_r (e' := nI (acc + (l1.length + 1))) e3 (And.intro (jt_v256 hb) (nm_r (e' := nI (h.2.1 p)) (jt_rd (by omega) rfl) ?_)))))
      refine ih2 (acc + (l1.length + 1)) s2 ?_ n (by omega)
      rw [if_pos c2, jt_rk_all (l := l1.map K), List.length_map] at H
      · rw [show acc + (l1.length + 1) + jt_rk x (l2.map K) = acc + (l1.length + jt_rk x (l2.map K) + 1) by omega]
        exact H
      · intro z hz
        obtain ⟨i, hi, rfl⟩ := List.mem_map.mp hz
        exact Int32.lt_trans (s3 i hi) c2
theorem jt_dt {post : Int32 → Prop} {t : Nat} {l : List Nat} (T : jt_T h t l) : l.length < 200 → ∀ k, k < l.length → (∀ i, l[k]? = some i → post (K i)) → ∀ n, l.length < n → jt_t39 post n (nI t) (nI k) (jt_s fc we lo hi ex h K rt fr wy wr F) := by
  refine jt_T_ind (P := fun t l => l.length < 200 → ∀ k, k < l.length → (∀ i, l[k]? = some i → post (K i)) → ∀ n, l.length < n → jt_t39 post n (nI t) (nI k) (jt_s fc we lo hi ex h K rt fr wy wr F)) ?_ ?_ T
  · intro z hl k hk
    exact absurd hk (by simp)
  · intro p l1 l2 hp hb t1 t2 c ih1 ih2 hl k hk H n hn
    have hlen : (l1 ++ p :: l2).length = l1.length + l2.length + 1 := by rw [List.length_append, List.length_cons]; omega
    obtain ⟨n, rfl⟩ : ∃ k, n = k + 1 := ⟨n - 1, by omega⟩
    have ec : (nI p).toNatClampNeg = p := jt_cl (by omega)
    have u1 := jt_T_lt t1
    have w1 := jt_T_c t1
    have e1 : (fun i => nI (h.1 i)) (nI p).toNatClampNeg = nI (h.1 p) := jt_rd (by omega) rfl
    have e2 : (fun i => nI (h.2.2 i)) ((fun i => nI (h.1 i)) (nI p).toNatClampNeg).toNatClampNeg = nI l1.length := by
      rw [e1]
      exact jt_rd (by omega) w1
    have vL : vp_in ((fun i => nI (h.1 i)) (nI p).toNatClampNeg) 256 := jt_vr (by omega) rfl u1 (by decide)
    refine And.intro (jt_v256 hb) (And.intro vL ?_)
    refine pk_eq k l1.length (fun q => ?_) (fun q => ?_) rfl e2 (by omega) (by omega)
    · refine And.intro (jt_v256 hb) ?_
      have H' := H p (by rw [q]; simp)
      exact (congrArg (fun z => post (K z)) ec).mpr H'
    · refine And.intro (jt_v256 hb) (And.intro vL ?_)
      refine pk_le l1.length k (fun q2 => ?_) (fun q2 => ?_) e2 rfl (by omega) (by omega)
      · have e3 : nI k - ((fun i => nI (h.2.2 i)) ((fun i => nI (h.1 i)) (nI p).toNatClampNeg).toNatClampNeg + 1) = nI (k - (l1.length + 1)) := by
          rw [e2, nI_1, pk_sub (by omega)]
        refine And.intro (jt_v256 hb) (And.intro vL (nm_r (e' := nI (k - (l1.length + 1))) e3 (And.intro (jt_v256 hb) (nm_r (e' := nI (h.2.1 p)) (jt_rd (by omega) rfl) ?_))))
        refine ih2 (by omega) (k - (l1.length + 1)) (by omega) ?_ n (by omega)
        intro i hi
        refine H i ?_
        rw [List.getElem?_append_right (by omega), show k - l1.length = (k - (l1.length + 1)) + 1 by omega, List.getElem?_cons_succ]
        exact hi
      · refine And.intro (jt_v256 hb) (nm_r (e' := nI (h.1 p)) e1 ?_)
        refine ih1 (by omega) k (by omega) ?_ n (by omega)
        intro i hi
        refine H i ?_
        rw [List.getElem?_append_left (by omega)]
        exact hi
end
end
section
/-! the component's methods over its invariant: single ints, split, removeRange -/
theorem jt_S_cg {K K' : Nat → Int32} {l : List Nat} (s : jt_S K l) (e : ∀ i, i ∈ l → K' i = K i) : jt_S K' l := by
  rw [jt_S_map, List.map_congr_left e, ← jt_S_map]
  exact s
theorem jt_ct {g rt : Nat → Nat} {s n : Nat} (hs : s < 4) (hr : rt s < 256) (e : g (rt s) = n) : (fun i => nI (g i)) ((fun i => nI (rt i)) (nI s).toNatClampNeg).toNatClampNeg = nI n := by
  rw [jt_rd (f := rt) (v := rt s) (by omega) rfl]
  exact jt_rd (by omega) e
def jt_p61 (post : Int32 → SX → Prop) (x1 x3 x4 x5 : Int32) (u : SX) : Prop := wX_split_61 post x1 x3 x4 x5 u.1 u.2.1 u.2.2.1 u.2.2.2.1 u.2.2.2.2.1 u.2.2.2.2.2.1 u.2.2.2.2.2.2.1 u.2.2.2.2.2.2.2.1 u.2.2.2.2.2.2.2.2.1 u.2.2.2.2.2.2.2.2.2.1 u.2.2.2.2.2.2.2.2.2.2.1 u.2.2.2.2.2.2.2.2.2.2.2.1 u.2.2.2.2.2.2.2.2.2.2.2.2.1 u.2.2.2.2.2.2.2.2.2.2.2.2.2.1 u.2.2.2.2.2.2.2.2.2.2.2.2.2.2.1 u.2.2.2.2.2.2.2.2.2.2.2.2.2.2.2.1 u.2.2.2.2.2.2.2.2.2.2.2.2.2.2.2.2.1 u.2.2.2.2.2.2.2.2.2.2.2.2.2.2.2.2.2
section
variable {u : SX} {f : Nat → List Int32}
theorem jt_x_has {post : Int32 → Prop} (I : jt_XI u f) {s : Nat} (hs : s < 4) {x : Int32} (H1 : x ∈ f s → post 1) (H0 : x ∉ f s → post 0) : wpX_has post u (nI s) x := by
  refine jt_XI_el (P := fun u => wpX_has post u (nI s) x) I ?_
  intro fc we lo hi ex h K rt fr wy wr F ls B
  obtain ⟨T, em, S, len⟩ := B.1 s hs
  rw [← em] at H1 H0
  unfold wpX_has
  refine jt_is_t hs ?_
  refine br_f (by decide) (And.intro (jt_v4 hs) (nm_r (e' := nI (rt s)) (jt_rd (by omega) rfl) ⟨(ls s).length + 1, ?_⟩))
  exact jt_dh T S H1 H0 _ (by omega)
theorem jt_x_size {post : Int32 → Prop} (I : jt_XI u f) {s : Nat} (hs : s < 4) (H : post (nI (f s).length)) : wpX_size post u (nI s) := by
  refine jt_XI_el (P := fun u => wpX_size post u (nI s)) I ?_
  intro fc we lo hi ex h K rt fr wy wr F ls B
  obtain ⟨T, em, S, len⟩ := B.1 s hs
  rw [← em, List.length_map] at H
  have rb := jt_T_lt T
  unfold wpX_size
  refine jt_is_t hs ?_
  refine br_f (by decide) (And.intro (jt_v4 hs) (And.intro (jt_vr (by omega) rfl rb (by decide)) ?_))
  exact (congrArg post (jt_ct hs rb (jt_T_c T))).mpr H
theorem jt_x_rank {post : Int32 → Prop} (I : jt_XI u f) {s : Nat} (hs : s < 4) {x : Int32} (H : post (nI (jt_rk x (f s)))) : wpX_rank post u (nI s) x := by
  refine jt_XI_el (P := fun u => wpX_rank post u (nI s) x) I ?_
  intro fc we lo hi ex h K rt fr wy wr F ls B
  obtain ⟨T, em, S, len⟩ := B.1 s hs
  rw [← em] at H
  unfold wpX_rank
  refine jt_is_t hs ?_
  refine br_f (by decide) (And.intro (jt_v4 hs) (nm_r (e' := nI (rt s)) (jt_rd (by omega) rfl) ⟨(ls s).length + 1, ?_⟩))
  exact jt_dk T 0 S (by rw [Nat.zero_add]; exact H) _ (by omega)
theorem jt_x_ceiling {post : Int32 → Prop} (I : jt_XI u f) {s : Nat} (hs : s < 4) {x : Int32} (H1 : jt_rk x (f s) < (f s).length → post (nI (jt_rk x (f s)))) (H0 : (f s).length ≤ jt_rk x (f s) → post (-3)) : wpX_ceiling post u (nI s) x := by
  refine jt_XI_el (P := fun u => wpX_ceiling post u (nI s) x) I ?_
  intro fc we lo hi ex h K rt fr wy wr F ls B
  obtain ⟨T, em, S, len⟩ := B.1 s hs
  have rb := jt_T_lt T
  have ee : (f s).length = (ls s).length := by rw [← em, List.length_map]
  have rl : jt_rk x (f s) ≤ (f s).length := List.countP_le_length
  unfold wpX_ceiling
  refine jt_is_t hs (br_f (by decide) ?_)
  refine jt_x_rank (jt_XI_mk B) hs ?_
  refine And.intro (jt_v4 hs) (And.intro (jt_vr (by omega) rfl rb (by decide)) ?_)
  exact pk_le (f s).length (jt_rk x (f s)) (fun c => H0 c) (fun c => H1 c) (jt_ct hs rb ((jt_T_c T).trans ee.symm)) rfl (by omega) (by omega)
theorem jt_x_at {post : Int32 → Prop} (I : jt_XI u f) {s : Nat} (hs : s < 4) {p : Int32} (H0 : (∀ k, k < (f s).length → p ≠ nI k) → post 0) (H1 : ∀ k z, p = nI k → (f s)[k]? = some z → post z) : wpX_at post u (nI s) p := by
  refine jt_XI_el (P := fun u => wpX_at post u (nI s) p) I ?_
  intro fc we lo hi ex h K rt fr wy wr F ls B
  obtain ⟨T, em, S, len⟩ := B.1 s hs
  have rb := jt_T_lt T
  have ee : (f s).length = (ls s).length := by rw [← em, List.length_map]
  unfold wpX_at
  refine jt_is_t hs (br_f (by decide) ?_)
  by_cases c : p < 0
  · refine br_t c (H0 ?_)
    intro k hk q
    rw [q] at c
    exact nI_pos (by omega) c
  · obtain ⟨k, hk, rfl⟩ := nI_of c
    refine br_f c (And.intro (jt_v4 hs) (And.intro (jt_vr (by omega) rfl rb (by decide)) ?_))
    refine pk_lt k (ls s).length (fun c2 => ?_) (fun c2 => ?_) rfl (jt_ct hs rb (jt_T_c T)) hk (by omega)
    · refine And.intro (jt_v4 hs) (nm_r (e' := nI (rt s)) (jt_rd (by omega) rfl) ⟨(ls s).length + 1, ?_⟩)
      refine jt_dt T (by omega) k c2 ?_ _ (by omega)
      intro i hi
      refine H1 k (K i) rfl ?_
      rw [← em, List.getElem?_map, hi]
      rfl
    · refine H0 ?_
      intro j hj q
      rw [nI_eq hk (by omega)] at q
      omega
theorem jt_x_add {post : Int32 → SX → Prop} (I : jt_XI u f) {s : Nat} (hs : s < 4) {x : Int32} (H0 : x ∈ f s → post 0 u) (H1 : x ∉ f s → (f s).length = 20 → post (-2) u)
    (H2 : x ∉ f s → (f s).length < 20 → ∀ u' l, jt_XI u' (jt_uf f s l) → (∀ z, z ∈ l ↔ z ∈ f s ∨ z = x) → post 1 u') : wpX_add post u (nI s) x := by
  revert H0 H1
  refine jt_XI_el (P := fun u => (x ∈ f s → post 0 u) → (x ∉ f s → (f s).length = 20 → post (-2) u) → wpX_add post u (nI s) x) I ?_
  intro fc we lo hi ex h K rt fr wy wr F ls B H0 H1
  obtain ⟨T, em, S, len⟩ := B.1 s hs
  have rb := jt_T_lt T
  have ee : (f s).length = (ls s).length := by rw [← em, List.length_map]
  unfold wpX_add
  refine jt_is_t hs (br_f (by decide) ?_)
  refine jt_x_has (jt_XI_mk B) hs (fun q => br_f (by decide) (H0 q)) (fun q => br_t rfl (And.intro (jt_v4 hs) (And.intro (jt_vr (by omega) rfl rb (by decide)) ?_)))
  refine pk_lt (f s).length 20 (fun c => And.intro (jt_v4 hs) ?_) (fun c => H1 q (by omega)) (jt_ct hs rb ((jt_T_c T).trans ee.symm)) rfl (by omega) (by omega)
  refine jt_split (jt_rd (by omega) rfl) T S (by omega) ?_
  intro h' a b e ll lh wy' wr' r ta tb o
  have e0 : e = 0 ∧ ls s = ll ++ lh := by
    rcases r.1 with w | ⟨w0, w1, w2⟩
    · exact w
    · refine absurd ?_ q
      rw [← em, w1, ← w2]
      exact List.mem_map.mpr ⟨e, by simp, rfl⟩
  obtain ⟨e0, el⟩ := e0
  have P := jt_XB_out B hs
  have fcb := jt_XB_fc B
  obtain ⟨fc, rfl⟩ : ∃ k, fc = k + 1 := ⟨fc - 1, by simp at fcb; omega⟩
  obtain ⟨m, fm⟩ : ∃ m, fr fc = m := ⟨_, rfl⟩
  have P1 := jt_PI_new P
  rw [fm] at P1
  have nd := jt_PI_nd P1
  have mb := jt_PI_mem P1 (List.mem_cons_self (a := m))
  have ln := jt_PI_len P1
  simp only [List.length_cons] at ln
  have m0 : m ≠ 0 := by omega
  have md : m ∉ ls s ∧ m ∉ jt_ot ls s ∧ (∀ i, i ∈ jt_ot ls s → i ∉ ls s) := by grind
  obtain ⟨md1, md2, md3⟩ := md
  have nds := jt_S_nd S
  obtain ⟨s1, s2, s3⟩ := jt_S_app.mp (el ▸ S)
  have mll : m ∉ ll := fun w => md1 (by rw [el]; exact List.mem_append_left _ w)
  have mlh : m ∉ lh := fun w => md1 (by rw [el]; exact List.mem_append_right _ w)
  refine jt_new (n := m) (by omega) fm mb.2 ?_
  have o2 : jt_O h' (jt_up h'.1 m 0, jt_up h'.2.1 m 0, jt_up h'.2.2 m 1) [m] := fun i hi => ⟨jt_up_n (fun w => hi (w ▸ List.mem_cons_self)), jt_up_n (fun w => hi (w ▸ List.mem_cons_self)), jt_up_n (fun w => hi (w ▸ List.mem_cons_self))⟩
  have z1 : 0 ∉ [m] := fun w => m0 (List.mem_singleton.mp w).symm
  have ta2 := jt_T_off ta o2 (fun i hi w => mll ((List.mem_singleton.mp w) ▸ hi)) z1
  have tb2 := jt_T_off tb o2 (fun i hi w => mlh ((List.mem_singleton.mp w) ▸ hi)) z1
  have ll' : ll.length + lh.length = (ls s).length := by rw [el, List.length_append]
  have ndm : (ll ++ m :: lh).Nodup := by grind
  refine jt_join (h := (jt_up h'.1 m 0, jt_up h'.2.1 m 0, jt_up h'.2.2 m 1)) rfl rfl rfl m0 mb.2 ta2 tb2 ndm (by omega) ?_
  intro h3 r3 wy3 wr3 T3 o3 _ _
  have r3b := jt_T_lt T3
  have kk : ∀ i, i ≠ m → upd K m x i = K i := fun i hi => pk_un hi
  refine And.intro (jt_v4 hs) (nm_r (e' := fun i => nI (jt_up rt s r3 i)) (jt_wr (by omega) (by omega)) (H2 q c _ ((ll ++ m :: lh).map (upd K m x)) (jt_XI_mk (jt_XB_put B (xt' := []) hs T3 ?_ ?_ ?_ ?_)) ?_))
  · refine jt_PI_congr P1 ?_
    intro y
    rw [el]
    simp only [List.count_append, List.count_cons]
    omega
  · intro i hi
    have im : i ≠ m := fun w => md2 (w ▸ hi)
    have i1 := o i (md3 i hi)
    have i2 := o2 i (fun w => im (List.mem_singleton.mp w))
    have i3 := o3 i (by have := md3 i hi; rw [el] at this; grind)
    exact ⟨jt_G_tr i1 (jt_G_tr i2 i3), kk i im⟩
  · refine jt_S_node.mpr ⟨jt_S_cg s1 (fun i hi => kk i (fun w => mll (w ▸ hi))), jt_S_cg s2 (fun i hi => kk i (fun w => mlh (w ▸ hi))), ?_, ?_⟩
    · intro i hi
      rw [kk i (fun w => mll (w ▸ hi)), pk_us]
      exact r.2.1 i hi
    · intro i hi
      rw [kk i (fun w => mlh (w ▸ hi)), pk_us]
      exact r.2.2 i hi
  · simp only [List.length_append, List.length_cons]; omega
  · intro z
    have x1 : ll.map (upd K m x) = ll.map K := List.map_congr_left (fun i hi => kk i (fun w => mll (w ▸ hi)))
    have x2 : lh.map (upd K m x) = lh.map K := List.map_congr_left (fun i hi => kk i (fun w => mlh (w ▸ hi)))
    rw [List.map_append, List.map_cons, x1, x2, pk_us, ← em, el, List.map_append]
    simp only [List.mem_append, List.mem_cons]
    grind
theorem jt_x_remove {post : Int32 → SX → Prop} (I : jt_XI u f) {s : Nat} (hs : s < 4) {x : Int32} (H0 : x ∉ f s → post 0 u)
    (H1 : x ∈ f s → ∀ u' l, jt_XI u' (jt_uf f s l) → (∀ z, z ∈ l ↔ z ∈ f s ∧ z ≠ x) → post 1 u') : wpX_remove post u (nI s) x := by
  revert H0
  refine jt_XI_el (P := fun u => (x ∉ f s → post 0 u) → wpX_remove post u (nI s) x) I ?_
  intro fc we lo hi ex h K rt fr wy wr F ls B H0
  obtain ⟨T, em, S, len⟩ := B.1 s hs
  have rb := jt_T_lt T
  unfold wpX_remove
  refine jt_is_t hs (br_f (by decide) ?_)
  refine jt_x_has (jt_XI_mk B) hs (fun q => br_f (by decide) (And.intro (jt_v4 hs) ?_)) (fun q => br_t rfl (H0 q))
  refine jt_split (jt_rd (by omega) rfl) T S (by omega) ?_
  intro h' a b e ll lh wy' wr' r ta tb o
  have P := jt_XB_out B hs
  have nd := jt_PI_nd P
  obtain ⟨u1, u2, u3, u4, sl, sh⟩ := jt_SR_sub S r
  refine jt_relSR rfl r P ?_
  intro fc' fr' P'
  have sj : jt_S K (ll ++ lh) := jt_S_app.mpr ⟨sl, sh, fun i hi j hj => Int32.lt_trans (r.2.1 i hi) (r.2.2 j hj)⟩
  refine jt_join2 rfl rfl ta tb sj (by omega) ?_
  intro h3 r3 we3 lo3 hi3 ex3 wy3 wr3 T3 o3
  have r3b := jt_T_lt T3
  refine And.intro (jt_v4 hs) (nm_r (e' := fun i => nI (jt_up rt s r3 i)) (jt_wr (by omega) (by omega)) (H1 q _ ((ll ++ lh).map K) (jt_XI_mk (jt_XB_put B (xt' := []) hs T3 ?_ ?_ sj ?_)) ?_))
  · rw [List.append_assoc]; exact P'
  · intro i hi
    have d : i ∉ ls s := by grind
    have i1 := o i d
    have i3 := o3 i (fun w => d ((List.mem_append.mp w).elim (u1 i) (u2 i)))
    exact ⟨jt_G_tr i1 i3, rfl⟩
  · rw [List.length_append]; omega
  · intro z
    have mm := jt_SR_mem r z
    rw [em] at mm
    rw [mm, List.map_append, List.mem_append]
    have b1 : z ∈ ll.map K → z ≠ x := by
      intro w
      obtain ⟨i, hi, rfl⟩ := List.mem_map.mp w
      exact fun w => Int32.lt_irrefl (w ▸ r.2.1 i hi)
    have b2 : z ∈ lh.map K → z ≠ x := by
      intro w
      obtain ⟨i, hi, rfl⟩ := List.mem_map.mp w
      exact fun w => Int32.lt_irrefl (w ▸ r.2.2 i hi)
    constructor
    · intro w
      rcases w with w | w
      · exact ⟨Or.inl w, b1 w⟩
      · exact ⟨Or.inr (Or.inr w), b2 w⟩
    · intro ⟨w, n⟩
      rcases w with w | w | w
      · exact Or.inl w
      · exact absurd w.2 n
      · exact Or.inr w
end
end
section
/-! the component's methods over its invariant: split, removeRange, clear -/
section
variable {fc we lo hi ex : Nat} {h : jt_H} {K : Nat → Int32} {rt fr wy : Nat → Nat} {wr : Nat → Int32} {F : jt_F} {ls : Nat → List Nat} {f : Nat → List Int32} {xt xt' : List Nat}
theorem jt_XB_rel {post : SX → Prop} (B : jt_XB h K rt fc fr ls f xt) {p0 : Int32} {t : Nat} {l : List Nat} (e0 : p0 = nI t) (T : jt_T h t l) (hl : l.length < 64) (hx : ∀ a, xt.count a = (l ++ xt').count a)
    (H : ∀ fc' fr' wy' wr', jt_XB h K rt fc' fr' ls f xt' → post (jt_s fc' 0 lo hi ex h K rt fr' wy' wr' F)) : wpX_releaseTree post (jt_s fc we lo hi ex h K rt fr wy wr F) p0 := by
  refine jt_relTree (rest := jt_ow ls ++ xt') e0 T ?_ hl ?_
  · refine jt_PI_congr B.2 ?_
    intro a
    have := hx a
    simp only [List.count_append] at this ⊢
    omega
  · intro fc' fr' wy' wr' P
    exact H fc' fr' wy' wr' ⟨B.1, P⟩
theorem jt_sp61 {post : Int32 → SX → Prop} {s d a r : Nat} {rt0 : Nat → Nat} {lu : List Nat} (hs : s < 4) (hd : d < 4) (ha : a < 256) (B : jt_XB h K (jt_up rt0 s a) fc fr ls f lu) (T : jt_T h r lu) (S : jt_S K lu) (len : lu.length ≤ 20)
    (H : ∀ u', jt_XI u' (jt_uf f d (lu.map K)) → post (nI lu.length) u') : jt_p61 post (nI s) (nI d) (nI a) (nI r) (jt_s fc we lo hi ex h K rt0 fr wy wr F) := by
  have rb := jt_T_lt T
  obtain ⟨Td, _, _, ld⟩ := B.1 d hd
  have e1 : (fun i => nI (h.2.2 i)) (nI r).toNatClampNeg = nI lu.length := jt_rd (by omega) (jt_T_c T)
  refine And.intro (jt_v4 hs) (nm_r (e' := fun i => nI (jt_up rt0 s a i)) (jt_wr (by omega) (by omega)) (And.intro (jt_v4 hd) ?_))
  refine jt_relTree (rt := jt_up rt0 s a) (rest := jt_ot ls d ++ lu) (jt_rd (by omega) rfl) Td (jt_XB_out B hd) (by omega) ?_
  intro fc' fr' wy' wr' P
  refine And.intro (jt_v4 hd) (nm_r (e' := fun i => nI (jt_up (jt_up rt0 s a) d r i)) (jt_wr (by omega) (by omega)) (And.intro (jt_v256 rb) ?_))
  refine (congrArg (fun z => post z (jt_s fc' 0 lo hi ex h K (jt_up (jt_up rt0 s a) d r) fr' wy' wr' F)) e1).mpr (H _ (jt_XI_mk (jt_XB_put B (xt' := []) hd T ?_ (fun i _ => ⟨⟨rfl, rfl, rfl⟩, rfl⟩) S len)))
  refine jt_PI_congr P ?_
  intro y
  simp only [List.count_append, List.count_nil]
  omega
end
section
variable {u : SX} {f : Nat → List Int32}
theorem jt_x_split {post : Int32 → SX → Prop} (I : jt_XI u f) {s d : Nat} (hs : s < 4) (hd : d < 4) {x : Int32}
    (H : ∀ u' l1 l2, jt_XI u' (jt_uf (jt_uf f s l1) d l2) → (∀ z, z ∈ l1 ↔ z ∈ f s ∧ z < x) → (∀ z, z ∈ l2 ↔ z ∈ f s ∧ x ≤ z) → post (nI l2.length) u') : wpX_split post u (nI s) x (nI d) := by
  refine jt_XI_el (P := fun u => wpX_split post u (nI s) x (nI d)) I ?_
  intro fc we lo hi ex h K rt fr wy wr F ls B
  obtain ⟨T, em, S, len⟩ := B.1 s hs
  have rb := jt_T_lt T
  unfold wpX_split
  refine jt_is_t hs (br_f (by decide) ?_)
  refine jt_is_t hd (br_f (by decide) (And.intro (jt_v4 hs) ?_))
  refine jt_split (jt_rd (by omega) rfl) T S (by omega) ?_
  intro h' a b e ll lh wy' wr' r ta tb o
  have P := jt_XB_out B hs
  have nd := jt_PI_nd P
  have ab := jt_T_lt ta
  obtain ⟨u1, u2, u3, u4, sl, sh⟩ := jt_SR_sub S r
  have dot : ∀ i, i ∈ jt_ot ls s → i ∉ ls s := by grind
  have m1 : ∀ z, z ∈ ll.map K ↔ z ∈ f s ∧ z < x := by
    intro z
    have mm := jt_SR_mem r z
    rw [em] at mm
    have b1 : z ∈ ll.map K → z < x := by
      intro w
      obtain ⟨i, hi, rfl⟩ := List.mem_map.mp w
      exact r.2.1 i hi
    have b2 : z ∈ lh.map K → x < z := by
      intro w
      obtain ⟨i, hi, rfl⟩ := List.mem_map.mp w
      exact r.2.2 i hi
    rw [mm]
    constructor
    · exact fun w => ⟨Or.inl w, b1 w⟩
    · intro ⟨w, n⟩
      rcases w with w | w | w
      · exact w
      · exact absurd (w.2 ▸ n) Int32.lt_irrefl
      · exact absurd (Int32.lt_trans n (b2 w)) Int32.lt_irrefl
  have m2 : ∀ z, (z ∈ lh.map K ∨ (e ≠ 0 ∧ z = x)) ↔ z ∈ f s ∧ x ≤ z := by
    intro z
    have mm := jt_SR_mem r z
    rw [em] at mm
    have b1 : z ∈ ll.map K → z < x := by
      intro w
      obtain ⟨i, hi, rfl⟩ := List.mem_map.mp w
      exact r.2.1 i hi
    have b2 : z ∈ lh.map K → x < z := by
      intro w
      obtain ⟨i, hi, rfl⟩ := List.mem_map.mp w
      exact r.2.2 i hi
    rw [mm]
    constructor
    · intro w
      rcases w with w | w
      · exact ⟨Or.inr (Or.inr w), Int32.le_of_lt (b2 w)⟩
      · exact ⟨Or.inr (Or.inl w), by rw [w.2]; exact Int32.le_refl _⟩
    · intro ⟨w, n⟩
      rcases w with w | w | w
      · exact absurd n (Int32.not_le.mpr (b1 w))
      · exact Or.inr w
      · exact Or.inl w
  rcases r.1 with ⟨e0, el⟩ | ⟨e0, el, ek⟩
  · subst e0
    refine br_t rfl ?_
    have B1 : jt_XB h' K (jt_up rt s a) fc fr (jt_ul ls s ll) (jt_uf f s (ll.map K)) lh := by
      refine jt_XB_put B hs ta ?_ (fun i hi => ⟨o i (dot i hi), rfl⟩) sl (by omega)
      refine jt_PI_congr P ?_
      intro y
      rw [el]
      simp only [List.count_append, List.count_nil]
      omega
    refine jt_sp61 hs hd ab B1 tb sh (by omega) ?_
    intro u' I'
    have q := H u' (ll.map K) (lh.map K) I' m1 (fun z => ⟨fun w => (m2 z).mp (Or.inl w), fun w => ((m2 z).mpr w).elim id (fun w => absurd rfl w.1)⟩)
    rw [List.length_map] at q
    exact q
  · have eb : e ∈ ls s := by rw [el]; simp
    have e256 := (jt_T_mem T e eb).2
    refine br_f (nI_ne0 (by omega) (by omega)) ?_
    have ndl := jt_S_nd S
    have nde : ([] ++ e :: lh).Nodup := by rw [el] at ndl; grind
    refine jt_join (la := []) rfl rfl rfl e0 e256 (jt_T0 (jt_T_z ta)) tb nde (by simp; omega) ?_
    rw [List.nil_append]
    intro h3 r3 wy3 wr3 T3 o3 _ _
    have dl : ∀ i, i ∈ ll → i ∉ e :: lh := by rw [el] at ndl; grind
    have ta3 := jt_T_off ta o3 dl (jt_T_m0 T3)
    have se : jt_S K (e :: lh) := List.pairwise_cons.mpr ⟨fun i hi => ek ▸ r.2.2 i hi, sh⟩
    have B1 : jt_XB h3 K (jt_up rt s a) fc fr (jt_ul ls s ll) (jt_uf f s (ll.map K)) (e :: lh) := by
      refine jt_XB_put B hs ta3 ?_ ?_ sl (by omega)
      · refine jt_PI_congr P ?_
        intro y
        rw [el]
        simp only [List.count_append, List.count_nil, List.count_cons]
        omega
      · intro i hi
        have d := dot i hi
        refine ⟨jt_G_tr (o i d) (o3 i (fun w => d ?_)), rfl⟩
        rw [el]
        exact List.mem_append_right _ w
    have le : (e :: lh).length ≤ 20 := by
      have : (ls s).length = ll.length + (e :: lh).length := by rw [el, List.length_append]
      omega
    refine jt_sp61 hs hd ab B1 T3 se le ?_
    intro u' I'
    have q := H u' (ll.map K) ((e :: lh).map K) I' m1 ?_
    · rw [List.length_map] at q
      exact q
    · intro z
      rw [← m2 z, List.map_cons, List.mem_cons, ek]
      constructor
      · intro w
        rcases w with w | w
        · exact Or.inr ⟨e0, w⟩
        · exact Or.inl w
      · intro w
        rcases w with w | w
        · exact Or.inr w
        · exact Or.inl w.2
theorem jt_x_rr {post : Int32 → SX → Prop} (I : jt_XI u f) {s : Nat} (hs : s < 4) {p q : Int32} (H0 : ¬ p ≤ q → post 0 u)
    (H1 : p ≤ q → ∀ u' l, jt_XI u' (jt_uf f s l) → (∀ z, z ∈ l ↔ z ∈ f s ∧ (z < p ∨ q < z)) → l.length ≤ (f s).length → post (nI ((f s).length - l.length)) u') : wpX_removeRange post u (nI s) p q := by
  revert H0
  refine jt_XI_el (P := fun u => (¬ p ≤ q → post 0 u) → wpX_removeRange post u (nI s) p q) I ?_
  intro fc we lo hi ex h K rt fr wy wr F ls B H0
  obtain ⟨T, em, S, len⟩ := B.1 s hs
  have rb := jt_T_lt T
  have ee : (f s).length = (ls s).length := by rw [← em, List.length_map]
  have P := jt_XB_out B hs
  have nd := jt_PI_nd P
  have dot : ∀ i, i ∈ jt_ot ls s → i ∉ ls s := by grind
  unfold wpX_removeRange
  refine jt_is_t hs (br_f (by decide) (br_c (fun c => ?_) H0))
  refine And.intro (jt_v4 hs) (And.intro (jt_vr (by omega) rfl rb (by decide)) (nm_r (e' := nI (ls s).length) (jt_ct hs rb (jt_T_c T)) (And.intro (jt_v4 hs) ?_)))
  refine jt_split (jt_rd (by omega) rfl) T S (by omega) ?_
  intro h1 a b e ll lh wy1 wr1 r ta tb o1
  obtain ⟨u1, u2, u3, u4, sl, sh⟩ := jt_SR_sub S r
  refine jt_relSR rfl r P ?_
  intro fc1 fr1 P1
  have P1' : jt_PI fc1 fr1 (lh ++ (ll ++ (jt_ot ls s ++ []))) := by
    refine jt_PI_congr P1 ?_
    intro y
    simp only [List.count_append]
    omega
  refine jt_split rfl tb sh (by omega) ?_
  intro h2 a2 b2 e2 ll2 lh2 wy2 wr2 r2 ta2 tb2 o2
  obtain ⟨v1, v2, v3, v4, sl2, sh2⟩ := jt_SR_sub sh r2
  refine jt_relSR rfl r2 P1' ?_
  intro fc2 fr2 P2
  refine jt_relTree rfl ta2 P2 (by omega) ?_
  intro fc3 fr3 wy3 wr3 P3
  have ta' := jt_T_off ta o2 u3 (jt_T_m0 tb)
  have lt2 : ∀ i, i ∈ lh2 → q < K i := r2.2.2
  have sj : jt_S K (ll ++ lh2) := jt_S_app.mpr ⟨sl, sh2, fun i hi j hj => Int32.lt_trans (r.2.1 i hi) (Int32.lt_of_le_of_lt c (lt2 j hj))⟩
  refine jt_join2 rfl rfl ta' tb2 sj (by omega) ?_
  intro h4 r4 we4 lo4 hi4 ex4 wy4 wr4 T4 o4
  have r4b := jt_T_lt T4
  have e4 : (fun i => nI (h4.2.2 i)) ((fun i => nI (jt_up rt s r4 i)) (nI s).toNatClampNeg).toNatClampNeg = nI (ll ++ lh2).length := jt_ct hs (by rw [jt_up_s]; exact r4b) (by rw [jt_up_s]; exact jt_T_c T4)
  have e5 : nI (ls s).length - (fun i => nI (h4.2.2 i)) ((fun i => nI (jt_up rt s r4 i)) (nI s).toNatClampNeg).toNatClampNeg = nI ((f s).length - ((ll ++ lh2).map K).length) := by
    rw [e4, pk_sub (by rw [List.length_append]; omega), List.length_map, ee]
  refine And.intro (jt_v4 hs) (nm_r (e' := fun i => nI (jt_up rt s r4 i)) (jt_wr (by omega) (by omega)) (And.intro (jt_v4 hs) (And.intro (jt_vr (by omega) jt_up_s r4b (by decide)) ?_)))
  refine (congrArg (fun z => post z (jt_s fc3 we4 lo4 hi4 ex4 h4 K (jt_up rt s r4) fr3 wy4 wr4 F)) e5).mpr (H1 c _ ((ll ++ lh2).map K) (jt_XI_mk (jt_XB_put B (xt' := []) hs T4 ?_ ?_ sj ?_)) ?_ ?_)
  · refine jt_PI_congr P3 ?_
    intro y
    simp only [List.count_append]
    omega
  · intro i hi
    have d := dot i hi
    have i1 := o1 i d
    have i2 := o2 i (fun w => d (u2 i w))
    have i4 := o4 i (fun w => d ((List.mem_append.mp w).elim (u1 i) (fun w => u2 i (v2 i w))))
    exact ⟨jt_G_tr i1 (jt_G_tr i2 i4), rfl⟩
  · rw [List.length_append]; omega
  · intro z
    have mm := jt_SR_mem r z
    have mm2 := jt_SR_mem r2 z
    rw [em] at mm
    have b1 : z ∈ ll.map K → z < p := by
      intro w
      obtain ⟨i, hi, rfl⟩ := List.mem_map.mp w
      exact r.2.1 i hi
    have b2 : z ∈ lh.map K → p < z := by
      intro w
      obtain ⟨i, hi, rfl⟩ := List.mem_map.mp w
      exact r.2.2 i hi
    have c1 : z ∈ ll2.map K → z < q := by
      intro w
      obtain ⟨i, hi, rfl⟩ := List.mem_map.mp w
      exact r2.2.1 i hi
    have c2 : z ∈ lh2.map K → q < z := by
      intro w
      obtain ⟨i, hi, rfl⟩ := List.mem_map.mp w
      exact r2.2.2 i hi
    rw [mm, mm2, List.map_append, List.mem_append]
    rw [mm2] at b2
    simp only [Int32.lt_iff_toInt_lt, Int32.le_iff_toInt_le] at b1 b2 c1 c2 c ⊢
    have z1 : z = p → z.toInt = p.toInt := fun w => congrArg _ w
    have z2 : z = q → z.toInt = q.toInt := fun w => congrArg _ w
    constructor
    · intro w
      rcases w with w | w
      · exact ⟨Or.inl w, Or.inl (b1 w)⟩
      · exact ⟨Or.inr (Or.inr (Or.inr (Or.inr w))), Or.inr (c2 w)⟩
    · intro ⟨w, n⟩
      rcases w with w | w | w | w | w
      · exact Or.inl w
      · have := z1 w.2; omega
      · have := b2 (Or.inl w); have := c1 w; omega
      · have := b2 (Or.inr (Or.inl w)); have := z2 w.2; omega
      · exact Or.inr w
  · rw [List.length_map, List.length_append, ee]; omega
theorem jt_x_clear {post : Int32 → SX → Prop} (I : jt_XI u f) {s : Nat} (hs : s < 4) (H : ∀ u', jt_XI u' (jt_uf f s []) → post (nI (f s).length) u') : wpX_clear post u (nI s) := by
  refine jt_XI_el (P := fun u => wpX_clear post u (nI s)) I ?_
  intro fc we lo hi ex h K rt fr wy wr F ls B
  obtain ⟨T, em, S, len⟩ := B.1 s hs
  have rb := jt_T_lt T
  have ee : (f s).length = (ls s).length := by rw [← em, List.length_map]
  rw [ee] at H
  unfold wpX_clear
  refine jt_is_t hs (br_f (by decide) ?_)
  refine And.intro (jt_v4 hs) (And.intro (jt_vr (by omega) rfl rb (by decide)) (nm_r (e' := nI (ls s).length) (jt_ct hs rb (jt_T_c T)) (And.intro (jt_v4 hs) ?_)))
  refine jt_relTree (jt_rd (by omega) rfl) T (jt_XB_out B hs) (by omega) ?_
  intro fc' fr' wy' wr' P
  refine And.intro (jt_v4 hs) (nm_r (e' := fun i => nI (jt_up rt s 0 i)) (jt_wr0 (by omega)) (H _ ?_))
  have B' := jt_XB_put B (xt' := []) (l := []) hs (jt_T0 (jt_T_z T)) P (fun i _ => ⟨⟨rfl, rfl, rfl⟩, rfl⟩) List.Pairwise.nil (by simp)
  exact jt_XI_mk B'
end
end
section
/-! the component's methods over its invariant: within, same, combine -/
def jt_b89 (post : Int32 → SX → Prop) (x2 z0 : Int32) (u : SX) : Prop := wX_combine_89 post x2 z0 u.1 u.2.1 u.2.2.1 u.2.2.2.1 u.2.2.2.2.1 u.2.2.2.2.2.1 u.2.2.2.2.2.2.1 u.2.2.2.2.2.2.2.1 u.2.2.2.2.2.2.2.2.1 u.2.2.2.2.2.2.2.2.2.1 u.2.2.2.2.2.2.2.2.2.2.1 u.2.2.2.2.2.2.2.2.2.2.2.1 u.2.2.2.2.2.2.2.2.2.2.2.2.1 u.2.2.2.2.2.2.2.2.2.2.2.2.2.1 u.2.2.2.2.2.2.2.2.2.2.2.2.2.2.1 u.2.2.2.2.2.2.2.2.2.2.2.2.2.2.2.1 u.2.2.2.2.2.2.2.2.2.2.2.2.2.2.2.2.1 u.2.2.2.2.2.2.2.2.2.2.2.2.2.2.2.2.2
theorem jt_less_len {K : Nat → Int32} {la lb lr : List Nat} (s : jt_S K lr) (c : jt_CB K 2 la lb lr) : lr.length ≤ la.length := by
  have nd : (lr.map K).Nodup := List.Pairwise.imp (fun {a b} q (e : a = b) => Int32.lt_irrefl (e ▸ q)) (jt_S_map.mp s)
  have sb : (lr.map K) ⊆ (la.map K) := by
    intro z hz
    have q := (c z).mp hz
    unfold jt_bel at q
    simp at q
    simp
    exact q.1
  have q := List.Nodup.length_le_of_subset nd sb
  rw [List.length_map, List.length_map] at q
  exact q
section
variable {fc we lo hi ex : Nat} {h : jt_H} {K : Nat → Int32} {rt fr wy : Nat → Nat} {wr : Nat → Int32} {F : jt_F} {ls : Nat → List Nat} {f : Nat → List Int32} {xt xt' : List Nat}
theorem jt_XB_copy {post : Int32 → SX → Prop} (B : jt_XB h K rt fc fr ls f xt) {s : Nat} {p0 : Int32} (hs : s < 4) (e0 : p0 = nI (rt s)) (hx : xt.length ≤ 100)
    (H : ∀ h' K' fc' fr' we' wy' wr' r l', jt_XB h' K' rt fc' fr' ls f (l' ++ xt) → jt_T h' r l' → l'.map K' = f s → jt_S K' l' → l'.length ≤ 20 → (∀ i, i ∈ xt → jt_G h h' i ∧ K' i = K i) → post (nI r) (jt_s fc' we' lo hi ex h' K' rt fr' wy' wr' F)) :
    wpX_copyOf post (jt_s fc we lo hi ex h K rt fr wy wr F) p0 := by
  obtain ⟨T, em, S, len⟩ := B.1 s hs
  have fcb := jt_XB_fc B
  refine jt_copy e0 T B.2 (fun i hi => List.mem_append_left _ (jt_ow_m hs hi)) (by omega) (by omega) ?_
  intro h' K' fc' fr' we' wy' wr' r l' T' ek P' g k
  have el := jt_map_len ek
  refine H h' K' fc' fr' we' wy' wr' r l' ?_ T' (ek.trans em) ?_ (by omega) ?_
  · refine jt_XB_keep B (jt_T_z T') ?_ (fun i hi => ⟨g i (List.mem_append_left _ hi), k i (List.mem_append_left _ hi)⟩)
    refine jt_PI_congr P' ?_
    intro a
    simp only [List.count_append]
    omega
  · rw [jt_S_map, ek, ← jt_S_map]
    exact S
  · exact fun i hi => ⟨g i (List.mem_append_right _ hi), k i (List.mem_append_right _ hi)⟩
theorem jt_XB_comb {post : Int32 → SX → Prop} (B : jt_XB h K rt fc fr ls f xt) {how a b : Nat} {p0 p1 p2 : Int32} {la lb : List Nat} (hh : how < 3) (e0 : p0 = nI how) (e1 : p1 = nI a) (e2 : p2 = nI b) (ta : jt_T h a la) (tb : jt_T h b lb) (sa : jt_S K la) (sb : jt_S K lb) (hla : la.length ≤ 32) (hl : la.length + lb.length ≤ 60) (hx : ∀ y, xt.count y = (la ++ (lb ++ xt')).count y)
    (H : ∀ h' fc' fr' we' lo' hi' ex' wy' wr' F' r lr, jt_XB h' K rt fc' fr' ls f (lr ++ xt') → jt_T h' r lr → jt_S K lr → jt_CB K how la lb lr → lr.length ≤ la.length + lb.length → (∀ i, i ∈ xt' → jt_G h h' i) → post (nI r) (jt_s fc' we' lo' hi' ex' h' K rt fr' wy' wr' F')) :
    wpX_combined post (jt_s fc we lo hi ex h K rt fr wy wr F) p0 p1 p2 := by
  have P : jt_PI fc fr (la ++ (lb ++ (jt_ow ls ++ xt'))) := by
    refine jt_PI_congr B.2 ?_
    intro y
    have := hx y
    simp only [List.count_append] at this ⊢
    omega
  have nd := jt_PI_nd P
  have d1 : ∀ i, i ∈ jt_ow ls → i ∉ la ++ lb := by grind
  have d2 : ∀ i, i ∈ xt' → i ∉ la ++ lb := by grind
  refine jt_comb hh e0 e1 e2 ta tb sa sb P hla hl ?_
  intro h' fc' fr' we' lo' hi' ex' wy' wr' F' r lr T S CB len P' o
  refine H h' fc' fr' we' lo' hi' ex' wy' wr' F' r lr ?_ T S CB len (fun i hi => o i (d2 i hi))
  refine jt_XB_keep B (jt_T_z T) ?_ (fun i hi => ⟨o i (d1 i hi), rfl⟩)
  refine jt_PI_congr P' ?_
  intro y
  simp only [List.count_append]
  omega
theorem jt_T_g {h h' : jt_H} {n z : Nat} {l m : List Nat} (t : jt_T h n l) (t' : jt_T h' z m) (g : ∀ i, i ∈ l → jt_G h h' i) : jt_T h' n l := jt_T_fr t (jt_T_z t') g
theorem jt_XB_ei {post : Int32 → SX → Prop} (B : jt_XB h K rt fc fr ls f xt) {a b r1 r2 : Nat} {l1 l2 : List Nat} (ha : a < 4) (hb : b < 4) (t1 : jt_T h r1 l1) (t2 : jt_T h r2 l2) (s1 : jt_S K l1) (s2 : jt_S K l2) (k1 : l1.map K = f a) (k2 : l2.map K = f b) (n1 : l1.length ≤ 20) (n2 : l2.length ≤ 20) (hx : ∀ y, xt.count y = (l1 ++ (l2 ++ [])).count y)
    (H : ∀ h' K' fc' fr' we' lo' hi' ex' wy' wr' F' r lr, jt_XB h' K' rt fc' fr' ls f (lr ++ []) → jt_T h' r lr → jt_S K' lr → (∀ z, z ∈ lr.map K' ↔ jt_bel 3 (z ∈ f a) (z ∈ f b)) → lr.length ≤ 40 → post (nI r) (jt_s fc' we' lo' hi' ex' h' K' rt fr' wy' wr' F')) :
    wpX_combinedEither post (jt_s fc we lo hi ex h K rt fr wy wr F) (nI a) (nI b) (nI r1) (nI r2) := by
  unfold wpX_combinedEither
  refine jt_XB_comb (how := 2) B (by omega) rfl rfl rfl t1 t2 s1 s2 (by omega) (by omega) hx ?_
  intro h1 fc1 fr1 we1 lo1 hi1 ex1 wy1 wr1 F1 ra la B1 ta sa CBa lena _
  have na := jt_less_len sa CBa
  refine And.intro (jt_v4 ha) ?_
  refine jt_XB_copy B1 ha (jt_rd (by omega) rfl) (by simp; omega) ?_
  intro h2 K2 fc2 fr2 we2 wy2 wr2 rc lc B2 tc kc sc nc g2
  have ta2 := jt_T_g ta tc (fun i hi => (g2 i (List.mem_append_left _ hi)).1)
  have ka2 : la.map K2 = la.map K := List.map_congr_left (fun i hi => (g2 i (List.mem_append_left _ hi)).2)
  refine And.intro (jt_v4 hb) ?_
  refine jt_XB_copy B2 hb (jt_rd (by omega) rfl) (by simp; omega) ?_
  intro h3 K3 fc3 fr3 we3 wy3 wr3 rd ld B3 td kd sd nd g3
  have ta3 := jt_T_g ta2 td (fun i hi => (g3 i (by simp [hi])).1)
  have tc3 := jt_T_g tc td (fun i hi => (g3 i (by simp [hi])).1)
  have ka3 : la.map K3 = la.map K := (List.map_congr_left (fun i hi => (g3 i (by simp [hi])).2)).trans ka2
  have kc3 : lc.map K3 = f a := (List.map_congr_left (fun i hi => (g3 i (by simp [hi])).2)).trans kc
  have sc3 : jt_S K3 lc := jt_S_cg sc (fun i hi => (g3 i (by simp [hi])).2)
  have sa3 : jt_S K3 la := by
    rw [jt_S_map, ka3, ← jt_S_map]
    exact sa
  refine jt_XB_comb (how := 2) (xt' := la ++ []) B3 (by omega) rfl rfl rfl td tc3 sd sc3 (by omega) (by omega) (fun y => rfl) ?_
  intro h4 fc4 fr4 we4 lo4 hi4 ex4 wy4 wr4 F4 re le B4 te se CBe lene g4
  have ne := jt_less_len se CBe
  have ta4 := jt_T_g ta3 te (fun i hi => g4 i (List.mem_append_left _ hi))
  refine jt_XB_comb (how := 0) (xt' := []) B4 (by omega) rfl rfl rfl ta4 te sa3 se (by omega) (by omega) ?_ ?_
  · intro y
    simp only [List.count_append]
    omega
  intro h5 fc5 fr5 we5 lo5 hi5 ex5 wy5 wr5 F5 r lr B5 t5 s5 CB5 len5 _
  refine H h5 K3 fc5 fr5 we5 lo5 hi5 ex5 wy5 wr5 F5 r lr B5 t5 s5 ?_ (by omega)
  intro z
  have q1 := CBa z
  have q2 := CBe z
  have q3 := CB5 z
  rw [k1, k2] at q1
  rw [kd, kc3] at q2
  rw [ka3, q1, q2] at q3
  rw [q3]
  unfold jt_bel
  simp
theorem jt_c89 {post : Int32 → SX → Prop} {d r : Nat} {lr : List Nat} (B : jt_XB h K rt fc fr ls f (lr ++ [])) (hd : d < 4) (T : jt_T h r lr) (S : jt_S K lr) (len : lr.length ≤ 60)
    (H1 : lr.length ≤ 20 → ∀ u', jt_XI u' (jt_uf f d (lr.map K)) → post (nI lr.length) u') (H2 : 20 < lr.length → ∀ u', jt_XI u' f → post (-2) u') : jt_b89 post (nI d) (nI r) (jt_s fc we lo hi ex h K rt fr wy wr F) := by
  have rb := jt_T_lt T
  have e1 : (fun i => nI (h.2.2 i)) (nI r).toNatClampNeg = nI lr.length := jt_rd (by omega) (jt_T_c T)
  obtain ⟨Td, _, _, ld⟩ := B.1 d hd
  refine And.intro (jt_v256 rb) ?_
  refine pk_le lr.length 20 (fun c => ?_) (fun c => ?_) e1 rfl (by omega) (by omega)
  · refine And.intro (jt_v4 hd) ?_
    refine jt_relTree (jt_rd (by omega) rfl) Td (jt_XB_out B hd) (by omega) ?_
    intro fc' fr' wy' wr' P
    refine And.intro (jt_v4 hd) (nm_r (e' := fun i => nI (jt_up rt d r i)) (jt_wr (by omega) (by omega)) (And.intro (jt_v256 rb) ?_))
    refine (congrArg (fun z => post z (jt_s fc' 0 lo hi ex h K (jt_up rt d r) fr' wy' wr' F)) e1).mpr (H1 c _ (jt_XI_mk (jt_XB_put B (xt' := []) hd T ?_ (fun i _ => ⟨⟨rfl, rfl, rfl⟩, rfl⟩) S c)))
    refine jt_PI_congr P ?_
    intro y
    simp only [List.count_append]
    omega
  · refine jt_XB_rel B (xt' := []) rfl T (by omega) (fun y => rfl) ?_
    intro fc' fr' wy' wr' B'
    exact H2 c _ (jt_XI_mk B')
end
section
variable {u : SX} {f : Nat → List Int32}
theorem jt_x_within {post : Int32 → SX → Prop} (I : jt_XI u f) {a b : Nat} (ha : a < 4) (hb : b < 4) (H1 : (∀ z, z ∈ f a → z ∈ f b) → ∀ u', jt_XI u' f → post 1 u') (H0 : ¬ (∀ z, z ∈ f a → z ∈ f b) → ∀ u', jt_XI u' f → post 0 u') : wpX_within post u (nI a) (nI b) := by
  refine jt_XI_el (P := fun u => wpX_within post u (nI a) (nI b)) I ?_
  intro fc we lo hi ex h K rt fr wy wr F ls B
  unfold wpX_within
  refine jt_is_t ha (br_f (by decide) ?_)
  refine jt_is_t hb (br_f (by decide) (And.intro (jt_v4 ha) ?_))
  refine jt_XB_copy B ha (jt_rd (by omega) rfl) (by simp) ?_
  intro h1 K1 fc1 fr1 we1 wy1 wr1 r1 l1 B1 t1 k1 s1 n1 _
  refine And.intro (jt_v4 hb) ?_
  refine jt_XB_copy B1 hb (jt_rd (by omega) rfl) (by simp; omega) ?_
  intro h2 K2 fc2 fr2 we2 wy2 wr2 r2 l2 B2 t2 k2 s2 n2 g2
  have t1' := jt_T_g t1 t2 (fun i hi => (g2 i (by simp [hi])).1)
  have s1' : jt_S K2 l1 := jt_S_cg s1 (fun i hi => (g2 i (by simp [hi])).2)
  have k1' : l1.map K2 = f a := (List.map_congr_left (fun i hi => (g2 i (by simp [hi])).2)).trans k1
  refine jt_XB_comb (how := 2) (xt' := []) B2 (by omega) rfl rfl rfl t1' t2 s1' s2 (by omega) (by omega) ?_ ?_
  · intro y
    simp only [List.count_append]
    omega
  intro h3 fc3 fr3 we3 lo3 hi3 ex3 wy3 wr3 F3 r lr B3 T S CB len _
  have rb := jt_T_lt T
  have cb : ∀ z, z ∈ lr.map K2 ↔ z ∈ f a ∧ z ∉ f b := by
    intro z
    rw [CB z, k1', k2]
    unfold jt_bel
    simp
  by_cases r0 : r = 0
  · subst r0
    have l0 := jt_T_nil T
    subst l0
    refine br_t rfl ?_
    unfold wX_within_61
    refine jt_XB_rel B3 (xt' := []) rfl T (by simp) (fun y => rfl) ?_
    intro fc4 fr4 wy4 wr4 B4
    refine And.intro rfl (H1 ?_ _ (jt_XI_mk B4))
    intro z hz
    by_cases w : z ∈ f b
    · exact w
    · exact absurd ((cb z).mpr ⟨hz, w⟩) (by simp)
  · refine br_f (nI_ne0 (by omega) (by omega)) ?_
    unfold wX_within_61
    refine jt_XB_rel B3 (xt' := []) rfl T (by omega) (fun y => rfl) ?_
    intro fc4 fr4 wy4 wr4 B4
    refine And.intro rfl (H0 ?_ _ (jt_XI_mk B4))
    intro all
    have rm := jt_T_root T r0
    have w := (cb (K2 r)).mp (List.mem_map.mpr ⟨r, rm, rfl⟩)
    exact w.2 (all _ w.1)
theorem jt_x_same {post : Int32 → SX → Prop} (I : jt_XI u f) {a b : Nat} (ha : a < 4) (hb : b < 4) (H1 : (∀ z, z ∈ f a ↔ z ∈ f b) → ∀ u', jt_XI u' f → post 1 u') (H0 : ¬ (∀ z, z ∈ f a ↔ z ∈ f b) → ∀ u', jt_XI u' f → post 0 u') : wpX_same post u (nI a) (nI b) := by
  unfold wpX_same
  refine jt_x_within I ha hb ?_ ?_
  · intro q u' I'
    refine br_f (by decide) ?_
    refine jt_x_within I' hb ha ?_ ?_
    · intro q2 u2 I2
      exact br_f (by decide) (H1 (fun z => ⟨q z, q2 z⟩) u2 I2)
    · intro q2 u2 I2
      exact br_t rfl (H0 (fun w => q2 (fun z hz => (w z).mpr hz)) u2 I2)
  · intro q u' I'
    exact br_t rfl (H0 (fun w => q (fun z hz => (w z).mp hz)) u' I')
theorem jt_x_combine {post : Int32 → SX → Prop} (I : jt_XI u f) {how d a b : Nat} (hh : how < 4) (hd : d < 4) (ha : a < 4) (hb : b < 4)
    (H1 : ∀ l : List Int32, (∀ z, z ∈ l ↔ jt_bel how (z ∈ f a) (z ∈ f b)) → l.Nodup → l.length ≤ 20 → ∀ u', jt_XI u' (jt_uf f d l) → post (nI l.length) u')
    (H2 : ∀ l : List Int32, (∀ z, z ∈ l ↔ jt_bel how (z ∈ f a) (z ∈ f b)) → l.Nodup → 20 < l.length → ∀ u', jt_XI u' f → post (-2) u') : wpX_combine post u (nI how) (nI d) (nI a) (nI b) := by
  refine jt_XI_el (P := fun u => wpX_combine post u (nI how) (nI d) (nI a) (nI b)) I ?_
  intro fc we lo hi ex h K rt fr wy wr F ls B
  unfold wpX_combine
  refine br_f (nI_pos (by omega)) (br_f (nI_nlt (a := 3) (b := how) (by omega) (by omega) : ¬ nI 3 < nI how) ?_)
  refine jt_is_t hd (br_f (by decide) ?_)
  refine jt_is_t ha (br_f (by decide) ?_)
  refine jt_is_t hb (br_f (by decide) (And.intro (jt_v4 ha) ?_))
  refine jt_XB_copy B ha (jt_rd (by omega) rfl) (by simp) ?_
  intro h1 K1 fc1 fr1 we1 wy1 wr1 r1 l1 B1 t1 k1 s1 n1 _
  refine And.intro (jt_v4 hb) ?_
  refine jt_XB_copy B1 hb (jt_rd (by omega) rfl) (by simp; omega) ?_
  intro h2 K2 fc2 fr2 we2 wy2 wr2 r2 l2 B2 t2 k2 s2 n2 g2
  have t1' := jt_T_g t1 t2 (fun i hi => (g2 i (by simp [hi])).1)
  have s1' : jt_S K2 l1 := jt_S_cg s1 (fun i hi => (g2 i (by simp [hi])).2)
  have k1' : l1.map K2 = f a := (List.map_congr_left (fun i hi => (g2 i (by simp [hi])).2)).trans k1
  have hx : ∀ y, (l2 ++ (l1 ++ [])).count y = (l1 ++ (l2 ++ [])).count y := by
    intro y
    simp only [List.count_append]
    omega
  have ndm : ∀ {K : Nat → Int32} {l : List Nat}, jt_S K l → (l.map K).Nodup := fun s => List.Pairwise.imp (fun {a b} q (e : a = b) => Int32.lt_irrefl (e ▸ q)) (jt_S_map.mp s)
  by_cases h3 : how = 3
  · subst h3
    refine br_t rfl ?_
    refine jt_XB_ei B2 ha hb t1' t2 s1' s2 k1' k2 n1 n2 hx ?_
    intro h4 K4 fc4 fr4 we4 lo4 hi4 ex4 wy4 wr4 F4 r lr B4 T S CB len
    have nd := ndm S
    refine jt_c89 B4 hd T S (by omega) ?_ ?_
    · intro c u' I'
      have q := H1 (lr.map K4) CB nd (by rw [List.length_map]; exact c) u' I'
      rw [List.length_map] at q
      exact q
    · intro c u' I'
      exact H2 (lr.map K4) CB nd (by rw [List.length_map]; exact c) u' I'
  · refine br_f (fun q => h3 ((nI_eq (b := 3) (by omega) (by omega)).mp q)) ?_
    refine jt_XB_comb (how := how) (xt' := []) B2 (by omega) rfl rfl rfl t1' t2 s1' s2 (by omega) (by omega) hx ?_
    intro h4 fc4 fr4 we4 lo4 hi4 ex4 wy4 wr4 F4 r lr B4 T S CB len _
    have nd := ndm S
    have cb : ∀ z, z ∈ lr.map K2 ↔ jt_bel how (z ∈ f a) (z ∈ f b) := by
      intro z
      rw [CB z, k1', k2]
    refine jt_c89 B4 hd T S (by omega) ?_ ?_
    · intro c u' I'
      have q := H1 (lr.map K2) cb nd (by rw [List.length_map]; exact c) u' I'
      rw [List.length_map] at q
      exact q
    · intro c u' I'
      exact H2 (lr.map K2) cb nd (by rw [List.length_map]; exact c) u' I'
end
end
section
/-! the reference: each set a segment of ints -/
abbrev jt_y (fo : Nat) (a : Nat → Int32) (sz : Nat → Nat) (re : Nat → Int32) : SY := (nI fo, a, (fun i => nI (sz i)), re)
def jt_L (a : Nat → Int32) (b n : Nat) : List Int32 := (List.range n).map (fun i => a (b + i))
theorem jt_L_0 {a : Nat → Int32} {b : Nat} : jt_L a b 0 = [] := rfl
theorem jt_L_s {a : Nat → Int32} {b n : Nat} : jt_L a b (n + 1) = jt_L a b n ++ [a (b + n)] := by
  unfold jt_L
  rw [List.range_succ, List.map_append]
  rfl
theorem jt_L_c {a : Nat → Int32} {b n : Nat} : jt_L a b (n + 1) = a b :: jt_L a (b + 1) n := by
  unfold jt_L
  rw [List.range_succ_eq_map, List.map_cons, List.map_map]
  refine congrArg (fun l => a b :: l) (List.map_congr_left ?_)
  intro i _
  show a (b + (i + 1)) = a (b + 1 + i)
  rw [show b + (i + 1) = b + 1 + i by omega]
theorem jt_L_len {a : Nat → Int32} {b n : Nat} : (jt_L a b n).length = n := by
  unfold jt_L
  rw [List.length_map, List.length_range]
theorem jt_L_cg {a a' : Nat → Int32} {b n : Nat} (h : ∀ i, i < n → a' (b + i) = a (b + i)) : jt_L a' b n = jt_L a b n := by
  unfold jt_L
  exact List.map_congr_left (fun i hi => h i (List.mem_range.mp hi))
theorem jt_ix {s i : Nat} : nI s * 20 + nI i = nI (s * 20 + i) := by
  rw [show (20 : Int32) = nI 20 from rfl, pk_mul, nI_add]
theorem jt_v80 {s i : Nat} (hs : s < 4) (hi : i < 20) : vp_in (nI s * 20 + nI i) 80 := by
  rw [jt_ix]
  exact vp_in_nI (by omega) (by decide)
theorem jt_v40 {n : Nat} (h : n < 40) : vp_in (nI n) 40 := vp_in_nI h (by decide)
theorem jt_ra {a : Nat → Int32} {s i : Nat} (hs : s < 4) (hi : i < 20) : a (nI s * 20 + nI i).toNatClampNeg = a (s * 20 + i) := by
  rw [jt_ix, jt_cl (by omega)]
theorem jt_wa {a : Nat → Int32} {s i : Nat} {x : Int32} (hs : s < 4) (hi : i < 20) : upd a (nI s * 20 + nI i).toNatClampNeg x = upd a (s * 20 + i) x := by
  rw [jt_ix, jt_cl (by omega)]
theorem jt_yis_t {post : Int32 → Prop} {v : SY} {s : Nat} (hs : s < 4) (H : post 1) : wpY_isSet post v (nI s) :=
  br_f (nI_pos (by omega)) (br_f (nI_ge (a := s) (b := 4) (by omega) (by omega) : ¬ nI 4 ≤ nI s) H)
theorem jt_yis_f {post : Int32 → Prop} {v : SY} {p : Int32} (hp : jt_bad p) (H : post 0) : wpY_isSet post v p := by
  by_cases c : p < 0
  · exact br_t c H
  · exact br_f c (br_t (hp.resolve_left c) H)
section
variable {fo : Nat} {a : Nat → Int32} {sz : Nat → Nat} {re : Nat → Int32} {s : Nat}
theorem jt_y_h2 {post : Int32 → Prop} {x : Int32} (hs : s < 4) (hz : sz s ≤ 20) : ∀ d i, i + d = sz s → (x ∈ jt_L a (s * 20 + i) d → post 1) → (x ∉ jt_L a (s * 20 + i) d → post 0) → wY_has_2 post (nI s) x (nI fo) a (fun i => nI (sz i)) re (d + 1) (nI i) := by
  intro d
  induction d with
  | zero =>
    intro i hi H1 H0
    unfold wY_has_2
    refine jt_yis_t hs ?_
    refine br_f (by decide) (And.intro (jt_v4 hs) ?_)
    exact pk_le (sz s) i (fun _ => H0 (by rw [jt_L_0]; simp)) (fun c => absurd c (by omega)) (jt_rd (by omega) rfl) rfl (by omega) (by omega)
  | succ d ih =>
    intro i hi H1 H0
    rw [jt_L_c] at H1 H0
    unfold wY_has_2
    refine jt_yis_t hs ?_
    refine br_f (by decide) (And.intro (jt_v4 hs) ?_)
    refine pk_le (sz s) i (fun c => absurd c (by omega)) (fun c => And.intro (jt_v80 hs (by omega)) ?_) (jt_rd (by omega) rfl) rfl (by omega) (by omega)
    have er : a (nI s * 20 + nI i).toNatClampNeg = a (s * 20 + i) := jt_ra hs (by omega)
    by_cases c2 : a (s * 20 + i) = x
    · exact br_t (er.trans c2) (H1 (by rw [c2]; exact List.mem_cons_self))
    · refine br_f (fun q => c2 (er.symm.trans q)) (nm_r (e' := nI (i + 1)) (nI_1 i) ?_)
      refine ih (i + 1) (by omega) (fun q => H1 (List.mem_cons_of_mem _ q)) (fun q => H0 ?_)
      intro w
      rcases List.mem_cons.mp w with w | w
      · exact c2 w.symm
      · exact q w
theorem jt_y_has {post : Int32 → Prop} {x : Int32} (hs : s < 4) (hz : sz s ≤ 20) (H1 : x ∈ jt_L a (s * 20) (sz s) → post 1) (H0 : x ∉ jt_L a (s * 20) (sz s) → post 0) : wpY_has post (jt_y fo a sz re) (nI s) x :=
  ⟨sz s + 1, jt_y_h2 hs hz (sz s) 0 (by omega) H1 H0⟩
theorem jt_y_k15 {post : Int32 → Prop} {x : Int32} (hs : s < 4) (hz : sz s ≤ 20) : ∀ d i acc, i + d = sz s → post (nI (acc + jt_rk x (jt_L a (s * 20 + i) d))) → wY_rank_15 post (nI s) x (nI fo) a (fun i => nI (sz i)) re (d + 1) (nI acc) (nI i) := by
  intro d
  induction d with
  | zero =>
    intro i acc hi H
    refine And.intro (jt_v4 hs) ?_
    exact pk_le (sz s) i (fun _ => H) (fun c => absurd c (by omega)) (jt_rd (by omega) rfl) rfl (by omega) (by omega)
  | succ d ih =>
    intro i acc hi H
    have er : a (nI s * 20 + nI i).toNatClampNeg = a (s * 20 + i) := jt_ra hs (by omega)
    have ek : jt_rk x (jt_L a (s * 20 + i) (d + 1)) = jt_rk x (jt_L a (s * 20 + (i + 1)) d) + (if a (s * 20 + i) < x then 1 else 0) := by
      rw [jt_L_c]
      unfold jt_rk
      rw [List.countP_cons]
      simp only [decide_eq_true_eq]
      rfl
    rw [ek] at H
    refine And.intro (jt_v4 hs) ?_
    refine pk_le (sz s) i (fun c => absurd c (by omega)) (fun c => And.intro (jt_v80 hs (by omega)) ?_) (jt_rd (by omega) rfl) rfl (by omega) (by omega)
    by_cases c2 : x ≤ a (s * 20 + i)
    · refine br_t (er.symm ▸ c2) (nm_r (e' := nI (i + 1)) (nI_1 i) ?_)
      rw [if_neg (Int32.not_lt.mpr c2)] at H
      exact ih (i + 1) acc (by omega) H
    · refine br_f (fun q => c2 (er ▸ q)) (nm_r (e' := nI (acc + 1)) (nI_1 acc) (nm_r (e' := nI (i + 1)) (nI_1 i) ?_))
      rw [if_pos (Int32.not_le.mp c2)] at H
      refine ih (i + 1) (acc + 1) (by omega) ?_
      rw [show acc + 1 + jt_rk x (jt_L a (s * 20 + (i + 1)) d) = acc + (jt_rk x (jt_L a (s * 20 + (i + 1)) d) + 1) by omega]
      exact H
theorem jt_y_rank {post : Int32 → Prop} {x : Int32} (hs : s < 4) (hz : sz s ≤ 20) (H : post (nI (jt_rk x (jt_L a (s * 20) (sz s))))) : wpY_rank post (jt_y fo a sz re) (nI s) x := by
  unfold wpY_rank
  refine jt_yis_t hs (br_f (by decide) ⟨sz s + 1, jt_y_k15 hs hz (sz s) 0 0 (by omega) ?_⟩)
  rw [Nat.zero_add]
  exact H
theorem jt_y_a2 {post : Int32 → Prop} {p : Int32} (hs : s < 4) (hz : sz s ≤ 20) : ∀ d i, i + d = sz s → (∀ z, z ∈ jt_L a (s * 20 + i) d → nI (jt_rk z (jt_L a (s * 20) (sz s))) = p → post z) → ((∀ z, z ∈ jt_L a (s * 20 + i) d → nI (jt_rk z (jt_L a (s * 20) (sz s))) ≠ p) → post 0) →
    wY_at_2 post (nI s) p (nI fo) a (fun i => nI (sz i)) re (d + 1) (nI i) := by
  intro d
  induction d with
  | zero =>
    intro i hi H1 H0
    unfold wY_at_2
    refine jt_yis_t hs ?_
    refine br_f (by decide) (And.intro (jt_v4 hs) ?_)
    exact pk_le (sz s) i (fun _ => H0 (by rw [jt_L_0]; simp)) (fun c => absurd c (by omega)) (jt_rd (by omega) rfl) rfl (by omega) (by omega)
  | succ d ih =>
    intro i hi H1 H0
    rw [jt_L_c] at H1 H0
    have er : a (nI s * 20 + nI i).toNatClampNeg = a (s * 20 + i) := jt_ra hs (by omega)
    unfold wY_at_2
    refine jt_yis_t hs ?_
    refine br_f (by decide) (And.intro (jt_v4 hs) ?_)
    refine pk_le (sz s) i (fun c => absurd c (by omega)) (fun c => And.intro (jt_v80 hs (by omega)) ?_) (jt_rd (by omega) rfl) rfl (by omega) (by omega)
    refine (congrArg (fun z => wpY_rank _ (jt_y fo a sz re) (nI s) z) er).mpr ?_
    refine jt_y_rank hs hz ?_
    by_cases c2 : nI (jt_rk (a (s * 20 + i)) (jt_L a (s * 20) (sz s))) = p
    · refine br_t c2 (And.intro (jt_v80 hs (by omega)) ?_)
      exact (congrArg post er).mpr (H1 _ List.mem_cons_self c2)
    · refine br_f c2 (nm_r (e' := nI (i + 1)) (nI_1 i) ?_)
      refine ih (i + 1) (by omega) (fun z hz => H1 z (List.mem_cons_of_mem _ hz)) (fun q => H0 ?_)
      intro z hz
      rcases List.mem_cons.mp hz with w | w
      · rw [w]; exact c2
      · exact q z w
theorem jt_y_at {post : Int32 → Prop} {p : Int32} (hs : s < 4) (hz : sz s ≤ 20) (H1 : ∀ z, z ∈ jt_L a (s * 20) (sz s) → nI (jt_rk z (jt_L a (s * 20) (sz s))) = p → post z) (H0 : (∀ z, z ∈ jt_L a (s * 20) (sz s) → nI (jt_rk z (jt_L a (s * 20) (sz s))) ≠ p) → post 0) :
    wpY_at post (jt_y fo a sz re) (nI s) p :=
  ⟨sz s + 1, jt_y_a2 hs hz (sz s) 0 (by omega) H1 H0⟩
def jt_kp (p q z : Int32) : Bool := decide (z < p) || decide (q < z)
theorem jt_kp_t {p q z : Int32} (h : z < p ∨ q < z) : jt_kp p q z = true := by
  unfold jt_kp
  simp only [Bool.or_eq_true, decide_eq_true_eq]
  exact h
theorem jt_kp_f {p q z : Int32} (h1 : ¬ z < p) (h2 : ¬ q < z) : jt_kp p q z = false := by
  unfold jt_kp
  simp [h1, h2]
theorem jt_y_r16 {post : Int32 → SY → Prop} {p q : Int32} (hs : s < 4) (hz : sz s ≤ 20) : ∀ d i k a, i + d = sz s → k ≤ i →
    (∀ a' k', jt_L a' (s * 20) k' = jt_L a (s * 20) k ++ (jt_L a (s * 20 + i) d).filter (jt_kp p q) → (∀ j, (j < s * 20 ∨ s * 20 + 20 ≤ j) → a' j = a j) → k' ≤ sz s → post (nI (sz s - k')) (jt_y fo a' (jt_up sz s k') re)) →
    wY_removeRange_16 post (nI s) p q (nI fo) (d + 1) (nI k) (nI i) a (fun i => nI (sz i)) re := by
  intro d
  induction d with
  | zero =>
    intro i k a hi hk H
    refine And.intro (jt_v4 hs) ?_
    refine pk_le (sz s) i (fun _ => ?_) (fun c => absurd c (by omega)) (jt_rd (by omega) rfl) rfl (by omega) (by omega)
    have e1 : (fun i => nI (sz i)) (nI s).toNatClampNeg - nI k = nI (sz s - k) := by
      rw [jt_rd (f := sz) (v := sz s) (by omega) rfl, pk_sub (by omega)]
    have e2 : upd (fun i => nI (sz i)) (nI s).toNatClampNeg (nI k) = fun i => nI (jt_up sz s k i) := by
      rw [jt_cl (by omega), jt_upd]
    refine And.intro (jt_v4 hs) (nm_r e1 (And.intro (jt_v4 hs) (nm_r e2 ?_)))
    exact H a k (by rw [jt_L_0]; simp) (fun _ _ => rfl) (by omega)
  | succ d ih =>
    intro i k a hi hk H
    rw [jt_L_c] at H
    have er : a (nI s * 20 + nI i).toNatClampNeg = a (s * 20 + i) := jt_ra hs (by omega)
    have keep : jt_kp p q (a (s * 20 + i)) = true → wY_removeRange_53 post (wY_removeRange_16 post (nI s) p q (nI fo) (d + 1)) (nI s) p q (nI k) (nI i) (a (s * 20 + i)) (nI fo) a (fun i => nI (sz i)) re := by
      intro w
      refine And.intro (jt_v80 hs (by omega)) (nm_r (e' := upd a (s * 20 + k) (a (s * 20 + i))) (jt_wa hs (by omega)) (nm_r (e' := nI (k + 1)) (nI_1 k) (nm_r (e' := nI (i + 1)) (nI_1 i) ?_)))
      refine ih (i + 1) (k + 1) _ (by omega) (by omega) ?_
      intro a' k' e o l
      refine H a' k' ?_ ?_ l
      · rw [e, jt_L_s, pk_us]
        have e3 : jt_L (upd a (s * 20 + k) (a (s * 20 + i))) (s * 20) k = jt_L a (s * 20) k := jt_L_cg (fun j hj => pk_un (by omega))
        have e4 : jt_L (upd a (s * 20 + k) (a (s * 20 + i))) (s * 20 + (i + 1)) d = jt_L a (s * 20 + i + 1) d := jt_L_cg (b := s * 20 + i + 1) (fun j hj => pk_un (by omega))
        rw [e3, e4, List.filter_cons_of_pos w, List.append_assoc]
        rfl
      · intro j hj
        rw [o j hj]
        exact pk_un (by omega)
    refine And.intro (jt_v4 hs) ?_
    refine pk_le (sz s) i (fun c => absurd c (by omega)) (fun c => And.intro (jt_v80 hs (by omega)) (nm_r (e' := a (s * 20 + i)) er ?_)) (jt_rd (by omega) rfl) rfl (by omega) (by omega)
    refine br_c (fun w => keep (jt_kp_t (Or.inl w))) (fun w1 => br_c (fun w2 => ?_) (fun w2 => keep (jt_kp_t (Or.inr (Int32.not_le.mp w2)))))
    refine nm_r (e' := nI (i + 1)) (nI_1 i) ?_
    refine ih (i + 1) k a (by omega) (by omega) ?_
    intro a' k' e o l
    refine H a' k' ?_ o l
    rw [List.filter_cons_of_neg (by rw [jt_kp_f w1 (Int32.not_lt.mpr w2)]; decide)]
    exact e
theorem jt_y_rr {post : Int32 → SY → Prop} {p q : Int32} (hs : s < 4) (hz : sz s ≤ 20)
    (H : ∀ a' k', jt_L a' (s * 20) k' = (jt_L a (s * 20) (sz s)).filter (jt_kp p q) → (∀ j, (j < s * 20 ∨ s * 20 + 20 ≤ j) → a' j = a j) → k' ≤ sz s → post (nI (sz s - k')) (jt_y fo a' (jt_up sz s k') re)) :
    wpY_removeRange post (jt_y fo a sz re) (nI s) p q := by
  unfold wpY_removeRange
  refine jt_yis_t hs (br_f (by decide) ⟨sz s + 1, jt_y_r16 hs hz (sz s) 0 0 a (by omega) (by omega) ?_⟩)
  intro a' k' e o l
  exact H a' k' e o l
theorem jt_y_c2 {post : Int32 → Prop} {x : Int32} (hf : fo ≤ 40) : ∀ d i, i + d = fo → (x ∈ jt_L re (0 + i) d → post 1) → (x ∉ jt_L re (0 + i) d → post 0) → wY_collected_2 post x (nI fo) a (fun i => nI (sz i)) re (d + 1) (nI i) := by
  intro d
  induction d with
  | zero =>
    intro i hi H1 H0
    exact pk_le fo i (fun _ => H0 (by rw [jt_L_0]; simp)) (fun c => absurd c (by omega)) rfl rfl (by omega) (by omega)
  | succ d ih =>
    intro i hi H1 H0
    rw [jt_L_c] at H1 H0
    refine pk_le fo i (fun c => absurd c (by omega)) (fun c => And.intro (jt_v40 (by omega)) ?_) rfl rfl (by omega) (by omega)
    have er : re (nI i).toNatClampNeg = re (0 + i) := by rw [jt_cl (by omega), Nat.zero_add]
    by_cases c2 : re (0 + i) = x
    · exact br_t (er.trans c2) (H1 (by rw [c2]; exact List.mem_cons_self))
    · refine br_f (fun q => c2 (er.symm.trans q)) (nm_r (e' := nI (i + 1)) (nI_1 i) ?_)
      refine ih (i + 1) (by omega) (fun q => H1 (List.mem_cons_of_mem _ q)) (fun q => H0 ?_)
      intro w
      rcases List.mem_cons.mp w with w | w
      · exact c2 w.symm
      · exact q w
theorem jt_y_coll {post : Int32 → Prop} {x : Int32} (hf : fo ≤ 40) (H1 : x ∈ jt_L re 0 fo → post 1) (H0 : x ∉ jt_L re 0 fo → post 0) : wpY_collected post (jt_y fo a sz re) x :=
  ⟨fo + 1, jt_y_c2 hf fo 0 (by omega) H1 H0⟩
theorem jt_y_bel {post : Int32 → Prop} {v : SY} {how : Nat} {A B : Prop} {p q : Int32} (hh : how < 4) (hp : (A ∧ p = 1) ∨ (¬ A ∧ p = 0)) (hq : (B ∧ q = 1) ∨ (¬ B ∧ q = 0)) (H1 : jt_bel how A B → post 1) (H0 : ¬ jt_bel how A B → post 0) : wpY_belongs post v (nI how) p q := by
  unfold jt_bel at H1 H0
  rcases (by omega : how = 0 ∨ how = 1 ∨ how = 2 ∨ how = 3) with rfl | rfl | rfl | rfl
  · refine br_t rfl ?_
    rcases hp with ⟨hA, rfl⟩ | ⟨hA, rfl⟩
    · exact br_f (by decide) (H1 (by simp [hA]))
    · refine br_t rfl ?_
      rcases hq with ⟨hB, rfl⟩ | ⟨hB, rfl⟩
      · exact br_f (by decide) (H1 (by simp [hB]))
      · exact br_t rfl (H0 (by simp [hA, hB]))
  · refine br_f (by decide) (br_t rfl ?_)
    rcases hp with ⟨hA, rfl⟩ | ⟨hA, rfl⟩
    · refine br_f (by decide) ?_
      rcases hq with ⟨hB, rfl⟩ | ⟨hB, rfl⟩
      · exact br_f (by decide) (H1 (by simp [hA, hB]))
      · exact br_t rfl (H0 (by simp [hB]))
    · exact br_t rfl (H0 (by simp [hA]))
  · refine br_f (by decide) (br_f (by decide) (br_t rfl ?_))
    rcases hp with ⟨hA, rfl⟩ | ⟨hA, rfl⟩
    · refine br_f (by decide) ?_
      rcases hq with ⟨hB, rfl⟩ | ⟨hB, rfl⟩
      · exact br_f (by decide) (H0 (by simp [hB]))
      · exact br_t rfl (H1 (by simp [hA, hB]))
    · exact br_t rfl (H0 (by simp [hA]))
  · refine br_f (by decide) (br_f (by decide) (br_f (by decide) ?_))
    rcases hp with ⟨hA, rfl⟩ | ⟨hA, rfl⟩ <;> rcases hq with ⟨hB, rfl⟩ | ⟨hB, rfl⟩
    · exact br_t rfl (H0 (by simp [hA, hB]))
    · exact br_f (by decide) (H1 (by simp [hA, hB]))
    · exact br_f (by decide) (H1 (by simp [hA, hB]))
    · exact br_t rfl (H0 (by simp [hA, hB]))
theorem jt_y_c3 {post : SY → Prop} {how p q : Nat} (hh : how < 4) (hs : s < 4) (hp : p < 4) (hq : q < 4) (hz : ∀ t, t < 4 → sz t ≤ 20) : ∀ d i fo re, i + d = sz s → fo + d ≤ 40 → (jt_L re 0 fo).Nodup →
    (∀ fo' re', (jt_L re' 0 fo').Nodup → (∀ z, z ∈ jt_L re' 0 fo' ↔ z ∈ jt_L re 0 fo ∨ (z ∈ jt_L a (s * 20 + i) d ∧ jt_bel how (z ∈ jt_L a (p * 20) (sz p)) (z ∈ jt_L a (q * 20) (sz q)))) → fo' ≤ fo + d → post (jt_y fo' a sz re')) →
    wY_collect_3 post (nI s) (nI how) (nI p) (nI q) (d + 1) (nI i) (nI fo) a (fun i => nI (sz i)) re := by
  have hzs := hz s hs
  intro d
  induction d with
  | zero =>
    intro i fo re hi hf nd H
    refine And.intro (jt_v4 hs) ?_
    refine pk_le (sz s) i (fun _ => ?_) (fun c => absurd c (by omega)) (jt_rd (by omega) rfl) rfl (by omega) (by omega)
    exact H fo re nd (fun z => by rw [jt_L_0]; simp) (by omega)
  | succ d ih =>
    intro i fo re hi hf nd H
    rw [jt_L_c] at H
    have er : a (nI s * 20 + nI i).toNatClampNeg = a (s * 20 + i) := jt_ra hs (by omega)
    refine And.intro (jt_v4 hs) ?_
    refine pk_le (sz s) i (fun c => absurd c (by omega)) (fun c => And.intro (jt_v80 hs (by omega)) (nm_r (e' := a (s * 20 + i)) er ?_)) (jt_rd (by omega) rfl) rfl (by omega) (by omega)
    generalize a (s * 20 + i) = x at H
    have skip : (x ∈ jt_L re 0 fo ∨ ¬ jt_bel how (x ∈ jt_L a (p * 20) (sz p)) (x ∈ jt_L a (q * 20) (sz q))) → wY_collect_3 post (nI s) (nI how) (nI p) (nI q) (d + 1) (nI (i + 1)) (nI fo) a (fun i => nI (sz i)) re := by
      intro w
      refine ih (i + 1) fo re (by omega) (by omega) nd ?_
      intro fo' re' nd' m l
      refine H fo' re' nd' ?_ (by omega)
      intro z
      rw [m z, List.mem_cons]
      constructor
      · intro y
        rcases y with y | y
        · exact Or.inl y
        · exact Or.inr ⟨Or.inr y.1, y.2⟩
      · intro y
        rcases y with y | ⟨y | y, yb⟩
        · exact Or.inl y
        · rw [y] at yb ⊢
          rcases w with w | w
          · exact Or.inl w
          · exact absurd yb w
        · exact Or.inr ⟨y, yb⟩
    have main : ∀ r1 r2 : Int32, ((x ∈ jt_L a (p * 20) (sz p) ∧ r1 = 1) ∨ (x ∉ jt_L a (p * 20) (sz p) ∧ r1 = 0)) → ((x ∈ jt_L a (q * 20) (sz q) ∧ r2 = 1) ∨ (x ∉ jt_L a (q * 20) (sz q) ∧ r2 = 0)) →
        wpY_collected (fun r_15 => (((r_15 = 0 → (wpY_belongs (fun r_22 => (((r_22 = 0 → (∀ x5_28 : Int32, x5_28 = nI i + 1 → (wY_collect_3 post (nI s) (nI how) (nI p) (nI q) (d + 1) x5_28 (nI fo) a (fun i => nI (sz i)) re))) ∧ (¬ r_22 = 0 → (vp_in (nI fo) 40 ∧ ∀ a_result_30 : Nat → Int32, a_result_30 = upd re (nI fo).toNatClampNeg x → (∀ f_found_31 : Int32, f_found_31 = nI fo + 1 → (∀ x5_32 : Int32, x5_32 = nI i + 1 → (wY_collect_3 post (nI s) (nI how) (nI p) (nI q) (d + 1) x5_32 f_found_31 a (fun i => nI (sz i)) a_result_30)))))))) (jt_y fo a sz re) (nI how) r1 r2)) ∧ (¬ r_15 = 0 → (∀ x5_21 : Int32, x5_21 = nI i + 1 → (wY_collect_3 post (nI s) (nI how) (nI p) (nI q) (d + 1) x5_21 (nI fo) a (fun i => nI (sz i)) re)))))) (jt_y fo a sz re) x := by
      intro r1 r2 h1 h2
      refine jt_y_coll (by omega) (fun w => br_f (by decide) (nm_r (e' := nI (i + 1)) (nI_1 i) (skip (Or.inl w)))) (fun w => br_t rfl ?_)
      refine jt_y_bel hh h1 h2 (fun b => br_f (by decide) ?_) (fun b => br_t rfl (nm_r (e' := nI (i + 1)) (nI_1 i) (skip (Or.inr b))))
      have eu : upd re (nI fo).toNatClampNeg x = upd re fo x := by rw [jt_cl (by omega)]
      refine And.intro (jt_v40 (by omega)) (nm_r (e' := upd re fo x) eu (nm_r (e' := nI (fo + 1)) (nI_1 fo) (nm_r (e' := nI (i + 1)) (nI_1 i) ?_)))
      have el : jt_L (upd re fo x) 0 (fo + 1) = jt_L re 0 fo ++ [x] := by
        rw [jt_L_s, Nat.zero_add, pk_us, jt_L_cg (a := re) (fun j hj => pk_un (by omega))]
      refine ih (i + 1) (fo + 1) (upd re fo x) (by omega) (by omega) ?_ ?_
      · rw [el]; grind
      · intro fo' re' nd' m l
        refine H fo' re' nd' ?_ (by omega)
        intro z
        rw [m z, el, List.mem_append, List.mem_singleton, List.mem_cons]
        constructor
        · intro y
          rcases y with (y | y) | y
          · exact Or.inl y
          · rw [y]; exact Or.inr ⟨Or.inl rfl, b⟩
          · exact Or.inr ⟨Or.inr y.1, y.2⟩
        · intro y
          rcases y with y | ⟨y | y, yb⟩
          · exact Or.inl (Or.inl y)
          · exact Or.inl (Or.inr y)
          · exact Or.inr ⟨y, yb⟩
    refine jt_y_has hp (hz p hp) (fun w1 => ?_) (fun w1 => ?_)
    · exact jt_y_has hq (hz q hq) (fun w2 => main 1 1 (Or.inl ⟨w1, rfl⟩) (Or.inl ⟨w2, rfl⟩)) (fun w2 => main 1 0 (Or.inl ⟨w1, rfl⟩) (Or.inr ⟨w2, rfl⟩))
    · exact jt_y_has hq (hz q hq) (fun w2 => main 0 1 (Or.inr ⟨w1, rfl⟩) (Or.inl ⟨w2, rfl⟩)) (fun w2 => main 0 0 (Or.inr ⟨w1, rfl⟩) (Or.inr ⟨w2, rfl⟩))
end
end
section
/-! the reference's methods over its invariant -/
section
variable {fo : Nat} {a : Nat → Int32} {sz : Nat → Nat} {re : Nat → Int32} {s : Nat}
theorem jt_y_collect {post : SY → Prop} {how p q : Nat} (hh : how < 4) (hs : s < 4) (hp : p < 4) (hq : q < 4) (hz : ∀ t, t < 4 → sz t ≤ 20) (hf : fo + sz s ≤ 40) (nd : (jt_L re 0 fo).Nodup)
    (H : ∀ fo' re', (jt_L re' 0 fo').Nodup → (∀ z, z ∈ jt_L re' 0 fo' ↔ z ∈ jt_L re 0 fo ∨ (z ∈ jt_L a (s * 20) (sz s) ∧ jt_bel how (z ∈ jt_L a (p * 20) (sz p)) (z ∈ jt_L a (q * 20) (sz q)))) → fo' ≤ fo + sz s → post (jt_y fo' a sz re')) :
    wpY_collect post (jt_y fo a sz re) (nI s) (nI how) (nI p) (nI q) :=
  ⟨sz s + 1, jt_y_c3 hh hs hp hq hz (sz s) 0 fo re (by omega) hf nd H⟩
theorem jt_y_st2 {post : SY → Prop} {d : Nat} (hd : d < 4) (hf : fo ≤ 20) : ∀ e i a, i + e = fo → jt_L a (d * 20) i = jt_L re 0 i →
    (∀ a', jt_L a' (d * 20) fo = jt_L re 0 fo → (∀ j, (j < d * 20 ∨ d * 20 + 20 ≤ j) → a' j = a j) → post (jt_y fo a' (jt_up sz d fo) re)) →
    wY_store_2 post (nI d) (nI fo) (e + 1) (nI i) a (fun i => nI (sz i)) re := by
  intro e
  induction e with
  | zero =>
    intro i a hi el H
    have i0 : i = fo := by omega
    subst i0
    have e2 : upd (fun i => nI (sz i)) (nI d).toNatClampNeg (nI i) = fun j => nI (jt_up sz d i j) := by
      rw [jt_cl (by omega), jt_upd]
    exact pk_le i i (fun _ => And.intro (jt_v4 hd) (nm_r e2 (H a el (fun _ _ => rfl)))) (fun c => absurd c (by omega)) rfl rfl (by omega) (by omega)
  | succ e ih =>
    intro i a hi el H
    have er : upd a (nI d * 20 + nI i).toNatClampNeg (re (nI i).toNatClampNeg) = upd a (d * 20 + i) (re i) := by
      rw [jt_wa hd (by omega), jt_cl (by omega)]
    refine pk_le fo i (fun c => absurd c (by omega)) (fun c => And.intro (jt_v40 (by omega)) (And.intro (jt_v80 hd (by omega)) (nm_r er (nm_r (e' := nI (i + 1)) (nI_1 i) ?_)))) rfl rfl (by omega) (by omega)
    refine ih (i + 1) _ (by omega) ?_ ?_
    · rw [jt_L_s, jt_L_s, pk_us, Nat.zero_add, jt_L_cg (a := a) (fun j hj => pk_un (by omega)), el]
    · intro a' e1 o
      refine H a' e1 ?_
      intro j hj
      rw [o j hj]
      exact pk_un (by omega)
theorem jt_y_store {post : SY → Prop} {d : Nat} (hd : d < 4) (hf : fo ≤ 20) (H : ∀ a', jt_L a' (d * 20) fo = jt_L re 0 fo → (∀ j, (j < d * 20 ∨ d * 20 + 20 ≤ j) → a' j = a j) → post (jt_y fo a' (jt_up sz d fo) re)) :
    wpY_store post (jt_y fo a sz re) (nI d) :=
  ⟨fo + 1, jt_y_st2 hd hf fo 0 a (by omega) rfl H⟩
theorem jt_nd_f {l : List Int32} {p : Int32 → Bool} (h : l.Nodup) : (l.filter p).Nodup := List.Pairwise.sublist List.filter_sublist h
def jt_ge (x z : Int32) : Bool := decide (x ≤ z)
theorem jt_y_s26 {post : Int32 → SY → Prop} {d : Nat} {x : Int32} (hs : s < 4) (hz : sz s ≤ 20) : ∀ e i fo re, i + e = sz s → fo ≤ i →
    (∀ fo' re', jt_L re' 0 fo' = jt_L re 0 fo ++ (jt_L a (s * 20 + i) e).filter (jt_ge x) → fo' ≤ sz s → wpY_removeRange (fun r_15 u => wpY_store (fun u => post u.1 u) u (nI d)) (jt_y fo' a sz re') (nI s) x 2147483647) →
    wY_split_26 post (nI s) x (nI d) (e + 1) (nI i) (nI fo) a (fun i => nI (sz i)) re := by
  intro e
  induction e with
  | zero =>
    intro i fo re hi hf H
    refine And.intro (jt_v4 hs) ?_
    refine pk_le (sz s) i (fun _ => ?_) (fun c => absurd c (by omega)) (jt_rd (by omega) rfl) rfl (by omega) (by omega)
    exact H fo re (by rw [jt_L_0]; simp) (by omega)
  | succ e ih =>
    intro i fo re hi hf H
    rw [jt_L_c] at H
    have er : a (nI s * 20 + nI i).toNatClampNeg = a (s * 20 + i) := jt_ra hs (by omega)
    refine And.intro (jt_v4 hs) ?_
    refine pk_le (sz s) i (fun c => absurd c (by omega)) (fun c => And.intro (jt_v80 hs (by omega)) ?_) (jt_rd (by omega) rfl) rfl (by omega) (by omega)
    by_cases c2 : a (s * 20 + i) < x
    · refine br_t (er.symm ▸ c2) (nm_r (e' := nI (i + 1)) (nI_1 i) ?_)
      refine ih (i + 1) fo re (by omega) (by omega) ?_
      intro fo' re' el l
      refine H fo' re' ?_ l
      rw [List.filter_cons_of_neg (by unfold jt_ge; simp [c2])]
      exact el
    · have eu : upd re (nI fo).toNatClampNeg (a (nI s * 20 + nI i).toNatClampNeg) = upd re fo (a (s * 20 + i)) := by rw [jt_cl (by omega), er]
      refine br_f (fun q => c2 (er ▸ q)) (And.intro (jt_v80 hs (by omega)) (And.intro (jt_v40 (by omega)) (nm_r eu (nm_r (e' := nI (fo + 1)) (nI_1 fo) (nm_r (e' := nI (i + 1)) (nI_1 i) ?_)))))
      refine ih (i + 1) (fo + 1) _ (by omega) (by omega) ?_
      intro fo' re' el l
      refine H fo' re' ?_ l
      rw [el, jt_L_s, Nat.zero_add, pk_us, jt_L_cg (a := re) (fun j hj => pk_un (by omega)), List.filter_cons_of_pos (by unfold jt_ge; exact decide_eq_true (Int32.not_lt.mp c2)), List.append_assoc]
      rfl
theorem jt_y_w20 {post : Int32 → Prop} {b : Nat} (hs : s < 4) (hb : b < 4) (hz : sz s ≤ 20) (hzb : sz b ≤ 20) : ∀ d i, i + d = sz s → ((∀ z, z ∈ jt_L a (s * 20 + i) d → z ∈ jt_L a (b * 20) (sz b)) → post 1) → (¬ (∀ z, z ∈ jt_L a (s * 20 + i) d → z ∈ jt_L a (b * 20) (sz b)) → post 0) →
    wY_within_20 post (nI s) (nI b) (nI fo) a (fun i => nI (sz i)) re (d + 1) (nI i) := by
  intro d
  induction d with
  | zero =>
    intro i hi H1 H0
    refine And.intro (jt_v4 hs) ?_
    exact pk_le (sz s) i (fun _ => H1 (by rw [jt_L_0]; simp)) (fun c => absurd c (by omega)) (jt_rd (by omega) rfl) rfl (by omega) (by omega)
  | succ d ih =>
    intro i hi H1 H0
    rw [jt_L_c] at H1 H0
    have er : a (nI s * 20 + nI i).toNatClampNeg = a (s * 20 + i) := jt_ra hs (by omega)
    refine And.intro (jt_v4 hs) ?_
    refine pk_le (sz s) i (fun c => absurd c (by omega)) (fun c => And.intro (jt_v80 hs (by omega)) ?_) (jt_rd (by omega) rfl) rfl (by omega) (by omega)
    refine (congrArg (fun z => wpY_has _ (jt_y fo a sz re) (nI b) z) er).mpr ?_
    refine jt_y_has hb hzb (fun w => br_f (by decide) (nm_r (e' := nI (i + 1)) (nI_1 i) ?_)) (fun w => br_t rfl (H0 (fun q => w (q _ List.mem_cons_self))))
    refine ih (i + 1) (by omega) (fun q => H1 ?_) (fun q => H0 (fun y => q (fun z hz => y z (List.mem_cons_of_mem _ hz))))
    intro z hz
    rcases List.mem_cons.mp hz with y | y
    · rw [y]; exact w
    · exact q z y
end
def jt_YB (a : Nat → Int32) (sz : Nat → Nat) (g : Nat → List Int32) : Prop := ∀ s, s < 4 → sz s ≤ 20 ∧ jt_L a (s * 20) (sz s) = g s ∧ (g s).Nodup
def jt_YI (v : SY) (g : Nat → List Int32) : Prop := ∃ fo a sz re, v = jt_y fo a sz re ∧ jt_YB a sz g
theorem jt_YI_mk {fo : Nat} {a : Nat → Int32} {sz : Nat → Nat} {re : Nat → Int32} {g : Nat → List Int32} (B : jt_YB a sz g) : jt_YI (jt_y fo a sz re) g := ⟨fo, a, sz, re, rfl, B⟩
theorem jt_YB_put {a a' : Nat → Int32} {sz : Nat → Nat} {g : Nat → List Int32} {s n : Nat} {l : List Int32} (B : jt_YB a sz g) (hs : s < 4) (o : ∀ j, (j < s * 20 ∨ s * 20 + 20 ≤ j) → a' j = a j) (el : jt_L a' (s * 20) n = l) (hn : n ≤ 20) (nd : l.Nodup) : jt_YB a' (jt_up sz s n) (jt_uf g s l) := by
  intro t ht
  by_cases e : t = s
  · subst e
    rw [jt_up_s, jt_uf_s]
    exact ⟨hn, el, nd⟩
  · rw [jt_up_n e, jt_uf_n e]
    obtain ⟨b1, b2, b3⟩ := B t ht
    refine ⟨b1, ?_, b3⟩
    rw [← b2]
    exact jt_L_cg (fun i hi => o _ (by omega))
theorem jt_YI_len {v : SY} {g : Nat → List Int32} (I : jt_YI v g) {s : Nat} (hs : s < 4) : (g s).length ≤ 20 ∧ (g s).Nodup := by
  obtain ⟨fo, a, sz, re, rfl, B⟩ := I
  obtain ⟨b1, b2, b3⟩ := B s hs
  exact ⟨by rw [← b2, jt_L_len]; exact b1, b3⟩
section
variable {v : SY} {g : Nat → List Int32} {s : Nat}
theorem jt_yi_has {post : Int32 → Prop} (I : jt_YI v g) (hs : s < 4) {x : Int32} (H1 : x ∈ g s → post 1) (H0 : x ∉ g s → post 0) : wpY_has post v (nI s) x := by
  obtain ⟨fo, a, sz, re, rfl, B⟩ := I
  obtain ⟨b1, b2, b3⟩ := B s hs
  rw [← b2] at H1 H0
  exact jt_y_has hs b1 H1 H0
theorem jt_yi_size {post : Int32 → Prop} (I : jt_YI v g) (hs : s < 4) (H : post (nI (g s).length)) : wpY_size post v (nI s) := by
  obtain ⟨fo, a, sz, re, rfl, B⟩ := I
  obtain ⟨b1, b2, b3⟩ := B s hs
  rw [← b2, jt_L_len] at H
  unfold wpY_size
  refine jt_yis_t hs (br_f (by decide) (And.intro (jt_v4 hs) ?_))
  exact (congrArg post (jt_rd (f := sz) (v := sz s) (by omega) rfl)).mpr H
theorem jt_yi_rank {post : Int32 → Prop} (I : jt_YI v g) (hs : s < 4) {x : Int32} (H : post (nI (jt_rk x (g s)))) : wpY_rank post v (nI s) x := by
  obtain ⟨fo, a, sz, re, rfl, B⟩ := I
  obtain ⟨b1, b2, b3⟩ := B s hs
  rw [← b2] at H
  exact jt_y_rank hs b1 H
theorem jt_yi_ceiling {post : Int32 → Prop} (I : jt_YI v g) (hs : s < 4) {x : Int32} (H1 : jt_rk x (g s) < (g s).length → post (nI (jt_rk x (g s)))) (H0 : (g s).length ≤ jt_rk x (g s) → post (-3)) : wpY_ceiling post v (nI s) x := by
  obtain ⟨fo, a, sz, re, rfl, B⟩ := I
  obtain ⟨b1, b2, b3⟩ := B s hs
  have rl : jt_rk x (g s) ≤ (g s).length := List.countP_le_length
  have ee : (g s).length = sz s := by rw [← b2, jt_L_len]
  unfold wpY_ceiling
  refine jt_yis_t hs (br_f (by decide) ?_)
  refine jt_y_rank hs b1 ?_
  rw [b2]
  refine And.intro (jt_v4 hs) ?_
  exact pk_le (g s).length (jt_rk x (g s)) (fun c => H0 c) (fun c => H1 c) (jt_rd (by omega) ee.symm) rfl (by omega) (by omega)
theorem jt_yi_at {post : Int32 → Prop} (I : jt_YI v g) (hs : s < 4) {p : Int32} (H1 : ∀ z, z ∈ g s → nI (jt_rk z (g s)) = p → post z) (H0 : (∀ z, z ∈ g s → nI (jt_rk z (g s)) ≠ p) → post 0) : wpY_at post v (nI s) p := by
  obtain ⟨fo, a, sz, re, rfl, B⟩ := I
  obtain ⟨b1, b2, b3⟩ := B s hs
  rw [← b2] at H1 H0
  exact jt_y_at hs b1 H1 H0
theorem jt_yi_clear {post : Int32 → SY → Prop} (I : jt_YI v g) (hs : s < 4) (H : ∀ v', jt_YI v' (jt_uf g s []) → post (nI (g s).length) v') : wpY_clear post v (nI s) := by
  obtain ⟨fo, a, sz, re, rfl, B⟩ := I
  obtain ⟨b1, b2, b3⟩ := B s hs
  rw [← b2, jt_L_len] at H
  unfold wpY_clear
  refine jt_yis_t hs (br_f (by decide) (And.intro (jt_v4 hs) (nm_r (e' := nI (sz s)) (jt_rd (by omega) rfl) (And.intro (jt_v4 hs) (nm_r (e' := fun i => nI (jt_up sz s 0 i)) ?_ (H _ (jt_YI_mk (jt_YB_put B hs (fun _ _ => rfl) rfl (by omega) List.nodup_nil))))))))
  rw [jt_cl (by omega)]
  exact jt_upd (v := 0)
theorem jt_yi_add {post : Int32 → SY → Prop} (I : jt_YI v g) (hs : s < 4) {x : Int32} (H0 : x ∈ g s → post 0 v) (H1 : x ∉ g s → (g s).length = 20 → post (-2) v)
    (H2 : x ∉ g s → (g s).length < 20 → ∀ v', jt_YI v' (jt_uf g s (g s ++ [x])) → post 1 v') : wpY_add post v (nI s) x := by
  have I' := I
  obtain ⟨fo, a, sz, re, rfl, B⟩ := I
  obtain ⟨b1, b2, b3⟩ := B s hs
  have ee : (g s).length = sz s := by rw [← b2, jt_L_len]
  have e1 : (fun i => nI (sz i)) (nI s).toNatClampNeg = nI (sz s) := jt_rd (by omega) rfl
  unfold wpY_add
  refine jt_yis_t hs (br_f (by decide) ?_)
  refine jt_yi_has I' hs (fun q => br_f (by decide) (H0 q)) (fun q => br_t rfl (And.intro (jt_v4 hs) ?_))
  refine pk_eq (sz s) 20 (fun c => H1 q (by omega)) (fun c => And.intro (jt_v4 hs) (And.intro ?_ (nm_r (e' := upd a (s * 20 + sz s) x) ?_ (And.intro (jt_v4 hs) (And.intro (jt_v4 hs) (nm_r (e' := fun i => nI (jt_up sz s (sz s + 1) i)) ?_ (H2 q (by omega) _ (jt_YI_mk (jt_YB_put B hs ?_ ?_ (by omega) ?_))))))))) e1 rfl (by omega) (by omega)
  · exact (congrArg (fun z => vp_in (nI s * 20 + z) 80) e1).mpr (jt_v80 hs (by omega))
  · exact (congrArg (fun z => upd a (nI s * 20 + z).toNatClampNeg x) e1).trans (jt_wa hs (by omega))
  · exact (congrArg (fun z => upd (fun i => nI (sz i)) (nI s).toNatClampNeg (z + 1)) e1).trans (by rw [nI_1, jt_cl (by omega), jt_upd])
  · intro j hj
    exact pk_un (by omega)
  · rw [jt_L_s, pk_us, jt_L_cg (a := a) (fun j hj => pk_un (by omega)), b2]
  · grind
theorem jt_yi_rr {post : Int32 → SY → Prop} (I : jt_YI v g) (hs : s < 4) {p q : Int32} (H : ∀ v', jt_YI v' (jt_uf g s ((g s).filter (jt_kp p q))) → post (nI ((g s).length - ((g s).filter (jt_kp p q)).length)) v') : wpY_removeRange post v (nI s) p q := by
  obtain ⟨fo, a, sz, re, rfl, B⟩ := I
  obtain ⟨b1, b2, b3⟩ := B s hs
  have ee : (g s).length = sz s := by rw [← b2, jt_L_len]
  refine jt_y_rr hs b1 ?_
  intro a' k' e o l
  rw [b2] at e
  have ek : ((g s).filter (jt_kp p q)).length = k' := by rw [← e, jt_L_len]
  have H' := H (jt_y fo a' (jt_up sz s k') re) (jt_YI_mk (jt_YB_put B hs o e (by omega) (jt_nd_f b3)))
  rw [ee, ek] at H'
  exact H'
theorem jt_yi_remove {post : Int32 → SY → Prop} (I : jt_YI v g) (hs : s < 4) {x : Int32} (H : ∀ v', jt_YI v' (jt_uf g s ((g s).filter (jt_kp x x))) → post (nI ((g s).length - ((g s).filter (jt_kp x x)).length)) v') : wpY_remove post v (nI s) x := by
  unfold wpY_remove
  refine jt_yi_rr I hs ?_
  intro v' I'
  exact H v' I'
theorem jt_yi_split {post : Int32 → SY → Prop} (I : jt_YI v g) {d : Nat} (hs : s < 4) (hd : d < 4) {x : Int32} (H : ∀ v', jt_YI v' (jt_uf (jt_uf g s ((g s).filter (jt_kp x 2147483647))) d ((g s).filter (jt_ge x))) → post (nI ((g s).filter (jt_ge x)).length) v') : wpY_split post v (nI s) x (nI d) := by
  obtain ⟨fo, a, sz, re, rfl, B⟩ := I
  obtain ⟨b1, b2, b3⟩ := B s hs
  unfold wpY_split
  refine jt_yis_t hs (br_f (by decide) ?_)
  refine jt_yis_t hd (br_f (by decide) ⟨sz s + 1, ?_⟩)
  refine jt_y_s26 hs b1 (sz s) 0 0 re (by omega) (by omega) ?_
  intro fo' re' el l
  rw [jt_L_0, List.nil_append, Nat.add_zero, b2] at el
  refine jt_y_rr hs b1 ?_
  intro a' k' e o l2
  rw [b2] at e
  refine jt_y_store hd (by omega) ?_
  intro a2 e2 o2
  have ef : ((g s).filter (jt_ge x)).length = fo' := by rw [← el, jt_L_len]
  rw [ef] at H
  exact H _ (jt_YI_mk (jt_YB_put (jt_YB_put B hs o e (by omega) (jt_nd_f b3)) hd o2 (e2.trans el) (by omega) (jt_nd_f b3)))
theorem jt_yi_within {post : Int32 → Prop} (I : jt_YI v g) {b : Nat} (hs : s < 4) (hb : b < 4) (H1 : (∀ z, z ∈ g s → z ∈ g b) → post 1) (H0 : ¬ (∀ z, z ∈ g s → z ∈ g b) → post 0) : wpY_within post v (nI s) (nI b) := by
  obtain ⟨fo, a, sz, re, rfl, B⟩ := I
  obtain ⟨b1, b2, b3⟩ := B s hs
  obtain ⟨c1, c2, c3⟩ := B b hb
  rw [← b2, ← c2] at H1 H0
  unfold wpY_within
  refine jt_yis_t hs (br_f (by decide) ?_)
  refine jt_yis_t hb (br_f (by decide) ⟨sz s + 1, ?_⟩)
  exact jt_y_w20 hs hb b1 c1 (sz s) 0 (by omega) H1 H0
theorem jt_yi_same {post : Int32 → Prop} (I : jt_YI v g) {b : Nat} (hs : s < 4) (hb : b < 4) (H1 : (∀ z, z ∈ g s ↔ z ∈ g b) → post 1) (H0 : ¬ (∀ z, z ∈ g s ↔ z ∈ g b) → post 0) : wpY_same post v (nI s) (nI b) := by
  unfold wpY_same
  refine jt_yi_within I hs hb ?_ ?_
  · intro q
    refine br_f (by decide) ?_
    refine jt_yi_within I hb hs ?_ ?_
    · intro q2
      exact br_f (by decide) (H1 (fun z => ⟨q z, q2 z⟩))
    · intro q2
      exact br_t rfl (H0 (fun w => q2 (fun z hz => (w z).mpr hz)))
  · intro q
    exact br_t rfl (H0 (fun w => q (fun z hz => (w z).mp hz)))
theorem jt_yi_combine {post : Int32 → SY → Prop} (I : jt_YI v g) {how d p q : Nat} (hh : how < 4) (hd : d < 4) (hp : p < 4) (hq : q < 4)
    (H1 : ∀ l : List Int32, (∀ z, z ∈ l ↔ jt_bel how (z ∈ g p) (z ∈ g q)) → l.Nodup → l.length ≤ 20 → ∀ v', jt_YI v' (jt_uf g d l) → post (nI l.length) v')
    (H2 : ∀ l : List Int32, (∀ z, z ∈ l ↔ jt_bel how (z ∈ g p) (z ∈ g q)) → l.Nodup → 20 < l.length → ∀ v', jt_YI v' g → post (-2) v') : wpY_combine post v (nI how) (nI d) (nI p) (nI q) := by
  obtain ⟨fo, a, sz, re, rfl, B⟩ := I
  obtain ⟨b1, b2, b3⟩ := B p hp
  obtain ⟨c1, c2, c3⟩ := B q hq
  have hz : ∀ t, t < 4 → sz t ≤ 20 := fun t ht => (B t ht).1
  unfold wpY_combine
  refine br_f (nI_pos (by omega)) (br_f (nI_nlt (a := 3) (b := how) (by omega) (by omega) : ¬ nI 3 < nI how) ?_)
  refine jt_yis_t hd (br_f (by decide) ?_)
  refine jt_yis_t hp (br_f (by decide) ?_)
  refine jt_yis_t hq (br_f (by decide) ?_)
  refine jt_y_collect (fo := 0) hh hp hp hq hz (by omega) List.nodup_nil ?_
  intro fo1 re1 nd1 m1 l1
  refine jt_y_collect hh hq hp hq hz (by omega) nd1 ?_
  intro fo2 re2 nd2 m2 l2
  have mm : ∀ z, z ∈ jt_L re2 0 fo2 ↔ jt_bel how (z ∈ g p) (z ∈ g q) := by
    intro z
    rw [m2 z, m1 z, jt_L_0, b2, c2]
    constructor
    · intro w
      rcases w with (w | w) | w
      · exact absurd w List.not_mem_nil
      · exact w.2
      · exact w.2
    · intro w
      rcases jt_bel_or w with y | y
      · exact Or.inl (Or.inr ⟨y, w⟩)
      · exact Or.inr ⟨y, w⟩
  refine pk_le fo2 20 (fun c => ?_) (fun c => ?_) rfl rfl (by omega) (by omega)
  · refine jt_y_store hd c ?_
    intro a' e o
    have H' := H1 (jt_L re2 0 fo2) mm nd2 (by rw [jt_L_len]; exact c) _ (jt_YI_mk (fo := fo2) (re := re2) (jt_YB_put B hd o e c nd2))
    rw [jt_L_len] at H'
    exact H'
  · exact H2 (jt_L re2 0 fo2) mm nd2 (by rw [jt_L_len]; exact c) _ (jt_YI_mk B)
end
end
section
/-! the constructor, and what is no set -/
def jt_i116 (post : SX → Prop) (n : Nat) (x1 : Int32) (u : SX) : Prop := wX_init_116 post u.2.1 u.2.2.1 u.2.2.2.1 u.2.2.2.2.1 n x1 u.1 u.2.2.2.2.2.1 u.2.2.2.2.2.2.1 u.2.2.2.2.2.2.2.1 u.2.2.2.2.2.2.2.2.1 u.2.2.2.2.2.2.2.2.2.1 u.2.2.2.2.2.2.2.2.2.2.1 u.2.2.2.2.2.2.2.2.2.2.2.1 u.2.2.2.2.2.2.2.2.2.2.2.2.1 u.2.2.2.2.2.2.2.2.2.2.2.2.2.1 u.2.2.2.2.2.2.2.2.2.2.2.2.2.2.1 u.2.2.2.2.2.2.2.2.2.2.2.2.2.2.2.1 u.2.2.2.2.2.2.2.2.2.2.2.2.2.2.2.2.1 u.2.2.2.2.2.2.2.2.2.2.2.2.2.2.2.2.2
theorem jt_FL_init : (List.range 255).map (fun i => 255 - i) = (List.range' 1 255).reverse := by decide +kernel
theorem jt_PI_init {fr : Nat → Nat} (e : ∀ i, i < 255 → fr i = 255 - i) : jt_PI 255 fr [] := by
  intro a
  have q : jt_FL 255 fr = (List.range' 1 255).reverse := by
    rw [← jt_FL_init]
    unfold jt_FL
    exact List.map_congr_left (fun i hi => e i (List.mem_range.mp hi))
  rw [q, List.count_reverse, List.count_range_1', List.count_nil, Nat.zero_add]
section
variable {lo hi ex we : Nat} {h : jt_H} {K : Nat → Int32} {rt wy : Nat → Nat} {wr : Nat → Int32} {F : jt_F}
theorem jt_di {post : SX → Prop} (H : ∀ fr', (∀ i, i < 255 → fr' i = 255 - i) → post (jt_s 255 we lo hi ex h K rt fr' wy wr F)) : ∀ d fr, d ≤ 255 → (∀ i, i < 255 - d → fr i = 255 - i) → jt_i116 post (d + 1) (nI d) (jt_s (255 - d) we lo hi ex h K rt fr wy wr F) := by
  intro d
  induction d with
  | zero =>
    intro fr _ e
    exact br_t jt_00 (H fr e)
  | succ d ih =>
    intro fr hd e
    have q : 255 - (d + 1) + 1 = 255 - d := by omega
    refine br_f (nI_nle (by omega) (by omega)) (And.intro (jt_v256 (by omega)) (nm_r (e' := fun i => nI (jt_up fr (255 - (d + 1)) (d + 1) i)) (jt_wr (by omega) (by omega)) (nm_r (e' := nI (255 - d)) ((nI_1 _).trans (congrArg nI q)) (nm_r (e' := nI d) (pk_m1 d) ?_))))
    refine ih (jt_up fr (255 - (d + 1)) (d + 1)) (by omega) ?_
    intro i hi
    by_cases c : i = 255 - (d + 1)
    · rw [c, jt_up_s]; omega
    · rw [jt_up_n c]
      exact e i (by omega)
end
theorem jt_x_init {post : SX → Prop} (H : ∀ u, jt_XI u (fun _ => []) → post u) : wpX_init post := by
  refine ⟨256, ?_⟩
  refine jt_di (we := 0) (lo := 0) (hi := 0) (ex := 0) (h := (fun _ => 0, fun _ => 0, fun _ => 0)) (K := fun _ => 0) (rt := fun _ => 0) (wy := fun _ => 0) (wr := fun _ => 0) (F := (fun _ => 0, fun _ => 0, fun _ => 0, fun _ => 0, fun _ => 0)) ?_ 255 (fun _ => 0) (by omega) (fun i hi => absurd hi (by omega))
  intro fr' e
  refine H _ (jt_XI_mk (ls := fun _ => []) ⟨?_, jt_PI_init e⟩)
  intro s hs
  exact ⟨jt_T0 rfl, rfl, List.Pairwise.nil, by simp⟩
theorem jt_y_init {post : SY → Prop} (H : ∀ v, jt_YI v (fun _ => []) → post v) : wpY_init post := by
  refine H _ ⟨0, fun _ => 0, fun _ => 0, fun _ => 0, rfl, ?_⟩
  intro s hs
  exact ⟨Nat.zero_le 20, rfl, List.nodup_nil⟩
theorem jt_bad3 {p : Int32} (hp : jt_bad p) (c : ¬ p < 0) : 3 < p := by
  have q := hp.resolve_left c
  rw [Int32.le_iff_toInt_le] at q
  rw [Int32.lt_iff_toInt_lt]
  rw [show (nI 4).toInt = 4 from by decide] at q
  rw [show (3 : Int32).toInt = 3 from by decide]
  omega
section
variable {u : SX} {v : SY} {p q p2 p3 x y : Int32} {s t a how : Nat}
theorem jt_xb_add {post : Int32 → SX → Prop} (b : jt_bad p) (H : post (-1) u) : wpX_add post u p x := by
  unfold wpX_add
  exact jt_is_f b (br_t rfl H)
theorem jt_xb_remove {post : Int32 → SX → Prop} (b : jt_bad p) (H : post (-1) u) : wpX_remove post u p x := by
  unfold wpX_remove
  exact jt_is_f b (br_t rfl H)
theorem jt_xb_has {post : Int32 → Prop} (b : jt_bad p) (H : post 0) : wpX_has post u p x := by
  unfold wpX_has
  exact jt_is_f b (br_t rfl H)
theorem jt_xb_size {post : Int32 → Prop} (b : jt_bad p) (H : post (-1)) : wpX_size post u p := by
  unfold wpX_size
  exact jt_is_f b (br_t rfl H)
theorem jt_xb_at {post : Int32 → Prop} (b : jt_bad p) (H : post 0) : wpX_at post u p x := by
  unfold wpX_at
  exact jt_is_f b (br_t rfl H)
theorem jt_xb_rank {post : Int32 → Prop} (b : jt_bad p) (H : post (-1)) : wpX_rank post u p x := by
  unfold wpX_rank
  exact jt_is_f b (br_t rfl H)
theorem jt_xb_ceiling {post : Int32 → Prop} (b : jt_bad p) (H : post (-1)) : wpX_ceiling post u p x := by
  unfold wpX_ceiling
  exact jt_is_f b (br_t rfl H)
theorem jt_xb_clear {post : Int32 → SX → Prop} (b : jt_bad p) (H : post (-1) u) : wpX_clear post u p := by
  unfold wpX_clear
  exact jt_is_f b (br_t rfl H)
theorem jt_xb_rr {post : Int32 → SX → Prop} (b : jt_bad p) (H : post (-1) u) : wpX_removeRange post u p x y := by
  unfold wpX_removeRange
  exact jt_is_f b (br_t rfl H)
theorem jt_xb_split1 {post : Int32 → SX → Prop} (b : jt_bad p) (H : post (-1) u) : wpX_split post u p x q := by
  unfold wpX_split
  exact jt_is_f b (br_t rfl H)
theorem jt_xb_split2 {post : Int32 → SX → Prop} (hs : s < 4) (b : jt_bad q) (H : post (-1) u) : wpX_split post u (nI s) x q := by
  unfold wpX_split
  refine jt_is_t hs (br_f (by decide) ?_)
  exact jt_is_f b (br_t rfl H)
theorem jt_xb_within1 {post : Int32 → SX → Prop} (b : jt_bad p) (H : post 0 u) : wpX_within post u p q := by
  unfold wpX_within
  exact jt_is_f b (br_t rfl H)
theorem jt_xb_within2 {post : Int32 → SX → Prop} (hs : s < 4) (b : jt_bad q) (H : post 0 u) : wpX_within post u (nI s) q := by
  unfold wpX_within
  refine jt_is_t hs (br_f (by decide) ?_)
  exact jt_is_f b (br_t rfl H)
theorem jt_xb_same1 {post : Int32 → SX → Prop} (b : jt_bad p) (H : post 0 u) : wpX_same post u p q := by
  unfold wpX_same
  exact jt_xb_within1 b (br_t rfl H)
theorem jt_xb_same2 {post : Int32 → SX → Prop} (hs : s < 4) (b : jt_bad q) (H : post 0 u) : wpX_same post u (nI s) q := by
  unfold wpX_same
  exact jt_xb_within2 hs b (br_t rfl H)
theorem jt_xb_comb0 {post : Int32 → SX → Prop} (b : jt_bad p) (H : post (-1) u) : wpX_combine post u p q p2 p3 := by
  unfold wpX_combine
  exact br_c (fun _ => H) (fun c => br_t (jt_bad3 b c) H)
theorem jt_xb_comb1 {post : Int32 → SX → Prop} (hh : how < 4) (b : jt_bad q) (H : post (-1) u) : wpX_combine post u (nI how) q p2 p3 := by
  unfold wpX_combine
  refine br_f (nI_pos (by omega)) (br_f (nI_nlt (a := 3) (b := how) (by omega) (by omega) : ¬ nI 3 < nI how) ?_)
  exact jt_is_f b (br_t rfl H)
theorem jt_xb_comb2 {post : Int32 → SX → Prop} (hh : how < 4) (hs : s < 4) (b : jt_bad p2) (H : post (-1) u) : wpX_combine post u (nI how) (nI s) p2 p3 := by
  unfold wpX_combine
  refine br_f (nI_pos (by omega)) (br_f (nI_nlt (a := 3) (b := how) (by omega) (by omega) : ¬ nI 3 < nI how) ?_)
  refine jt_is_t hs (br_f (by decide) ?_)
  exact jt_is_f b (br_t rfl H)
theorem jt_xb_comb3 {post : Int32 → SX → Prop} (hh : how < 4) (hs : s < 4) (ht : t < 4) (b : jt_bad p3) (H : post (-1) u) : wpX_combine post u (nI how) (nI s) (nI t) p3 := by
  unfold wpX_combine
  refine br_f (nI_pos (by omega)) (br_f (nI_nlt (a := 3) (b := how) (by omega) (by omega) : ¬ nI 3 < nI how) ?_)
  refine jt_is_t hs (br_f (by decide) ?_)
  refine jt_is_t ht (br_f (by decide) ?_)
  exact jt_is_f b (br_t rfl H)
theorem jt_yb_add {post : Int32 → SY → Prop} (b : jt_bad p) (H : post (-1) v) : wpY_add post v p x := by
  unfold wpY_add
  exact jt_yis_f b (br_t rfl H)
theorem jt_yb_rr {post : Int32 → SY → Prop} (b : jt_bad p) (H : post (-1) v) : wpY_removeRange post v p x y := by
  unfold wpY_removeRange
  exact jt_yis_f b (br_t rfl H)
theorem jt_yb_remove {post : Int32 → SY → Prop} (b : jt_bad p) (H : post (-1) v) : wpY_remove post v p x := by
  unfold wpY_remove
  exact jt_yb_rr b H
theorem jt_yb_has {post : Int32 → Prop} (b : jt_bad p) (H : post 0) : wpY_has post v p x := by
  unfold wpY_has
  refine ⟨1, ?_⟩
  unfold wY_has_2
  exact jt_yis_f b (br_t rfl H)
theorem jt_yb_size {post : Int32 → Prop} (b : jt_bad p) (H : post (-1)) : wpY_size post v p := by
  unfold wpY_size
  exact jt_yis_f b (br_t rfl H)
theorem jt_yb_at {post : Int32 → Prop} (b : jt_bad p) (H : post 0) : wpY_at post v p x := by
  unfold wpY_at
  refine ⟨1, ?_⟩
  unfold wY_at_2
  exact jt_yis_f b (br_t rfl H)
theorem jt_yb_rank {post : Int32 → Prop} (b : jt_bad p) (H : post (-1)) : wpY_rank post v p x := by
  unfold wpY_rank
  exact jt_yis_f b (br_t rfl H)
theorem jt_yb_ceiling {post : Int32 → Prop} (b : jt_bad p) (H : post (-1)) : wpY_ceiling post v p x := by
  unfold wpY_ceiling
  exact jt_yis_f b (br_t rfl H)
theorem jt_yb_clear {post : Int32 → SY → Prop} (b : jt_bad p) (H : post (-1) v) : wpY_clear post v p := by
  unfold wpY_clear
  exact jt_yis_f b (br_t rfl H)
theorem jt_yb_split1 {post : Int32 → SY → Prop} (b : jt_bad p) (H : post (-1) v) : wpY_split post v p x q := by
  unfold wpY_split
  exact jt_yis_f b (br_t rfl H)
theorem jt_yb_split2 {post : Int32 → SY → Prop} (hs : s < 4) (b : jt_bad q) (H : post (-1) v) : wpY_split post v (nI s) x q := by
  unfold wpY_split
  refine jt_yis_t hs (br_f (by decide) ?_)
  exact jt_yis_f b (br_t rfl H)
theorem jt_yb_within1 {post : Int32 → Prop} (b : jt_bad p) (H : post 0) : wpY_within post v p q := by
  unfold wpY_within
  exact jt_yis_f b (br_t rfl H)
theorem jt_yb_within2 {post : Int32 → Prop} (hs : s < 4) (b : jt_bad q) (H : post 0) : wpY_within post v (nI s) q := by
  unfold wpY_within
  refine jt_yis_t hs (br_f (by decide) ?_)
  exact jt_yis_f b (br_t rfl H)
theorem jt_yb_same1 {post : Int32 → Prop} (b : jt_bad p) (H : post 0) : wpY_same post v p q := by
  unfold wpY_same
  exact jt_yb_within1 b (br_t rfl H)
theorem jt_yb_same2 {post : Int32 → Prop} (hs : s < 4) (b : jt_bad q) (H : post 0) : wpY_same post v (nI s) q := by
  unfold wpY_same
  exact jt_yb_within2 hs b (br_t rfl H)
theorem jt_yb_comb0 {post : Int32 → SY → Prop} (b : jt_bad p) (H : post (-1) v) : wpY_combine post v p q p2 p3 := by
  unfold wpY_combine
  exact br_c (fun _ => H) (fun c => br_t (jt_bad3 b c) H)
theorem jt_yb_comb1 {post : Int32 → SY → Prop} (hh : how < 4) (b : jt_bad q) (H : post (-1) v) : wpY_combine post v (nI how) q p2 p3 := by
  unfold wpY_combine
  refine br_f (nI_pos (by omega)) (br_f (nI_nlt (a := 3) (b := how) (by omega) (by omega) : ¬ nI 3 < nI how) ?_)
  exact jt_yis_f b (br_t rfl H)
theorem jt_yb_comb2 {post : Int32 → SY → Prop} (hh : how < 4) (hs : s < 4) (b : jt_bad p2) (H : post (-1) v) : wpY_combine post v (nI how) (nI s) p2 p3 := by
  unfold wpY_combine
  refine br_f (nI_pos (by omega)) (br_f (nI_nlt (a := 3) (b := how) (by omega) (by omega) : ¬ nI 3 < nI how) ?_)
  refine jt_yis_t hs (br_f (by decide) ?_)
  exact jt_yis_f b (br_t rfl H)
theorem jt_yb_comb3 {post : Int32 → SY → Prop} (hh : how < 4) (hs : s < 4) (ht : t < 4) (b : jt_bad p3) (H : post (-1) v) : wpY_combine post v (nI how) (nI s) (nI t) p3 := by
  unfold wpY_combine
  refine br_f (nI_pos (by omega)) (br_f (nI_nlt (a := 3) (b := how) (by omega) (by omega) : ¬ nI 3 < nI how) ?_)
  refine jt_yis_t hs (br_f (by decide) ?_)
  refine jt_yis_t ht (br_f (by decide) ?_)
  exact jt_yis_f b (br_t rfl H)
end
end
section
/-! lists in order against lists as they came -/
theorem jt_XI_f {u : SX} {f : Nat → List Int32} (I : jt_XI u f) {s : Nat} (hs : s < 4) : (f s).Pairwise (fun a b => a < b) ∧ (f s).Nodup ∧ (f s).length ≤ 20 := by
  refine jt_XI_el (P := fun _ => (f s).Pairwise (fun a b => a < b) ∧ (f s).Nodup ∧ (f s).length ≤ 20) I ?_
  intro fc we lo hi ex h K rt fr wy wr F ls B
  obtain ⟨T, em, S, len⟩ := B.1 s hs
  have S' := jt_S_map.mp S
  rw [em] at S'
  refine ⟨S', List.Pairwise.imp (fun {a b} q (e : a = b) => Int32.lt_irrefl (e ▸ q)) S', ?_⟩
  rw [← em, List.length_map]
  exact len
theorem jt_pm {l m : List Int32} (nl : l.Nodup) (nm : m.Nodup) (h : ∀ z, z ∈ l ↔ z ∈ m) : l.Perm m := (List.perm_ext_iff_of_nodup nl nm).mpr (fun z => h z)
theorem jt_rk_pm {l m : List Int32} (p : l.Perm m) (x : Int32) : jt_rk x l = jt_rk x m := p.countP_eq _
theorem jt_rk_ix {l : List Int32} (s : l.Pairwise (fun a b => a < b)) : ∀ {k : Nat} {z : Int32}, l[k]? = some z → jt_rk z l = k := by
  induction l with
  | nil => intro k z h; simp at h
  | cons y t ih =>
    intro k z h
    obtain ⟨s1, s2⟩ := List.pairwise_cons.mp s
    cases k with
    | zero =>
      rw [List.getElem?_cons_zero] at h
      have e : y = z := Option.some.inj h
      subst e
      refine jt_rk_none ?_
      intro w hw q
      rcases List.mem_cons.mp hw with e | e
      · exact Int32.lt_irrefl (e ▸ q)
      · exact Int32.lt_irrefl (Int32.lt_trans q (s1 w e))
    | succ k =>
      rw [List.getElem?_cons_succ] at h
      have q := ih s2 h
      have lt := s1 z (List.mem_of_getElem? h)
      have e := jt_rk_node (l1 := []) (l2 := t) (y := y) (x := z)
      rw [if_pos lt, q] at e
      rw [show y :: t = [] ++ y :: t from rfl, e]
      show 0 + k + 1 = k + 1
      omega
theorem jt_rk_lt {l : List Int32} (s : l.Pairwise (fun a b => a < b)) {z : Int32} (m : z ∈ l) : jt_rk z l < l.length ∧ l[jt_rk z l]? = some z := by
  obtain ⟨k, hk⟩ := List.mem_iff_getElem?.mp m
  have q := jt_rk_ix s hk
  rw [q]
  refine ⟨?_, hk⟩
  by_cases c : k < l.length
  · exact c
  · rw [List.getElem?_eq_none (by omega)] at hk
    exact absurd hk (by simp)
theorem jt_kp_mem {l : List Int32} {p q z : Int32} : z ∈ l.filter (jt_kp p q) ↔ z ∈ l ∧ (z < p ∨ q < z) := by
  rw [List.mem_filter]
  unfold jt_kp
  simp only [Bool.or_eq_true, decide_eq_true_eq]
theorem jt_max {z : Int32} : ¬ (2147483647 : Int32) < z := by
  rw [Int32.lt_iff_toInt_lt]
  have := z.toInt_lt
  rw [show (2147483647 : Int32).toInt = 2147483647 from by decide]
  omega
def jt_E (f g : Nat → List Int32) : Prop := ∀ s, s < 4 → ∀ z, z ∈ f s ↔ z ∈ g s
theorem jt_E_up {f g : Nat → List Int32} (e : jt_E f g) (s : Nat) {l m : List Int32} (h : ∀ z, z ∈ l ↔ z ∈ m) : jt_E (jt_uf f s l) (jt_uf g s m) := by
  intro t ht z
  by_cases c : t = s
  · rw [c, jt_uf_s, jt_uf_s]
    exact h z
  · rw [jt_uf_n c, jt_uf_n c]
    exact e t ht z
end
section
/-- the component's four trees hold in order what the reference's four lists hold as it came -/
def i_Rel (k : Nat) (u : SX) (v : SY) : Prop := ∃ f g, jt_XI u f ∧ jt_YI v g ∧ jt_E f g
theorem i_up {k : Nat} {u : SX} {v : SY} (h : i_Rel k u v) : i_Rel (k + 5) u v := h
theorem i_vc0 : wpX_init (fun u => wpY_init (fun v => i_Rel 0 u v)) := by
  refine jt_x_init ?_
  intro u X
  refine jt_y_init ?_
  intro v Y
  exact ⟨_, _, X, Y, fun _ _ _ => Iff.rfl⟩
theorem i_vc_add {k : Nat} {u : SX} {v : SY} (I : i_Rel k u v) (hk : k + 5 ≤ 2560) (v1 : Int32) (v2 : Int32) : wpX_add (fun r u' => wpY_add (fun r' v' => r' = r ∧ i_Rel (k + 5) u' v') v v1 v2) u v1 v2 := by
  have J := I
  obtain ⟨f, g, X, Y, E⟩ := I
  rcases jt_set v1 with b | ⟨s, hs, rfl⟩
  · exact jt_xb_add b (jt_yb_add b ⟨rfl, J⟩)
  · have pm := jt_pm (jt_XI_f X hs).2.1 (jt_YI_len Y hs).2 (E s hs)
    have ln := pm.length_eq
    refine jt_x_add X hs (fun q => ?_) (fun q c => ?_) (fun q c u' l X' m => ?_)
    · exact jt_yi_add Y hs (fun _ => ⟨rfl, J⟩) (fun w => absurd ((E s hs v2).mp q) w) (fun w => absurd ((E s hs v2).mp q) w)
    · exact jt_yi_add Y hs (fun w => absurd ((E s hs v2).mpr w) q) (fun _ _ => ⟨rfl, J⟩) (fun _ w => absurd w (by omega))
    · refine jt_yi_add Y hs (fun w => absurd ((E s hs v2).mpr w) q) (fun _ w => absurd w (by omega)) (fun _ _ v' Y' => ⟨rfl, _, _, X', Y', jt_E_up E s ?_⟩)
      intro z
      rw [m z, E s hs z, List.mem_append, List.mem_singleton]
theorem i_vc_remove {k : Nat} {u : SX} {v : SY} (I : i_Rel k u v) (hk : k + 5 ≤ 2560) (v1 : Int32) (v2 : Int32) : wpX_remove (fun r u' => wpY_remove (fun r' v' => r' = r ∧ i_Rel (k + 5) u' v') v v1 v2) u v1 v2 := by
  have J := I
  obtain ⟨f, g, X, Y, E⟩ := I
  rcases jt_set v1 with b | ⟨s, hs, rfl⟩
  · exact jt_xb_remove b (jt_yb_remove b ⟨rfl, J⟩)
  · have nd := (jt_YI_len Y hs).2
    have ne : ∀ z : Int32, (z < v2 ∨ v2 < z) ↔ z ≠ v2 := by
      intro z
      simp only [Int32.lt_iff_toInt_lt, ne_eq, ← Int32.toInt_inj]
      omega
    refine jt_x_remove X hs (fun q => ?_) (fun q u' l X' m => ?_)
    · refine jt_yi_remove Y hs ?_
      intro v' Y'
      have q' : v2 ∉ g s := fun w => q ((E s hs v2).mpr w)
      have mm : ∀ z, z ∈ (g s).filter (jt_kp v2 v2) ↔ z ∈ g s := by
        intro z
        rw [jt_kp_mem, ne z]
        exact ⟨fun w => w.1, fun w => ⟨w, fun e => q' (e ▸ w)⟩⟩
      have ln := (jt_pm (jt_nd_f nd) nd mm).length_eq
      refine ⟨by rw [ln, Nat.sub_self]; rfl, f, _, X, Y', ?_⟩
      intro t ht z
      by_cases c : t = s
      · rw [c, jt_uf_s, mm z]
        exact E s hs z
      · rw [jt_uf_n c]
        exact E t ht z
    · refine jt_yi_remove Y hs ?_
      intro v' Y'
      have q' : v2 ∈ g s := (E s hs v2).mp q
      have n1 : v2 ∉ (g s).filter (jt_kp v2 v2) := by
        rw [jt_kp_mem, ne v2]
        exact fun w => w.2 rfl
      have mm : ∀ z, z ∈ v2 :: (g s).filter (jt_kp v2 v2) ↔ z ∈ g s := by
        intro z
        rw [List.mem_cons, jt_kp_mem, ne z]
        constructor
        · intro w
          rcases w with w | w
          · rw [w]; exact q'
          · exact w.1
        · intro w
          by_cases c : z = v2
          · exact Or.inl c
          · exact Or.inr ⟨w, c⟩
      have ln := (jt_pm (List.nodup_cons.mpr ⟨n1, jt_nd_f nd⟩) nd mm).length_eq
      rw [List.length_cons] at ln
      refine ⟨by rw [← ln, Nat.add_sub_cancel_left]; rfl, _, _, X', Y', jt_E_up E s ?_⟩
      intro z
      rw [m z, jt_kp_mem, ne z, E s hs z]
theorem i_vc_has {k : Nat} {u : SX} {v : SY} (I : i_Rel k u v) (hk : k + 5 ≤ 2560) (v1 : Int32) (v2 : Int32) : wpX_has (fun r => wpY_has (fun r' => r' = r ∧ i_Rel (k + 5) u v) v v1 v2) u v1 v2 := by
  have J := I
  obtain ⟨f, g, X, Y, E⟩ := I
  rcases jt_set v1 with b | ⟨s, hs, rfl⟩
  · exact jt_xb_has b (jt_yb_has b ⟨rfl, J⟩)
  · refine jt_x_has X hs (fun q => ?_) (fun q => ?_)
    · exact jt_yi_has Y hs (fun _ => ⟨rfl, J⟩) (fun w => absurd ((E s hs v2).mp q) w)
    · exact jt_yi_has Y hs (fun w => absurd ((E s hs v2).mpr w) q) (fun _ => ⟨rfl, J⟩)
theorem i_vc_size {k : Nat} {u : SX} {v : SY} (I : i_Rel k u v) (hk : k + 5 ≤ 2560) (v1 : Int32) : wpX_size (fun r => wpY_size (fun r' => r' = r ∧ i_Rel (k + 5) u v) v v1) u v1 := by
  have J := I
  obtain ⟨f, g, X, Y, E⟩ := I
  rcases jt_set v1 with b | ⟨s, hs, rfl⟩
  · exact jt_xb_size b (jt_yb_size b ⟨rfl, J⟩)
  · have ln := (jt_pm (jt_XI_f X hs).2.1 (jt_YI_len Y hs).2 (E s hs)).length_eq
    exact jt_x_size X hs (jt_yi_size Y hs ⟨by rw [ln], J⟩)
theorem i_vc_at {k : Nat} {u : SX} {v : SY} (I : i_Rel k u v) (hk : k + 5 ≤ 2560) (v1 : Int32) (v2 : Int32) : wpX_at (fun r => wpY_at (fun r' => r' = r ∧ i_Rel (k + 5) u v) v v1 v2) u v1 v2 := by
  have J := I
  obtain ⟨f, g, X, Y, E⟩ := I
  rcases jt_set v1 with b | ⟨s, hs, rfl⟩
  · exact jt_xb_at b (jt_yb_at b ⟨rfl, J⟩)
  · obtain ⟨S, nf, lf⟩ := jt_XI_f X hs
    have pm := jt_pm nf (jt_YI_len Y hs).2 (E s hs)
    refine jt_x_at X hs (fun q => ?_) (fun j z e hj => ?_)
    · refine jt_yi_at Y hs (fun z hz e => ?_) (fun _ => ⟨rfl, J⟩)
      have hz' := (E s hs z).mpr hz
      rw [← jt_rk_pm pm] at e
      exact absurd e.symm (q _ (jt_rk_lt S hz').1)
    · have rk := jt_rk_ix S hj
      have zm : z ∈ f s := List.mem_of_getElem? hj
      have jl := (jt_rk_lt S zm).1
      refine jt_yi_at Y hs (fun z' hz' e' => ⟨?_, J⟩) (fun w => ?_)
      · have hz2 := (E s hs z').mpr hz'
        obtain ⟨l2, g2⟩ := jt_rk_lt S hz2
        rw [← jt_rk_pm pm, e, nI_eq (by omega) (by omega)] at e'
        rw [e', hj] at g2
        exact (Option.some.inj g2).symm
      · refine absurd ?_ (w z ((E s hs z).mp zm))
        rw [← jt_rk_pm pm, rk, e]
theorem i_vc_rank {k : Nat} {u : SX} {v : SY} (I : i_Rel k u v) (hk : k + 5 ≤ 2560) (v1 : Int32) (v2 : Int32) : wpX_rank (fun r => wpY_rank (fun r' => r' = r ∧ i_Rel (k + 5) u v) v v1 v2) u v1 v2 := by
  have J := I
  obtain ⟨f, g, X, Y, E⟩ := I
  rcases jt_set v1 with b | ⟨s, hs, rfl⟩
  · exact jt_xb_rank b (jt_yb_rank b ⟨rfl, J⟩)
  · have pm := jt_pm (jt_XI_f X hs).2.1 (jt_YI_len Y hs).2 (E s hs)
    exact jt_x_rank X hs (jt_yi_rank Y hs ⟨by rw [jt_rk_pm pm], J⟩)
theorem i_vc_combine {k : Nat} {u : SX} {v : SY} (I : i_Rel k u v) (hk : k + 5 ≤ 2560) (v1 : Int32) (v2 : Int32) (v3 : Int32) (v4 : Int32) : wpX_combine (fun r u' => wpY_combine (fun r' v' => r' = r ∧ i_Rel (k + 5) u' v') v v1 v2 v3 v4) u v1 v2 v3 v4 := by
  have J := I
  obtain ⟨f, g, X, Y, E⟩ := I
  rcases jt_set v1 with b | ⟨how, hh, rfl⟩
  · exact jt_xb_comb0 b (jt_yb_comb0 b ⟨rfl, J⟩)
  rcases jt_set v2 with b | ⟨d, hd, rfl⟩
  · exact jt_xb_comb1 hh b (jt_yb_comb1 hh b ⟨rfl, J⟩)
  rcases jt_set v3 with b | ⟨s, hs, rfl⟩
  · exact jt_xb_comb2 hh hd b (jt_yb_comb2 hh hd b ⟨rfl, J⟩)
  rcases jt_set v4 with b | ⟨t, ht, rfl⟩
  · exact jt_xb_comb3 hh hd hs b (jt_yb_comb3 hh hd hs b ⟨rfl, J⟩)
  have bel : ∀ z : Int32, jt_bel how (z ∈ f s) (z ∈ f t) ↔ jt_bel how (z ∈ g s) (z ∈ g t) := by
    intro z
    rw [E s hs z, E t ht z]
  refine jt_x_combine X hh hd hs ht ?_ ?_
  · intro l m nd len u' X'
    refine jt_yi_combine Y hh hd hs ht ?_ ?_
    · intro l' m' nd' len' v' Y'
      have mm : ∀ z, z ∈ l ↔ z ∈ l' := fun z => by rw [m z, m' z, bel z]
      exact ⟨by rw [(jt_pm nd nd' mm).length_eq], _, _, X', Y', jt_E_up E d mm⟩
    · intro l' m' nd' len' v' Y'
      have mm : ∀ z, z ∈ l ↔ z ∈ l' := fun z => by rw [m z, m' z, bel z]
      have := (jt_pm nd nd' mm).length_eq
      exact absurd len' (by omega)
  · intro l m nd len u' X'
    refine jt_yi_combine Y hh hd hs ht ?_ ?_
    · intro l' m' nd' len' v' Y'
      have mm : ∀ z, z ∈ l ↔ z ∈ l' := fun z => by rw [m z, m' z, bel z]
      have := (jt_pm nd nd' mm).length_eq
      exact absurd len' (by omega)
    · intro l' m' nd' len' v' Y'
      exact ⟨rfl, _, _, X', Y', E⟩
theorem i_vc_split {k : Nat} {u : SX} {v : SY} (I : i_Rel k u v) (hk : k + 5 ≤ 2560) (v1 : Int32) (v2 : Int32) (v3 : Int32) : wpX_split (fun r u' => wpY_split (fun r' v' => r' = r ∧ i_Rel (k + 5) u' v') v v1 v2 v3) u v1 v2 v3 := by
  have J := I
  obtain ⟨f, g, X, Y, E⟩ := I
  rcases jt_set v1 with b | ⟨s, hs, rfl⟩
  · exact jt_xb_split1 b (jt_yb_split1 b ⟨rfl, J⟩)
  rcases jt_set v3 with b | ⟨d, hd, rfl⟩
  · exact jt_xb_split2 hs b (jt_yb_split2 hs b ⟨rfl, J⟩)
  refine jt_x_split X hs hd ?_
  intro u' l1 l2 X' m1 m2
  refine jt_yi_split Y hs hd ?_
  intro v' Y'
  have mm1 : ∀ z, z ∈ l1 ↔ z ∈ (g s).filter (jt_kp v2 2147483647) := by
    intro z
    rw [m1 z, jt_kp_mem, E s hs z]
    exact ⟨fun w => ⟨w.1, Or.inl w.2⟩, fun w => ⟨w.1, w.2.resolve_right jt_max⟩⟩
  have mm2 : ∀ z, z ∈ l2 ↔ z ∈ (g s).filter (jt_ge v2) := by
    intro z
    rw [m2 z, List.mem_filter, E s hs z]
    unfold jt_ge
    rw [decide_eq_true_eq]
  have nd2 : l2.Nodup := by
    have := (jt_XI_f X' hd).2.1
    rw [jt_uf_s] at this
    exact this
  have ln := (jt_pm nd2 (jt_nd_f (jt_YI_len Y hs).2) mm2).length_eq
  exact ⟨by rw [ln], _, _, X', Y', jt_E_up (jt_E_up E s mm1) d mm2⟩
theorem i_vc_removeRange {k : Nat} {u : SX} {v : SY} (I : i_Rel k u v) (hk : k + 5 ≤ 2560) (v1 : Int32) (v2 : Int32) (v3 : Int32) : wpX_removeRange (fun r u' => wpY_removeRange (fun r' v' => r' = r ∧ i_Rel (k + 5) u' v') v v1 v2 v3) u v1 v2 v3 := by
  have J := I
  obtain ⟨f, g, X, Y, E⟩ := I
  rcases jt_set v1 with b | ⟨s, hs, rfl⟩
  · exact jt_xb_rr b (jt_yb_rr b ⟨rfl, J⟩)
  · have nd := (jt_YI_len Y hs).2
    have pm := jt_pm (jt_XI_f X hs).2.1 nd (E s hs)
    refine jt_x_rr X hs (fun c => ?_) (fun c u' l X' m len => ?_)
    · refine jt_yi_rr Y hs ?_
      intro v' Y'
      have mm : ∀ z, z ∈ (g s).filter (jt_kp v2 v3) ↔ z ∈ g s := by
        intro z
        rw [jt_kp_mem]
        refine ⟨fun w => w.1, fun w => ⟨w, ?_⟩⟩
        rw [Int32.le_iff_toInt_le] at c
        simp only [Int32.lt_iff_toInt_lt]
        omega
      have ln := (jt_pm (jt_nd_f nd) nd mm).length_eq
      refine ⟨by rw [ln, Nat.sub_self]; rfl, f, _, X, Y', ?_⟩
      intro t ht z
      by_cases e : t = s
      · rw [e, jt_uf_s, mm z]
        exact E s hs z
      · rw [jt_uf_n e]
        exact E t ht z
    · refine jt_yi_rr Y hs ?_
      intro v' Y'
      have mm : ∀ z, z ∈ l ↔ z ∈ (g s).filter (jt_kp v2 v3) := by
        intro z
        rw [m z, jt_kp_mem, E s hs z]
      have nl : l.Nodup := by
        have := (jt_XI_f X' hs).2.1
        rw [jt_uf_s] at this
        exact this
      have ln := (jt_pm nl (jt_nd_f nd) mm).length_eq
      exact ⟨by rw [ln, pm.length_eq], _, _, X', Y', jt_E_up E s mm⟩
theorem i_vc_same {k : Nat} {u : SX} {v : SY} (I : i_Rel k u v) (hk : k + 5 ≤ 2560) (v1 : Int32) (v2 : Int32) : wpX_same (fun r u' => wpY_same (fun r' => r' = r ∧ i_Rel (k + 5) u' v) v v1 v2) u v1 v2 := by
  have J := I
  obtain ⟨f, g, X, Y, E⟩ := I
  rcases jt_set v1 with b | ⟨s, hs, rfl⟩
  · exact jt_xb_same1 b (jt_yb_same1 b ⟨rfl, J⟩)
  rcases jt_set v2 with b | ⟨t, ht, rfl⟩
  · exact jt_xb_same2 hs b (jt_yb_same2 hs b ⟨rfl, J⟩)
  have eq : (∀ z, z ∈ f s ↔ z ∈ f t) ↔ (∀ z, z ∈ g s ↔ z ∈ g t) := by
    constructor
    · exact fun w z => by rw [← E s hs z, ← E t ht z]; exact w z
    · exact fun w z => by rw [E s hs z, E t ht z]; exact w z
  refine jt_x_same X hs ht (fun q u' X' => ?_) (fun q u' X' => ?_)
  · exact jt_yi_same Y hs ht (fun _ => ⟨rfl, _, _, X', Y, E⟩) (fun w => absurd (eq.mp q) w)
  · exact jt_yi_same Y hs ht (fun w => absurd (eq.mpr w) q) (fun _ => ⟨rfl, _, _, X', Y, E⟩)
theorem i_vc_within {k : Nat} {u : SX} {v : SY} (I : i_Rel k u v) (hk : k + 5 ≤ 2560) (v1 : Int32) (v2 : Int32) : wpX_within (fun r u' => wpY_within (fun r' => r' = r ∧ i_Rel (k + 5) u' v) v v1 v2) u v1 v2 := by
  have J := I
  obtain ⟨f, g, X, Y, E⟩ := I
  rcases jt_set v1 with b | ⟨s, hs, rfl⟩
  · exact jt_xb_within1 b (jt_yb_within1 b ⟨rfl, J⟩)
  rcases jt_set v2 with b | ⟨t, ht, rfl⟩
  · exact jt_xb_within2 hs b (jt_yb_within2 hs b ⟨rfl, J⟩)
  have eq : (∀ z, z ∈ f s → z ∈ f t) ↔ (∀ z, z ∈ g s → z ∈ g t) := by
    constructor
    · exact fun w z => by rw [← E s hs z, ← E t ht z]; exact w z
    · exact fun w z => by rw [E s hs z, E t ht z]; exact w z
  refine jt_x_within X hs ht (fun q u' X' => ?_) (fun q u' X' => ?_)
  · exact jt_yi_within Y hs ht (fun _ => ⟨rfl, _, _, X', Y, E⟩) (fun w => absurd (eq.mp q) w)
  · exact jt_yi_within Y hs ht (fun w => absurd (eq.mpr w) q) (fun _ => ⟨rfl, _, _, X', Y, E⟩)
theorem i_vc_ceiling {k : Nat} {u : SX} {v : SY} (I : i_Rel k u v) (hk : k + 5 ≤ 2560) (v1 : Int32) (v2 : Int32) : wpX_ceiling (fun r => wpY_ceiling (fun r' => r' = r ∧ i_Rel (k + 5) u v) v v1 v2) u v1 v2 := by
  have J := I
  obtain ⟨f, g, X, Y, E⟩ := I
  rcases jt_set v1 with b | ⟨s, hs, rfl⟩
  · exact jt_xb_ceiling b (jt_yb_ceiling b ⟨rfl, J⟩)
  · have pm := jt_pm (jt_XI_f X hs).2.1 (jt_YI_len Y hs).2 (E s hs)
    have rk := jt_rk_pm pm v2
    have ln := pm.length_eq
    refine jt_x_ceiling X hs (fun c => ?_) (fun c => ?_)
    · exact jt_yi_ceiling Y hs (fun _ => ⟨by rw [rk], J⟩) (fun w => absurd w (by omega))
    · exact jt_yi_ceiling Y hs (fun w => absurd w (by omega)) (fun _ => ⟨rfl, J⟩)
theorem i_vc_clear {k : Nat} {u : SX} {v : SY} (I : i_Rel k u v) (hk : k + 5 ≤ 2560) (v1 : Int32) : wpX_clear (fun r u' => wpY_clear (fun r' v' => r' = r ∧ i_Rel (k + 5) u' v') v v1) u v1 := by
  have J := I
  obtain ⟨f, g, X, Y, E⟩ := I
  rcases jt_set v1 with b | ⟨s, hs, rfl⟩
  · exact jt_xb_clear b (jt_yb_clear b ⟨rfl, J⟩)
  · have ln := (jt_pm (jt_XI_f X hs).2.1 (jt_YI_len Y hs).2 (E s hs)).length_eq
    refine jt_x_clear X hs ?_
    intro u' X'
    refine jt_yi_clear Y hs ?_
    intro v' Y'
    exact ⟨by rw [ln], _, _, X', Y', jt_E_up E s (fun _ => Iff.rfl)⟩
end
