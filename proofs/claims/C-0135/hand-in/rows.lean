section
theorem pk_us {f : Nat → Int32} {k : Nat} {x : Int32} : upd f k x k = x := if_pos rfl
theorem pk_un {f : Nat → Int32} {k j : Nat} {x : Int32} (h : j ≠ k) : upd f k x j = f j := if_neg h
theorem pk_sub {a b : Nat} (h : b ≤ a) : nI a - nI b = nI (a - b) := by
  obtain ⟨c, rfl⟩ : ∃ c, a = c + b := ⟨a - b, by omega⟩
  rw [← nI_add, Int32.add_sub_cancel, Nat.add_sub_cancel]
theorem pk_m1 (n : Nat) : nI (n + 1) + (-1) = nI n := by
  rw [← nI_1, Int32.add_assoc, show (1 : Int32) + (-1) = 0 from rfl, Int32.add_zero]
theorem pk_mul (a b : Nat) : nI a * nI b = nI (a * b) := (Int32.ofNat_mul a b).symm
theorem pk_div {a d : Nat} (ha : a < 2 ^ 31) (h0 : 0 < d) (hd : d < 2 ^ 31) : nI a / nI d = nI (a / d) := by
  apply Int32.toInt_inj.mp
  rw [lg_idiv_nonneg (by rw [nI_toInt ha]; omega) (by rw [nI_toInt hd]; omega), nI_toInt ha, nI_toInt hd, nI_toInt (Nat.lt_of_le_of_lt (Nat.div_le_self a d) ha)]
  first | rfl | exact (Int.natCast_ediv _ _).symm
theorem pk_le {x y : Int32} {A B : Prop} (a b : Nat) (f : a ≤ b → A) (g : b < a → B) (hx : x = nI a := by rfl) (hy : y = nI b := by rfl) (ha : a < 2 ^ 31 := by omega) (hb : b < 2 ^ 31 := by omega) : (x ≤ y → A) ∧ (¬ x ≤ y → B) := by
  subst hx hy
  rw [nI_leI ha hb]
  exact ⟨f, fun z => g (by omega)⟩
theorem pk_lt {x y : Int32} {A B : Prop} (a b : Nat) (f : a < b → A) (g : b ≤ a → B) (hx : x = nI a := by rfl) (hy : y = nI b := by rfl) (ha : a < 2 ^ 31 := by omega) (hb : b < 2 ^ 31 := by omega) : (x < y → A) ∧ (¬ x < y → B) := by
  subst hx hy
  rw [nI_ltI ha hb]
  exact ⟨f, fun z => g (by omega)⟩
theorem pk_eq {x y : Int32} {A B : Prop} (a b : Nat) (f : a = b → A) (g : a ≠ b → B) (hx : x = nI a := by rfl) (hy : y = nI b := by rfl) (ha : a < 2 ^ 31 := by omega) (hb : b < 2 ^ 31 := by omega) : (x = y → A) ∧ (¬ x = y → B) := by
  subst hx hy
  rw [nI_eq ha hb]
  exact ⟨f, g⟩
theorem pk_in {x : Int32} (n N : Nat) (h : n < N) (hx : x = nI n := by rfl) (hN : N < 2 ^ 31 := by omega) : vp_in x N := by
  subst hx
  exact vp_in_nI h hN
theorem pk_cl {x : Int32} (n : Nat) (hx : x = nI n := by rfl) (h : n < 2 ^ 31 := by omega) : x.toNatClampNeg = n := by
  subst hx
  exact nI_clamp h
/-! ints -/
theorem sp_ta {a b : Int32} (h1 : -2147483648 ≤ a.toInt + b.toInt) (h2 : a.toInt + b.toInt < 2147483648) : (a + b).toInt = a.toInt + b.toInt := by
  rw [Int32.toInt_add]
  exact Int.bmod_eq_of_le (by omega) (by omega)
theorem sp_tn {a : Int32} (h1 : -2147483648 < a.toInt) : (-a).toInt = -a.toInt := by
  have h2 := a.toInt_lt
  rw [Int32.toInt_neg]
  exact Int.bmod_eq_of_le (by omega) (by omega)
theorem sp_tw (a b : Int32) : (a + b).toInt = a.toInt + b.toInt ∨ (a + b).toInt = a.toInt + b.toInt + 4294967296 ∨ (a + b).toInt = a.toInt + b.toInt - 4294967296 := by
  have h1 := a.toInt_lt
  have h2 := a.le_toInt
  have h3 := b.toInt_lt
  have h4 := b.le_toInt
  rw [Int32.toInt_add]
  unfold Int.bmod
  dsimp only
  split <;> omega
/-- a number of a row -/
def sp_nu (v : Int32) : Prop := -1000000 ≤ v.toInt ∧ v.toInt ≤ 1000000
def sp_B (l : List Int32) : Prop := ∀ v ∈ l, sp_nu v
theorem sp_shift {v w d : Int32} (h1 : sp_nu v) (h2 : sp_nu w) (h3 : sp_nu (v + d)) (h4 : sp_nu (w + d)) (h : v.toInt ≤ w.toInt) : (v + d).toInt ≤ (w + d).toInt := by
  unfold sp_nu at h1 h2 h3 h4
  have a := sp_tw v d
  have b := sp_tw w d
  have h5 := d.toInt_lt
  have h6 := d.le_toInt
  omega
theorem sp_nu_neg {v : Int32} (h : sp_nu v) : sp_nu (-v) := by
  unfold sp_nu at h ⊢
  rw [sp_tn (by omega)]
  omega
theorem sp_neg_le {v w : Int32} (h1 : sp_nu v) (h2 : sp_nu w) (h : v.toInt ≤ w.toInt) : (-w).toInt ≤ (-v).toInt := by
  unfold sp_nu at h1 h2
  rw [sp_tn (by omega), sp_tn (by omega)]
  omega
/-! sums -/
def sp_s : List Int32 → Int32
  | [] => 0
  | v :: l => v + sp_s l
def sp_w : List Int32 → Int32
  | [] => 0
  | v :: l => v + (sp_w l + sp_s l)
theorem sp_s_app (l r : List Int32) : sp_s (l ++ r) = sp_s l + sp_s r := by
  induction l with
  | nil => simp [sp_s]
  | cons v l ih => simp only [List.cons_append, sp_s, ih]; grind
theorem sp_w_app (l r : List Int32) : sp_w (l ++ r) = sp_w l + sp_w r + nI l.length * sp_s r := by
  induction l with
  | nil =>
    have : nI (List.length ([] : List Int32)) = 0 := nI_0
    simp only [List.nil_append, sp_w, this]
    grind
  | cons v l ih =>
    simp only [List.cons_append, sp_w, ih, sp_s_app, List.length_cons, nI_succ]
    grind
theorem sp_s_rev (l : List Int32) : sp_s l.reverse = sp_s l := by
  induction l with
  | nil => rfl
  | cons v l ih => simp only [List.reverse_cons, sp_s_app, ih, sp_s]; grind
theorem sp_w_rev (l : List Int32) : sp_w l.reverse = (nI l.length + 1) * sp_s l - sp_w l := by
  induction l with
  | nil =>
    have : nI (List.length ([] : List Int32)) = 0 := nI_0
    simp only [List.reverse_nil, sp_w, sp_s, this]
    grind
  | cons v l ih =>
    simp only [List.reverse_cons, sp_w_app, ih, sp_s, sp_w, List.length_cons, nI_succ, List.length_reverse]
    grind
theorem sp_s_neg (l : List Int32) : sp_s (l.map (fun v => -v)) = - sp_s l := by
  induction l with
  | nil => rfl
  | cons v l ih => simp only [List.map_cons, sp_s, ih]; grind
theorem sp_w_neg (l : List Int32) : sp_w (l.map (fun v => -v)) = - sp_w l := by
  induction l with
  | nil => rfl
  | cons v l ih => simp only [List.map_cons, sp_w, ih, sp_s_neg]; grind
theorem sp_s_add (d : Int32) (l : List Int32) : sp_s (l.map (fun v => v + d)) = sp_s l + d * nI l.length := by
  induction l with
  | nil =>
    have : nI (List.length ([] : List Int32)) = 0 := nI_0
    simp only [List.map_nil, sp_s, this]
    grind
  | cons v l ih => simp only [List.map_cons, sp_s, ih, List.length_cons, nI_succ]; grind
def sp_tri : Nat → Nat
  | 0 => 0
  | n + 1 => sp_tri n + (n + 1)
theorem sp_tri2 (n : Nat) : n * (n + 1) = 2 * sp_tri n := by
  induction n with
  | zero => rfl
  | succ n ih => simp only [sp_tri, Nat.mul_add, Nat.add_mul] at ih ⊢; omega
theorem sp_tri_div (n : Nat) : n * (n + 1) / 2 = sp_tri n := by
  rw [sp_tri2]; omega
theorem sp_w_add (d : Int32) (l : List Int32) : sp_w (l.map (fun v => v + d)) = sp_w l + d * nI (sp_tri l.length) := by
  induction l with
  | nil =>
    have : nI (sp_tri (List.length ([] : List Int32))) = 0 := nI_0
    simp only [List.map_nil, sp_w, this]
    grind
  | cons v l ih =>
    have e : nI (sp_tri (List.length (v :: l))) = nI (sp_tri l.length) + (nI l.length + 1) := by
      rw [List.length_cons, sp_tri, ← nI_add, nI_succ]
    simp only [List.map_cons, sp_w, ih, e, sp_s_add]
    grind
/-! greatest and least -/
def sp_mx (h : Int32) (l : List Int32) : Prop := (∀ v ∈ l, v.toInt ≤ h.toInt) ∧ (h ∈ l ∨ (l = [] ∧ h = -2000000))
def sp_mn (h : Int32) (l : List Int32) : Prop := (∀ v ∈ l, h.toInt ≤ v.toInt) ∧ (h ∈ l ∨ (l = [] ∧ h = 2000000))
theorem sp_lit_a : (-2000000 : Int32).toInt = -2000000 := by decide
theorem sp_lit_b : (2000000 : Int32).toInt = 2000000 := by decide
theorem sp_lit_c : (-1000000 : Int32).toInt = -1000000 := by decide
theorem sp_lit_d : (1000000 : Int32).toInt = 1000000 := by decide
theorem sp_lit_0 : (0 : Int32).toInt = 0 := by decide
theorem sp_mx_app {a b m h v : Int32} {l r : List Int32} (ha : sp_mx a l) (hb : sp_mx b r) (hv : sp_nu v)
    (hm : (m = a ∧ b.toInt ≤ a.toInt) ∨ (m = b ∧ a.toInt ≤ b.toInt)) (hh : (h = m ∧ v.toInt ≤ m.toInt) ∨ (h = v ∧ m.toInt ≤ v.toInt)) : sp_mx h (l ++ v :: r) := by
  unfold sp_nu at hv
  have ma : a.toInt ≤ m.toInt := by rcases hm with ⟨rfl, z⟩ | ⟨rfl, z⟩ <;> omega
  have mb : b.toInt ≤ m.toInt := by rcases hm with ⟨rfl, z⟩ | ⟨rfl, z⟩ <;> omega
  have hm' : m.toInt ≤ h.toInt := by rcases hh with ⟨rfl, z⟩ | ⟨rfl, z⟩ <;> omega
  have hv' : v.toInt ≤ h.toInt := by rcases hh with ⟨rfl, z⟩ | ⟨rfl, z⟩ <;> omega
  refine ⟨fun w hw => ?_, Or.inl ?_⟩
  · rcases List.mem_append.mp hw with z | z
    · have := ha.1 w z; omega
    · rcases List.mem_cons.mp z with z | z
      · rw [z]; omega
      · have := hb.1 w z; omega
  · rcases hh with ⟨rfl, z⟩ | ⟨rfl, z⟩
    · rcases hm with ⟨rfl, y⟩ | ⟨rfl, y⟩
      · rcases ha.2 with q | ⟨_, q⟩
        · exact List.mem_append_left _ q
        · rw [q, sp_lit_a] at z; omega
      · rcases hb.2 with q | ⟨_, q⟩
        · exact List.mem_append_right _ (List.mem_cons_of_mem _ q)
        · rw [q, sp_lit_a] at z; omega
    · exact List.mem_append_right _ (List.mem_cons_self ..)
theorem sp_mn_app {a b m h v : Int32} {l r : List Int32} (ha : sp_mn a l) (hb : sp_mn b r) (hv : sp_nu v)
    (hm : (m = a ∧ a.toInt ≤ b.toInt) ∨ (m = b ∧ b.toInt ≤ a.toInt)) (hh : (h = m ∧ m.toInt ≤ v.toInt) ∨ (h = v ∧ v.toInt ≤ m.toInt)) : sp_mn h (l ++ v :: r) := by
  unfold sp_nu at hv
  have ma : m.toInt ≤ a.toInt := by rcases hm with ⟨rfl, z⟩ | ⟨rfl, z⟩ <;> omega
  have mb : m.toInt ≤ b.toInt := by rcases hm with ⟨rfl, z⟩ | ⟨rfl, z⟩ <;> omega
  have hm' : h.toInt ≤ m.toInt := by rcases hh with ⟨rfl, z⟩ | ⟨rfl, z⟩ <;> omega
  have hv' : h.toInt ≤ v.toInt := by rcases hh with ⟨rfl, z⟩ | ⟨rfl, z⟩ <;> omega
  refine ⟨fun w hw => ?_, Or.inl ?_⟩
  · rcases List.mem_append.mp hw with z | z
    · have := ha.1 w z; omega
    · rcases List.mem_cons.mp z with z | z
      · rw [z]; omega
      · have := hb.1 w z; omega
  · rcases hh with ⟨rfl, z⟩ | ⟨rfl, z⟩
    · rcases hm with ⟨rfl, y⟩ | ⟨rfl, y⟩
      · rcases ha.2 with q | ⟨_, q⟩
        · exact List.mem_append_left _ q
        · rw [q, sp_lit_b] at z; omega
      · rcases hb.2 with q | ⟨_, q⟩
        · exact List.mem_append_right _ (List.mem_cons_of_mem _ q)
        · rw [q, sp_lit_b] at z; omega
    · exact List.mem_append_right _ (List.mem_cons_self ..)
theorem sp_mx_add {h d : Int32} {l : List Int32} (hl : l ≠ []) (a : sp_mx h l) (b : sp_B l) (c : sp_B (l.map (fun v => v + d))) : sp_mx (h + d) (l.map (fun v => v + d)) := by
  have hh : h ∈ l := by rcases a.2 with q | ⟨q, _⟩; exact q; exact absurd q hl
  have hd : h + d ∈ l.map (fun v => v + d) := List.mem_map.mpr ⟨h, hh, rfl⟩
  refine ⟨fun w hw => ?_, Or.inl hd⟩
  obtain ⟨v, hv, rfl⟩ := List.mem_map.mp hw
  exact sp_shift (b v hv) (b h hh) (c _ hw) (c _ hd) (a.1 v hv)
theorem sp_mn_add {h d : Int32} {l : List Int32} (hl : l ≠ []) (a : sp_mn h l) (b : sp_B l) (c : sp_B (l.map (fun v => v + d))) : sp_mn (h + d) (l.map (fun v => v + d)) := by
  have hh : h ∈ l := by rcases a.2 with q | ⟨q, _⟩; exact q; exact absurd q hl
  have hd : h + d ∈ l.map (fun v => v + d) := List.mem_map.mpr ⟨h, hh, rfl⟩
  refine ⟨fun w hw => ?_, Or.inl hd⟩
  obtain ⟨v, hv, rfl⟩ := List.mem_map.mp hw
  exact sp_shift (b h hh) (b v hv) (c _ hd) (c _ hw) (a.1 v hv)
theorem sp_mx_neg {h : Int32} {l : List Int32} (hl : l ≠ []) (a : sp_mx h l) (b : sp_B l) : sp_mn (-h) (l.map (fun v => -v)) := by
  have hh : h ∈ l := by rcases a.2 with q | ⟨q, _⟩; exact q; exact absurd q hl
  refine ⟨fun w hw => ?_, Or.inl (List.mem_map.mpr ⟨h, hh, rfl⟩)⟩
  obtain ⟨v, hv, rfl⟩ := List.mem_map.mp hw
  exact sp_neg_le (b v hv) (b h hh) (a.1 v hv)
theorem sp_mn_neg {h : Int32} {l : List Int32} (hl : l ≠ []) (a : sp_mn h l) (b : sp_B l) : sp_mx (-h) (l.map (fun v => -v)) := by
  have hh : h ∈ l := by rcases a.2 with q | ⟨q, _⟩; exact q; exact absurd q hl
  refine ⟨fun w hw => ?_, Or.inl (List.mem_map.mpr ⟨h, hh, rfl⟩)⟩
  obtain ⟨v, hv, rfl⟩ := List.mem_map.mp hw
  exact sp_neg_le (b h hh) (b v hv) (a.1 v hv)
theorem sp_mx_rev {h : Int32} {l : List Int32} (a : sp_mx h l) : sp_mx h l.reverse :=
  ⟨fun v hv => a.1 v (List.mem_reverse.mp hv), a.2.elim (fun q => Or.inl (List.mem_reverse.mpr q)) (fun q => Or.inr ⟨by rw [q.1]; rfl, q.2⟩)⟩
theorem sp_mn_rev {h : Int32} {l : List Int32} (a : sp_mn h l) : sp_mn h l.reverse :=
  ⟨fun v hv => a.1 v (List.mem_reverse.mp hv), a.2.elim (fun q => Or.inl (List.mem_reverse.mpr q)) (fun q => Or.inr ⟨by rw [q.1]; rfl, q.2⟩)⟩
/-! lists of different numbers -/
theorem sp_len_le : ∀ (n : Nat) (l : List Nat), l.Nodup → (∀ x ∈ l, 1 ≤ x ∧ x ≤ n) → l.length ≤ n := by
  intro n
  induction n with
  | zero =>
    intro l _ h
    cases l with
    | nil => exact Nat.le_refl _
    | cons a l => have := h a (List.mem_cons_self ..); omega
  | succ n ih =>
    intro l hl h
    have h1 := ih (l.erase (n + 1)) (hl.erase _) (fun x hx => by
      rw [hl.mem_erase_iff] at hx
      have := h x hx.2
      omega)
    have h2 := List.length_erase (a := n + 1) (l := l)
    split at h2 <;> omega
theorem sp_has_all : ∀ (n : Nat) (l : List Nat), (∀ x, 1 ≤ x → x ≤ n → x ∈ l) → n ≤ l.length := by
  intro n
  induction n with
  | zero => intro l _; omega
  | succ n ih =>
    intro l h
    have h0 : n + 1 ∈ l := h _ (by omega) (by omega)
    have h1 := ih (l.erase (n + 1)) (fun x h1 h2 => (List.mem_erase_of_ne (by omega)).mpr (h x h1 (by omega)))
    rw [List.length_erase_of_mem h0] at h1
    have h3 : 0 < l.length := List.length_pos_of_mem h0
    omega
end
section
/-! the parts of a state -/
def sg_r (u : SX) : Int32 := u.1
def sg_c (u : SX) : Int32 := u.2.1
def sg_b (u : SX) : Int32 := u.2.2.1
def sg_m (u : SX) : Int32 := u.2.2.2.1
def sg_e (u : SX) : Int32 := u.2.2.2.2.1
def sg_L (u : SX) : Nat → Int32 := u.2.2.2.2.2.1
def sg_R (u : SX) : Nat → Int32 := u.2.2.2.2.2.2.1
def sg_U (u : SX) : Nat → Int32 := u.2.2.2.2.2.2.2.1
def sg_V (u : SX) : Nat → Int32 := u.2.2.2.2.2.2.2.2.1
def sg_S (u : SX) : Nat → Int32 := u.2.2.2.2.2.2.2.2.2.1
def sg_T (u : SX) : Nat → Int32 := u.2.2.2.2.2.2.2.2.2.2.1
def sg_W (u : SX) : Nat → Int32 := u.2.2.2.2.2.2.2.2.2.2.2.1
def sg_H (u : SX) : Nat → Int32 := u.2.2.2.2.2.2.2.2.2.2.2.2.1
def sg_O (u : SX) : Nat → Int32 := u.2.2.2.2.2.2.2.2.2.2.2.2.2.1
def sg_N (u : SX) : Nat → Int32 := u.2.2.2.2.2.2.2.2.2.2.2.2.2.2.1
def sg_M (u : SX) : Nat → Int32 := u.2.2.2.2.2.2.2.2.2.2.2.2.2.2.2.1
def sg_Q (u : SX) : Nat → Int32 := u.2.2.2.2.2.2.2.2.2.2.2.2.2.2.2.2.1
def sg_E (u : SX) : Nat → Int32 := u.2.2.2.2.2.2.2.2.2.2.2.2.2.2.2.2.2.1
def sg_K (u : SX) : Nat → Int32 := u.2.2.2.2.2.2.2.2.2.2.2.2.2.2.2.2.2.2.1
def sg_C (u : SX) : Nat → Int32 := u.2.2.2.2.2.2.2.2.2.2.2.2.2.2.2.2.2.2.2
/-! rows of nodes with their numbers -/
abbrev sp_E : Type := Nat × Int32
def sp_N (l : List sp_E) : List Nat := l.map (fun p => p.1)
def sp_V (l : List sp_E) : List Int32 := l.map (fun p => p.2)
def sp_f (m a v : Int32) : Int32 := (if m = 0 then v else -v) + a
def sp_o (t m a : Int32) (l : List sp_E) : List sp_E := (if t = 0 then l else l.reverse).map (fun p => (p.1, sp_f m a p.2))
def sp_ng (l : List sp_E) : List sp_E := l.map (fun p => (p.1, -p.2))
def sp_ad (d : Int32) (l : List sp_E) : List sp_E := l.map (fun p => (p.1, p.2 + d))
def sp_up (G : Nat → List sp_E) (c : Nat) (l : List sp_E) : Nat → List sp_E := fun y => if y = c then l else G y
theorem sp_ups {G : Nat → List sp_E} {c : Nat} {l : List sp_E} : sp_up G c l c = l := if_pos rfl
theorem sp_upn {G : Nat → List sp_E} {c y : Nat} {l : List sp_E} (h : y ≠ c) : sp_up G c l y = G y := if_neg h
theorem sp_N_app (l r : List sp_E) : sp_N (l ++ r) = sp_N l ++ sp_N r := List.map_append ..
theorem sp_V_app (l r : List sp_E) : sp_V (l ++ r) = sp_V l ++ sp_V r := List.map_append ..
theorem sp_N_cons (p : sp_E) (r : List sp_E) : sp_N (p :: r) = p.1 :: sp_N r := rfl
theorem sp_V_cons (p : sp_E) (r : List sp_E) : sp_V (p :: r) = p.2 :: sp_V r := rfl
theorem sp_N_len (l : List sp_E) : (sp_N l).length = l.length := List.length_map ..
theorem sp_V_len (l : List sp_E) : (sp_V l).length = l.length := List.length_map ..
theorem sp_N_rev (l : List sp_E) : sp_N l.reverse = (sp_N l).reverse := List.map_reverse ..
theorem sp_V_rev (l : List sp_E) : sp_V l.reverse = (sp_V l).reverse := List.map_reverse ..
theorem sp_N_ng (l : List sp_E) : sp_N (sp_ng l) = sp_N l := by simp [sp_N, sp_ng]
theorem sp_V_ng (l : List sp_E) : sp_V (sp_ng l) = (sp_V l).map (fun v => -v) := by simp [sp_V, sp_ng]
theorem sp_N_ad (d : Int32) (l : List sp_E) : sp_N (sp_ad d l) = sp_N l := by simp [sp_N, sp_ad]
theorem sp_V_ad (d : Int32) (l : List sp_E) : sp_V (sp_ad d l) = (sp_V l).map (fun v => v + d) := by simp [sp_V, sp_ad]
theorem sp_o_len (t m a : Int32) (l : List sp_E) : (sp_o t m a l).length = l.length := by
  unfold sp_o; split <;> simp
theorem sp_o_nil (t m a : Int32) : sp_o t m a [] = [] := by
  unfold sp_o; split <;> rfl
theorem sp_o_N (t m a : Int32) (l : List sp_E) : sp_N (sp_o t m a l) = sp_N l ∨ sp_N (sp_o t m a l) = (sp_N l).reverse := by
  unfold sp_o sp_N
  split
  · left; simp
  · right; simp
theorem sp_o_mem {t m a : Int32} {l : List sp_E} {z : Nat} : z ∈ sp_N (sp_o t m a l) ↔ z ∈ sp_N l := by
  rcases sp_o_N t m a l with h | h <;> rw [h]
  rw [List.mem_reverse]
theorem sp_nodup_rev {l : List Nat} : l.reverse.Nodup ↔ l.Nodup := by
  unfold List.Nodup
  rw [List.pairwise_reverse]
  exact ⟨fun h => h.imp fun z => z.symm, fun h => h.imp fun z => z.symm⟩
theorem sp_o_nodup {t m a : Int32} {l : List sp_E} : (sp_N (sp_o t m a l)).Nodup ↔ (sp_N l).Nodup := by
  rcases sp_o_N t m a l with h | h <;> rw [h]
  exact sp_nodup_rev
theorem sp_o_0 (l : List sp_E) : sp_o 0 0 0 l = l := by
  unfold sp_o
  rw [if_pos rfl]
  have : (fun p : sp_E => (p.1, sp_f 0 0 p.2)) = id := by
    funext p
    simp [sp_f]
  rw [this, List.map_id]
theorem sp_o_t {t : Int32} (h : ¬ t = 0) (m a : Int32) (l : List sp_E) : sp_o t m a l = sp_o 0 m a l.reverse := by
  unfold sp_o
  rw [if_neg h, if_pos rfl]
theorem sp_o_m {m : Int32} (h : ¬ m = 0) (a : Int32) (l : List sp_E) : sp_o 0 m a l = sp_o 0 0 a (sp_ng l) := by
  unfold sp_o sp_ng
  rw [if_pos rfl, if_pos rfl, List.map_map]
  congr 1
  funext p
  simp [sp_f, h]
theorem sp_o_a (a : Int32) (l : List sp_E) : sp_o 0 0 a l = sp_ad a l := by
  unfold sp_o sp_ad
  rw [if_pos rfl]
  congr 1
theorem sp_o_rev (t m a : Int32) (l : List sp_E) : (sp_o t m a l).reverse = sp_o (if t = 0 then 1 else 0) m a l := by
  unfold sp_o
  by_cases h : t = 0
  · rw [if_pos h, if_pos h, if_neg (by decide), List.map_reverse]
  · rw [if_neg h, if_neg h, if_pos rfl, ← List.map_reverse, List.reverse_reverse]
theorem sp_o_neg (t m a : Int32) (l : List sp_E) : sp_ng (sp_o t m a l) = sp_o t (if m = 0 then 1 else 0) (-a) l := by
  unfold sp_o sp_ng
  rw [List.map_map]
  congr 1
  funext p
  by_cases h : m = 0
  · simp only [Function.comp, sp_f, h, if_true]
    rw [if_neg (by decide)]
    congr 1
    grind
  · simp only [Function.comp, sp_f, h, if_false]
    rw [if_pos trivial]
    congr 1
    grind
theorem sp_o_add (t m a d : Int32) (l : List sp_E) : sp_ad d (sp_o t m a l) = sp_o t m (a + d) l := by
  unfold sp_o sp_ad
  rw [List.map_map]
  congr 1
  funext p
  simp only [Function.comp, sp_f]
  congr 1
  grind
/-! one node, and a forest -/
def sp_A (u : SX) (x : Nat) (l : List sp_E) : Prop :=
  sg_S u x = nI l.length ∧ sg_T u x = sp_s (sp_V l) ∧ sg_W u x = sp_w (sp_V l) ∧ sp_mx (sg_H u x) (sp_V l) ∧ sp_mn (sg_O u x) (sp_V l)
def sp_ox (u : SX) (x : Nat) (l : List sp_E) : List sp_E := sp_o (sg_N u x) (sg_M u x) (sg_Q u x) l
def sp_ch (u : SX) (G : Nat → List sp_E) (x : Nat) (c : Int32) (l : Nat) : Prop :=
  c = nI l ∧ l ≤ 48 ∧ (l ≠ 0 → l ∈ sp_N (G l) ∧ sg_U u l = nI x)
def sp_nd (u : SX) (G : Nat → List sp_E) (x : Nat) : Prop :=
  1 ≤ x ∧ x ≤ 48 ∧ sp_A u x (G x) ∧ sp_B (sp_V (G x)) ∧ ∃ l r : Nat, sp_ch u G x (sg_L u x) l ∧ sp_ch u G x (sg_R u x) r ∧
    G x = sp_ox u x (G l) ++ (x, sg_V u x) :: sp_ox u x (G r)
def sp_D (G : Nat → List sp_E) (rs : List Nat) : List Nat := rs.flatMap (fun r => sp_N (G r))
def sp_fo (u : SX) (G : Nat → List sp_E) (rs : List Nat) : Prop :=
  G 0 = [] ∧ sp_A u 0 [] ∧ (sp_D G rs).Nodup ∧ (∀ x ∈ sp_D G rs, sp_nd u G x) ∧ (∀ r ∈ rs, r ≠ 0 → r ≤ 48 ∧ r ∈ sp_N (G r) ∧ sg_U u r = 0)
/-- all that a node holds itself is the same -/
def sp_sm (u u' : SX) (x : Nat) : Prop :=
  sg_L u' x = sg_L u x ∧ sg_R u' x = sg_R u x ∧ sg_V u' x = sg_V u x ∧ sg_N u' x = sg_N u x ∧ sg_M u' x = sg_M u x ∧ sg_Q u' x = sg_Q u x ∧
  sg_S u' x = sg_S u x ∧ sg_T u' x = sg_T u x ∧ sg_W u' x = sg_W u x ∧ sg_H u' x = sg_H u x ∧ sg_O u' x = sg_O u x
theorem sp_sm_rfl (u : SX) (x : Nat) : sp_sm u u x := ⟨rfl, rfl, rfl, rfl, rfl, rfl, rfl, rfl, rfl, rfl, rfl⟩
theorem sp_sm_tr {u v w : SX} {x : Nat} (a : sp_sm u v x) (b : sp_sm v w x) : sp_sm u w x := by
  obtain ⟨a1, a2, a3, a4, a5, a6, a7, a8, a9, a10, a11⟩ := a
  obtain ⟨b1, b2, b3, b4, b5, b6, b7, b8, b9, b10, b11⟩ := b
  exact ⟨b1.trans a1, b2.trans a2, b3.trans a3, b4.trans a4, b5.trans a5, b6.trans a6, b7.trans a7, b8.trans a8, b9.trans a9, b10.trans a10, b11.trans a11⟩
theorem sp_sm_A {u u' : SX} {x : Nat} {l : List sp_E} (s : sp_sm u u' x) (h : sp_A u x l) : sp_A u' x l := by
  obtain ⟨-, -, -, -, -, -, a7, a8, a9, a10, a11⟩ := s
  unfold sp_A at h ⊢
  rw [a7, a8, a9, a10, a11]
  exact h
theorem sp_sm_ox {u u' : SX} {x : Nat} (s : sp_sm u u' x) (l : List sp_E) : sp_ox u' x l = sp_ox u x l := by
  obtain ⟨-, -, -, a4, a5, a6, -⟩ := s
  unfold sp_ox
  rw [a4, a5, a6]
theorem sp_nd_eq {u u' : SX} {G G' : Nat → List sp_E} {x : Nat} (h : sp_nd u G x) (hs : sp_sm u u' x) (h0 : G' 0 = G 0) (hx : G' x = G x)
    (hc : ∀ c, c ≠ 0 → c ∈ sp_N (G x) → sg_U u c = nI x → G' c = G c ∧ sg_U u' c = sg_U u c) : sp_nd u' G' x := by
  obtain ⟨h1, h2, hA, hB, l, r, hl, hr, e⟩ := h
  have key : ∀ c : Nat, (∀ z ∈ sp_N (G c), z ∈ sp_N (G x)) → (c ≠ 0 → c ∈ sp_N (G c) ∧ sg_U u c = nI x) → G' c = G c ∧ (c ≠ 0 → c ∈ sp_N (G' c) ∧ sg_U u' c = nI x) := by
    intro c hz q
    by_cases hc0 : c = 0
    · subst hc0
      exact ⟨h0, fun z => absurd rfl z⟩
    · obtain ⟨q1, q2⟩ := q hc0
      obtain ⟨e1, e2⟩ := hc c hc0 (hz c q1) q2
      exact ⟨e1, fun _ => ⟨by rw [e1]; exact q1, by rw [e2]; exact q2⟩⟩
  have kl := key l (fun z hz => by rw [e, sp_N_app]; exact List.mem_append_left _ (sp_o_mem.mpr hz)) hl.2.2
  have kr := key r (fun z hz => by rw [e, sp_N_app]; exact List.mem_append_right _ (List.mem_cons_of_mem _ (sp_o_mem.mpr hz))) hr.2.2
  refine ⟨h1, h2, ?_, ?_, l, r, ⟨?_, hl.2.1, kl.2⟩, ⟨?_, hr.2.1, kr.2⟩, ?_⟩
  · rw [hx]; exact sp_sm_A hs hA
  · rw [hx]; exact hB
  · rw [hs.1]; exact hl.1
  · rw [hs.2.1]; exact hr.1
  · rw [hx, kl.1, kr.1, sp_sm_ox hs, sp_sm_ox hs, hs.2.2.1]; exact e
theorem sp_nd_self {u : SX} {G : Nat → List sp_E} {x : Nat} (h : sp_nd u G x) : x ∈ sp_N (G x) := by
  obtain ⟨h1, h2, hA, hB, l, r, hl, hr, e⟩ := h
  rw [e, sp_N_app]
  exact List.mem_append_right _ (List.mem_cons_self ..)
/-- what is in a node's row -/
theorem sp_nd_mem {u : SX} {G : Nat → List sp_E} {x l r : Nat} (e : G x = sp_ox u x (G l) ++ (x, sg_V u x) :: sp_ox u x (G r)) (z : Nat) :
    z ∈ sp_N (G x) ↔ (z ∈ sp_N (G l) ∨ z = x ∨ z ∈ sp_N (G r)) := by
  rw [e, sp_N_app, sp_N_cons, List.mem_append, List.mem_cons]
  exact or_congr sp_o_mem (or_congr Iff.rfl sp_o_mem)
theorem sp_nd_len {u : SX} {G : Nat → List sp_E} {x l r : Nat} (e : G x = sp_ox u x (G l) ++ (x, sg_V u x) :: sp_ox u x (G r)) :
    (G x).length = (G l).length + 1 + (G r).length := by
  rw [e, List.length_append, List.length_cons]
  unfold sp_ox
  rw [sp_o_len, sp_o_len]
  omega
theorem sp_nd_nodup {u : SX} {G : Nat → List sp_E} {x l r : Nat} (e : G x = sp_ox u x (G l) ++ (x, sg_V u x) :: sp_ox u x (G r)) (h : (sp_N (G x)).Nodup) :
    (sp_N (G l)).Nodup ∧ (sp_N (G r)).Nodup ∧ x ∉ sp_N (G l) ∧ x ∉ sp_N (G r) ∧ ∀ z, z ∈ sp_N (G l) → z ∉ sp_N (G r) := by
  rw [e, sp_N_app, sp_N_cons, List.nodup_append, List.nodup_cons] at h
  obtain ⟨h1, ⟨h2, h3⟩, h4⟩ := h
  unfold sp_ox at h1 h2 h3 h4
  refine ⟨sp_o_nodup.mp h1, sp_o_nodup.mp h3, fun z => ?_, fun z => h2 (sp_o_mem.mpr z), fun z y q => ?_⟩
  · exact h4 x (sp_o_mem.mpr z) x (List.mem_cons_self ..) rfl
  · exact h4 z (sp_o_mem.mpr y) z (List.mem_cons_of_mem _ (sp_o_mem.mpr q)) rfl
theorem sp_ind {u : SX} {G : Nat → List sp_E} (h0 : G 0 = []) (P : Nat → Prop)
    (hs : ∀ x l r : Nat, (∀ z ∈ sp_N (G x), sp_nd u G z) → sp_ch u G x (sg_L u x) l → sp_ch u G x (sg_R u x) r →
      G x = sp_ox u x (G l) ++ (x, sg_V u x) :: sp_ox u x (G r) → (l ≠ 0 → P l) → (r ≠ 0 → P r) → P x) :
    ∀ (n x : Nat), (G x).length ≤ n → sp_nd u G x → (∀ z ∈ sp_N (G x), sp_nd u G z) → P x := by
  intro n
  induction n with
  | zero =>
    intro x hn hx _
    have := sp_nd_self hx
    have h2 : G x = [] := List.eq_nil_of_length_eq_zero (by omega)
    rw [h2] at this
    exact absurd this (List.not_mem_nil)
  | succ n ih =>
    intro x hn hx ht
    obtain ⟨-, -, -, -, l, r, hl, hr, e⟩ := hx
    have hlen := sp_nd_len e
    have hm := sp_nd_mem e
    have go : ∀ c : Nat, (c ≠ 0 → c ∈ sp_N (G c) ∧ sg_U u c = nI x) → (∀ z, z ∈ sp_N (G c) → z ∈ sp_N (G x)) → (G c).length ≤ n → c ≠ 0 → P c :=
      fun c q1 q2 q3 q4 => ih c q3 (ht c (q2 c (q1 q4).1)) (fun z hz => ht z (q2 z hz))
    exact hs x l r ht hl hr e (go l hl.2.2 (fun z hz => (hm z).mpr (Or.inl hz)) (by omega)) (go r hr.2.2 (fun z hz => (hm z).mpr (Or.inr (Or.inr hz))) (by omega))
theorem sp_in0 {G : Nat → List sp_E} (h0 : G 0 = []) {c z : Nat} (h : z ∈ sp_N (G c)) : c ≠ 0 := by
  intro hc
  rw [hc, h0] at h
  exact absurd h (List.not_mem_nil)
theorem sp_sub {u : SX} {G : Nat → List sp_E} (h0 : G 0 = []) {x : Nat} (hx : sp_nd u G x) (ht : ∀ z ∈ sp_N (G x), sp_nd u G z) :
    ∀ y ∈ sp_N (G x), ∀ z ∈ sp_N (G y), z ∈ sp_N (G x) := by
  refine sp_ind h0 (fun x => ∀ y ∈ sp_N (G x), ∀ z ∈ sp_N (G y), z ∈ sp_N (G x)) ?_ (G x).length x (Nat.le_refl _) hx ht
  intro x l r ht hl hr e il ir y hy z hz
  have hm := sp_nd_mem e
  rcases (hm y).mp hy with q | q | q
  · exact (hm z).mpr (Or.inl (il (sp_in0 h0 q) y q z hz))
  · rw [q] at hz; exact hz
  · exact (hm z).mpr (Or.inr (Or.inr (ir (sp_in0 h0 q) y q z hz)))
theorem sp_subnd {u : SX} {G : Nat → List sp_E} (h0 : G 0 = []) {x : Nat} (hx : sp_nd u G x) (ht : ∀ z ∈ sp_N (G x), sp_nd u G z) (hn : (sp_N (G x)).Nodup) :
    ∀ y ∈ sp_N (G x), (sp_N (G y)).Nodup := by
  refine sp_ind h0 (fun x => (sp_N (G x)).Nodup → ∀ y ∈ sp_N (G x), (sp_N (G y)).Nodup) ?_ (G x).length x (Nat.le_refl _) hx ht hn
  intro x l r ht hl hr e il ir hn y hy
  have hd := sp_nd_nodup e hn
  rcases (sp_nd_mem e y).mp hy with q | q | q
  · exact il (sp_in0 h0 q) hd.1 y q
  · rw [q]; exact hn
  · exact ir (sp_in0 h0 q) hd.2.1 y q
/-- y is over c -/
def sp_over (u : SX) (G : Nat → List sp_E) (y c : Nat) : Prop :=
  c ≠ 0 ∧ c ∈ sp_N (G c) ∧ sg_U u c = nI y ∧ (sg_L u y = nI c ∨ sg_R u y = nI c) ∧ c ∈ sp_N (G y) ∧ (G c).length < (G y).length
theorem sp_parent {u : SX} {G : Nat → List sp_E} (h0 : G 0 = []) {x : Nat} (hx : sp_nd u G x) (ht : ∀ z ∈ sp_N (G x), sp_nd u G z) :
    ∀ c ∈ sp_N (G x), c ≠ x → ∃ y ∈ sp_N (G x), sp_over u G y c := by
  refine sp_ind h0 (fun x => ∀ c ∈ sp_N (G x), c ≠ x → ∃ y ∈ sp_N (G x), sp_over u G y c) ?_ (G x).length x (Nat.le_refl _) hx ht
  intro x l r ht hl hr e il ir c hc hcx
  have hm := sp_nd_mem e
  have hlen := sp_nd_len e
  have hxx : x ∈ sp_N (G x) := (hm x).mpr (Or.inr (Or.inl rfl))
  rcases (hm c).mp hc with q | q | q
  · have l0 := sp_in0 h0 q
    by_cases hcl : c = l
    · subst hcl
      exact ⟨x, hxx, l0, (hl.2.2 l0).1, (hl.2.2 l0).2, Or.inl hl.1, hc, by omega⟩
    · obtain ⟨y, hy, hyo⟩ := il l0 c q hcl
      exact ⟨y, (hm y).mpr (Or.inl hy), hyo⟩
  · exact absurd q hcx
  · have r0 := sp_in0 h0 q
    by_cases hcr : c = r
    · subst hcr
      exact ⟨x, hxx, r0, (hr.2.2 r0).1, (hr.2.2 r0).2, Or.inr hr.1, hc, by omega⟩
    · obtain ⟨y, hy, hyo⟩ := ir r0 c q hcr
      exact ⟨y, (hm y).mpr (Or.inr (Or.inr hy)), hyo⟩
theorem sp_small {u : SX} {G : Nat → List sp_E} (h0 : G 0 = []) {x : Nat} (hx : sp_nd u G x) (ht : ∀ z ∈ sp_N (G x), sp_nd u G z) :
    ∀ y ∈ sp_N (G x), y = x ∨ (G y).length < (G x).length := by
  refine sp_ind h0 (fun x => ∀ y ∈ sp_N (G x), y = x ∨ (G y).length < (G x).length) ?_ (G x).length x (Nat.le_refl _) hx ht
  intro x l r ht hl hr e il ir y hy
  have hlen := sp_nd_len e
  rcases (sp_nd_mem e y).mp hy with q | q | q
  · right
    rcases il (sp_in0 h0 q) y q with z | z
    · rw [z]; omega
    · omega
  · left; exact q
  · right
    rcases ir (sp_in0 h0 q) y q with z | z
    · rw [z]; omega
    · omega
/-! the forest -/
theorem sp_D_mem {G : Nat → List sp_E} {rs : List Nat} {z : Nat} : z ∈ sp_D G rs ↔ ∃ r ∈ rs, z ∈ sp_N (G r) := List.mem_flatMap
theorem sp_fo_tree {u : SX} {G : Nat → List sp_E} {rs : List Nat} (h : sp_fo u G rs) {r : Nat} (hr : r ∈ rs) (h0 : r ≠ 0) :
    sp_nd u G r ∧ ∀ z ∈ sp_N (G r), sp_nd u G z :=
  ⟨h.2.2.2.1 r (sp_D_mem.mpr ⟨r, hr, (h.2.2.2.2 r hr h0).2.1⟩), fun z hz => h.2.2.2.1 z (sp_D_mem.mpr ⟨r, hr, hz⟩)⟩
theorem sp_fo_sub {u : SX} {G : Nat → List sp_E} {rs : List Nat} (h : sp_fo u G rs) {x z : Nat} (hx : x ∈ sp_D G rs) (hz : z ∈ sp_N (G x)) : z ∈ sp_D G rs := by
  obtain ⟨r, hr, hxr⟩ := sp_D_mem.mp hx
  have ht := sp_fo_tree h hr (sp_in0 h.1 hxr)
  exact sp_D_mem.mpr ⟨r, hr, sp_sub h.1 ht.1 ht.2 x hxr z hz⟩
theorem sp_fo_below {u : SX} {G : Nat → List sp_E} {rs : List Nat} (h : sp_fo u G rs) {x : Nat} (hx : x ∈ sp_D G rs) : ∀ z ∈ sp_N (G x), sp_nd u G z :=
  fun z hz => h.2.2.2.1 z (sp_fo_sub h hx hz)
theorem sp_flat_nodup {G : Nat → List sp_E} {r : Nat} : ∀ {rs : List Nat}, (sp_D G rs).Nodup → r ∈ rs → (sp_N (G r)).Nodup := by
  intro rs
  induction rs with
  | nil => intro _ h; exact absurd h (List.not_mem_nil)
  | cons a rs ih =>
    intro h hr
    unfold sp_D at h ih
    rw [List.flatMap_cons, List.nodup_append] at h
    rcases List.mem_cons.mp hr with q | q
    · rw [q]; exact h.1
    · exact ih h.2.1 q
theorem sp_fo_nodup {u : SX} {G : Nat → List sp_E} {rs : List Nat} (h : sp_fo u G rs) {x : Nat} (hx : x ∈ sp_D G rs) : (sp_N (G x)).Nodup := by
  obtain ⟨r, hr, hxr⟩ := sp_D_mem.mp hx
  have ht := sp_fo_tree h hr (sp_in0 h.1 hxr)
  exact sp_subnd h.1 ht.1 ht.2 (sp_flat_nodup h.2.2.1 hr) x hxr
theorem sp_fo_parent {u : SX} {G : Nat → List sp_E} {rs : List Nat} (h : sp_fo u G rs) {x : Nat} (hx : x ∈ sp_D G rs) (hu : ¬ sg_U u x = 0) :
    ∃ y ∈ sp_D G rs, sp_over u G y x := by
  obtain ⟨r, hr, hxr⟩ := sp_D_mem.mp hx
  have r0 := sp_in0 h.1 hxr
  have ht := sp_fo_tree h hr r0
  obtain ⟨y, hy, ho⟩ := sp_parent h.1 ht.1 ht.2 x hxr (fun q => hu (by rw [q]; exact (h.2.2.2.2 r hr r0).2.2))
  exact ⟨y, sp_D_mem.mpr ⟨r, hr, hy⟩, ho⟩
theorem sp_fo_len {u : SX} {G : Nat → List sp_E} {rs : List Nat} (h : sp_fo u G rs) : (sp_D G rs).length ≤ 48 :=
  sp_len_le 48 _ h.2.2.1 (fun x hx => ⟨(h.2.2.2.1 x hx).1, (h.2.2.2.1 x hx).2.1⟩)
theorem sp_fo_len1 {u : SX} {G : Nat → List sp_E} {rs : List Nat} (h : sp_fo u G rs) {x : Nat} (hx : x ∈ sp_D G rs) : (G x).length ≤ 48 := by
  rw [← sp_N_len]
  exact sp_len_le 48 _ (sp_fo_nodup h hx) (fun z hz => ⟨(sp_fo_below h hx z hz).1, (sp_fo_below h hx z hz).2.1⟩)
end
section
/-! walks of the methods that call no other -/
theorem sp_le {a b : Int32} (h : a ≤ b) : a.toInt ≤ b.toInt := Int32.le_iff_toInt_le.mp h
theorem sp_nle {a b : Int32} (h : ¬ a ≤ b) : b.toInt ≤ a.toInt := by
  rw [Int32.le_iff_toInt_le] at h
  omega
theorem sp_nar1 : vp_nar .boolean 1 = 1 := rfl
theorem sp_nar0 : vp_nar .boolean 0 = 0 := rfl
/-- the fields, and the arrays beside the trees, are the same -/
def sp_F (u u' : SX) : Prop :=
  sg_r u' = sg_r u ∧ sg_c u' = sg_c u ∧ sg_b u' = sg_b u ∧ sg_m u' = sg_m u ∧ sg_e u' = sg_e u ∧ sg_E u' = sg_E u ∧ sg_C u' = sg_C u
theorem sp_F_rfl (u : SX) : sp_F u u := ⟨rfl, rfl, rfl, rfl, rfl, rfl, rfl⟩
theorem sp_F_tr {u v w : SX} (a : sp_F u v) (b : sp_F v w) : sp_F u w := by
  obtain ⟨a1, a2, a3, a4, a5, a6, a7⟩ := a
  obtain ⟨b1, b2, b3, b4, b5, b6, b7⟩ := b
  exact ⟨b1.trans a1, b2.trans a2, b3.trans a3, b4.trans a4, b5.trans a5, b6.trans a6, b7.trans a7⟩
section
variable {f_row f_clip f_before f_middle f_behind : Int32} {a_left a_right a_up a_value a_size a_total a_heavy a_high a_low a_turn a_minus a_add a_used a_stack a_copied : Nat → Int32}
theorem sw_p131 {post : SX → Prop} {x l r : Nat} (hx : x ≤ 48) (hl : l ≤ 48) (hr : r ≤ 48) {m : Int32}
    (h : ∀ hi lo q : Int32, ((hi = m ∧ (a_value x).toInt ≤ m.toInt) ∨ (hi = a_value x ∧ m.toInt ≤ (a_value x).toInt)) →
      ((q = a_low l ∧ (a_low l).toInt ≤ (a_low r).toInt) ∨ (q = a_low r ∧ (a_low r).toInt ≤ (a_low l).toInt)) →
      ((lo = q ∧ q.toInt ≤ (a_value x).toInt) ∨ (lo = a_value x ∧ (a_value x).toInt ≤ q.toInt)) →
      post (f_row, f_clip, f_before, f_middle, f_behind, a_left, a_right, a_up, a_value, a_size, a_total, a_heavy, upd a_high x hi, upd a_low x lo, a_turn, a_minus, a_add, a_used, a_stack, a_copied)) :
    wX_pull_131 post (nI x) (nI l) (nI r) m f_row f_clip f_before f_middle f_behind a_left a_right a_up a_value a_size a_total a_heavy a_high a_low a_turn a_minus a_add a_used a_stack a_copied := by
  have ix : vp_in (nI x) 49 := vp_in_nI (by omega) (by omega)
  have il : vp_in (nI l) 49 := vp_in_nI (by omega) (by omega)
  have ir : vp_in (nI r) 49 := vp_in_nI (by omega) (by omega)
  have cx : (nI x).toNatClampNeg = x := nI_clamp (by omega)
  have cl : (nI l).toNatClampNeg = l := nI_clamp (by omega)
  have cr : (nI r).toNatClampNeg = r := nI_clamp (by omega)
  simp only [wX_pull_131, wX_pull_160, wX_pull_191, forall_eq, cx, cl, cr, ix, il, ir, true_and]
  refine ⟨fun h1 => ⟨fun h2 => ⟨fun h3 => ?_, fun h3 => ?_⟩, fun h2 => ⟨fun h3 => ?_, fun h3 => ?_⟩⟩, fun h1 => ⟨fun h2 => ⟨fun h3 => ?_, fun h3 => ?_⟩, fun h2 => ⟨fun h3 => ?_, fun h3 => ?_⟩⟩⟩
  · exact h _ _ _ (Or.inl ⟨rfl, sp_le h1⟩) (Or.inr ⟨rfl, sp_le h2⟩) (Or.inl ⟨rfl, sp_le h3⟩)
  · exact h _ _ _ (Or.inl ⟨rfl, sp_le h1⟩) (Or.inr ⟨rfl, sp_le h2⟩) (Or.inr ⟨rfl, sp_nle h3⟩)
  · exact h _ _ _ (Or.inl ⟨rfl, sp_le h1⟩) (Or.inl ⟨rfl, sp_nle h2⟩) (Or.inl ⟨rfl, sp_le h3⟩)
  · exact h _ _ _ (Or.inl ⟨rfl, sp_le h1⟩) (Or.inl ⟨rfl, sp_nle h2⟩) (Or.inr ⟨rfl, sp_nle h3⟩)
  · exact h _ _ _ (Or.inr ⟨rfl, sp_nle h1⟩) (Or.inr ⟨rfl, sp_le h2⟩) (Or.inl ⟨rfl, sp_le h3⟩)
  · exact h _ _ _ (Or.inr ⟨rfl, sp_nle h1⟩) (Or.inr ⟨rfl, sp_le h2⟩) (Or.inr ⟨rfl, sp_nle h3⟩)
  · exact h _ _ _ (Or.inr ⟨rfl, sp_nle h1⟩) (Or.inl ⟨rfl, sp_nle h2⟩) (Or.inl ⟨rfl, sp_le h3⟩)
  · exact h _ _ _ (Or.inr ⟨rfl, sp_nle h1⟩) (Or.inl ⟨rfl, sp_nle h2⟩) (Or.inr ⟨rfl, sp_nle h3⟩)
end
/-- the links, numbers and what is still to be done are the same -/
def sp_K (u u' : SX) : Prop :=
  sg_L u' = sg_L u ∧ sg_R u' = sg_R u ∧ sg_U u' = sg_U u ∧ sg_V u' = sg_V u ∧ sg_N u' = sg_N u ∧ sg_M u' = sg_M u ∧ sg_Q u' = sg_Q u
end
section
theorem sw_pull {post : SX → Prop} {u : SX} {x l r : Nat} {A B : List sp_E} (hx : x ≤ 48) (hl : l ≤ 48) (hr : r ≤ 48) (lx : l ≠ x) (rx : r ≠ x)
    (el : sg_L u x = nI l) (er : sg_R u x = nI r) (hA : sp_A u l A) (hB : sp_A u r B) (hv : sp_nu (sg_V u x))
    (h : ∀ u', sp_F u u' → sp_K u u' → (∀ y, y ≠ x → sp_sm u u' y) → sp_A u' x (A ++ (x, sg_V u x) :: B) → post u') : wpX_pull post u (nI x) := by
  obtain ⟨f_row, f_clip, f_before, f_middle, f_behind, a_left, a_right, a_up, a_value, a_size, a_total, a_heavy, a_high, a_low, a_turn, a_minus, a_add, a_used, a_stack, a_copied⟩ := u
  have ix : vp_in (nI x) 49 := vp_in_nI (by omega) (by omega)
  have il : vp_in (nI l) 49 := vp_in_nI (by omega) (by omega)
  have ir : vp_in (nI r) 49 := vp_in_nI (by omega) (by omega)
  have cx : (nI x).toNatClampNeg = x := nI_clamp (by omega)
  have cl : (nI l).toNatClampNeg = l := nI_clamp (by omega)
  have cr : (nI r).toNatClampNeg = r := nI_clamp (by omega)
  have el' : a_left x = nI l := el
  have er' : a_right x = nI r := er
  obtain ⟨hA1, hA2, hA3, hA4, hA5⟩ := hA
  obtain ⟨hB1, hB2, hB3, hB4, hB5⟩ := hB
  have key : ∀ m : Int32, ((m = a_high l ∧ (a_high r).toInt ≤ (a_high l).toInt) ∨ (m = a_high r ∧ (a_high l).toInt ≤ (a_high r).toInt)) →
      wX_pull_131 post (nI x) (nI l) (nI r) m f_row f_clip f_before f_middle f_behind a_left a_right a_up a_value (upd a_size x (a_size l + 1 + a_size r)) (upd a_total x (a_total l + a_value x + a_total r)) (upd a_heavy x (a_heavy l + (a_size l + 1) * (a_value x + a_total r) + a_heavy r)) a_high a_low a_turn a_minus a_add a_used a_stack a_copied := by
    intro m hm
    refine sw_p131 hx hl hr ?_
    intro hi lo q h1 h2 h3
    refine h _ ⟨rfl, rfl, rfl, rfl, rfl, rfl, rfl⟩ ⟨rfl, rfl, rfl, rfl, rfl, rfl, rfl⟩ ?_ ?_
    · intro y hy
      exact ⟨rfl, rfl, rfl, rfl, rfl, rfl, pk_un hy, pk_un hy, pk_un hy, pk_un hy, pk_un hy⟩
    · refine ⟨pk_us.trans ?_, pk_us.trans ?_, pk_us.trans ?_, ?_, ?_⟩
      · have e1 : a_size l = nI A.length := hA1
        have e2 : a_size r = nI B.length := hB1
        rw [e1, e2, nI_1, nI_add, List.length_append, List.length_cons]
        exact congrArg nI (by omega)
      · have e1 : a_total l = sp_s (sp_V A) := hA2
        have e2 : a_total r = sp_s (sp_V B) := hB2
        rw [sp_V_app, sp_V_cons, sp_s_app, sp_s, e1, e2]
        show _ = _ + (a_value x + _)
        grind
      · have e1 : a_size l = nI A.length := hA1
        have e2 : a_total r = sp_s (sp_V B) := hB2
        have e3 : a_heavy l = sp_w (sp_V A) := hA3
        have e4 : a_heavy r = sp_w (sp_V B) := hB3
        rw [sp_V_app, sp_V_cons, sp_w_app, sp_w, sp_s, e1, e2, e3, e4, sp_V_len]
        show _ = _ + (a_value x + _) + _ * (a_value x + _)
        grind
      · rw [sp_V_app, sp_V_cons]
        show sp_mx (upd a_high x hi x) _
        rw [pk_us]
        exact sp_mx_app hA4 hB4 hv hm h1
      · rw [sp_V_app, sp_V_cons]
        show sp_mn (upd a_low x lo x) _
        rw [pk_us]
        exact sp_mn_app hA5 hB5 hv h2 h3
  simp only [wpX_pull, forall_eq, cx, el', er', cl, cr, ix, il, ir, true_and, pk_un rx]
  exact ⟨fun hc => key _ (Or.inr ⟨rfl, sp_le hc⟩), fun hc => key _ (Or.inl ⟨rfl, sp_nle hc⟩)⟩
end
section
theorem sw_turn {post : SX → Prop} {u : SX} {c : Nat} (h1 : 1 ≤ c) (h2 : c ≤ 48)
    (h : ∀ u', sp_F u u' → sg_U u' = sg_U u → sg_V u' = sg_V u → sg_S u' = sg_S u → sg_T u' = sg_T u → sg_H u' = sg_H u → sg_O u' = sg_O u → sg_M u' = sg_M u → sg_Q u' = sg_Q u →
      sg_L u' = upd (sg_L u) c (sg_R u c) → sg_R u' = upd (sg_R u) c (sg_L u c) → sg_W u' = upd (sg_W u) c ((sg_S u c + 1) * sg_T u c - sg_W u c) →
      sg_N u' = upd (sg_N u) c (if sg_N u c = 0 then 1 else 0) → post u') : wpX_turnAll post u (nI c) := by
  obtain ⟨f_row, f_clip, f_before, f_middle, f_behind, a_left, a_right, a_up, a_value, a_size, a_total, a_heavy, a_high, a_low, a_turn, a_minus, a_add, a_used, a_stack, a_copied⟩ := u
  have ix : vp_in (nI c) 49 := vp_in_nI (by omega) (by omega)
  have cx : (nI c).toNatClampNeg = c := nI_clamp (by omega)
  have n0 : ¬ nI c = 0 := nI_ne0 (by omega) (by omega)
  refine br_f n0 ?_
  simp only [forall_eq, cx, ix, true_and, sp_nar0, sp_nar1]
  refine ⟨fun hc => h _ ⟨rfl, rfl, rfl, rfl, rfl, rfl, rfl⟩ rfl rfl rfl rfl rfl rfl rfl rfl rfl rfl rfl ?_, fun hc => h _ ⟨rfl, rfl, rfl, rfl, rfl, rfl, rfl⟩ rfl rfl rfl rfl rfl rfl rfl rfl rfl rfl rfl ?_⟩
  · show upd a_turn c 1 = upd a_turn c (if a_turn c = 0 then 1 else 0)
    rw [if_pos hc]
  · show upd a_turn c 0 = upd a_turn c (if a_turn c = 0 then 1 else 0)
    rw [if_neg hc]
end
section
theorem sw_neg {post : SX → Prop} {u : SX} {c : Nat} (h1 : 1 ≤ c) (h2 : c ≤ 48)
    (h : ∀ u', sp_F u u' → sg_U u' = sg_U u → sg_L u' = sg_L u → sg_R u' = sg_R u → sg_S u' = sg_S u → sg_N u' = sg_N u →
      sg_V u' = upd (sg_V u) c (-sg_V u c) → sg_T u' = upd (sg_T u) c (-sg_T u c) → sg_W u' = upd (sg_W u) c (-sg_W u c) →
      sg_H u' = upd (sg_H u) c (-sg_O u c) → sg_O u' = upd (sg_O u) c (-sg_H u c) → sg_Q u' = upd (sg_Q u) c (-sg_Q u c) →
      sg_M u' = upd (sg_M u) c (if sg_M u c = 0 then 1 else 0) → post u') : wpX_negateAll post u (nI c) := by
  obtain ⟨f_row, f_clip, f_before, f_middle, f_behind, a_left, a_right, a_up, a_value, a_size, a_total, a_heavy, a_high, a_low, a_turn, a_minus, a_add, a_used, a_stack, a_copied⟩ := u
  have ix : vp_in (nI c) 49 := vp_in_nI (by omega) (by omega)
  have cx : (nI c).toNatClampNeg = c := nI_clamp (by omega)
  have n0 : ¬ nI c = 0 := nI_ne0 (by omega) (by omega)
  refine br_f n0 ?_
  simp only [forall_eq, cx, ix, true_and, sp_nar0, sp_nar1]
  refine ⟨fun hc => h _ ⟨rfl, rfl, rfl, rfl, rfl, rfl, rfl⟩ rfl rfl rfl rfl rfl rfl rfl rfl rfl rfl rfl ?_, fun hc => h _ ⟨rfl, rfl, rfl, rfl, rfl, rfl, rfl⟩ rfl rfl rfl rfl rfl rfl rfl rfl rfl rfl rfl ?_⟩
  · show upd a_minus c 1 = upd a_minus c (if a_minus c = 0 then 1 else 0)
    rw [if_pos hc]
  · show upd a_minus c 0 = upd a_minus c (if a_minus c = 0 then 1 else 0)
    rw [if_neg hc]
end
section
theorem sw_add {post : SX → Prop} {u : SX} {c : Nat} {d : Int32} (h1 : 1 ≤ c) (h2 : c ≤ 48)
    (h : ∀ u', sp_F u u' → sg_U u' = sg_U u → sg_L u' = sg_L u → sg_R u' = sg_R u → sg_S u' = sg_S u → sg_N u' = sg_N u → sg_M u' = sg_M u →
      sg_V u' = upd (sg_V u) c (sg_V u c + d) → sg_T u' = upd (sg_T u) c (sg_T u c + d * sg_S u c) → sg_W u' = upd (sg_W u) c (sg_W u c + d * (sg_S u c * (sg_S u c + 1) / 2)) →
      sg_H u' = upd (sg_H u) c (sg_H u c + d) → sg_O u' = upd (sg_O u) c (sg_O u c + d) → sg_Q u' = upd (sg_Q u) c (sg_Q u c + d) → post u') : wpX_addAll post u (nI c) d := by
  obtain ⟨f_row, f_clip, f_before, f_middle, f_behind, a_left, a_right, a_up, a_value, a_size, a_total, a_heavy, a_high, a_low, a_turn, a_minus, a_add, a_used, a_stack, a_copied⟩ := u
  have ix : vp_in (nI c) 49 := vp_in_nI (by omega) (by omega)
  have cx : (nI c).toNatClampNeg = c := nI_clamp (by omega)
  have n0 : ¬ nI c = 0 := nI_ne0 (by omega) (by omega)
  have t0 : ¬ (2 : Int32) = 0 := by decide
  refine br_f n0 ?_
  simp only [forall_eq, cx, ix, true_and, t0, not_false_eq_true]
  exact h _ ⟨rfl, rfl, rfl, rfl, rfl, rfl, rfl⟩ rfl rfl rfl rfl rfl rfl rfl rfl rfl rfl rfl rfl
/-! the same, of one node's row -/
end
section
/-- only node c has changed, links upwards have not -/
def sp_ed (u u' : SX) (c : Nat) : Prop := sp_F u u' ∧ sg_U u' = sg_U u ∧ ∀ y, (y = c → c = 0) → sp_sm u u' y
theorem sp_ed_rfl (u : SX) (c : Nat) : sp_ed u u c := ⟨sp_F_rfl u, rfl, fun y _ => sp_sm_rfl u y⟩
theorem sp_ch_up {u u' : SX} {G : Nat → List sp_E} {c l : Nat} {p p' : Int32} {z : List sp_E} (hU : sg_U u' = sg_U u) (hp : p' = p) (hl : l ≠ c) (h : sp_ch u G c p l) : sp_ch u' (sp_up G c z) c p' l :=
  ⟨hp.trans h.1, h.2.1, fun q => ⟨by rw [sp_upn hl]; exact (h.2.2 q).1, by rw [hU]; exact (h.2.2 q).2⟩⟩
theorem sp_B_rev {l : List Int32} (h : sp_B l) : sp_B l.reverse := fun v hv => h v (List.mem_reverse.mp hv)
theorem sp_B_neg {l : List Int32} (h : sp_B l) : sp_B (l.map (fun v => -v)) := fun w hw => by
  obtain ⟨v, hv, rfl⟩ := List.mem_map.mp hw
  exact sp_nu_neg (h v hv)
theorem sp_turnAll {post : SX → Prop} {u : SX} {G : Nat → List sp_E} {c : Nat} (hn : c ≠ 0 → sp_nd u G c ∧ (sp_N (G c)).Nodup)
    (h : ∀ u', sp_ed u u' c → (c ≠ 0 → sp_nd u' (sp_up G c (G c).reverse) c) → post u') : wpX_turnAll post u (nI c) := by
  by_cases hc : c = 0
  · subst hc
    obtain ⟨f_row, f_clip, f_before, f_middle, f_behind, a_left, a_right, a_up, a_value, a_size, a_total, a_heavy, a_high, a_low, a_turn, a_minus, a_add, a_used, a_stack, a_copied⟩ := u
    exact br_t nI_0 (h _ (sp_ed_rfl _ 0) (fun z => absurd rfl z))
  · obtain ⟨⟨h1, h2, ⟨s1, s2, s3, s4, s5⟩, hB, l, r, hl, hr, e⟩, hd⟩ := hn hc
    have hd' := sp_nd_nodup e hd
    have lc : l ≠ c := fun q => by
      subst q; exact hd'.2.2.1 (hl.2.2 hc).1
    have rc : r ≠ c := fun q => by
      subst q; exact hd'.2.2.2.1 (hr.2.2 hc).1
    refine sw_turn h1 h2 ?_
    intro u' hF hU hV hS hT hH hO hM hQ hL hR hW hN
    refine h u' ⟨hF, hU, fun y hy => ?_⟩ (fun _ => ?_)
    · have hy : y ≠ c := fun q => hc (hy q)
      unfold sp_sm
      rw [hL, hR, hV, hN, hM, hQ, hS, hT, hW, hH, hO]
      exact ⟨pk_un hy, pk_un hy, rfl, pk_un hy, rfl, rfl, rfl, rfl, pk_un hy, rfl, rfl⟩
    · refine ⟨h1, h2, ?_, ?_, r, l, ?_, ?_, ?_⟩
      · rw [sp_ups]
        unfold sp_A
        rw [hS, hT, hW, hH, hO, pk_us, sp_V_rev, s1, s2, s3, List.length_reverse, sp_s_rev, sp_w_rev, sp_V_len]
        exact ⟨rfl, rfl, rfl, sp_mx_rev s4, sp_mn_rev s5⟩
      · rw [sp_ups, sp_V_rev]
        exact sp_B_rev hB
      · exact sp_ch_up hU (by rw [hL, pk_us]) rc hr
      · exact sp_ch_up hU (by rw [hR, pk_us]) lc hl
      · rw [sp_ups, sp_upn rc, sp_upn lc, e]
        unfold sp_ox
        rw [hN, hM, hQ, hV, pk_us, List.reverse_append, List.reverse_cons, sp_o_rev, sp_o_rev, List.append_assoc]
        rfl
theorem sp_negAll {post : SX → Prop} {u : SX} {G : Nat → List sp_E} {c : Nat} (hn : c ≠ 0 → sp_nd u G c ∧ (sp_N (G c)).Nodup)
    (h : ∀ u', sp_ed u u' c → (c ≠ 0 → sp_nd u' (sp_up G c (sp_ng (G c))) c) → post u') : wpX_negateAll post u (nI c) := by
  by_cases hc : c = 0
  · subst hc
    obtain ⟨f_row, f_clip, f_before, f_middle, f_behind, a_left, a_right, a_up, a_value, a_size, a_total, a_heavy, a_high, a_low, a_turn, a_minus, a_add, a_used, a_stack, a_copied⟩ := u
    exact br_t nI_0 (h _ (sp_ed_rfl _ 0) (fun z => absurd rfl z))
  · obtain ⟨hnd, hd⟩ := hn hc
    have hne : sp_V (G c) ≠ [] := fun q => by
      have := sp_nd_self hnd
      have q' : G c = [] := List.map_eq_nil_iff.mp q
      rw [q'] at this
      exact absurd this List.not_mem_nil
    obtain ⟨h1, h2, ⟨s1, s2, s3, s4, s5⟩, hB, l, r, hl, hr, e⟩ := hnd
    have hd' := sp_nd_nodup e hd
    have lc : l ≠ c := fun q => by
      subst q; exact hd'.2.2.1 (hl.2.2 hc).1
    have rc : r ≠ c := fun q => by
      subst q; exact hd'.2.2.2.1 (hr.2.2 hc).1
    refine sw_neg h1 h2 ?_
    intro u' hF hU hL hR hS hN hV hT hW hH hO hQ hM
    refine h u' ⟨hF, hU, fun y hy => ?_⟩ (fun _ => ?_)
    · have hy : y ≠ c := fun q => hc (hy q)
      unfold sp_sm
      rw [hL, hR, hV, hN, hM, hQ, hS, hT, hW, hH, hO]
      exact ⟨rfl, rfl, pk_un hy, rfl, pk_un hy, pk_un hy, rfl, pk_un hy, pk_un hy, pk_un hy, pk_un hy⟩
    · refine ⟨h1, h2, ?_, ?_, l, r, ?_, ?_, ?_⟩
      · rw [sp_ups]
        unfold sp_A
        rw [hS, hT, hW, hH, hO, pk_us, pk_us, pk_us, pk_us, sp_V_ng, s1, s2, s3, sp_s_neg, sp_w_neg]
        refine ⟨?_, rfl, rfl, sp_mn_neg hne s5 hB, sp_mx_neg hne s4 hB⟩
        unfold sp_ng
        rw [List.length_map]
      · rw [sp_ups, sp_V_ng]
        exact sp_B_neg hB
      · exact sp_ch_up hU (by rw [hL]) lc hl
      · exact sp_ch_up hU (by rw [hR]) rc hr
      · rw [sp_ups, sp_upn rc, sp_upn lc, e]
        unfold sp_ox
        rw [hN, hM, hQ, hV, pk_us, pk_us, pk_us, ← sp_o_neg, ← sp_o_neg]
        unfold sp_ng
        rw [List.map_append, List.map_cons]
theorem sp_addAll {post : SX → Prop} {u : SX} {G : Nat → List sp_E} {c : Nat} {d : Int32} (hn : c ≠ 0 → sp_nd u G c ∧ (sp_N (G c)).Nodup ∧ sp_B (sp_V (sp_ad d (G c))))
    (hlen : c ≠ 0 → (G c).length ≤ 48)
    (h : ∀ u', sp_ed u u' c → (c ≠ 0 → sp_nd u' (sp_up G c (sp_ad d (G c))) c) → post u') : wpX_addAll post u (nI c) d := by
  by_cases hc : c = 0
  · subst hc
    obtain ⟨f_row, f_clip, f_before, f_middle, f_behind, a_left, a_right, a_up, a_value, a_size, a_total, a_heavy, a_high, a_low, a_turn, a_minus, a_add, a_used, a_stack, a_copied⟩ := u
    exact br_t nI_0 (h _ (sp_ed_rfl _ 0) (fun z => absurd rfl z))
  · obtain ⟨hnd, hd, hb⟩ := hn hc
    have hne : sp_V (G c) ≠ [] := fun q => by
      have := sp_nd_self hnd
      have q' : G c = [] := List.map_eq_nil_iff.mp q
      rw [q'] at this
      exact absurd this List.not_mem_nil
    obtain ⟨h1, h2, ⟨s1, s2, s3, s4, s5⟩, hB, l, r, hl, hr, e⟩ := hnd
    have hd' := sp_nd_nodup e hd
    have lc : l ≠ c := fun q => by
      subst q; exact hd'.2.2.1 (hl.2.2 hc).1
    have rc : r ≠ c := fun q => by
      subst q; exact hd'.2.2.2.1 (hr.2.2 hc).1
    have hl48 := hlen hc
    have hb' : sp_B ((sp_V (G c)).map (fun v => v + d)) := by rw [← sp_V_ad]; exact hb
    have tri : nI (G c).length * (nI (G c).length + 1) / 2 = nI (sp_tri (G c).length) := by
      have hm : (G c).length * ((G c).length + 1) ≤ 48 * 49 := Nat.mul_le_mul hl48 (by omega)
      rw [nI_1, pk_mul, ← sp_tri_div]
      exact pk_div (d := 2) (by omega) (by decide) (by decide)
    refine sw_add h1 h2 ?_
    intro u' hF hU hL hR hS hN hM hV hT hW hH hO hQ
    refine h u' ⟨hF, hU, fun y hy => ?_⟩ (fun _ => ?_)
    · have hy : y ≠ c := fun q => hc (hy q)
      unfold sp_sm
      rw [hL, hR, hV, hN, hM, hQ, hS, hT, hW, hH, hO]
      exact ⟨rfl, rfl, pk_un hy, rfl, rfl, pk_un hy, rfl, pk_un hy, pk_un hy, pk_un hy, pk_un hy⟩
    · refine ⟨h1, h2, ?_, ?_, l, r, ?_, ?_, ?_⟩
      · rw [sp_ups]
        unfold sp_A
        rw [hS, hT, hW, hH, hO, pk_us, pk_us, pk_us, pk_us, sp_V_ad, s1, s2, s3, sp_s_add, sp_w_add, sp_V_len, tri]
        refine ⟨?_, rfl, rfl, sp_mx_add hne s4 hB hb', sp_mn_add hne s5 hB hb'⟩
        unfold sp_ad
        rw [List.length_map]
      · rw [sp_ups]
        exact hb
      · exact sp_ch_up hU (by rw [hL]) lc hl
      · exact sp_ch_up hU (by rw [hR]) rc hr
      · rw [sp_ups, sp_upn rc, sp_upn lc, e]
        unfold sp_ox
        rw [hN, hM, hQ, hV, pk_us, pk_us, ← sp_o_add, ← sp_o_add]
        unfold sp_ad
        rw [List.map_append, List.map_cons]
end
section
/-! push: what is to be done below a node is done at its two children -/
theorem sp_kids {u : SX} {G : Nat → List sp_E} {rs : List Nat} {x l r : Nat} (hfo : sp_fo u G rs) (hx : x ∈ sp_D G rs)
    (hl : sp_ch u G x (sg_L u x) l) (hr : sp_ch u G x (sg_R u x) r) (e : G x = sp_ox u x (G l) ++ (x, sg_V u x) :: sp_ox u x (G r)) :
    1 ≤ x ∧ x ≤ 48 ∧ x ≠ l ∧ x ≠ r ∧ (l ≠ 0 → l ∈ sp_D G rs) ∧ (r ≠ 0 → r ∈ sp_D G rs) ∧ x ∉ sp_N (G l) ∧ x ∉ sp_N (G r) ∧ ∀ z, z ∈ sp_N (G l) → z ∉ sp_N (G r) := by
  have h1 := hfo.2.2.2.1 x hx
  have x1 : 1 ≤ x := h1.1
  have hd := sp_nd_nodup e (sp_fo_nodup hfo hx)
  have hm := sp_nd_mem e
  refine ⟨h1.1, h1.2.1, ?_, ?_, ?_, ?_, hd.2.2.1, hd.2.2.2.1, hd.2.2.2.2⟩
  · intro q
    subst q
    exact hd.2.2.1 (hl.2.2 (by omega)).1
  · intro q
    subst q
    exact hd.2.2.2.1 (hr.2.2 (by omega)).1
  · intro q
    exact sp_fo_sub hfo hx ((hm l).mpr (Or.inl (hl.2.2 q).1))
  · intro q
    exact sp_fo_sub hfo hx ((hm r).mpr (Or.inr (Or.inr (hr.2.2 q).1)))
theorem sp_two_a {f : List sp_E → List sp_E} (f0 : f [] = []) {u u1 : SX} {G : Nat → List sp_E} {rs : List Nat} {x l r : Nat} (hfo : sp_fo u G rs) (hx : x ∈ sp_D G rs)
    (hl : sp_ch u G x (sg_L u x) l) (hr : sp_ch u G x (sg_R u x) r) (e : G x = sp_ox u x (G l) ++ (x, sg_V u x) :: sp_ox u x (G r)) (hed1 : sp_ed u u1 l) :
    sp_up G l (f (G l)) 0 = [] ∧ (r ≠ 0 → sp_nd u1 (sp_up G l (f (G l))) r ∧ (sp_N (sp_up G l (f (G l)) r)).Nodup ∧ sp_up G l (f (G l)) r = G r ∧ r ≠ l) := by
  obtain ⟨x1, x2, xl, xr, lD, rD, xnl, xnr, dis⟩ := sp_kids hfo hx hl hr e
  have g0 : sp_up G l (f (G l)) 0 = [] := by
    by_cases q : l = 0
    · subst q; rw [sp_ups, hfo.1, f0]
    · rw [sp_upn (fun z => q z.symm), hfo.1]
  refine ⟨g0, fun r0 => ?_⟩
  have rl : r ≠ l := fun q => by
    subst q; exact dis r (hr.2.2 r0).1 (hr.2.2 r0).1
  have er : sp_up G l (f (G l)) r = G r := sp_upn rl
  refine ⟨?_, ?_, er, rl⟩
  · refine sp_nd_eq (hfo.2.2.2.1 r (rD r0)) (hed1.2.2 r (fun q => absurd q rl)) (by rw [g0, hfo.1]) er ?_
    intro c c0 hc hu
    refine ⟨sp_upn fun q => ?_, by rw [hed1.2.1]⟩
    subst q
    exact dis c (hl.2.2 c0).1 hc
  · rw [er]
    exact sp_fo_nodup hfo (rD r0)
/-- the forest before and after a stage of push at x with the children l, r -/
def sp_pu (u : SX) (G : Nat → List sp_E) (rs : List Nat) (x l r : Nat) (u' : SX) (G' : Nat → List sp_E) : Prop :=
  sp_fo u' G' rs ∧ sp_F u u' ∧ sg_U u' = sg_U u ∧ (∀ q ∈ rs, G' q = G q) ∧ (∀ y, (y = l → l = 0) → (y = r → r = 0) → G' y = G y) ∧
  (∀ y, (y = l → l = 0) → (y = r → r = 0) → y ≠ x → sp_sm u u' y) ∧ sp_ch u' G' x (sg_L u' x) l ∧ sp_ch u' G' x (sg_R u' x) r ∧
  G' x = sp_ox u' x (G' l) ++ (x, sg_V u' x) :: sp_ox u' x (G' r)
theorem sp_D_eq {G G' : Nat → List sp_E} {rs : List Nat} (h : ∀ q ∈ rs, G' q = G q) : sp_D G' rs = sp_D G rs := by
  unfold sp_D
  induction rs with
  | nil => rfl
  | cons a rs ih =>
    rw [List.flatMap_cons, List.flatMap_cons, h a (List.mem_cons_self ..), ih (fun q hq => h q (List.mem_cons_of_mem _ hq))]
theorem sp_pu_tr {u u1 u2 : SX} {G G1 G2 : Nat → List sp_E} {rs : List Nat} {x l r : Nat} (a : sp_pu u G rs x l r u1 G1) (b : sp_pu u1 G1 rs x l r u2 G2) : sp_pu u G rs x l r u2 G2 :=
  ⟨b.1, sp_F_tr a.2.1 b.2.1, b.2.2.1.trans a.2.2.1, fun q hq => (b.2.2.2.1 q hq).trans (a.2.2.2.1 q hq), fun y h1 h2 => (b.2.2.2.2.1 y h1 h2).trans (a.2.2.2.2.1 y h1 h2),
   fun y h1 h2 h3 => sp_sm_tr (a.2.2.2.2.2.1 y h1 h2 h3) (b.2.2.2.2.2.1 y h1 h2 h3), b.2.2.2.2.2.2⟩
theorem sp_stage {f : List sp_E → List sp_E} (f0 : f [] = []) (fN : ∀ l z, z ∈ sp_N (f l) ↔ z ∈ sp_N l) {u u1 u2 u3 : SX} {G : Nat → List sp_E} {rs : List Nat} {x l r : Nat}
    (hfo : sp_fo u G rs) (hx : x ∈ sp_D G rs)
    (hl : sp_ch u G x (sg_L u x) l) (hr : sp_ch u G x (sg_R u x) r) (e : G x = sp_ox u x (G l) ++ (x, sg_V u x) :: sp_ox u x (G r))
    (hed1 : sp_ed u u1 l) (hnd1 : l ≠ 0 → sp_nd u1 (sp_up G l (f (G l))) l) (hed2 : sp_ed u1 u2 r)
    (hnd2 : r ≠ 0 → sp_nd u2 (sp_up (sp_up G l (f (G l))) r (f (sp_up G l (f (G l)) r))) r)
    (h3F : sp_F u2 u3) (h3U : sg_U u3 = sg_U u2) (h3 : ∀ y, y ≠ x → sp_sm u2 u3 y)
    (h3x : sg_L u3 x = sg_L u2 x ∧ sg_R u3 x = sg_R u2 x ∧ sg_V u3 x = sg_V u2 x ∧ sg_S u3 x = sg_S u2 x ∧ sg_T u3 x = sg_T u2 x ∧ sg_W u3 x = sg_W u2 x ∧ sg_H u3 x = sg_H u2 x ∧ sg_O u3 x = sg_O u2 x)
    (hox : ∀ X, sp_ox u x X = sp_ox u3 x (f X)) :
    sp_pu u G rs x l r u3 (sp_up (sp_up G l (f (G l))) r (f (sp_up G l (f (G l)) r))) := by
  obtain ⟨x1, x2, xl, xr, lD, rD, xnl, xnr, dis⟩ := sp_kids hfo hx hl hr e
  obtain ⟨g0, hra⟩ := sp_two_a (f := f) f0 hfo hx hl hr e hed1
  generalize hG1 : sp_up G l (f (G l)) = G1 at *
  have G1n : ∀ y, (y = l → l = 0) → G1 y = G y := by
    intro y hy
    by_cases q : y = l
    · subst q
      have := hy rfl
      subst this
      rw [g0, hfo.1]
    · rw [← hG1, sp_upn q]
  have G1l : G1 l = f (G l) := by rw [← hG1, sp_ups]
  have hG2 : ∃ G2, G2 = sp_up G1 r (f (G1 r)) := ⟨_, rfl⟩
  obtain ⟨G2, hG2⟩ := hG2
  rw [← hG2] at hnd2 ⊢
  have G2r : G2 r = f (G1 r) := by rw [hG2, sp_ups]
  have G20 : G2 0 = [] := by
    by_cases q : r = 0
    · subst q; rw [G2r, g0, f0]
    · rw [hG2, sp_upn (fun z => q z.symm), g0]
  have G2n : ∀ y, (y = r → r = 0) → G2 y = G1 y := by
    intro y hy
    by_cases q : y = r
    · subst q
      have := hy rfl
      subst this
      rw [G20, g0]
    · rw [hG2, sp_upn q]
  have nl : ∀ c, c ≠ 0 → (c = l → l = 0) → c ≠ l := fun c c0 h q => c0 (q.trans (h q))
  have uni : ∀ c y : Nat, y ∈ sp_D G rs → y ≠ x → c ≠ 0 → sg_U u c = nI y → c ≠ l ∧ c ≠ r := by
    intro c y hy yx c0 hu
    have hy48 := (hfo.2.2.2.1 y hy).2.1
    refine ⟨fun q => ?_, fun q => ?_⟩
    · subst q
      rw [(hl.2.2 c0).2, nI_eq (by omega) (by omega)] at hu
      exact yx hu.symm
    · subst q
      rw [(hr.2.2 c0).2, nI_eq (by omega) (by omega)] at hu
      exact yx hu.symm
  have ndo : ∀ y ∈ sp_D G rs, y ≠ x → sp_nd u2 G2 y := by
    intro y hy yx
    have y1 := (hfo.2.2.2.1 y hy).1
    by_cases yr : y = r
    · subst yr
      exact hnd2 (by omega)
    · by_cases yl : y = l
      · subst yl
        refine sp_nd_eq (hnd1 (by omega)) (hed2.2.2 y (fun q => absurd q yr)) (by rw [G20, g0]) (G2n y (fun q => absurd q yr)) ?_
        intro c c0 hc hu
        refine ⟨G2n c (fun q => ?_), by rw [hed2.2.1]⟩
        subst q
        rw [G1l, fN] at hc
        exact absurd (hr.2.2 c0).1 (dis c hc)
      · refine sp_nd_eq (hfo.2.2.2.1 y hy) (sp_sm_tr (hed1.2.2 y (fun q => absurd q yl)) (hed2.2.2 y (fun q => absurd q yr))) (by rw [G20, hfo.1]) ?_ ?_
        · rw [G2n y (fun q => absurd q yr), G1n y (fun q => absurd q yl)]
        · intro c c0 hc hu
          have := uni c y hy yx c0 hu
          refine ⟨?_, by rw [hed2.2.1, hed1.2.1]⟩
          rw [G2n c (fun q => absurd q this.2), G1n c (fun q => absurd q this.1)]
  have hroot : ∀ q ∈ rs, G2 q = G q := by
    intro q hq
    by_cases q0 : q = 0
    · subst q0; rw [G20, hfo.1]
    · have hu := (hfo.2.2.2.2 q hq q0).2.2
      have n1 : q ≠ l := fun z => by
        subst z
        rw [(hl.2.2 q0).2] at hu
        exact nI_ne0 (by omega) (by omega) hu
      have n2 : q ≠ r := fun z => by
        subst z
        rw [(hr.2.2 q0).2] at hu
        exact nI_ne0 (by omega) (by omega) hu
      rw [G2n q (fun z => absurd z n2), G1n q (fun z => absurd z n1)]
  have hGy : ∀ y, (y = l → l = 0) → (y = r → r = 0) → G2 y = G y := fun y a b => by rw [G2n y b, G1n y a]
  have hGx : G2 x = G x := hGy x (fun q => absurd q xl) (fun q => absurd q xr)
  have smx : sp_sm u u2 x := sp_sm_tr (hed1.2.2 x (fun q => absurd q xl)) (hed2.2.2 x (fun q => absurd q xr))
  obtain ⟨a1, a2, a3, a4, a5, a6, a7, a8, a9, a10, a11⟩ := smx
  obtain ⟨b1, b2, b3, b7, b8, b9, b10, b11⟩ := h3x
  have hU : sg_U u3 = sg_U u := by rw [h3U, hed2.2.1, hed1.2.1]
  have Gl2 : G2 l = f (G l) := by
    by_cases q : l = 0
    · subst q; rw [G20, hfo.1, f0]
    · rw [G2n l (fun z => absurd z (fun z => by
        subst z
        exact dis l (hl.2.2 q).1 (hr.2.2 q).1)), G1l]
  have Gr2 : G2 r = f (G r) := by
    by_cases q : r = 0
    · subst q; rw [G20, hfo.1, f0]
    · rw [G2r, (hra q).2.2.1]
  have chl : sp_ch u3 G2 x (sg_L u3 x) l := ⟨by rw [b1, a1]; exact hl.1, hl.2.1, fun q => ⟨by rw [Gl2, fN]; exact (hl.2.2 q).1, by rw [hU]; exact (hl.2.2 q).2⟩⟩
  have chr : sp_ch u3 G2 x (sg_R u3 x) r := ⟨by rw [b2, a2]; exact hr.1, hr.2.1, fun q => ⟨by rw [Gr2, fN]; exact (hr.2.2 q).1, by rw [hU]; exact (hr.2.2 q).2⟩⟩
  have eq : G2 x = sp_ox u3 x (G2 l) ++ (x, sg_V u3 x) :: sp_ox u3 x (G2 r) := by
    rw [hGx, e, Gl2, Gr2, hox, hox, b3, a3]
  have hA : sp_A u3 x (G2 x) := by
    have := (hfo.2.2.2.1 x hx).2.2.1
    unfold sp_A at this ⊢
    rw [hGx, b7, b8, b9, b10, b11, a7, a8, a9, a10, a11]
    exact this
  have hB : sp_B (sp_V (G2 x)) := by
    rw [hGx]
    exact (hfo.2.2.2.1 x hx).2.2.2.1
  have hD : sp_D G2 rs = sp_D G rs := sp_D_eq hroot
  refine ⟨⟨G20, ?_, ?_, ?_, ?_⟩, sp_F_tr (sp_F_tr hed1.1 hed2.1) h3F, hU, hroot, hGy, ?_, chl, chr, eq⟩
  · exact sp_sm_A (h3 0 (by omega)) (sp_sm_A (hed2.2.2 0 (fun q => q.symm)) (sp_sm_A (hed1.2.2 0 (fun q => q.symm)) hfo.2.1))
  · rw [hD]; exact hfo.2.2.1
  · rw [hD]
    intro y hy
    by_cases yx : y = x
    · subst yx
      exact ⟨x1, x2, hA, hB, l, r, chl, chr, eq⟩
    · exact sp_nd_eq (ndo y hy yx) (h3 y yx) rfl rfl (fun c _ _ _ => ⟨rfl, by rw [h3U]⟩)
  · intro q hq q0
    rw [hroot q hq, hU]
    exact hfo.2.2.2.2 q hq q0
  · intro y h1 h2 yx
    exact sp_sm_tr (sp_sm_tr (hed1.2.2 y h1) (hed2.2.2 y h2)) (h3 y yx)
end
section
def sp_cl (u : SX) (x : Nat) : Prop := sg_N u x = 0 ∧ sg_M u x = 0 ∧ sg_Q u x = 0
theorem sp_ox_cl {u : SX} {x : Nat} (h : sp_cl u x) (l : List sp_E) : sp_ox u x l = l := by
  unfold sp_ox
  rw [h.1, h.2.1, h.2.2, sp_o_0]
theorem sp_pu_rfl {u : SX} {G : Nat → List sp_E} {rs : List Nat} {x l r : Nat} (hfo : sp_fo u G rs)
    (hl : sp_ch u G x (sg_L u x) l) (hr : sp_ch u G x (sg_R u x) r) (e : G x = sp_ox u x (G l) ++ (x, sg_V u x) :: sp_ox u x (G r)) : sp_pu u G rs x l r u G :=
  ⟨hfo, sp_F_rfl u, rfl, fun _ _ => rfl, fun _ _ _ => rfl, fun y _ _ _ => sp_sm_rfl u y, hl, hr, e⟩
theorem sp_ng_mem (l : List sp_E) (z : Nat) : z ∈ sp_N (sp_ng l) ↔ z ∈ sp_N l := by rw [sp_N_ng]
theorem sp_ad_mem (d : Int32) (l : List sp_E) (z : Nat) : z ∈ sp_N (sp_ad d l) ↔ z ∈ sp_N l := by rw [sp_N_ad]
theorem sp_rev_mem (l : List sp_E) (z : Nat) : z ∈ sp_N (List.reverse l) ↔ z ∈ sp_N l := by rw [sp_N_rev, List.mem_reverse]
theorem sp_B_l {a b : List sp_E} (h : sp_B (sp_V (a ++ b))) : sp_B (sp_V a) := fun v hv => h v (by rw [sp_V_app]; exact List.mem_append_left _ hv)
theorem sp_B_r {a b : List sp_E} {p : sp_E} (h : sp_B (sp_V (a ++ p :: b))) : sp_B (sp_V b) := fun v hv => h v (by rw [sp_V_app]; exact List.mem_append_right _ (List.mem_cons_of_mem _ hv))
theorem sp_push66 {post : SX → Prop} {u : SX} {G : Nat → List sp_E} {rs : List Nat} {x l r : Nat} (hfo : sp_fo u G rs) (hx : x ∈ sp_D G rs)
    (hl : sp_ch u G x (sg_L u x) l) (hr : sp_ch u G x (sg_R u x) r) (e : G x = sp_ox u x (G l) ++ (x, sg_V u x) :: sp_ox u x (G r))
    (hN : sg_N u x = 0) (hM : sg_M u x = 0)
    (h : ∀ u' G', sp_pu u G rs x l r u' G' → sp_cl u' x → post u') : wX_push_66 post (nI x) (nI l) (nI r) u.1 u.2.1 u.2.2.1 u.2.2.2.1 u.2.2.2.2.1 u.2.2.2.2.2.1 u.2.2.2.2.2.2.1 u.2.2.2.2.2.2.2.1 u.2.2.2.2.2.2.2.2.1 u.2.2.2.2.2.2.2.2.2.1 u.2.2.2.2.2.2.2.2.2.2.1 u.2.2.2.2.2.2.2.2.2.2.2.1 u.2.2.2.2.2.2.2.2.2.2.2.2.1 u.2.2.2.2.2.2.2.2.2.2.2.2.2.1 u.2.2.2.2.2.2.2.2.2.2.2.2.2.2.1 u.2.2.2.2.2.2.2.2.2.2.2.2.2.2.2.1 u.2.2.2.2.2.2.2.2.2.2.2.2.2.2.2.2.1 u.2.2.2.2.2.2.2.2.2.2.2.2.2.2.2.2.2.1 u.2.2.2.2.2.2.2.2.2.2.2.2.2.2.2.2.2.2.1 u.2.2.2.2.2.2.2.2.2.2.2.2.2.2.2.2.2.2.2 := by
  obtain ⟨x1, x2, xl, xr, lD, rD, xnl, xnr, dis⟩ := sp_kids hfo hx hl hr e
  have ix : vp_in (nI x) 49 := vp_in_nI (by omega) (by omega)
  have cx : (nI x).toNatClampNeg = x := nI_clamp (by omega)
  unfold wX_push_66
  rw [cx]
  by_cases hq : sg_Q u x = 0
  · exact ⟨ix, br_t hq (h u G (sp_pu_rfl hfo hl hr e) ⟨hN, hM, hq⟩)⟩
  · refine ⟨ix, br_f hq ⟨ix, ?_⟩⟩
    have oe : ∀ X, sp_ox u x X = sp_ad (sg_Q u x) X := fun X => by
      unfold sp_ox
      rw [hN, hM, sp_o_a]
    have hB := (hfo.2.2.2.1 x hx).2.2.2.1
    rw [e, oe, oe] at hB
    refine sp_addAll (u := u) (G := G) (c := l) (d := sg_Q u x) (fun q => ⟨hfo.2.2.2.1 l (lD q), sp_fo_nodup hfo (lD q), sp_B_l hB⟩) (fun q => sp_fo_len1 hfo (lD q)) ?_
    intro u1 hed1 hnd1
    have hra := (sp_two_a (f := sp_ad (sg_Q u x)) rfl hfo hx hl hr e hed1).2
    have s1 := hed1.2.2 x (fun q => absurd q xl)
    show vp_in (nI x) 49 ∧ wpX_addAll _ u1 (nI r) (sg_Q u1 x)
    refine ⟨ix, ?_⟩
    rw [s1.2.2.2.2.2.1]
    refine sp_addAll (u := u1) (G := sp_up G l (sp_ad (sg_Q u x) (G l))) (c := r) (d := sg_Q u x) (fun q => ⟨(hra q).1, (hra q).2.1, by rw [(hra q).2.2.1]; exact sp_B_r hB⟩) (fun q => by rw [(hra q).2.2.1]; exact sp_fo_len1 hfo (rD q)) ?_
    intro u2 hed2 hnd2
    have s2 := sp_sm_tr s1 (hed2.2.2 x (fun q => absurd q xr))
    show vp_in (nI x) 49 ∧ ∀ q : Nat → Int32, q = upd (sg_Q u2) x 0 → post (u2.1, u2.2.1, u2.2.2.1, u2.2.2.2.1, u2.2.2.2.2.1, u2.2.2.2.2.2.1, u2.2.2.2.2.2.2.1, u2.2.2.2.2.2.2.2.1, u2.2.2.2.2.2.2.2.2.1, u2.2.2.2.2.2.2.2.2.2.1, u2.2.2.2.2.2.2.2.2.2.2.1, u2.2.2.2.2.2.2.2.2.2.2.2.1, u2.2.2.2.2.2.2.2.2.2.2.2.2.1, u2.2.2.2.2.2.2.2.2.2.2.2.2.2.1, u2.2.2.2.2.2.2.2.2.2.2.2.2.2.2.1, u2.2.2.2.2.2.2.2.2.2.2.2.2.2.2.2.1, q, u2.2.2.2.2.2.2.2.2.2.2.2.2.2.2.2.2.2.1, u2.2.2.2.2.2.2.2.2.2.2.2.2.2.2.2.2.2.2.1, u2.2.2.2.2.2.2.2.2.2.2.2.2.2.2.2.2.2.2.2)
    refine ⟨ix, fun q eq => ?_⟩
    subst eq
    refine h _ _ (sp_stage (f := sp_ad (sg_Q u x)) rfl (sp_ad_mem _) hfo hx hl hr e hed1 hnd1 hed2 hnd2 ⟨rfl, rfl, rfl, rfl, rfl, rfl, rfl⟩ rfl ?_ ⟨rfl, rfl, rfl, rfl, rfl, rfl, rfl, rfl⟩ ?_) ?_
    · intro y hy
      exact ⟨rfl, rfl, rfl, rfl, rfl, pk_un hy, rfl, rfl, rfl, rfl, rfl⟩
    · intro X
      rw [oe, sp_ox_cl]
      exact ⟨s2.2.2.2.1.trans hN, s2.2.2.2.2.1.trans hM, pk_us⟩
    · exact ⟨s2.2.2.2.1.trans hN, s2.2.2.2.2.1.trans hM, pk_us⟩
theorem sp_push40 {post : SX → Prop} {u : SX} {G : Nat → List sp_E} {rs : List Nat} {x l r : Nat} (hfo : sp_fo u G rs) (hx : x ∈ sp_D G rs)
    (hl : sp_ch u G x (sg_L u x) l) (hr : sp_ch u G x (sg_R u x) r) (e : G x = sp_ox u x (G l) ++ (x, sg_V u x) :: sp_ox u x (G r))
    (hN : sg_N u x = 0)
    (h : ∀ u' G', sp_pu u G rs x l r u' G' → sp_cl u' x → post u') : wX_push_40 post (nI x) (nI l) (nI r) u.1 u.2.1 u.2.2.1 u.2.2.2.1 u.2.2.2.2.1 u.2.2.2.2.2.1 u.2.2.2.2.2.2.1 u.2.2.2.2.2.2.2.1 u.2.2.2.2.2.2.2.2.1 u.2.2.2.2.2.2.2.2.2.1 u.2.2.2.2.2.2.2.2.2.2.1 u.2.2.2.2.2.2.2.2.2.2.2.1 u.2.2.2.2.2.2.2.2.2.2.2.2.1 u.2.2.2.2.2.2.2.2.2.2.2.2.2.1 u.2.2.2.2.2.2.2.2.2.2.2.2.2.2.1 u.2.2.2.2.2.2.2.2.2.2.2.2.2.2.2.1 u.2.2.2.2.2.2.2.2.2.2.2.2.2.2.2.2.1 u.2.2.2.2.2.2.2.2.2.2.2.2.2.2.2.2.2.1 u.2.2.2.2.2.2.2.2.2.2.2.2.2.2.2.2.2.2.1 u.2.2.2.2.2.2.2.2.2.2.2.2.2.2.2.2.2.2.2 := by
  obtain ⟨x1, x2, xl, xr, lD, rD, xnl, xnr, dis⟩ := sp_kids hfo hx hl hr e
  have ix : vp_in (nI x) 49 := vp_in_nI (by omega) (by omega)
  have cx : (nI x).toNatClampNeg = x := nI_clamp (by omega)
  unfold wX_push_40
  rw [cx]
  by_cases hq : sg_M u x = 0
  · exact ⟨ix, br_t hq (sp_push66 hfo hx hl hr e hN hq h)⟩
  · refine ⟨ix, br_f hq ?_⟩
    have oe : ∀ X, sp_ox u x X = sp_o 0 0 (sg_Q u x) (sp_ng X) := fun X => by
      unfold sp_ox
      rw [hN, sp_o_m hq]
    refine sp_negAll (u := u) (G := G) (c := l) (fun q => ⟨hfo.2.2.2.1 l (lD q), sp_fo_nodup hfo (lD q)⟩) ?_
    intro u1 hed1 hnd1
    have hra := (sp_two_a (f := sp_ng) rfl hfo hx hl hr e hed1).2
    have s1 := hed1.2.2 x (fun q => absurd q xl)
    show wpX_negateAll _ u1 (nI r)
    refine sp_negAll (u := u1) (G := sp_up G l (sp_ng (G l))) (c := r) (fun q => ⟨(hra q).1, (hra q).2.1⟩) ?_
    intro u2 hed2 hnd2
    have s2 := sp_sm_tr s1 (hed2.2.2 x (fun q => absurd q xr))
    show vp_in (nI x) 49 ∧ ∀ q : Nat → Int32, q = upd (sg_M u2) x (vp_nar .boolean 0) → wX_push_66 post (nI x) (nI l) (nI r) u2.1 u2.2.1 u2.2.2.1 u2.2.2.2.1 u2.2.2.2.2.1 (sg_L u2) (sg_R u2) (sg_U u2) (sg_V u2) (sg_S u2) (sg_T u2) (sg_W u2) (sg_H u2) (sg_O u2) (sg_N u2) q (sg_Q u2) (sg_E u2) (sg_K u2) (sg_C u2)
    refine ⟨ix, fun q eq => ?_⟩
    subst eq
    have st := sp_stage (f := sp_ng) (u3 := (u2.1, u2.2.1, u2.2.2.1, u2.2.2.2.1, u2.2.2.2.2.1, u2.2.2.2.2.2.1, u2.2.2.2.2.2.2.1, u2.2.2.2.2.2.2.2.1, u2.2.2.2.2.2.2.2.2.1, u2.2.2.2.2.2.2.2.2.2.1, u2.2.2.2.2.2.2.2.2.2.2.1, u2.2.2.2.2.2.2.2.2.2.2.2.1, u2.2.2.2.2.2.2.2.2.2.2.2.2.1, u2.2.2.2.2.2.2.2.2.2.2.2.2.2.1, u2.2.2.2.2.2.2.2.2.2.2.2.2.2.2.1, upd (sg_M u2) x (vp_nar .boolean 0), u2.2.2.2.2.2.2.2.2.2.2.2.2.2.2.2.2.1, u2.2.2.2.2.2.2.2.2.2.2.2.2.2.2.2.2.2.1, u2.2.2.2.2.2.2.2.2.2.2.2.2.2.2.2.2.2.2.1, u2.2.2.2.2.2.2.2.2.2.2.2.2.2.2.2.2.2.2.2)) rfl sp_ng_mem hfo hx hl hr e hed1 hnd1 hed2 hnd2 ⟨rfl, rfl, rfl, rfl, rfl, rfl, rfl⟩ rfl
      (fun y hy => ⟨rfl, rfl, rfl, rfl, pk_un hy, rfl, rfl, rfl, rfl, rfl, rfl⟩) ⟨rfl, rfl, rfl, rfl, rfl, rfl, rfl, rfl⟩ (fun X => by
        rw [oe]
        show _ = sp_o (sg_N u2 x) (upd (sg_M u2) x (vp_nar .boolean 0) x) (sg_Q u2 x) (sp_ng X)
        rw [s2.2.2.2.1, hN, pk_us, s2.2.2.2.2.2.1, sp_nar0])
    exact sp_push66 st.1 (by rw [sp_D_eq st.2.2.2.1]; exact hx) st.2.2.2.2.2.2.1 st.2.2.2.2.2.2.2.1 st.2.2.2.2.2.2.2.2 (s2.2.2.2.1.trans hN) (pk_us.trans sp_nar0)
      (fun u' G' p c => h u' G' (sp_pu_tr st p) c)
theorem sp_push {post : SX → Prop} {u : SX} {G : Nat → List sp_E} {rs : List Nat} {x : Nat} (hfo : sp_fo u G rs) (hx : x ∈ sp_D G rs)
    (h : ∀ u' G' l r, sp_pu u G rs x l r u' G' → sp_cl u' x → post u') : wpX_push post u (nI x) := by
  obtain ⟨-, -, -, -, l, r, hl, hr, e⟩ := hfo.2.2.2.1 x hx
  have h := fun u' G' => h u' G' l r
  obtain ⟨x1, x2, xl, xr, lD, rD, xnl, xnr, dis⟩ := sp_kids hfo hx hl hr e
  have ix : vp_in (nI x) 49 := vp_in_nI (by omega) (by omega)
  have cx : (nI x).toNatClampNeg = x := nI_clamp (by omega)
  have el : sg_L u (nI x).toNatClampNeg = nI l := by rw [cx]; exact hl.1
  have er : sg_R u (nI x).toNatClampNeg = nI r := by rw [cx]; exact hr.1
  refine ⟨ix, nm_r (e' := nI l) el ⟨ix, nm_r (e' := nI r) er ⟨ix, ?_⟩⟩⟩
  rw [cx]
  by_cases hq : sg_N u x = 0
  · exact br_t hq (sp_push40 hfo hx hl hr e hq h)
  · refine br_f hq ?_
    have oe : ∀ X, sp_ox u x X = sp_o 0 (sg_M u x) (sg_Q u x) X.reverse := fun X => by
      unfold sp_ox
      rw [sp_o_t hq]
    refine sp_turnAll (u := u) (G := G) (c := l) (fun q => ⟨hfo.2.2.2.1 l (lD q), sp_fo_nodup hfo (lD q)⟩) ?_
    intro u1 hed1 hnd1
    have hra := (sp_two_a (f := List.reverse) rfl hfo hx hl hr e hed1).2
    have s1 := hed1.2.2 x (fun q => absurd q xl)
    show wpX_turnAll _ u1 (nI r)
    refine sp_turnAll (u := u1) (G := sp_up G l (List.reverse (G l))) (c := r) (fun q => ⟨(hra q).1, (hra q).2.1⟩) ?_
    intro u2 hed2 hnd2
    have s2 := sp_sm_tr s1 (hed2.2.2 x (fun q => absurd q xr))
    show vp_in (nI x) 49 ∧ ∀ q : Nat → Int32, q = upd (sg_N u2) x (vp_nar .boolean 0) → wX_push_40 post (nI x) (nI l) (nI r) u2.1 u2.2.1 u2.2.2.1 u2.2.2.2.1 u2.2.2.2.2.1 (sg_L u2) (sg_R u2) (sg_U u2) (sg_V u2) (sg_S u2) (sg_T u2) (sg_W u2) (sg_H u2) (sg_O u2) q (sg_M u2) (sg_Q u2) (sg_E u2) (sg_K u2) (sg_C u2)
    refine ⟨ix, fun q eq => ?_⟩
    subst eq
    have st := sp_stage (f := List.reverse) (u3 := (u2.1, u2.2.1, u2.2.2.1, u2.2.2.2.1, u2.2.2.2.2.1, u2.2.2.2.2.2.1, u2.2.2.2.2.2.2.1, u2.2.2.2.2.2.2.2.1, u2.2.2.2.2.2.2.2.2.1, u2.2.2.2.2.2.2.2.2.2.1, u2.2.2.2.2.2.2.2.2.2.2.1, u2.2.2.2.2.2.2.2.2.2.2.2.1, u2.2.2.2.2.2.2.2.2.2.2.2.2.1, u2.2.2.2.2.2.2.2.2.2.2.2.2.2.1, upd (sg_N u2) x (vp_nar .boolean 0), u2.2.2.2.2.2.2.2.2.2.2.2.2.2.2.2.1, u2.2.2.2.2.2.2.2.2.2.2.2.2.2.2.2.2.1, u2.2.2.2.2.2.2.2.2.2.2.2.2.2.2.2.2.2.1, u2.2.2.2.2.2.2.2.2.2.2.2.2.2.2.2.2.2.2.1, u2.2.2.2.2.2.2.2.2.2.2.2.2.2.2.2.2.2.2.2)) rfl sp_rev_mem hfo hx hl hr e hed1 hnd1 hed2 hnd2 ⟨rfl, rfl, rfl, rfl, rfl, rfl, rfl⟩ rfl
      (fun y hy => ⟨rfl, rfl, rfl, pk_un hy, rfl, rfl, rfl, rfl, rfl, rfl, rfl⟩) ⟨rfl, rfl, rfl, rfl, rfl, rfl, rfl, rfl⟩ (fun X => by
        rw [oe]
        show _ = sp_o (upd (sg_N u2) x (vp_nar .boolean 0) x) (sg_M u2 x) (sg_Q u2 x) X.reverse
        rw [s2.2.2.2.2.1, pk_us, s2.2.2.2.2.2.1, sp_nar0])
    exact sp_push40 st.1 (by rw [sp_D_eq st.2.2.2.1]; exact hx) st.2.2.2.2.2.2.1 st.2.2.2.2.2.2.2.1 st.2.2.2.2.2.2.2.2 (pk_us.trans sp_nar0)
      (fun u' G' p c => h u' G' (sp_pu_tr st p) c)
end
section
/-! lift: one turn about a node -/
def sp_sv (u u' : SX) (y : Nat) : Prop :=
  sg_V u' y = sg_V u y ∧ sg_N u' y = sg_N u y ∧ sg_M u' y = sg_M u y ∧ sg_Q u' y = sg_Q u y ∧
  sg_S u' y = sg_S u y ∧ sg_T u' y = sg_T u y ∧ sg_W u' y = sg_W u y ∧ sg_H u' y = sg_H u y ∧ sg_O u' y = sg_O u y
theorem sp_sm_sv {u u' : SX} {y : Nat} (h : sp_sm u u' y) : sp_sv u u' y := h.2.2
theorem sp_sv_sm {u u' : SX} {y : Nat} (h : sp_sv u u' y) (hL : sg_L u' y = sg_L u y) (hR : sg_R u' y = sg_R u y) : sp_sm u u' y := ⟨hL, hR, h⟩
theorem sp_nd_mk {u : SX} {G : Nat → List sp_E} {x l r : Nat} (h1 : 1 ≤ x) (h2 : x ≤ 48) (hA : sp_A u x (G x)) (hB : sp_B (sp_V (G x)))
    (hl : sp_ch u G x (sg_L u x) l) (hr : sp_ch u G x (sg_R u x) r) (hc : sp_cl u x) (e : G x = G l ++ (x, sg_V u x) :: G r) : sp_nd u G x :=
  ⟨h1, h2, hA, hB, l, r, hl, hr, by rw [sp_ox_cl hc, sp_ox_cl hc]; exact e⟩
theorem sp_lift108 {post : SX → Prop} {u : SX} {x p l1 r1 l2 r2 : Nat} {A1 B1 A2 B2 : List sp_E} (hx : x ≤ 48) (hp : p ≤ 48) (hl1 : l1 ≤ 48) (hr1 : r1 ≤ 48) (hl2 : l2 ≤ 48) (hr2 : r2 ≤ 48)
    (xp : x ≠ p) (lp : l1 ≠ p) (rp : r1 ≠ p) (lx : l2 ≠ x) (rx : r2 ≠ x)
    (e1 : sg_L u p = nI l1) (e2 : sg_R u p = nI r1) (e3 : sg_L u x = nI l2) (e4 : sg_R u x = nI r2)
    (hA1 : sp_A u l1 A1) (hB1 : sp_A u r1 B1) (hvp : sp_nu (sg_V u p)) (hvx : sp_nu (sg_V u x))
    (h2 : ∀ u1, sp_A u1 p (A1 ++ (p, sg_V u p) :: B1) → (∀ y, y ≠ p → sp_sm u u1 y) → sp_A u1 l2 A2 ∧ sp_A u1 r2 B2)
    (h : ∀ u', sp_F u u' → sg_L u' = sg_L u → sg_R u' = sg_R u → sg_V u' = sg_V u → sg_N u' = sg_N u → sg_M u' = sg_M u → sg_Q u' = sg_Q u →
      sg_U u' = upd (sg_U u) 0 0 → (∀ y, y ≠ x → y ≠ p → sp_sm u u' y) → sp_A u' p (A1 ++ (p, sg_V u p) :: B1) → sp_A u' x (A2 ++ (x, sg_V u x) :: B2) → post u') :
    wX_lift_108 post (nI x) (nI p) u.1 u.2.1 u.2.2.1 u.2.2.2.1 u.2.2.2.2.1 u.2.2.2.2.2.1 u.2.2.2.2.2.2.1 u.2.2.2.2.2.2.2.1 u.2.2.2.2.2.2.2.2.1 u.2.2.2.2.2.2.2.2.2.1 u.2.2.2.2.2.2.2.2.2.2.1 u.2.2.2.2.2.2.2.2.2.2.2.1 u.2.2.2.2.2.2.2.2.2.2.2.2.1 u.2.2.2.2.2.2.2.2.2.2.2.2.2.1 u.2.2.2.2.2.2.2.2.2.2.2.2.2.2.1 u.2.2.2.2.2.2.2.2.2.2.2.2.2.2.2.1 u.2.2.2.2.2.2.2.2.2.2.2.2.2.2.2.2.1 u.2.2.2.2.2.2.2.2.2.2.2.2.2.2.2.2.2.1 u.2.2.2.2.2.2.2.2.2.2.2.2.2.2.2.2.2.2.1 u.2.2.2.2.2.2.2.2.2.2.2.2.2.2.2.2.2.2.2 := by
  unfold wX_lift_108
  intro q eq
  subst eq
  refine sw_pull (u := (u.1, u.2.1, u.2.2.1, u.2.2.2.1, u.2.2.2.2.1, u.2.2.2.2.2.1, u.2.2.2.2.2.2.1, upd (sg_U u) 0 0, u.2.2.2.2.2.2.2.2.1, u.2.2.2.2.2.2.2.2.2.1, u.2.2.2.2.2.2.2.2.2.2.1, u.2.2.2.2.2.2.2.2.2.2.2.1, u.2.2.2.2.2.2.2.2.2.2.2.2.1, u.2.2.2.2.2.2.2.2.2.2.2.2.2.1, u.2.2.2.2.2.2.2.2.2.2.2.2.2.2.1, u.2.2.2.2.2.2.2.2.2.2.2.2.2.2.2.1, u.2.2.2.2.2.2.2.2.2.2.2.2.2.2.2.2.1, u.2.2.2.2.2.2.2.2.2.2.2.2.2.2.2.2.2.1, u.2.2.2.2.2.2.2.2.2.2.2.2.2.2.2.2.2.2.1, u.2.2.2.2.2.2.2.2.2.2.2.2.2.2.2.2.2.2.2)) (x := p) (l := l1) (r := r1) (A := A1) (B := B1) hp hl1 hr1 lp rp e1 e2 hA1 hB1 hvp ?_
  intro u1 F1 K1 s1 a1
  obtain ⟨k1, k2, k3, k4, k5, k6, k7⟩ := K1
  have s1' : ∀ y, y ≠ p → sp_sm u u1 y := s1
  have a1' : sp_A u1 p (A1 ++ (p, sg_V u p) :: B1) := a1
  have h22 := h2 u1 a1' s1'
  have sx := s1' x xp
  show wpX_pull _ u1 (nI x)
  refine sw_pull (u := u1) (x := x) (l := l2) (r := r2) (A := A2) (B := B2) hx hl2 hr2 lx rx (sx.1.trans e3) (sx.2.1.trans e4) h22.1 h22.2 (by rw [sx.2.2.1]; exact hvx) ?_
  intro u2 F2 K2 s2 a2
  obtain ⟨j1, j2, j3, j4, j5, j6, j7⟩ := K2
  have sp := s2 p (fun z => xp z.symm)
  refine h u2 (sp_F_tr (v := u1) F1 F2) (j1.trans k1) (j2.trans k2) (j4.trans k4) (j5.trans k5) (j6.trans k6) (j7.trans k7) (j3.trans k3) (fun y yx yp => sp_sm_tr (s1' y yp) (s2 y yx)) (sp_sm_A sp a1') ?_
  rw [sx.2.2.1] at a2
  exact a2
/-- the link of g downwards, from p to x -/
def sp_rel (g p x : Nat) (L R L' R' : Nat → Int32) : Prop :=
  (g = 0 ∧ L' = L ∧ R' = R) ∨ (g ≠ 0 ∧ L g = nI p ∧ L' = upd L g (nI x) ∧ R' = R) ∨ (g ≠ 0 ∧ ¬ L g = nI p ∧ L' = L ∧ R' = upd R g (nI x))
theorem sp_rel_ne {g p x y : Nat} {L R L' R' : Nat → Int32} (h : sp_rel g p x L R L' R') (hy : y ≠ g) : L' y = L y ∧ R' y = R y := by
  rcases h with ⟨_, rfl, rfl⟩ | ⟨_, _, rfl, rfl⟩ | ⟨_, _, rfl, rfl⟩
  · exact ⟨rfl, rfl⟩
  · exact ⟨pk_un hy, rfl⟩
  · exact ⟨rfl, pk_un hy⟩
theorem sp_lift63 {post : SX → Prop} {u : SX} {x p g l1 r1 l2 r2 : Nat} {A1 B1 A2 B2 : List sp_E} (hx : x ≤ 48) (hp : p ≤ 48) (hg : g ≤ 48) (hl1 : l1 ≤ 48) (hr1 : r1 ≤ 48) (hl2 : l2 ≤ 48) (hr2 : r2 ≤ 48)
    (xp : x ≠ p) (xg : x ≠ g) (pg : p ≠ g) (lp : l1 ≠ p) (rp : r1 ≠ p) (lx : l2 ≠ x) (rx : r2 ≠ x)
    (e1 : sg_L u p = nI l1) (e2 : sg_R u p = nI r1) (e3 : sg_L u x = nI l2) (e4 : sg_R u x = nI r2)
    (hA1 : sp_A u l1 A1) (hB1 : sp_A u r1 B1) (hvp : sp_nu (sg_V u p)) (hvx : sp_nu (sg_V u x))
    (h2 : ∀ u1, sp_A u1 p (A1 ++ (p, sg_V u p) :: B1) → (∀ y, y ≠ p → sp_sv u u1 y) → sp_A u1 l2 A2 ∧ sp_A u1 r2 B2)
    (h : ∀ u', sp_F u u' → sp_rel g p x (sg_L u) (sg_R u) (sg_L u') (sg_R u') → sg_V u' = sg_V u → sg_N u' = sg_N u → sg_M u' = sg_M u → sg_Q u' = sg_Q u →
      sg_U u' = upd (upd (upd (sg_U u) p (nI x)) x (nI g)) 0 0 → (∀ y, y ≠ x → y ≠ p → sp_sv u u' y) → sp_A u' p (A1 ++ (p, sg_V u p) :: B1) → sp_A u' x (A2 ++ (x, sg_V u x) :: B2) → post u') :
    wX_lift_63 post (nI x) (nI p) (nI g) u.1 u.2.1 u.2.2.1 u.2.2.2.1 u.2.2.2.2.1 u.2.2.2.2.2.1 u.2.2.2.2.2.2.1 u.2.2.2.2.2.2.2.1 u.2.2.2.2.2.2.2.2.1 u.2.2.2.2.2.2.2.2.2.1 u.2.2.2.2.2.2.2.2.2.2.1 u.2.2.2.2.2.2.2.2.2.2.2.1 u.2.2.2.2.2.2.2.2.2.2.2.2.1 u.2.2.2.2.2.2.2.2.2.2.2.2.2.1 u.2.2.2.2.2.2.2.2.2.2.2.2.2.2.1 u.2.2.2.2.2.2.2.2.2.2.2.2.2.2.2.1 u.2.2.2.2.2.2.2.2.2.2.2.2.2.2.2.2.1 u.2.2.2.2.2.2.2.2.2.2.2.2.2.2.2.2.2.1 u.2.2.2.2.2.2.2.2.2.2.2.2.2.2.2.2.2.2.1 u.2.2.2.2.2.2.2.2.2.2.2.2.2.2.2.2.2.2.2 := by
  have ix : vp_in (nI x) 49 := vp_in_nI (by omega) (by omega)
  have ip : vp_in (nI p) 49 := vp_in_nI (by omega) (by omega)
  have ig : vp_in (nI g) 49 := vp_in_nI (by omega) (by omega)
  have cx : (nI x).toNatClampNeg = x := nI_clamp (by omega)
  have cp : (nI p).toNatClampNeg = p := nI_clamp (by omega)
  have cg : (nI g).toNatClampNeg = g := nI_clamp (by omega)
  unfold wX_lift_63
  rw [cx, cp, cg]
  refine ⟨ip, fun q1 eq1 => ⟨ix, fun q2 eq2 => ?_⟩⟩
  subst eq1
  subst eq2
  by_cases g0 : g = 0
  · subst g0
    refine br_t nI_0 ?_
    refine sp_lift108 (u := (u.1, u.2.1, u.2.2.1, u.2.2.2.1, u.2.2.2.2.1, u.2.2.2.2.2.1, u.2.2.2.2.2.2.1, upd (upd (sg_U u) p (nI x)) x (nI 0), u.2.2.2.2.2.2.2.2.1, u.2.2.2.2.2.2.2.2.2.1, u.2.2.2.2.2.2.2.2.2.2.1, u.2.2.2.2.2.2.2.2.2.2.2.1, u.2.2.2.2.2.2.2.2.2.2.2.2.1, u.2.2.2.2.2.2.2.2.2.2.2.2.2.1, u.2.2.2.2.2.2.2.2.2.2.2.2.2.2.1, u.2.2.2.2.2.2.2.2.2.2.2.2.2.2.2.1, u.2.2.2.2.2.2.2.2.2.2.2.2.2.2.2.2.1, u.2.2.2.2.2.2.2.2.2.2.2.2.2.2.2.2.2.1, u.2.2.2.2.2.2.2.2.2.2.2.2.2.2.2.2.2.2.1, u.2.2.2.2.2.2.2.2.2.2.2.2.2.2.2.2.2.2.2)) (A1 := A1) (B1 := B1) (A2 := A2) (B2 := B2) hx hp hl1 hr1 hl2 hr2 xp lp rp lx rx e1 e2 e3 e4 hA1 hB1 hvp hvx (fun u1 a s => h2 u1 a (fun y hy => (s y hy).2.2)) ?_
    intro u' hF hL hR hV hN hM hQ hU hs ha hb
    exact h u' hF (Or.inl ⟨rfl, hL, hR⟩) hV hN hM hQ hU (fun y y1 y2 => (hs y y1 y2).2.2) ha hb
  · refine br_f (nI_ne0 (by omega) (by omega)) ⟨ig, br_c (fun hc => ⟨ig, fun q3 eq3 => ?_⟩) (fun hc => ⟨ig, fun q3 eq3 => ?_⟩)⟩
    · subst eq3
      refine sp_lift108 (u := (u.1, u.2.1, u.2.2.1, u.2.2.2.1, u.2.2.2.2.1, upd (sg_L u) g (nI x), u.2.2.2.2.2.2.1, upd (upd (sg_U u) p (nI x)) x (nI g), u.2.2.2.2.2.2.2.2.1, u.2.2.2.2.2.2.2.2.2.1, u.2.2.2.2.2.2.2.2.2.2.1, u.2.2.2.2.2.2.2.2.2.2.2.1, u.2.2.2.2.2.2.2.2.2.2.2.2.1, u.2.2.2.2.2.2.2.2.2.2.2.2.2.1, u.2.2.2.2.2.2.2.2.2.2.2.2.2.2.1, u.2.2.2.2.2.2.2.2.2.2.2.2.2.2.2.1, u.2.2.2.2.2.2.2.2.2.2.2.2.2.2.2.2.1, u.2.2.2.2.2.2.2.2.2.2.2.2.2.2.2.2.2.1, u.2.2.2.2.2.2.2.2.2.2.2.2.2.2.2.2.2.2.1, u.2.2.2.2.2.2.2.2.2.2.2.2.2.2.2.2.2.2.2)) (A1 := A1) (B1 := B1) (A2 := A2) (B2 := B2) hx hp hl1 hr1 hl2 hr2 xp lp rp lx rx ((pk_un pg).trans e1) e2 ((pk_un xg).trans e3) e4 hA1 hB1 hvp hvx (fun u1 a s => h2 u1 a (fun y hy => (s y hy).2.2)) ?_
      intro u' hF hL hR hV hN hM hQ hU hs ha hb
      exact h u' hF (Or.inr (Or.inl ⟨g0, hc, hL, hR⟩)) hV hN hM hQ hU (fun y y1 y2 => (hs y y1 y2).2.2) ha hb
    · subst eq3
      refine sp_lift108 (u := (u.1, u.2.1, u.2.2.1, u.2.2.2.1, u.2.2.2.2.1, u.2.2.2.2.2.1, upd (sg_R u) g (nI x), upd (upd (sg_U u) p (nI x)) x (nI g), u.2.2.2.2.2.2.2.2.1, u.2.2.2.2.2.2.2.2.2.1, u.2.2.2.2.2.2.2.2.2.2.1, u.2.2.2.2.2.2.2.2.2.2.2.1, u.2.2.2.2.2.2.2.2.2.2.2.2.1, u.2.2.2.2.2.2.2.2.2.2.2.2.2.1, u.2.2.2.2.2.2.2.2.2.2.2.2.2.2.1, u.2.2.2.2.2.2.2.2.2.2.2.2.2.2.2.1, u.2.2.2.2.2.2.2.2.2.2.2.2.2.2.2.2.1, u.2.2.2.2.2.2.2.2.2.2.2.2.2.2.2.2.2.1, u.2.2.2.2.2.2.2.2.2.2.2.2.2.2.2.2.2.2.1, u.2.2.2.2.2.2.2.2.2.2.2.2.2.2.2.2.2.2.2)) (A1 := A1) (B1 := B1) (A2 := A2) (B2 := B2) hx hp hl1 hr1 hl2 hr2 xp lp rp lx rx e1 ((pk_un pg).trans e2) e3 ((pk_un xg).trans e4) hA1 hB1 hvp hvx (fun u1 a s => h2 u1 a (fun y hy => (s y hy).2.2)) ?_
      intro u' hF hL hR hV hN hM hQ hU hs ha hb
      exact h u' hF (Or.inr (Or.inr ⟨g0, hc, hL, hR⟩)) hV hN hM hQ hU (fun y y1 y2 => (hs y y1 y2).2.2) ha hb
theorem sp_sv_A {u u' : SX} {x : Nat} {l : List sp_E} (s : sp_sv u u' x) (h : sp_A u x l) : sp_A u' x l := by
  obtain ⟨-, -, -, -, a7, a8, a9, a10, a11⟩ := s
  unfold sp_A at h ⊢
  rw [a7, a8, a9, a10, a11]
  exact h
theorem sp_fo_A {u : SX} {G : Nat → List sp_E} {rs : List Nat} (h : sp_fo u G rs) {c : Nat} (hc : c ≠ 0 → c ∈ sp_D G rs) : sp_A u c (G c) := by
  by_cases c0 : c = 0
  · subst c0; rw [h.1]; exact h.2.1
  · exact (h.2.2.2.1 c (hc c0)).2.2.1
/-- the forest after a turn: x comes to the place of p; m is the child that changes hands -/
theorem sp_rot {u u' : SX} {G G' : Nat → List sp_E} {rs : List Nat} {x p g m : Nat} {Gp : List sp_E} (hfo : sp_fo u G rs) (hx : x ∈ sp_D G rs) (hp : p ∈ sp_D G rs) (ho : sp_over u G p x)
    (hpg : sg_U u p = nI g) (g48 : g ≤ 48) (hm : m ≠ 0 → sg_U u m = nI x) (hG : G' = sp_up (sp_up G p Gp) x (G p))
    (hU : sg_U u' = upd (upd (upd (upd (sg_U u) m (nI p)) p (nI x)) x (nI g)) 0 0) (hsv : ∀ y, y ≠ x → y ≠ p → sp_sv u u' y)
    (hLR : ∀ y, y ≠ x → y ≠ p → y ≠ g → sg_L u' y = sg_L u y ∧ sg_R u' y = sg_R u y)
    (hgg : g ≠ 0 → (sg_L u g = nI p ∧ sg_L u' g = nI x ∧ sg_R u' g = sg_R u g) ∨ (¬ sg_L u g = nI p ∧ sg_L u' g = sg_L u g ∧ sg_R u' g = nI x))
    (ndp : sp_nd u' G' p) (ndx : sp_nd u' G' x) :
    sp_fo u' G' (rs.map (fun r => if r = p then x else r)) ∧ ∀ q ∈ rs, G' (if q = p then x else q) = G q := by
  obtain ⟨x0, xx, xu, xlr, xp', xlen⟩ := ho
  have p1 := (hfo.2.2.2.1 p hp).1
  have p2 := (hfo.2.2.2.1 p hp).2.1
  have x1 := (hfo.2.2.2.1 x hx).1
  have x2 := (hfo.2.2.2.1 x hx).2.1
  have xp : x ≠ p := fun q => by rw [q] at xlen; omega
  have Gx : G' x = G p := by rw [hG, sp_ups]
  have Gn : ∀ y, y ≠ x → y ≠ p → G' y = G y := fun y a b => by rw [hG, sp_upn a, sp_upn b]
  have G0 : G' 0 = G 0 := Gn 0 (by omega) (by omega)
  have Ux : sg_U u' x = nI g := by rw [hU, pk_un (by omega), pk_us]
  have Un : ∀ y, y ≠ 0 → y ≠ x → y ≠ p → y ≠ m → sg_U u' y = sg_U u y := fun y a b c d => by rw [hU, pk_un a, pk_un b, pk_un c, pk_un d]
  have mne : ∀ y k : Nat, y ≠ 0 → k ≤ 48 → k ≠ x → sg_U u y = nI k → y ≠ m := fun y k a b c d q => by
    subst q
    rw [hm a, nI_eq (by omega) (by omega)] at d
    exact c d.symm
  have hroot : ∀ q ∈ rs, G' (if q = p then x else q) = G q := by
    intro q hq
    by_cases qp : q = p
    · rw [if_pos qp, Gx, qp]
    · rw [if_neg qp]
      by_cases q0 : q = 0
      · rw [q0, G0]
      · refine Gn q (fun z => ?_) qp
        have := (hfo.2.2.2.2 q hq q0).2.2
        rw [z, xu] at this
        exact nI_ne0 (by omega) (by omega) this
  have hD : sp_D G' (rs.map (fun r => if r = p then x else r)) = sp_D G rs := by
    have aux : ∀ l : List Nat, (∀ q ∈ l, G' (if q = p then x else q) = G q) → sp_D G' (l.map (fun r => if r = p then x else r)) = sp_D G l := by
      intro l
      unfold sp_D
      induction l with
      | nil => intro _; rfl
      | cons a l ih =>
        intro h
        rw [List.map_cons, List.flatMap_cons, List.flatMap_cons, h a (List.mem_cons_self ..), ih (fun q hq => h q (List.mem_cons_of_mem _ hq))]
    exact aux rs hroot
  refine ⟨⟨by rw [G0, hfo.1], sp_sv_A (hsv 0 (by omega) (by omega)) hfo.2.1, by rw [hD]; exact hfo.2.2.1, ?_, ?_⟩, hroot⟩
  · rw [hD]
    intro y hy
    have ndy := hfo.2.2.2.1 y hy
    have y48 := ndy.2.1
    have y1 := ndy.1
    by_cases yx : y = x
    · rw [yx]; exact ndx
    by_cases yp : y = p
    · rw [yp]; exact ndp
    by_cases yg : y = g
    · subst yg
      have kn : ∀ c : Nat, c ≠ 0 → sg_U u c = nI y → c ≠ p → G' c = G c ∧ sg_U u' c = nI y := by
        intro c c0 cu cp
        have cx : c ≠ x := fun z => by
          subst z
          rw [xu, nI_eq (by omega) (by omega)] at cu
          exact yp cu.symm
        exact ⟨Gn c cx cp, by rw [Un c c0 cx cp (mne c y c0 y48 yx cu)]; exact cu⟩
      have kx : x ≠ 0 → x ∈ sp_N (G' x) ∧ sg_U u' x = nI y := fun _ => ⟨by rw [Gx]; exact xp', Ux⟩
      obtain ⟨_, _, hA, hB, l, r, hl, hr, e⟩ := ndy
      obtain ⟨-, -, -, -, lD, rD, -, -, dis⟩ := sp_kids hfo hy hl hr e
      have oxe : ∀ X, sp_ox u' y X = sp_ox u y X := fun X => by
        obtain ⟨_, s2, s3, s4, _⟩ := hsv y yx yp
        unfold sp_ox
        rw [s2, s3, s4]
      have pin : p ∈ sp_N (G p) := sp_nd_self (hfo.2.2.2.1 p hp)
      have Gy : G' y = G y := Gn y yx yp
      obtain ⟨yq, hyq, hyo⟩ := sp_fo_parent hfo hp (by rw [hpg]; exact nI_ne0 (by omega) (by omega))
      have yqe : yq = y := by
        have := hyo.2.2.1
        rw [hpg, nI_eq (by omega) (by have := (hfo.2.2.2.1 yq hyq).2.1; omega)] at this
        exact this.symm
      subst yqe
      rcases hgg (by omega) with ⟨q1, q2, q3⟩ | ⟨q1, q2, q3⟩
      · have lp : l = p := by
          have := hl.1
          rw [q1, nI_eq (by omega) (by have := hl.2.1; omega)] at this
          exact this.symm
        subst lp
        have chr : sp_ch u' G' yq (sg_R u' yq) r := by
          refine ⟨by rw [q3]; exact hr.1, hr.2.1, fun r0 => ?_⟩
          have rl : r ≠ l := fun z => by
            subst z; exact dis r pin pin
          have := kn r r0 (hr.2.2 r0).2 rl
          exact ⟨by rw [this.1]; exact (hr.2.2 r0).1, this.2⟩
        have Gr : G' r = G r := by
          by_cases r0 : r = 0
          · rw [r0, G0]
          · exact (kn r r0 (hr.2.2 r0).2 (fun z => by subst z; exact dis r pin pin)).1
        refine ⟨y1, y48, by rw [Gy]; exact sp_sv_A (hsv yq yx yp) hA, by rw [Gy]; exact hB, x, r, ⟨q2, x2, kx⟩, chr, ?_⟩
        rw [Gy, Gx, Gr, oxe, oxe, (hsv yq yx yp).1]
        exact e
      · have rp : r = p := by
          have hz : sg_R u yq = nI p := hyo.2.2.2.1.resolve_left q1
          have := hr.1
          rw [hz, nI_eq (by omega) (by have := hr.2.1; omega)] at this
          exact this.symm
        subst rp
        have chl : sp_ch u' G' yq (sg_L u' yq) l := by
          refine ⟨by rw [q2]; exact hl.1, hl.2.1, fun l0 => ?_⟩
          have lr : l ≠ r := fun z => by
            subst z; exact dis l pin pin
          have := kn l l0 (hl.2.2 l0).2 lr
          exact ⟨by rw [this.1]; exact (hl.2.2 l0).1, this.2⟩
        have Gl : G' l = G l := by
          by_cases l0 : l = 0
          · rw [l0, G0]
          · exact (kn l l0 (hl.2.2 l0).2 (fun z => by subst z; exact dis l pin pin)).1
        refine ⟨y1, y48, by rw [Gy]; exact sp_sv_A (hsv yq yx yp) hA, by rw [Gy]; exact hB, l, x, chl, ⟨q3, x2, kx⟩, ?_⟩
        rw [Gy, Gx, Gl, oxe, oxe, (hsv yq yx yp).1]
        exact e
    · have lr := hLR y yx yp yg
      refine sp_nd_eq ndy (sp_sv_sm (hsv y yx yp) lr.1 lr.2) G0 (Gn y yx yp) ?_
      intro c c0 hc cu
      have cx : c ≠ x := fun z => by
        subst z
        rw [xu, nI_eq (by omega) (by omega)] at cu
        exact yp cu.symm
      have cp : c ≠ p := fun z => by
        subst z
        rw [hpg, nI_eq (by omega) (by omega)] at cu
        exact yg cu.symm
      exact ⟨Gn c cx cp, Un c c0 cx cp (mne c y c0 y48 yx cu)⟩
  · intro q hq q0
    obtain ⟨a, ha, rfl⟩ := List.mem_map.mp hq
    by_cases ap : a = p
    · rw [if_pos ap] at q0 ⊢
      have hz := (hfo.2.2.2.2 a ha (by omega)).2.2
      rw [ap, hpg] at hz
      exact ⟨x2, by rw [Gx]; exact xp', by rw [Ux]; exact hz⟩
    · rw [if_neg ap] at q0 ⊢
      obtain ⟨z1, z2, z3⟩ := hfo.2.2.2.2 a ha q0
      have ax : a ≠ x := fun z => by
        rw [z, xu] at z3
        exact nI_ne0 (by omega) (by omega) z3
      refine ⟨z1, by rw [Gn a ax ap]; exact z2, ?_⟩
      rw [Un a q0 ax ap (mne a 0 q0 (by omega) (by omega) z3)]
      exact z3
end
section
theorem sw_setLeft {post : SX → Prop} {u : SX} {p b : Nat} (hp : p ≤ 48) (hb : b ≤ 48) (h : post (u.1, u.2.1, u.2.2.1, u.2.2.2.1, u.2.2.2.2.1, upd (sg_L u) p (nI b), u.2.2.2.2.2.2.1, upd (sg_U u) b (nI p), u.2.2.2.2.2.2.2.2.1, u.2.2.2.2.2.2.2.2.2.1, u.2.2.2.2.2.2.2.2.2.2.1, u.2.2.2.2.2.2.2.2.2.2.2.1, u.2.2.2.2.2.2.2.2.2.2.2.2.1, u.2.2.2.2.2.2.2.2.2.2.2.2.2.1, u.2.2.2.2.2.2.2.2.2.2.2.2.2.2.1, u.2.2.2.2.2.2.2.2.2.2.2.2.2.2.2.1, u.2.2.2.2.2.2.2.2.2.2.2.2.2.2.2.2.1, u.2.2.2.2.2.2.2.2.2.2.2.2.2.2.2.2.2.1, u.2.2.2.2.2.2.2.2.2.2.2.2.2.2.2.2.2.2.1, u.2.2.2.2.2.2.2.2.2.2.2.2.2.2.2.2.2.2.2)) : wpX_setLeft post u (nI p) (nI b) := by
  have ip : vp_in (nI p) 49 := vp_in_nI (by omega) (by omega)
  have ib : vp_in (nI b) 49 := vp_in_nI (by omega) (by omega)
  have cp : (nI p).toNatClampNeg = p := nI_clamp (by omega)
  have cb : (nI b).toNatClampNeg = b := nI_clamp (by omega)
  obtain ⟨f_row, f_clip, f_before, f_middle, f_behind, a_left, a_right, a_up, a_value, a_size, a_total, a_heavy, a_high, a_low, a_turn, a_minus, a_add, a_used, a_stack, a_copied⟩ := u
  refine ⟨ip, fun q1 e1 => ⟨ib, fun q2 e2 => ?_⟩⟩
  rw [cp] at e1
  rw [cb] at e2
  subst e1
  subst e2
  exact h
theorem sw_setRight {post : SX → Prop} {u : SX} {p b : Nat} (hp : p ≤ 48) (hb : b ≤ 48) (h : post (u.1, u.2.1, u.2.2.1, u.2.2.2.1, u.2.2.2.2.1, u.2.2.2.2.2.1, upd (sg_R u) p (nI b), upd (sg_U u) b (nI p), u.2.2.2.2.2.2.2.2.1, u.2.2.2.2.2.2.2.2.2.1, u.2.2.2.2.2.2.2.2.2.2.1, u.2.2.2.2.2.2.2.2.2.2.2.1, u.2.2.2.2.2.2.2.2.2.2.2.2.1, u.2.2.2.2.2.2.2.2.2.2.2.2.2.1, u.2.2.2.2.2.2.2.2.2.2.2.2.2.2.1, u.2.2.2.2.2.2.2.2.2.2.2.2.2.2.2.1, u.2.2.2.2.2.2.2.2.2.2.2.2.2.2.2.2.1, u.2.2.2.2.2.2.2.2.2.2.2.2.2.2.2.2.2.1, u.2.2.2.2.2.2.2.2.2.2.2.2.2.2.2.2.2.2.1, u.2.2.2.2.2.2.2.2.2.2.2.2.2.2.2.2.2.2.2)) : wpX_setRight post u (nI p) (nI b) := by
  have ip : vp_in (nI p) 49 := vp_in_nI (by omega) (by omega)
  have ib : vp_in (nI b) 49 := vp_in_nI (by omega) (by omega)
  have cp : (nI p).toNatClampNeg = p := nI_clamp (by omega)
  have cb : (nI b).toNatClampNeg = b := nI_clamp (by omega)
  obtain ⟨f_row, f_clip, f_before, f_middle, f_behind, a_left, a_right, a_up, a_value, a_size, a_total, a_heavy, a_high, a_low, a_turn, a_minus, a_add, a_used, a_stack, a_copied⟩ := u
  refine ⟨ip, fun q1 e1 => ⟨ib, fun q2 e2 => ?_⟩⟩
  rw [cp] at e1
  rw [cb] at e2
  subst e1
  subst e2
  exact h
/-- what lift leaves -/
def sp_lf (u : SX) (G : Nat → List sp_E) (rs : List Nat) (x p g : Nat) (u' : SX) (G' : Nat → List sp_E) : Prop :=
  (sp_fo u' G' (rs.map (fun r => if r = p then x else r)) ∧ ∀ q ∈ rs, G' (if q = p then x else q) = G q) ∧ sp_F u u' ∧ sg_N u' = sg_N u ∧ sg_M u' = sg_M u ∧ sg_Q u' = sg_Q u ∧
  (∀ y, y ≠ x → y ≠ p → G' y = G y) ∧ G' x = G p ∧ sg_U u' x = nI g
theorem sp_liftL {post : SX → Prop} {u : SX} {G : Nat → List sp_E} {rs : List Nat} {x p g : Nat} (hfo : sp_fo u G rs) (hx : x ∈ sp_D G rs) (hp : p ∈ sp_D G rs) (ho : sp_over u G p x)
    (hpg : sg_U u p = nI g) (g48 : g ≤ 48) (xg : x ≠ g) (pg : p ≠ g) (clx : sp_cl u x) (clp : sp_cl u p) (hc : sg_L u p = nI x)
    (h : ∀ u' G', sp_lf u G rs x p g u' G' → post u') : wpX_lift post u (nI x) := by
  have ndx := hfo.2.2.2.1 x hx
  have ndp := hfo.2.2.2.1 p hp
  have xu := ho.2.2.1
  obtain ⟨x1, x2, hAx, hBx, a, b, ha, hb, ex⟩ := ndx
  obtain ⟨p1, p2, hAp, hBp, l, c, hl, hcc, ep⟩ := ndp
  have lx : l = x := by
    have := hl.1
    rw [hc, nI_eq (by omega) (by have := hl.2.1; omega)] at this
    exact this.symm
  subst lx
  obtain ⟨-, -, xa, xb, aD, bD, xna, xnb, dx⟩ := sp_kids hfo hx ha hb ex
  obtain ⟨-, -, px, pc, -, cD, pnx, pnc, dp⟩ := sp_kids hfo hp hl hcc ep
  have mx := sp_nd_mem ex
  rw [sp_ox_cl clx, sp_ox_cl clx] at ex
  rw [sp_ox_cl clp, sp_ox_cl clp] at ep
  have ap : a ≠ p := fun q => by
    by_cases a0 : a = 0
    · omega
    · subst q; exact pnx ((mx a).mpr (Or.inl (ha.2.2 a0).1))
  have bp : b ≠ p := fun q => by
    by_cases b0 : b = 0
    · omega
    · subst q; exact pnx ((mx b).mpr (Or.inr (Or.inr (hb.2.2 b0).1)))
  have cl : c ≠ l := fun q => by
    subst q
    exact dp c ((mx c).mpr (Or.inr (Or.inl rfl))) ((mx c).mpr (Or.inr (Or.inl rfl)))
  have ix : vp_in (nI l) 49 := vp_in_nI (by omega) (by omega)
  have ip : vp_in (nI p) 49 := vp_in_nI (by omega) (by omega)
  have cx : (nI l).toNatClampNeg = l := nI_clamp (by omega)
  have cp : (nI p).toNatClampNeg = p := nI_clamp (by omega)
  have hvp : sp_nu (sg_V u p) := hBp _ (by rw [ep, sp_V_app]; exact List.mem_append_right _ (List.mem_cons_self ..))
  have hvx : sp_nu (sg_V u l) := hBx _ (by rw [ex, sp_V_app]; exact List.mem_append_right _ (List.mem_cons_self ..))
  refine ⟨ix, nm_r (e' := nI p) (by rw [cx]; exact xu) ⟨ip, nm_r (e' := nI g) (by rw [cp]; exact hpg) ⟨ip, ?_⟩⟩⟩
  rw [cx, cp]
  refine br_t hc ⟨ix, ?_⟩
  show wpX_setLeft _ u (nI p) (sg_R u l)
  rw [hb.1]
  refine sw_setLeft p2 hb.2.1 ?_
  refine ⟨ix, fun q eq => ?_⟩
  subst eq
  refine sp_lift63 (u := (u.1, u.2.1, u.2.2.1, u.2.2.2.1, u.2.2.2.2.1, upd (sg_L u) p (nI b), upd (sg_R u) l (nI p), upd (sg_U u) b (nI p), u.2.2.2.2.2.2.2.2.1, u.2.2.2.2.2.2.2.2.2.1, u.2.2.2.2.2.2.2.2.2.2.1, u.2.2.2.2.2.2.2.2.2.2.2.1, u.2.2.2.2.2.2.2.2.2.2.2.2.1, u.2.2.2.2.2.2.2.2.2.2.2.2.2.1, u.2.2.2.2.2.2.2.2.2.2.2.2.2.2.1, u.2.2.2.2.2.2.2.2.2.2.2.2.2.2.2.1, u.2.2.2.2.2.2.2.2.2.2.2.2.2.2.2.2.1, u.2.2.2.2.2.2.2.2.2.2.2.2.2.2.2.2.2.1, u.2.2.2.2.2.2.2.2.2.2.2.2.2.2.2.2.2.2.1, u.2.2.2.2.2.2.2.2.2.2.2.2.2.2.2.2.2.2.2)) (l1 := b) (r1 := c) (l2 := a) (r2 := p) (A1 := G b) (B1 := G c) (A2 := G a) (B2 := G b ++ (p, sg_V u p) :: G c)
    x2 p2 g48 hb.2.1 hcc.2.1 ha.2.1 p2 (fun q => px q.symm) xg pg bp (fun q => pc q.symm) (fun q => xa q.symm) px pk_us ((pk_un px).trans hcc.1) ((pk_un (fun q => px q.symm)).trans ha.1) pk_us
    (sp_fo_A hfo bD) (sp_fo_A hfo cD) hvp hvx (fun u1 h1 s1 => ⟨sp_sv_A (s1 a ap) (sp_fo_A hfo aD), h1⟩) ?_
  intro u' hF hrel hV hN hM hQ hU hs hAp' hAx'
  have sv : ∀ y, y ≠ l → y ≠ p → sp_sv u u' y := hs
  have hU' : sg_U u' = upd (upd (upd (upd (sg_U u) b (nI p)) p (nI l)) l (nI g)) 0 0 := hU
  have hV' : sg_V u' = sg_V u := hV
  have rn : ∀ y, y ≠ g → sg_L u' y = upd (sg_L u) p (nI b) y ∧ sg_R u' y = upd (sg_R u) l (nI p) y := fun y hy => sp_rel_ne hrel hy
  have Un : ∀ y, y ≠ 0 → y ≠ l → y ≠ p → y ≠ b → sg_U u' y = sg_U u y := fun y q1 q2 q3 q4 => by rw [hU', pk_un q1, pk_un q2, pk_un q3, pk_un q4]
  have hG : ∃ G', G' = sp_up (sp_up G p (G b ++ (p, sg_V u p) :: G c)) l (G p) := ⟨_, rfl⟩
  obtain ⟨G', hG⟩ := hG
  have Gx : G' l = G p := by rw [hG, sp_ups]
  have Gp : G' p = G b ++ (p, sg_V u p) :: G c := by rw [hG, sp_upn px, sp_ups]
  have Gn : ∀ y, y ≠ l → y ≠ p → G' y = G y := fun y q1 q2 => by rw [hG, sp_upn q1, sp_upn q2]
  have ep' : G p = G a ++ (l, sg_V u l) :: (G b ++ (p, sg_V u p) :: G c) := by rw [ep, ex, List.append_assoc]; rfl
  have clx' : sp_cl u' l := ⟨(congrFun hN l).trans clx.1, (congrFun hM l).trans clx.2.1, (congrFun hQ l).trans clx.2.2⟩
  have clp' : sp_cl u' p := ⟨(congrFun hN p).trans clp.1, (congrFun hM p).trans clp.2.1, (congrFun hQ p).trans clp.2.2⟩
  have hBp' : sp_B (sp_V (G b ++ (p, sg_V u p) :: G c)) := by
    rw [ep'] at hBp
    exact sp_B_r hBp
  have ndp : sp_nd u' G' p := by
    refine sp_nd_mk (l := b) (r := c) p1 p2 (by rw [Gp]; exact hAp') (by rw [Gp]; exact hBp') ⟨(rn p pg).1.trans pk_us, hb.2.1, fun b0 => ?_⟩ ⟨(rn p pg).2.trans ((pk_un px).trans hcc.1), hcc.2.1, fun c0 => ?_⟩ clp' ?_
    · refine ⟨by rw [Gn b (fun q => xb q.symm) bp]; exact (hb.2.2 b0).1, ?_⟩
      rw [hU', pk_un b0, pk_un (fun q => xb q.symm), pk_un bp, pk_us]
    · refine ⟨by rw [Gn c cl (fun q => pc q.symm)]; exact (hcc.2.2 c0).1, ?_⟩
      rw [Un c c0 cl (fun q => pc q.symm) (fun q => by
        subst q
        exact dp c ((mx c).mpr (Or.inr (Or.inr (hb.2.2 c0).1))) (hcc.2.2 c0).1)]
      exact (hcc.2.2 c0).2
    · rw [Gp, Gn b (fun q => xb q.symm) bp, Gn c cl (fun q => pc q.symm), hV']
  have ndx : sp_nd u' G' l := by
    refine sp_nd_mk (l := a) (r := p) x1 x2 (by rw [Gx, ep']; exact hAx') (by rw [Gx]; exact hBp) ⟨(rn l xg).1.trans ((pk_un (fun q => px q.symm)).trans ha.1), ha.2.1, fun a0 => ?_⟩ ⟨(rn l xg).2.trans pk_us, p2, fun _ => ?_⟩ clx' ?_
    · refine ⟨by rw [Gn a (fun q => xa q.symm) ap]; exact (ha.2.2 a0).1, ?_⟩
      rw [Un a a0 (fun q => xa q.symm) ap (fun q => by
        subst q
        exact dx a (ha.2.2 a0).1 (hb.2.2 a0).1)]
      exact (ha.2.2 a0).2
    · refine ⟨by rw [Gp, sp_N_app]; exact List.mem_append_right _ (List.mem_cons_self ..), ?_⟩
      rw [hU', pk_un (by omega), pk_un px, pk_us]
    · rw [Gx, Gn a (fun q => xa q.symm) ap, Gp, hV']
      exact ep'
  refine h u' G' ⟨sp_rot hfo hx hp ho hpg g48 (fun b0 => (hb.2.2 b0).2) hG hU' sv (fun y y1 y2 y3 => ?_) (fun g0 => ?_) ndp ndx, hF, hN, hM, hQ, Gn, Gx, ?_⟩
  · have := rn y y3
    rw [this.1, this.2, pk_un y2, pk_un y1]
    exact ⟨rfl, rfl⟩
  · have gp : g ≠ p := fun q => pg q.symm
    have gx : g ≠ l := fun q => xg q.symm
    rcases hrel with ⟨z, _, _⟩ | ⟨_, z1, z2, z3⟩ | ⟨_, z1, z2, z3⟩
    · exact absurd z g0
    · left
      have z1' : upd (sg_L u) p (nI b) g = nI p := z1
      rw [pk_un gp] at z1'
      refine ⟨z1', by rw [z2, pk_us], ?_⟩
      rw [z3]
      exact pk_un gx
    · right
      have z1' : ¬ upd (sg_L u) p (nI b) g = nI p := z1
      rw [pk_un gp] at z1'
      refine ⟨z1', ?_, by rw [z3, pk_us]⟩
      rw [z2]
      exact pk_un gp
  · rw [hU', pk_un (by omega), pk_us]
theorem sp_liftR {post : SX → Prop} {u : SX} {G : Nat → List sp_E} {rs : List Nat} {x p g : Nat} (hfo : sp_fo u G rs) (hx : x ∈ sp_D G rs) (hp : p ∈ sp_D G rs) (ho : sp_over u G p x)
    (hpg : sg_U u p = nI g) (g48 : g ≤ 48) (xg : x ≠ g) (pg : p ≠ g) (clx : sp_cl u x) (clp : sp_cl u p) (hc : ¬ sg_L u p = nI x)
    (h : ∀ u' G', sp_lf u G rs x p g u' G' → post u') : wpX_lift post u (nI x) := by
  have ndx := hfo.2.2.2.1 x hx
  have ndp := hfo.2.2.2.1 p hp
  have xu := ho.2.2.1
  obtain ⟨x1, x2, hAx, hBx, a, b, ha, hb, ex⟩ := ndx
  obtain ⟨p1, p2, hAp, hBp, c, r, hcc, hr, ep⟩ := ndp
  have rx : r = x := by
    have := hr.1
    rw [ho.2.2.2.1.resolve_left hc, nI_eq (by omega) (by have := hr.2.1; omega)] at this
    exact this.symm
  subst rx
  obtain ⟨-, -, xa, xb, aD, bD, xna, xnb, dx⟩ := sp_kids hfo hx ha hb ex
  obtain ⟨-, -, pc, px, cD, -, pnc, pnx, dp⟩ := sp_kids hfo hp hcc hr ep
  have mx := sp_nd_mem ex
  rw [sp_ox_cl clx, sp_ox_cl clx] at ex
  rw [sp_ox_cl clp, sp_ox_cl clp] at ep
  have ap : a ≠ p := fun q => by
    by_cases a0 : a = 0
    · omega
    · subst q; exact pnx ((mx a).mpr (Or.inl (ha.2.2 a0).1))
  have bp : b ≠ p := fun q => by
    by_cases b0 : b = 0
    · omega
    · subst q; exact pnx ((mx b).mpr (Or.inr (Or.inr (hb.2.2 b0).1)))
  have cl : c ≠ r := fun q => by
    subst q
    exact dp c ((mx c).mpr (Or.inr (Or.inl rfl))) ((mx c).mpr (Or.inr (Or.inl rfl)))
  have ix : vp_in (nI r) 49 := vp_in_nI (by omega) (by omega)
  have ip : vp_in (nI p) 49 := vp_in_nI (by omega) (by omega)
  have cx : (nI r).toNatClampNeg = r := nI_clamp (by omega)
  have cp : (nI p).toNatClampNeg = p := nI_clamp (by omega)
  have hvp : sp_nu (sg_V u p) := hBp _ (by rw [ep, sp_V_app]; exact List.mem_append_right _ (List.mem_cons_self ..))
  have hvx : sp_nu (sg_V u r) := hBx _ (by rw [ex, sp_V_app]; exact List.mem_append_right _ (List.mem_cons_self ..))
  refine ⟨ix, nm_r (e' := nI p) (by rw [cx]; exact xu) ⟨ip, nm_r (e' := nI g) (by rw [cp]; exact hpg) ⟨ip, ?_⟩⟩⟩
  rw [cx, cp]
  refine br_f hc ⟨ix, ?_⟩
  show wpX_setRight _ u (nI p) (sg_L u r)
  rw [ha.1]
  refine sw_setRight p2 ha.2.1 ?_
  refine ⟨ix, fun q eq => ?_⟩
  subst eq
  refine sp_lift63 (u := (u.1, u.2.1, u.2.2.1, u.2.2.2.1, u.2.2.2.2.1, upd (sg_L u) r (nI p), upd (sg_R u) p (nI a), upd (sg_U u) a (nI p), u.2.2.2.2.2.2.2.2.1, u.2.2.2.2.2.2.2.2.2.1, u.2.2.2.2.2.2.2.2.2.2.1, u.2.2.2.2.2.2.2.2.2.2.2.1, u.2.2.2.2.2.2.2.2.2.2.2.2.1, u.2.2.2.2.2.2.2.2.2.2.2.2.2.1, u.2.2.2.2.2.2.2.2.2.2.2.2.2.2.1, u.2.2.2.2.2.2.2.2.2.2.2.2.2.2.2.1, u.2.2.2.2.2.2.2.2.2.2.2.2.2.2.2.2.1, u.2.2.2.2.2.2.2.2.2.2.2.2.2.2.2.2.2.1, u.2.2.2.2.2.2.2.2.2.2.2.2.2.2.2.2.2.2.1, u.2.2.2.2.2.2.2.2.2.2.2.2.2.2.2.2.2.2.2)) (l1 := c) (r1 := a) (l2 := p) (r2 := b) (A1 := G c) (B1 := G a) (A2 := G c ++ (p, sg_V u p) :: G a) (B2 := G b)
    x2 p2 g48 hcc.2.1 ha.2.1 p2 hb.2.1 (fun q => px q.symm) xg pg (fun q => pc q.symm) ap px (fun q => xb q.symm) ((pk_un px).trans hcc.1) pk_us pk_us ((pk_un (fun q => px q.symm)).trans hb.1)
    (sp_fo_A hfo cD) (sp_fo_A hfo aD) hvp hvx (fun u1 h1 s1 => ⟨h1, sp_sv_A (s1 b bp) (sp_fo_A hfo bD)⟩) ?_
  intro u' hF hrel hV hN hM hQ hU hs hAp' hAx'
  have sv : ∀ y, y ≠ r → y ≠ p → sp_sv u u' y := hs
  have hU' : sg_U u' = upd (upd (upd (upd (sg_U u) a (nI p)) p (nI r)) r (nI g)) 0 0 := hU
  have hV' : sg_V u' = sg_V u := hV
  have rn : ∀ y, y ≠ g → sg_L u' y = upd (sg_L u) r (nI p) y ∧ sg_R u' y = upd (sg_R u) p (nI a) y := fun y hy => sp_rel_ne hrel hy
  have Un : ∀ y, y ≠ 0 → y ≠ r → y ≠ p → y ≠ a → sg_U u' y = sg_U u y := fun y q1 q2 q3 q4 => by rw [hU', pk_un q1, pk_un q2, pk_un q3, pk_un q4]
  have hG : ∃ G', G' = sp_up (sp_up G p (G c ++ (p, sg_V u p) :: G a)) r (G p) := ⟨_, rfl⟩
  obtain ⟨G', hG⟩ := hG
  have Gx : G' r = G p := by rw [hG, sp_ups]
  have Gp : G' p = G c ++ (p, sg_V u p) :: G a := by rw [hG, sp_upn px, sp_ups]
  have Gn : ∀ y, y ≠ r → y ≠ p → G' y = G y := fun y q1 q2 => by rw [hG, sp_upn q1, sp_upn q2]
  have ep' : G p = (G c ++ (p, sg_V u p) :: G a) ++ (r, sg_V u r) :: G b := by rw [ep, ex, List.append_assoc]; rfl
  have clx' : sp_cl u' r := ⟨(congrFun hN r).trans clx.1, (congrFun hM r).trans clx.2.1, (congrFun hQ r).trans clx.2.2⟩
  have clp' : sp_cl u' p := ⟨(congrFun hN p).trans clp.1, (congrFun hM p).trans clp.2.1, (congrFun hQ p).trans clp.2.2⟩
  have hBp' : sp_B (sp_V (G c ++ (p, sg_V u p) :: G a)) := by
    rw [ep'] at hBp
    exact sp_B_l hBp
  have ndp : sp_nd u' G' p := by
    refine sp_nd_mk (l := c) (r := a) p1 p2 (by rw [Gp]; exact hAp') (by rw [Gp]; exact hBp') ⟨(rn p pg).1.trans ((pk_un px).trans hcc.1), hcc.2.1, fun c0 => ?_⟩ ⟨(rn p pg).2.trans pk_us, ha.2.1, fun a0 => ?_⟩ clp' ?_
    · refine ⟨by rw [Gn c cl (fun q => pc q.symm)]; exact (hcc.2.2 c0).1, ?_⟩
      rw [Un c c0 cl (fun q => pc q.symm) (fun q => by
        subst q
        exact dp c (hcc.2.2 c0).1 ((mx c).mpr (Or.inl (ha.2.2 c0).1)))]
      exact (hcc.2.2 c0).2
    · refine ⟨by rw [Gn a (fun q => xa q.symm) ap]; exact (ha.2.2 a0).1, ?_⟩
      rw [hU', pk_un a0, pk_un (fun q => xa q.symm), pk_un ap, pk_us]
    · rw [Gp, Gn a (fun q => xa q.symm) ap, Gn c cl (fun q => pc q.symm), hV']
  have ndx : sp_nd u' G' r := by
    refine sp_nd_mk (l := p) (r := b) x1 x2 (by rw [Gx, ep']; exact hAx') (by rw [Gx]; exact hBp) ⟨(rn r xg).1.trans pk_us, p2, fun _ => ?_⟩ ⟨(rn r xg).2.trans ((pk_un (fun q => px q.symm)).trans hb.1), hb.2.1, fun b0 => ?_⟩ clx' ?_
    · refine ⟨by rw [Gp, sp_N_app]; exact List.mem_append_right _ (List.mem_cons_self ..), ?_⟩
      rw [hU', pk_un (by omega), pk_un px, pk_us]
    · refine ⟨by rw [Gn b (fun q => xb q.symm) bp]; exact (hb.2.2 b0).1, ?_⟩
      rw [Un b b0 (fun q => xb q.symm) bp (fun q => by
        subst q
        exact dx b (ha.2.2 b0).1 (hb.2.2 b0).1)]
      exact (hb.2.2 b0).2
    · rw [Gx, Gn b (fun q => xb q.symm) bp, Gp, hV']
      exact ep'
  refine h u' G' ⟨sp_rot hfo hx hp ho hpg g48 (fun a0 => (ha.2.2 a0).2) hG hU' sv (fun y y1 y2 y3 => ?_) (fun g0 => ?_) ndp ndx, hF, hN, hM, hQ, Gn, Gx, ?_⟩
  · have := rn y y3
    rw [this.1, this.2, pk_un y2, pk_un y1]
    exact ⟨rfl, rfl⟩
  · have gp : g ≠ p := fun q => pg q.symm
    have gx : g ≠ r := fun q => xg q.symm
    rcases hrel with ⟨z, _, _⟩ | ⟨_, z1, z2, z3⟩ | ⟨_, z1, z2, z3⟩
    · exact absurd z g0
    · left
      have z1' : upd (sg_L u) r (nI p) g = nI p := z1
      rw [pk_un gx] at z1'
      refine ⟨z1', by rw [z2, pk_us], ?_⟩
      rw [z3]
      exact pk_un gp
    · right
      have z1' : ¬ upd (sg_L u) r (nI p) g = nI p := z1
      rw [pk_un gx] at z1'
      refine ⟨z1', ?_, by rw [z3, pk_us]⟩
      rw [z2]
      exact pk_un gx
  · rw [hU', pk_un (by omega), pk_us]
theorem sp_lift {post : SX → Prop} {u : SX} {G : Nat → List sp_E} {rs : List Nat} {x p : Nat} (hfo : sp_fo u G rs) (hx : x ∈ sp_D G rs) (hp : p ∈ sp_D G rs) (ho : sp_over u G p x)
    (clx : sp_cl u x) (clp : sp_cl u p)
    (h : ∀ u' G' g, sg_U u p = nI g → g ≤ 48 → sp_lf u G rs x p g u' G' → post u') : wpX_lift post u (nI x) := by
  have x1 := (hfo.2.2.2.1 x hx).1
  have p1 := (hfo.2.2.2.1 p hp).1
  obtain ⟨g, hg, g48, xg, pg⟩ : ∃ g, sg_U u p = nI g ∧ g ≤ 48 ∧ x ≠ g ∧ p ≠ g := by
    by_cases z : sg_U u p = 0
    · exact ⟨0, z, by omega, by omega, by omega⟩
    · obtain ⟨g, hgD, hgo⟩ := sp_fo_parent hfo hp z
      have l1 := ho.2.2.2.2.2
      have l2 := hgo.2.2.2.2.2
      exact ⟨g, hgo.2.2.1, (hfo.2.2.2.1 g hgD).2.1, fun q => by rw [q] at l1; omega, fun q => by rw [q] at l2; omega⟩
  by_cases hc : sg_L u p = nI x
  · exact sp_liftL hfo hx hp ho hg g48 xg pg clx clp hc (fun u' G' z => h u' G' g hg g48 z)
  · exact sp_liftR hfo hx hp ho hg g48 xg pg clx clp hc (fun u' G' z => h u' G' g hg g48 z)
end
section
/-! splay -/
def sp_SI (u0 : SX) (G0 : Nat → List sp_E) (rs : List Nat) (Lr : List sp_E) (x : Nat) (u : SX) (G : Nat → List sp_E) (r : Nat) : Prop :=
  sp_fo u G (r :: rs) ∧ G r = Lr ∧ (∀ q ∈ rs, G q = G0 q) ∧ x ∈ sp_N Lr ∧ (∀ y ∈ sp_D G (r :: rs), x ∈ sp_N (G y) → sp_cl u y) ∧ sp_F u0 u
theorem sp_D_cons (G : Nat → List sp_E) (r : Nat) (rs : List Nat) : sp_D G (r :: rs) = sp_N (G r) ++ sp_D G rs := List.flatMap_cons
theorem sp_inD {G : Nat → List sp_E} {r z : Nat} {rs : List Nat} (h : z ∈ sp_N (G r)) : z ∈ sp_D G (r :: rs) := by
  rw [sp_D_cons]
  exact List.mem_append_left _ h
theorem sp_root {u : SX} {G : Nat → List sp_E} {rs : List Nat} {r x : Nat} (hfo : sp_fo u G (r :: rs)) (hx : x ∈ sp_N (G r)) (hu : sg_U u x = 0) : x = r := by
  by_cases q : x = r
  · exact q
  · have ht := sp_fo_tree hfo (List.mem_cons_self ..) (sp_in0 hfo.1 hx)
    obtain ⟨y, hy, ho⟩ := sp_parent hfo.1 ht.1 ht.2 x hx q
    have hy1 := (ht.2 y hy).1
    have hy2 := (ht.2 y hy).2.1
    have := ho.2.2.1
    rw [hu] at this
    exact absurd this.symm (nI_ne0 (by omega) (by omega))
theorem sp_step {post : SX → Prop} {u0 : SX} {G0 : Nat → List sp_E} {rs : List Nat} {Lr : List sp_E} {x : Nat} {u : SX} {G : Nat → List sp_E} {r z : Nat}
    (hI : sp_SI u0 G0 rs Lr x u G r) (hz : z ∈ sp_N Lr) (hu : ¬ sg_U u z = 0) (clz : sp_cl u z) (clp : ∀ p ∈ sp_D G (r :: rs), sp_over u G p z → sp_cl u p)
    (h : ∀ u' G' r' p, p ∈ sp_N Lr → sp_over u G p z → sp_SI u0 G0 rs Lr x u' G' r' → (∀ y, y ≠ z → y ≠ p → G' y = G y) → G' z = G p → sg_U u' z = sg_U u p → post u') :
    wpX_lift post u (nI z) := by
  obtain ⟨hfo, hr, hrs, hx, hcp, hF⟩ := hI
  rw [← hr] at hz hx
  have r0 := sp_in0 hfo.1 hz
  have ht := sp_fo_tree hfo (List.mem_cons_self ..) r0
  have zr : z ≠ r := fun q => hu (by rw [q]; exact (hfo.2.2.2.2 r (List.mem_cons_self ..) r0).2.2)
  obtain ⟨p, hp, ho⟩ := sp_parent hfo.1 ht.1 ht.2 z hz zr
  have prs : p ∉ rs := fun q => by
    have h1 := sp_nd_self (ht.2 p hp)
    have h2 := hfo.2.2.1
    rw [sp_D_cons, List.nodup_append] at h2
    exact h2.2.2 p hp p (sp_D_mem.mpr ⟨p, q, h1⟩) rfl
  refine sp_lift hfo (sp_inD hz) (sp_inD hp) ho clz (clp p (sp_inD hp) ho) ?_
  intro u' G' g hg g48 hlf
  obtain ⟨⟨hfo', hroot⟩, hF', hN, hM, hQ, hn, hzp, hU⟩ := hlf
  have hmap : (r :: rs).map (fun q => if q = p then z else q) = (if r = p then z else r) :: rs := by
    rw [List.map_cons]
    congr 1
    have : ∀ l : List Nat, p ∉ l → l.map (fun q => if q = p then z else q) = l := by
      intro l
      induction l with
      | nil => intro _; rfl
      | cons a l ih =>
        intro hl
        rw [List.map_cons, ih (fun q => hl (List.mem_cons_of_mem _ q)), if_neg (fun q => hl (by rw [q]; exact List.mem_cons_self ..))]
    exact this rs prs
  rw [hmap] at hfo'
  have gr := hroot r (List.mem_cons_self ..)
  have grs : ∀ q ∈ rs, G' q = G q := fun q hq => by
    have := hroot q (List.mem_cons_of_mem _ hq)
    rw [if_neg (fun e => prs (by rw [← e]; exact hq))] at this
    exact this
  have hD : sp_D G' ((if r = p then z else r) :: rs) = sp_D G (r :: rs) := by
    rw [sp_D_cons, sp_D_cons, gr, sp_D_eq grs]
  refine h u' G' (if r = p then z else r) p (by rw [← hr]; exact hp) ho ⟨hfo', by rw [gr, hr], fun q hq => (grs q hq).trans (hrs q hq), by rw [← hr]; exact hx, ?_, sp_F_tr hF hF'⟩ hn hzp (by rw [hU, hg])
  rw [hD]
  intro y hy hxy
  have fl : ∀ y, sp_cl u y → sp_cl u' y := fun y q => ⟨by rw [hN]; exact q.1, by rw [hM]; exact q.2.1, by rw [hQ]; exact q.2.2⟩
  by_cases yz : y = z
  · rw [yz]; exact fl z clz
  by_cases yp : y = p
  · rw [yp]; exact fl p (clp p (sp_inD hp) ho)
  rw [hn y yz yp] at hxy
  exact fl y (hcp y hy hxy)
theorem sp_SI_x {u0 : SX} {G0 : Nat → List sp_E} {rs : List Nat} {Lr : List sp_E} {x : Nat} {u : SX} {G : Nat → List sp_E} {r : Nat} (hI : sp_SI u0 G0 rs Lr x u G r) :
    x ∈ sp_D G (r :: rs) ∧ x ∈ sp_N (G x) ∧ sp_cl u x := by
  have h1 : x ∈ sp_D G (r :: rs) := sp_inD (by rw [hI.2.1]; exact hI.2.2.2.1)
  have h2 := sp_nd_self (hI.1.2.2.2.1 x h1)
  exact ⟨h1, h2, hI.2.2.2.2.1 x h1 h2⟩
theorem sp_sp92 {post : SX → Prop} {J : Int32 → Int32 → Int32 → Int32 → Int32 → Int32 → (Nat → Int32) → (Nat → Int32) → (Nat → Int32) → (Nat → Int32) → (Nat → Int32) → (Nat → Int32) → (Nat → Int32) → (Nat → Int32) → (Nat → Int32) → (Nat → Int32) → (Nat → Int32) → (Nat → Int32) → (Nat → Int32) → (Nat → Int32) → (Nat → Int32) → Prop} {u0 : SX} {G0 : Nat → List sp_E} {rs : List Nat} {Lr : List sp_E} {x i : Nat} {u : SX} {G : Nat → List sp_E} {r : Nat}
    (hI : sp_SI u0 G0 rs Lr x u G r) (hu : ¬ sg_U u x = 0)
    (h : ∀ u' G' r', sp_SI u0 G0 rs Lr x u' G' r' → (G x).length < (G' x).length → J (nI (i + 1)) u'.1 u'.2.1 u'.2.2.1 u'.2.2.2.1 u'.2.2.2.2.1 u'.2.2.2.2.2.1 u'.2.2.2.2.2.2.1 u'.2.2.2.2.2.2.2.1 u'.2.2.2.2.2.2.2.2.1 u'.2.2.2.2.2.2.2.2.2.1 u'.2.2.2.2.2.2.2.2.2.2.1 u'.2.2.2.2.2.2.2.2.2.2.2.1 u'.2.2.2.2.2.2.2.2.2.2.2.2.1 u'.2.2.2.2.2.2.2.2.2.2.2.2.2.1 u'.2.2.2.2.2.2.2.2.2.2.2.2.2.2.1 u'.2.2.2.2.2.2.2.2.2.2.2.2.2.2.2.1 u'.2.2.2.2.2.2.2.2.2.2.2.2.2.2.2.2.1 u'.2.2.2.2.2.2.2.2.2.2.2.2.2.2.2.2.2.1 u'.2.2.2.2.2.2.2.2.2.2.2.2.2.2.2.2.2.2.1 u'.2.2.2.2.2.2.2.2.2.2.2.2.2.2.2.2.2.2.2) : wX_splay_92 post J (nI x) (nI i) u.1 u.2.1 u.2.2.1 u.2.2.2.1 u.2.2.2.2.1 u.2.2.2.2.2.1 u.2.2.2.2.2.2.1 u.2.2.2.2.2.2.2.1 u.2.2.2.2.2.2.2.2.1 u.2.2.2.2.2.2.2.2.2.1 u.2.2.2.2.2.2.2.2.2.2.1 u.2.2.2.2.2.2.2.2.2.2.2.1 u.2.2.2.2.2.2.2.2.2.2.2.2.1 u.2.2.2.2.2.2.2.2.2.2.2.2.2.1 u.2.2.2.2.2.2.2.2.2.2.2.2.2.2.1 u.2.2.2.2.2.2.2.2.2.2.2.2.2.2.2.1 u.2.2.2.2.2.2.2.2.2.2.2.2.2.2.2.2.1 u.2.2.2.2.2.2.2.2.2.2.2.2.2.2.2.2.2.1 u.2.2.2.2.2.2.2.2.2.2.2.2.2.2.2.2.2.2.1 u.2.2.2.2.2.2.2.2.2.2.2.2.2.2.2.2.2.2.2 := by
  unfold wX_splay_92
  have hx := sp_SI_x hI
  refine sp_step (u := u) hI hI.2.2.2.1 hu hx.2.2 (fun p hp ho => hI.2.2.2.2.1 p hp ho.2.2.2.2.1) ?_
  intro u' G' r' p hp ho hI' hn hz hU
  show ∀ q : Int32, q = nI i + 1 → J q u'.1 u'.2.1 u'.2.2.1 u'.2.2.2.1 u'.2.2.2.2.1 u'.2.2.2.2.2.1 u'.2.2.2.2.2.2.1 u'.2.2.2.2.2.2.2.1 u'.2.2.2.2.2.2.2.2.1 u'.2.2.2.2.2.2.2.2.2.1 u'.2.2.2.2.2.2.2.2.2.2.1 u'.2.2.2.2.2.2.2.2.2.2.2.1 u'.2.2.2.2.2.2.2.2.2.2.2.2.1 u'.2.2.2.2.2.2.2.2.2.2.2.2.2.1 u'.2.2.2.2.2.2.2.2.2.2.2.2.2.2.1 u'.2.2.2.2.2.2.2.2.2.2.2.2.2.2.2.1 u'.2.2.2.2.2.2.2.2.2.2.2.2.2.2.2.2.1 u'.2.2.2.2.2.2.2.2.2.2.2.2.2.2.2.2.2.1 u'.2.2.2.2.2.2.2.2.2.2.2.2.2.2.2.2.2.2.1 u'.2.2.2.2.2.2.2.2.2.2.2.2.2.2.2.2.2.2.2
  intro q eq
  rw [eq, nI_1]
  exact h u' G' r' hI' (by rw [hz]; exact ho.2.2.2.2.2)
theorem sp_sp89 {post : SX → Prop} {J : Int32 → Int32 → Int32 → Int32 → Int32 → Int32 → (Nat → Int32) → (Nat → Int32) → (Nat → Int32) → (Nat → Int32) → (Nat → Int32) → (Nat → Int32) → (Nat → Int32) → (Nat → Int32) → (Nat → Int32) → (Nat → Int32) → (Nat → Int32) → (Nat → Int32) → (Nat → Int32) → (Nat → Int32) → (Nat → Int32) → Prop} {u0 : SX} {G0 : Nat → List sp_E} {rs : List Nat} {Lr : List sp_E} {x i p g : Nat} {u : SX} {G : Nat → List sp_E} {r : Nat}
    (hI : sp_SI u0 G0 rs Lr x u G r) (hp : p ∈ sp_N Lr) (ho : sp_over u G p x) (hg : sg_U u p = nI g) (g0 : ¬ nI g = 0) {z : Int32} (hz : z = nI x ∨ z = nI p)
    (h : ∀ u' G' r', sp_SI u0 G0 rs Lr x u' G' r' → (G x).length < (G' x).length → J (nI (i + 1)) u'.1 u'.2.1 u'.2.2.1 u'.2.2.2.1 u'.2.2.2.2.1 u'.2.2.2.2.2.1 u'.2.2.2.2.2.2.1 u'.2.2.2.2.2.2.2.1 u'.2.2.2.2.2.2.2.2.1 u'.2.2.2.2.2.2.2.2.2.1 u'.2.2.2.2.2.2.2.2.2.2.1 u'.2.2.2.2.2.2.2.2.2.2.2.1 u'.2.2.2.2.2.2.2.2.2.2.2.2.1 u'.2.2.2.2.2.2.2.2.2.2.2.2.2.1 u'.2.2.2.2.2.2.2.2.2.2.2.2.2.2.1 u'.2.2.2.2.2.2.2.2.2.2.2.2.2.2.2.1 u'.2.2.2.2.2.2.2.2.2.2.2.2.2.2.2.2.1 u'.2.2.2.2.2.2.2.2.2.2.2.2.2.2.2.2.2.1 u'.2.2.2.2.2.2.2.2.2.2.2.2.2.2.2.2.2.2.1 u'.2.2.2.2.2.2.2.2.2.2.2.2.2.2.2.2.2.2.2) : wX_splay_89 post J (nI x) (nI i) z u.1 u.2.1 u.2.2.1 u.2.2.2.1 u.2.2.2.2.1 u.2.2.2.2.2.1 u.2.2.2.2.2.2.1 u.2.2.2.2.2.2.2.1 u.2.2.2.2.2.2.2.2.1 u.2.2.2.2.2.2.2.2.2.1 u.2.2.2.2.2.2.2.2.2.2.1 u.2.2.2.2.2.2.2.2.2.2.2.1 u.2.2.2.2.2.2.2.2.2.2.2.2.1 u.2.2.2.2.2.2.2.2.2.2.2.2.2.1 u.2.2.2.2.2.2.2.2.2.2.2.2.2.2.1 u.2.2.2.2.2.2.2.2.2.2.2.2.2.2.2.1 u.2.2.2.2.2.2.2.2.2.2.2.2.2.2.2.2.1 u.2.2.2.2.2.2.2.2.2.2.2.2.2.2.2.2.2.1 u.2.2.2.2.2.2.2.2.2.2.2.2.2.2.2.2.2.2.1 u.2.2.2.2.2.2.2.2.2.2.2.2.2.2.2.2.2.2.2 := by
  have hx := sp_SI_x hI
  have pD : p ∈ sp_D G (r :: rs) := sp_inD (by rw [hI.2.1]; exact hp)
  have p2 := (hI.1.2.2.2.1 p pD).2.1
  unfold wX_splay_89
  rcases hz with rfl | rfl
  · refine sp_step (u := u) hI hI.2.2.2.1 (by rw [ho.2.2.1]; exact nI_ne0 (by have := (hI.1.2.2.2.1 p pD).1; omega) (by omega)) hx.2.2 (fun p hp ho => hI.2.2.2.2.1 p hp ho.2.2.2.2.1) ?_
    intro u' G' r' p' hp' ho' hI' hn hz hU
    have : p' = p := by
      have e := ho'.2.2.1
      have p48 := (hI.1.2.2.2.1 p' (sp_inD (by rw [hI.2.1]; exact hp'))).2.1
      rw [ho.2.2.1, nI_eq (by omega) (by omega)] at e
      exact e.symm
    subst this
    show wX_splay_92 post J (nI x) (nI i) u'.1 u'.2.1 u'.2.2.1 u'.2.2.2.1 u'.2.2.2.2.1 u'.2.2.2.2.2.1 u'.2.2.2.2.2.2.1 u'.2.2.2.2.2.2.2.1 u'.2.2.2.2.2.2.2.2.1 u'.2.2.2.2.2.2.2.2.2.1 u'.2.2.2.2.2.2.2.2.2.2.1 u'.2.2.2.2.2.2.2.2.2.2.2.1 u'.2.2.2.2.2.2.2.2.2.2.2.2.1 u'.2.2.2.2.2.2.2.2.2.2.2.2.2.1 u'.2.2.2.2.2.2.2.2.2.2.2.2.2.2.1 u'.2.2.2.2.2.2.2.2.2.2.2.2.2.2.2.1 u'.2.2.2.2.2.2.2.2.2.2.2.2.2.2.2.2.1 u'.2.2.2.2.2.2.2.2.2.2.2.2.2.2.2.2.2.1 u'.2.2.2.2.2.2.2.2.2.2.2.2.2.2.2.2.2.2.1 u'.2.2.2.2.2.2.2.2.2.2.2.2.2.2.2.2.2.2.2
    refine sp_sp92 hI' (by rw [hU, hg]; exact g0) (fun u2 G2 r2 hI2 hl => h u2 G2 r2 hI2 ?_)
    rw [hz] at hl
    have := ho.2.2.2.2.2
    omega
  · have hpg : ∀ g' ∈ sp_D G (r :: rs), sp_over u G g' p → sp_cl u g' := fun g' hg' ho' => by
      refine hI.2.2.2.2.1 g' hg' ?_
      have hnd := hI.1.2.2.2.1 g' hg'
      exact sp_sub hI.1.1 hnd (sp_fo_below hI.1 hg') p ho'.2.2.2.2.1 x ho.2.2.2.2.1
    refine sp_step (u := u) hI hp (by rw [hg]; exact g0) (hI.2.2.2.2.1 p pD ho.2.2.2.2.1) hpg ?_
    intro u' G' r' g' hg' ho' hI' hn hz hU
    have l1 := ho.2.2.2.2.2
    have l2 := ho'.2.2.2.2.2
    have hxe : G' x = G x := hn x (fun q => by rw [q] at l1; omega) (fun q => by rw [q] at l1; omega)
    show wX_splay_92 post J (nI x) (nI i) u'.1 u'.2.1 u'.2.2.1 u'.2.2.2.1 u'.2.2.2.2.1 u'.2.2.2.2.2.1 u'.2.2.2.2.2.2.1 u'.2.2.2.2.2.2.2.1 u'.2.2.2.2.2.2.2.2.1 u'.2.2.2.2.2.2.2.2.2.1 u'.2.2.2.2.2.2.2.2.2.2.1 u'.2.2.2.2.2.2.2.2.2.2.2.1 u'.2.2.2.2.2.2.2.2.2.2.2.2.1 u'.2.2.2.2.2.2.2.2.2.2.2.2.2.1 u'.2.2.2.2.2.2.2.2.2.2.2.2.2.2.1 u'.2.2.2.2.2.2.2.2.2.2.2.2.2.2.2.1 u'.2.2.2.2.2.2.2.2.2.2.2.2.2.2.2.2.1 u'.2.2.2.2.2.2.2.2.2.2.2.2.2.2.2.2.2.1 u'.2.2.2.2.2.2.2.2.2.2.2.2.2.2.2.2.2.2.1 u'.2.2.2.2.2.2.2.2.2.2.2.2.2.2.2.2.2.2.2
    refine sp_sp92 hI' (fun q => ?_) (fun u2 G2 r2 hI2 hl => h u2 G2 r2 hI2 (by rw [hxe] at hl; exact hl))
    have e := sp_root hI'.1 (by rw [hI'.2.1]; exact hI'.2.2.2.1) q
    have e2 := hI'.2.1
    rw [← e, hxe] at e2
    have hr0 := sp_in0 hI.1.1 (show x ∈ sp_N (G r) by rw [hI.2.1]; exact hI.2.2.2.1)
    have ht := sp_fo_tree hI.1 (List.mem_cons_self ..) hr0
    rcases sp_small hI.1.1 ht.1 ht.2 p (by rw [hI.2.1]; exact hp) with q1 | q1
    · rw [q1, hI.2.1, ← e2] at l1
      omega
    · rw [hI.2.1, ← e2] at q1
      omega
theorem sp_spl {post : SX → Prop} {u0 : SX} {G0 : Nat → List sp_E} {rs : List Nat} {Lr : List sp_E} {x : Nat}
    (h : ∀ u' G', sp_fo u' G' (x :: rs) → G' x = Lr → (∀ q ∈ rs, G' q = G0 q) → sp_cl u' x → sp_F u0 u' → post u') :
    ∀ (n i : Nat) (u : SX) (G : Nat → List sp_E) (r : Nat), i ≤ 48 → 48 - i < n → i + 1 ≤ (G x).length → sp_SI u0 G0 rs Lr x u G r → wX_splay_2 post (nI x) n (nI i) u.1 u.2.1 u.2.2.1 u.2.2.2.1 u.2.2.2.2.1 u.2.2.2.2.2.1 u.2.2.2.2.2.2.1 u.2.2.2.2.2.2.2.1 u.2.2.2.2.2.2.2.2.1 u.2.2.2.2.2.2.2.2.2.1 u.2.2.2.2.2.2.2.2.2.2.1 u.2.2.2.2.2.2.2.2.2.2.2.1 u.2.2.2.2.2.2.2.2.2.2.2.2.1 u.2.2.2.2.2.2.2.2.2.2.2.2.2.1 u.2.2.2.2.2.2.2.2.2.2.2.2.2.2.1 u.2.2.2.2.2.2.2.2.2.2.2.2.2.2.2.1 u.2.2.2.2.2.2.2.2.2.2.2.2.2.2.2.2.1 u.2.2.2.2.2.2.2.2.2.2.2.2.2.2.2.2.2.1 u.2.2.2.2.2.2.2.2.2.2.2.2.2.2.2.2.2.2.1 u.2.2.2.2.2.2.2.2.2.2.2.2.2.2.2.2.2.2.2 := by
  intro n
  induction n with
  | zero => intro i u G r _ hn; omega
  | succ n ih =>
    intro i u G r hi hn hl hI
    have hx := sp_SI_x hI
    have l48 := sp_fo_len1 hI.1 hx.1
    have x1 := (hI.1.2.2.2.1 x hx.1).1
    have x2 := (hI.1.2.2.2.1 x hx.1).2.1
    have ix : vp_in (nI x) 49 := vp_in_nI (by omega) (by omega)
    have cx : (nI x).toNatClampNeg = x := nI_clamp (by omega)
    have next : ∀ u' G' r', sp_SI u0 G0 rs Lr x u' G' r' → (G x).length < (G' x).length → wX_splay_2 post (nI x) n (nI (i + 1)) u'.1 u'.2.1 u'.2.2.1 u'.2.2.2.1 u'.2.2.2.2.1 u'.2.2.2.2.2.1 u'.2.2.2.2.2.2.1 u'.2.2.2.2.2.2.2.1 u'.2.2.2.2.2.2.2.2.1 u'.2.2.2.2.2.2.2.2.2.1 u'.2.2.2.2.2.2.2.2.2.2.1 u'.2.2.2.2.2.2.2.2.2.2.2.1 u'.2.2.2.2.2.2.2.2.2.2.2.2.1 u'.2.2.2.2.2.2.2.2.2.2.2.2.2.1 u'.2.2.2.2.2.2.2.2.2.2.2.2.2.2.1 u'.2.2.2.2.2.2.2.2.2.2.2.2.2.2.2.1 u'.2.2.2.2.2.2.2.2.2.2.2.2.2.2.2.2.1 u'.2.2.2.2.2.2.2.2.2.2.2.2.2.2.2.2.2.1 u'.2.2.2.2.2.2.2.2.2.2.2.2.2.2.2.2.2.2.1 u'.2.2.2.2.2.2.2.2.2.2.2.2.2.2.2.2.2.2.2 :=
      fun u' G' r' hI' hl' => ih (i + 1) u' G' r' (by omega) (by omega) (by omega) hI'
    rw [wX_splay_2]
    refine br_f (nI_ge (a := i) (b := 48) (by omega) (by omega)) ⟨ix, ?_⟩
    rw [cx]
    by_cases hu : sg_U u x = 0
    · refine br_t hu ?_
      have e := sp_root hI.1 (by rw [hI.2.1]; exact hI.2.2.2.1) hu
      have hI1 := hI.1
      have hI2 := hI.2.1
      rw [← e] at hI1 hI2
      exact h u G hI1 hI2 hI.2.2.1 hx.2.2 hI.2.2.2.2.2
    · refine br_f hu ⟨ix, ?_⟩
      have hr0 := sp_in0 hI.1.1 (show x ∈ sp_N (G r) by rw [hI.2.1]; exact hI.2.2.2.1)
      have ht := sp_fo_tree hI.1 (List.mem_cons_self ..) hr0
      obtain ⟨p, hp, ho⟩ := sp_parent hI.1.1 ht.1 ht.2 x (by rw [hI.2.1]; exact hI.2.2.2.1) (fun q => hu (by rw [q]; exact (hI.1.2.2.2.2 r (List.mem_cons_self ..) hr0).2.2))
      have hpD := sp_inD (rs := rs) hp
      have p1 := (hI.1.2.2.2.1 p hpD).1
      have p2 := (hI.1.2.2.2.1 p hpD).2.1
      have ip : vp_in (nI p) 49 := vp_in_nI (by omega) (by omega)
      have cp : (nI p).toNatClampNeg = p := nI_clamp (by omega)
      refine nm_r (e' := nI p) ho.2.2.1 ⟨ip, ?_⟩
      rw [cp]
      by_cases hg : sg_U u p = 0
      · refine nm_r (e' := 0) hg (br_t rfl ?_)
        exact sp_sp92 hI hu next
      · obtain ⟨g, hgD, hgo⟩ := sp_fo_parent hI.1 hpD hg
        have g1 := (hI.1.2.2.2.1 g hgD).1
        have g2 := (hI.1.2.2.2.1 g hgD).2.1
        have ig : vp_in (nI g) 49 := vp_in_nI (by omega) (by omega)
        have g0 : ¬ nI g = 0 := nI_ne0 (by omega) (by omega)
        refine nm_r (e' := nI g) hgo.2.2.1 (br_f g0 ⟨ig, ?_⟩)
        have key : ∀ z : Int32, z = nI x ∨ z = nI p → wX_splay_89 post (wX_splay_2 post (nI x) n) (nI x) (nI i) z u.1 u.2.1 u.2.2.1 u.2.2.2.1 u.2.2.2.2.1 u.2.2.2.2.2.1 u.2.2.2.2.2.2.1 u.2.2.2.2.2.2.2.1 u.2.2.2.2.2.2.2.2.1 u.2.2.2.2.2.2.2.2.2.1 u.2.2.2.2.2.2.2.2.2.2.1 u.2.2.2.2.2.2.2.2.2.2.2.1 u.2.2.2.2.2.2.2.2.2.2.2.2.1 u.2.2.2.2.2.2.2.2.2.2.2.2.2.1 u.2.2.2.2.2.2.2.2.2.2.2.2.2.2.1 u.2.2.2.2.2.2.2.2.2.2.2.2.2.2.2.1 u.2.2.2.2.2.2.2.2.2.2.2.2.2.2.2.2.1 u.2.2.2.2.2.2.2.2.2.2.2.2.2.2.2.2.2.1 u.2.2.2.2.2.2.2.2.2.2.2.2.2.2.2.2.2.2.1 u.2.2.2.2.2.2.2.2.2.2.2.2.2.2.2.2.2.2.2 :=
          fun z hz => sp_sp89 hI (by rw [← hI.2.1]; exact hp) ho hgo.2.2.1 g0 hz next
        have k76 : ∀ z0 : Int32, wX_splay_76 post (wX_splay_2 post (nI x) n) (nI x) (nI i) (nI p) z0 u.1 u.2.1 u.2.2.1 u.2.2.2.1 u.2.2.2.2.1 u.2.2.2.2.2.1 u.2.2.2.2.2.2.1 u.2.2.2.2.2.2.2.1 u.2.2.2.2.2.2.2.2.1 u.2.2.2.2.2.2.2.2.2.1 u.2.2.2.2.2.2.2.2.2.2.1 u.2.2.2.2.2.2.2.2.2.2.2.1 u.2.2.2.2.2.2.2.2.2.2.2.2.1 u.2.2.2.2.2.2.2.2.2.2.2.2.2.1 u.2.2.2.2.2.2.2.2.2.2.2.2.2.2.1 u.2.2.2.2.2.2.2.2.2.2.2.2.2.2.2.1 u.2.2.2.2.2.2.2.2.2.2.2.2.2.2.2.2.1 u.2.2.2.2.2.2.2.2.2.2.2.2.2.2.2.2.2.1 u.2.2.2.2.2.2.2.2.2.2.2.2.2.2.2.2.2.2.1 u.2.2.2.2.2.2.2.2.2.2.2.2.2.2.2.2.2.2.2 :=
          fun z0 => ⟨fun _ => key _ (Or.inl rfl), fun _ => key _ (Or.inr rfl)⟩
        have k68 : ∀ z0 z1 : Int32, wX_splay_68 post (wX_splay_2 post (nI x) n) (nI x) (nI i) (nI p) z0 z1 u.1 u.2.1 u.2.2.1 u.2.2.2.1 u.2.2.2.2.1 u.2.2.2.2.2.1 u.2.2.2.2.2.2.1 u.2.2.2.2.2.2.2.1 u.2.2.2.2.2.2.2.2.1 u.2.2.2.2.2.2.2.2.2.1 u.2.2.2.2.2.2.2.2.2.2.1 u.2.2.2.2.2.2.2.2.2.2.2.1 u.2.2.2.2.2.2.2.2.2.2.2.2.1 u.2.2.2.2.2.2.2.2.2.2.2.2.2.1 u.2.2.2.2.2.2.2.2.2.2.2.2.2.2.1 u.2.2.2.2.2.2.2.2.2.2.2.2.2.2.2.1 u.2.2.2.2.2.2.2.2.2.2.2.2.2.2.2.2.1 u.2.2.2.2.2.2.2.2.2.2.2.2.2.2.2.2.2.1 u.2.2.2.2.2.2.2.2.2.2.2.2.2.2.2.2.2.2.1 u.2.2.2.2.2.2.2.2.2.2.2.2.2.2.2.2.2.2.2 :=
          fun z0 z1 => ⟨fun _ => k76 _, fun _ => k76 _⟩
        have k53 : ∀ z0 : Int32, wX_splay_53 post (wX_splay_2 post (nI x) n) (nI x) (nI i) (nI p) z0 u.1 u.2.1 u.2.2.1 u.2.2.2.1 u.2.2.2.2.1 u.2.2.2.2.2.1 u.2.2.2.2.2.2.1 u.2.2.2.2.2.2.2.1 u.2.2.2.2.2.2.2.2.1 u.2.2.2.2.2.2.2.2.2.1 u.2.2.2.2.2.2.2.2.2.2.1 u.2.2.2.2.2.2.2.2.2.2.2.1 u.2.2.2.2.2.2.2.2.2.2.2.2.1 u.2.2.2.2.2.2.2.2.2.2.2.2.2.1 u.2.2.2.2.2.2.2.2.2.2.2.2.2.2.1 u.2.2.2.2.2.2.2.2.2.2.2.2.2.2.2.1 u.2.2.2.2.2.2.2.2.2.2.2.2.2.2.2.2.1 u.2.2.2.2.2.2.2.2.2.2.2.2.2.2.2.2.2.1 u.2.2.2.2.2.2.2.2.2.2.2.2.2.2.2.2.2.2.1 u.2.2.2.2.2.2.2.2.2.2.2.2.2.2.2.2.2.2.2 :=
          fun z0 => ⟨ip, fun _ => k68 _ _, fun _ => k68 _ _⟩
        exact ⟨fun _ => k53 _, fun _ => k53 _⟩
theorem sp_splay {post : SX → Prop} {u : SX} {G : Nat → List sp_E} {r : Nat} {rs : List Nat} {x : Nat} (hfo : sp_fo u G (r :: rs)) (hx : x ∈ sp_N (G r)) (hc : ∀ y ∈ sp_D G (r :: rs), x ∈ sp_N (G y) → sp_cl u y)
    (h : ∀ u' G', sp_fo u' G' (x :: rs) → G' x = G r → (∀ q ∈ rs, G' q = G q) → sp_cl u' x → sp_F u u' → post u') : wpX_splay post u (nI x) := by
  refine ⟨49, ?_⟩
  refine sp_spl (u0 := u) (G0 := G) (rs := rs) (Lr := G r) h 49 0 u G r (by omega) (by omega) ?_ ⟨hfo, rfl, fun _ _ => rfl, hx, hc, sp_F_rfl u⟩
  have := sp_nd_self (hfo.2.2.2.1 x (sp_inD hx))
  rw [← sp_N_len]
  exact List.length_pos_of_mem this
end
section
/-! bring -/
theorem sp_uniq : ∀ (A A' B B' : List Nat) (x : Nat), A ++ x :: B = A' ++ x :: B' → x ∉ A → x ∉ A' → A.length = A'.length := by
  intro A
  induction A with
  | nil =>
    intro A' B B' x h _ h2
    cases A' with
    | nil => rfl
    | cons a A' =>
      rw [List.nil_append, List.cons_append, List.cons.injEq] at h
      exact absurd (by rw [h.1]; exact List.mem_cons_self ..) h2
  | cons c A ih =>
    intro A' B B' x h h1 h2
    cases A' with
    | nil =>
      rw [List.nil_append, List.cons_append, List.cons.injEq] at h
      exact absurd (by rw [h.1]; exact List.mem_cons_self ..) h1
    | cons a A' =>
      rw [List.cons_append, List.cons_append, List.cons.injEq] at h
      rw [List.length_cons, List.length_cons, ih A' B B' x h.2 (fun q => h1 (List.mem_cons_of_mem _ q)) (fun q => h2 (List.mem_cons_of_mem _ q))]
theorem sp_uniqE {A A' B B' : List sp_E} {x : Nat} {v v' : Int32} (h : A ++ (x, v) :: B = A' ++ (x, v') :: B') (hn : (sp_N (A ++ (x, v) :: B)).Nodup) : A.length = A'.length := by
  have h1 := hn
  have h2 := hn
  rw [h] at h2
  have h3 := congrArg sp_N h
  rw [sp_N_app, sp_N_cons, List.nodup_append] at h1 h2
  rw [sp_N_app, sp_N_cons, sp_N_app, sp_N_cons] at h3
  have := sp_uniq _ _ _ _ x h3 (fun q => h1.2.2 x q x (List.mem_cons_self ..) rfl) (fun q => h2.2.2 x q x (List.mem_cons_self ..) rfl)
  rw [sp_N_len, sp_N_len] at this
  exact this
theorem sp_sm_cl {u u' : SX} {y : Nat} (s : sp_sm u u' y) (h : sp_cl u y) : sp_cl u' y :=
  ⟨s.2.2.2.1.trans h.1, s.2.2.2.2.1.trans h.2.1, s.2.2.2.2.2.1.trans h.2.2⟩
theorem sp_cp_stay {u u' : SX} {G G' : Nat → List sp_E} {rs : List Nat} {x l r : Nat} (pu : sp_pu u G rs x l r u' G') (hx : x ∈ sp_D G' rs)
    (hcp : ∀ y ∈ sp_D G rs, x ∈ sp_N (G y) → y ≠ x → sp_cl u y) : ∀ y ∈ sp_D G' rs, x ∈ sp_N (G' y) → y ≠ x → sp_cl u' y := by
  intro y hy hxy yx
  obtain ⟨hfo, -, -, hroot, hGy, hsm, hl, hr, e⟩ := pu
  obtain ⟨-, -, -, -, -, -, xnl, xnr, -⟩ := sp_kids hfo hx hl hr e
  have yl : y ≠ l := fun q => xnl (by rw [← q]; exact hxy)
  have yr : y ≠ r := fun q => xnr (by rw [← q]; exact hxy)
  rw [sp_D_eq hroot] at hy
  rw [hGy y (fun q => absurd q yl) (fun q => absurd q yr)] at hxy
  exact sp_sm_cl (hsm y (fun q => absurd q yl) (fun q => absurd q yr) yx) (hcp y hy hxy yx)
theorem sp_cp_down {u u' : SX} {G G' : Nat → List sp_E} {rs : List Nat} {x l r : Nat} (pu : sp_pu u G rs x l r u' G') (hx : x ∈ sp_D G' rs) (hc : sp_cl u' x)
    (hcp : ∀ y ∈ sp_D G rs, x ∈ sp_N (G y) → y ≠ x → sp_cl u y) {c : Nat} (hcU : sg_U u' c = nI x) : ∀ y ∈ sp_D G' rs, c ∈ sp_N (G' y) → y ≠ c → sp_cl u' y := by
  intro y hy hcy yc
  have hfo := pu.1
  obtain ⟨z, hz, ho⟩ := sp_parent hfo.1 (hfo.2.2.2.1 y hy) (sp_fo_below hfo hy) c hcy (fun q => yc q.symm)
  have z48 := (sp_fo_below hfo hy z hz).2.1
  have x48 := (hfo.2.2.2.1 x hx).2.1
  have e := ho.2.2.1
  rw [hcU, nI_eq (by omega) (by omega)] at e
  subst e
  by_cases yx : y = x
  · rw [yx]; exact hc
  · exact sp_cp_stay pu hx hcp y hy hz yx
def sp_dn (u : SX) (G : Nat → List sp_E) (x rest : Nat) : Prop := sp_cl u x ∧ ∃ A v B, G x = A ++ (x, v) :: B ∧ A.length = rest
/-- on the way down to a place -/
def sp_BI (u0 : SX) (G0 : Nat → List sp_E) (r : Nat) (rs : List Nat) (k : Nat) (u : SX) (G : Nat → List sp_E) (x rest i : Nat) : Prop :=
  sp_fo u G (r :: rs) ∧ (∀ q ∈ r :: rs, G q = G0 q) ∧ x ∈ sp_N (G r) ∧ (∀ y ∈ sp_D G (r :: rs), x ∈ sp_N (G y) → y ≠ x → sp_cl u y) ∧ sp_F u0 u ∧
  (∃ a b, G r = a ++ (G x ++ b) ∧ a.length + rest = k) ∧ rest < (G x).length ∧
  ((G x).length + i ≤ 48 ∨ sp_dn u G x rest)
theorem sp_br {post : Int32 → SX → Prop} {u0 : SX} {G0 : Nat → List sp_E} {r : Nat} {rs : List Nat} {k : Nat}
    (h : ∀ u' G' x l r', sp_fo u' G' (x :: rs) → G' x = G0 r → (∀ q ∈ rs, G' q = G0 q) → sp_cl u' x → sp_F u0 u' → sp_ch u' G' x (sg_L u' x) l → sp_ch u' G' x (sg_R u' x) r' →
      G' x = G' l ++ (x, sg_V u' x) :: G' r' → (G' l).length = k → post (nI x) u') :
    ∀ (n i : Nat) (u : SX) (G : Nat → List sp_E) (x rest : Nat), i ≤ 48 → 48 - i < n → sp_BI u0 G0 r rs k u G x rest i → wX_bring_8 post n (nI x) (nI rest) (nI i) u.1 u.2.1 u.2.2.1 u.2.2.2.1 u.2.2.2.2.1 u.2.2.2.2.2.1 u.2.2.2.2.2.2.1 u.2.2.2.2.2.2.2.1 u.2.2.2.2.2.2.2.2.1 u.2.2.2.2.2.2.2.2.2.1 u.2.2.2.2.2.2.2.2.2.2.1 u.2.2.2.2.2.2.2.2.2.2.2.1 u.2.2.2.2.2.2.2.2.2.2.2.2.1 u.2.2.2.2.2.2.2.2.2.2.2.2.2.1 u.2.2.2.2.2.2.2.2.2.2.2.2.2.2.1 u.2.2.2.2.2.2.2.2.2.2.2.2.2.2.2.1 u.2.2.2.2.2.2.2.2.2.2.2.2.2.2.2.2.1 u.2.2.2.2.2.2.2.2.2.2.2.2.2.2.2.2.2.1 u.2.2.2.2.2.2.2.2.2.2.2.2.2.2.2.2.2.2.1 u.2.2.2.2.2.2.2.2.2.2.2.2.2.2.2.2.2.2.2 := by
  intro n
  induction n with
  | zero => intro i u G x rest _ hn; omega
  | succ n ih =>
    intro i u G x rest hi hn hI
    obtain ⟨hfo, hrs, hx, hcp, hF, ⟨a, b, hab, hak⟩, hrest, halt⟩ := hI
    have hxD : x ∈ sp_D G (r :: rs) := sp_inD hx
    have x1 := (hfo.2.2.2.1 x hxD).1
    have x2 := (hfo.2.2.2.1 x hxD).2.1
    have lx := sp_fo_len1 hfo hxD
    have ix : vp_in (nI x) 49 := vp_in_nI (by omega) (by omega)
    have cx : (nI x).toNatClampNeg = x := nI_clamp (by omega)
    rw [wX_bring_8]
    by_cases i48 : i = 48
    · subst i48
      refine br_t (Int32.le_refl _) ?_
      obtain ⟨clx, A, v, B, eA, hA⟩ : sp_cl u x ∧ ∃ A v B, G x = A ++ (x, v) :: B ∧ A.length = rest := by
        rcases halt with q | q
        · omega
        · exact q
      refine sp_splay (u := u) hfo hx (fun y hy hxy => ?_) ?_
      · by_cases yx : y = x
        · rw [yx]; exact clx
        · exact hcp y hy hxy yx
      · intro u' G' hfo' hGx hq hcl hF'
        obtain ⟨-, -, -, -, l, r', hl, hr, e⟩ := hfo'.2.2.2.1 x (sp_inD (sp_nd_self (hfo'.2.2.2.1 x (sp_inD (by rw [hGx]; exact hx)))))
        rw [sp_ox_cl hcl, sp_ox_cl hcl] at e
        refine h u' G' x l r' hfo' (hGx.trans (hrs r (List.mem_cons_self ..))) (fun q hqq => (hq q hqq).trans (hrs q (List.mem_cons_of_mem _ hqq))) hcl (sp_F_tr hF hF') hl hr e ?_
        have e3 : (a ++ A) ++ (x, v) :: (B ++ b) = G' l ++ (x, sg_V u' x) :: G' r' := by
          rw [← e, hGx, hab, eA]
          simp only [List.append_assoc, List.cons_append]
        have hnn := sp_flat_nodup hfo'.2.2.1 (List.mem_cons_self ..)
        rw [e, ← e3] at hnn
        have := sp_uniqE e3 hnn
        rw [List.length_append] at this
        omega
    · refine br_f (nI_ge (a := i) (b := 48) (by omega) (by omega)) ?_
      refine sp_push (u := u) hfo hxD ?_
      intro u' G' l r' pu clx
      have pu' := pu
      obtain ⟨hfo', hF', hU', hroot, hGy, hsm, hl, hr, e⟩ := pu'
      have hD := sp_D_eq hroot
      have hxD' : x ∈ sp_D G' (r :: rs) := by rw [hD]; exact hxD
      obtain ⟨-, -, xl, xr, lD, rD, xnl, xnr, dis⟩ := sp_kids hfo' hxD' hl hr e
      have hlen := sp_nd_len e
      have hmem := sp_nd_mem e
      rw [sp_ox_cl clx, sp_ox_cl clx] at e
      have hGx : G' x = G x := hGy x (fun q => absurd q xl) (fun q => absurd q xr)
      have hAl := (sp_fo_A hfo' lD).1
      have lr' : (G' r).length ≤ 48 := sp_fo_len1 hfo' (sp_inD (by rw [hroot r (List.mem_cons_self ..)]; exact (hfo.2.2.2.2 r (List.mem_cons_self ..) (sp_in0 hfo.1 hx)).2.1))
      have il : vp_in (nI l) 49 := vp_in_nI (by have := hl.2.1; omega) (by omega)
      have cl' : (nI l).toNatClampNeg = l := nI_clamp (by have := hl.2.1; omega)
      have hx' : x ∈ sp_N (G' r) := by rw [hroot r (List.mem_cons_self ..)]; exact hx
      have hsub : ∀ z ∈ sp_N (G' x), z ∈ sp_N (G' r) := by
        have ht := sp_fo_tree hfo' (List.mem_cons_self ..) (sp_in0 hfo'.1 hx')
        exact sp_sub hfo'.1 ht.1 ht.2 x hx'
      have hrs' : ∀ q ∈ r :: rs, G' q = G0 q := fun q hq => (hroot q hq).trans (hrs q hq)
      have hab' : G' r = a ++ (G' x ++ b) := by rw [hroot r (List.mem_cons_self ..), hGx]; exact hab
      have halt : (G' x).length + i ≤ 48 ∨ sp_dn u G x rest := by rw [hGx]; exact halt
      rw [← hGx] at hrest lx
      have cont : ∀ (y s : Nat), sp_BI u0 G0 r rs k u' G' y s (i + 1) → wX_bring_8 post n (nI y) (nI s) (nI (i + 1)) u'.1 u'.2.1 u'.2.2.1 u'.2.2.2.1 u'.2.2.2.2.1 u'.2.2.2.2.2.1 u'.2.2.2.2.2.2.1 u'.2.2.2.2.2.2.2.1 u'.2.2.2.2.2.2.2.2.1 u'.2.2.2.2.2.2.2.2.2.1 u'.2.2.2.2.2.2.2.2.2.2.1 u'.2.2.2.2.2.2.2.2.2.2.2.1 u'.2.2.2.2.2.2.2.2.2.2.2.2.1 u'.2.2.2.2.2.2.2.2.2.2.2.2.2.1 u'.2.2.2.2.2.2.2.2.2.2.2.2.2.2.1 u'.2.2.2.2.2.2.2.2.2.2.2.2.2.2.2.1 u'.2.2.2.2.2.2.2.2.2.2.2.2.2.2.2.2.1 u'.2.2.2.2.2.2.2.2.2.2.2.2.2.2.2.2.2.1 u'.2.2.2.2.2.2.2.2.2.2.2.2.2.2.2.2.2.2.1 u'.2.2.2.2.2.2.2.2.2.2.2.2.2.2.2.2.2.2.2 := fun y s q => ih (i + 1) u' G' y s (by omega) (by omega) q
      have eL : sg_L u' (nI x).toNatClampNeg = nI l := by rw [cx]; exact hl.1
      have eR : sg_R u' (nI x).toNatClampNeg = nI r' := by rw [cx]; exact hr.1
      have eS : sg_S u' (sg_L u' (nI x).toNatClampNeg).toNatClampNeg = nI (G' l).length := by rw [eL, cl']; exact hAl
      refine ⟨ix, show vp_in (sg_L u' (nI x).toNatClampNeg) 49 by rw [eL]; exact il, nm_r (e' := nI (G' l).length) eS ?_⟩
      refine pk_le (G' l).length rest (fun c1 => pk_le rest (G' l).length (fun c2 => ?_) (fun c2 => ?_)) (fun c1 => ?_)
      · refine nm_r (e' := nI (i + 1)) (nI_1 i) (cont x rest ?_)
        exact ⟨hfo', hrs', hx', sp_cp_stay pu hxD' hcp, sp_F_tr hF hF', ⟨a, b, hab', hak⟩, hrest, Or.inr ⟨clx, G' l, _, G' r', e, Nat.le_antisymm c1 c2⟩⟩
      · have e4 : (nI rest - nI (G' l).length) - 1 = nI (rest - (G' l).length - 1) := by
          rw [pk_sub c1]
          exact pk_sub (b := 1) (by omega)
        refine nm_r (e' := nI (rest - (G' l).length - 1)) e4 ⟨ix, nm_r (e' := nI r') eR (nm_r (e' := nI (i + 1)) (nI_1 i) (cont r' _ ?_))⟩
        have r0 : r' ≠ 0 := fun q => by
          rw [q, hfo'.1, List.length_nil] at hlen
          omega
        refine ⟨hfo', hrs', hsub r' ((hmem r').mpr (Or.inr (Or.inr (hr.2.2 r0).1))), sp_cp_down pu hxD' clx hcp (hr.2.2 r0).2, sp_F_tr hF hF', ⟨a ++ (G' l ++ [(x, sg_V u' x)]), b, ?_, ?_⟩, by omega, Or.inl ?_⟩
        · rw [hab', e]
          simp only [List.append_assoc, List.cons_append, List.nil_append]
        · simp only [List.length_append, List.length_cons, List.length_nil]
          omega
        · rcases halt with q | ⟨-, A, v, B, q1, q2⟩
          · omega
          · rw [← hGx] at q1
            have := sp_uniqE (q1.symm.trans e) (by rw [← q1]; exact sp_fo_nodup hfo' hxD')
            omega
      · refine ⟨ix, nm_r (e' := nI l) eL (nm_r (e' := nI (i + 1)) (nI_1 i) (cont l rest ?_))⟩
        have l0 : l ≠ 0 := fun q => by
          rw [q, hfo'.1, List.length_nil] at c1
          omega
        refine ⟨hfo', hrs', hsub l ((hmem l).mpr (Or.inl (hl.2.2 l0).1)), sp_cp_down pu hxD' clx hcp (hl.2.2 l0).2, sp_F_tr hF hF', ⟨a, (x, sg_V u' x) :: (G' r' ++ b), ?_, hak⟩, c1, Or.inl ?_⟩
        · rw [hab', e]
          simp only [List.append_assoc, List.cons_append]
        · rcases halt with q | ⟨-, A, v, B, q1, q2⟩
          · omega
          · rw [← hGx] at q1
            have := sp_uniqE (q1.symm.trans e) (by rw [← q1]; exact sp_fo_nodup hfo' hxD')
            omega
theorem sp_bring {post : Int32 → SX → Prop} {u : SX} {G : Nat → List sp_E} {r : Nat} {rs : List Nat} {k : Nat} (hfo : sp_fo u G (r :: rs)) (hk : k < (G r).length)
    (h : ∀ u' G' x l r', sp_fo u' G' (x :: rs) → G' x = G r → (∀ q ∈ rs, G' q = G q) → sp_cl u' x → sp_F u u' → sp_ch u' G' x (sg_L u' x) l → sp_ch u' G' x (sg_R u' x) r' →
      G' x = G' l ++ (x, sg_V u' x) :: G' r' → (G' l).length = k → post (nI x) u') : wpX_bring post u (nI r) (nI k) := by
  have r0 : r ≠ 0 := fun q => by
    rw [q, hfo.1, List.length_nil] at hk
    omega
  have hr := hfo.2.2.2.2 r (List.mem_cons_self ..) r0
  have l48 := sp_fo_len1 hfo (sp_inD hr.2.1)
  refine ⟨49, ?_⟩
  refine sp_br (u0 := u) (G0 := G) h 49 0 u G r k (by omega) (by omega) ⟨hfo, fun _ _ => rfl, hr.2.1, ?_, sp_F_rfl u, ⟨[], [], by simp, by simp⟩, hk, Or.inl (by omega)⟩
  intro y hy hry yr
  obtain ⟨z, hz, ho⟩ := sp_parent hfo.1 (hfo.2.2.2.1 y hy) (sp_fo_below hfo hy) r hry (fun q => yr q.symm)
  have z1 := (sp_fo_below hfo hy z hz).1
  have z48 := (sp_fo_below hfo hy z hz).2.1
  have e := ho.2.2.1
  rw [hr.2.2] at e
  exact absurd e.symm (nI_ne0 (by omega) (by omega))
end
section
/-! forests told otherwise -/
theorem sp_fo_same {u u' : SX} {G : Nat → List sp_E} {rs : List Nat} (h : sp_fo u G rs) (hs : ∀ y, sp_sm u u' y) (hU : ∀ y ∈ sp_D G rs, sg_U u' y = sg_U u y) : sp_fo u' G rs := by
  refine ⟨h.1, sp_sm_A (hs 0) h.2.1, h.2.2.1, fun x hx => ?_, fun r hr r0 => ?_⟩
  · exact sp_nd_eq (h.2.2.2.1 x hx) (hs x) rfl rfl (fun c c0 hc _ => ⟨rfl, hU c (sp_fo_sub h hx hc)⟩)
  · obtain ⟨a, b, c⟩ := h.2.2.2.2 r hr r0
    exact ⟨a, b, by rw [hU r (sp_D_mem.mpr ⟨r, hr, b⟩)]; exact c⟩
theorem sp_D_perm {G : Nat → List sp_E} {rs rs' : List Nat} (p : rs.Perm rs') : (sp_D G rs).Perm (sp_D G rs') := by
  induction p with
  | nil => exact List.Perm.refl _
  | cons a _ ih => rw [sp_D_cons, sp_D_cons]; exact List.Perm.append_left _ ih
  | swap a b l =>
    rw [sp_D_cons, sp_D_cons, sp_D_cons, sp_D_cons]
    exact List.perm_append_comm_assoc _ _ _
  | trans _ _ h1 h2 => exact h1.trans h2
theorem sp_fo_perm {u : SX} {G : Nat → List sp_E} {rs rs' : List Nat} (h : sp_fo u G rs) (p : rs.Perm rs') : sp_fo u G rs' :=
  ⟨h.1, h.2.1, (sp_D_perm p).nodup h.2.2.1, fun x hx => h.2.2.2.1 x ((sp_D_perm p).mem_iff.mpr hx), fun r hr => h.2.2.2.2 r (p.mem_iff.mpr hr)⟩
theorem sp_fo_add0 {u : SX} {G : Nat → List sp_E} {rs : List Nat} (h : sp_fo u G rs) : sp_fo u G (0 :: rs) := by
  have e : sp_D G (0 :: rs) = sp_D G rs := by rw [sp_D_cons, h.1]; rfl
  exact ⟨h.1, h.2.1, by rw [e]; exact h.2.2.1, by rw [e]; exact h.2.2.2.1, fun r hr r0 => by
    rcases List.mem_cons.mp hr with q | q
    · exact absurd q r0
    · exact h.2.2.2.2 r q r0⟩
theorem sp_fo_del {u : SX} {G : Nat → List sp_E} {a : Nat} {rs : List Nat} (h : sp_fo u G (a :: rs)) : sp_fo u G rs := by
  obtain ⟨h1, h2, h3, h4, h5⟩ := h
  rw [sp_D_cons] at h3 h4
  exact ⟨h1, h2, (List.nodup_append.mp h3).2.1, fun x hx => h4 x (List.mem_append_right _ hx), fun r hr => h5 r (List.mem_cons_of_mem _ hr)⟩
theorem sp_fo_swap {u : SX} {G : Nat → List sp_E} {a b : Nat} {rs : List Nat} (h : sp_fo u G (a :: b :: rs)) : sp_fo u G (b :: a :: rs) := sp_fo_perm h (List.Perm.swap ..)
/-- two trees of a forest have no node in common -/
theorem sp_fo_dis {u : SX} {G : Nat → List sp_E} {a : Nat} {rs : List Nat} (h : sp_fo u G (a :: rs)) {q z : Nat} (hq : q ∈ rs) (h1 : z ∈ sp_N (G a)) : z ∉ sp_N (G q) := by
  have h3 := h.2.2.1
  rw [sp_D_cons, List.nodup_append] at h3
  intro h2
  exact h3.2.2 z h1 z (sp_D_mem.mpr ⟨q, hq, h2⟩) rfl
theorem sp_fo_ne {u : SX} {G : Nat → List sp_E} {a : Nat} {rs : List Nat} (h : sp_fo u G (a :: rs)) (a0 : a ≠ 0) {q : Nat} (hq : q ∈ rs) : q ≠ a := by
  intro e
  have h1 := (h.2.2.2.2 a (List.mem_cons_self ..) a0).2.1
  exact sp_fo_dis h hq h1 (by rw [e]; exact h1)
/-- what the methods that part and join trees keep -/
def sp_Fc (u u' : SX) : Prop := sg_c u' = sg_c u ∧ sg_E u' = sg_E u ∧ sg_C u' = sg_C u
theorem sp_Fc_rfl (u : SX) : sp_Fc u u := ⟨rfl, rfl, rfl⟩
theorem sp_Fc_tr {u v w : SX} (a : sp_Fc u v) (b : sp_Fc v w) : sp_Fc u w := ⟨b.1.trans a.1, b.2.1.trans a.2.1, b.2.2.trans a.2.2⟩
theorem sp_F_c {u v : SX} (a : sp_F u v) : sp_Fc u v := ⟨a.2.1, a.2.2.2.2.2.1, a.2.2.2.2.2.2⟩
theorem sp_take_l {A B : List sp_E} {k : Nat} (h : A.length = k) : (A ++ B).take k = A ∧ (A ++ B).drop k = B := by
  subst h
  exact ⟨List.take_left, List.drop_left⟩
theorem sp_part {post : SX → Prop} {u : SX} {G : Nat → List sp_E} {r : Nat} {rs : List Nat} {k : Nat} (hfo : sp_fo u G (r :: rs)) (r48 : r ≤ 48) (hk : k ≤ (G r).length)
    (h : ∀ u' G' a b, sp_fo u' G' (a :: b :: rs) → G' a = (G r).take k → G' b = (G r).drop k → (∀ q ∈ rs, G' q = G q) → a ≤ 48 → b ≤ 48 → sp_Fc u u' → sg_b u' = nI a → sg_e u' = nI b → post u') :
    wpX_part post u (nI r) (nI k) := by
  have ir : vp_in (nI r) 49 := vp_in_nI (by omega) (by omega)
  have cr : (nI r).toNatClampNeg = r := nI_clamp (by omega)
  have hA : sp_A u r (G r) := sp_fo_A hfo (fun q => sp_inD (hfo.2.2.2.2 r (List.mem_cons_self ..) q).2.1)
  have l48 : (G r).length ≤ 48 := by
    by_cases r0 : r = 0
    · rw [r0, hfo.1]; exact Nat.zero_le _
    · exact sp_fo_len1 hfo (sp_inD (hfo.2.2.2.2 r (List.mem_cons_self ..) r0).2.1)
  have z0 : ∀ y ∈ sp_D G (r :: rs), y ≠ 0 := fun y hy q => by
    have := (hfo.2.2.2.1 y hy).1
    omega
  by_cases k0 : k = 0
  · subst k0
    refine br_t nI_0 ?_
    intro q eq
    subst eq
    refine h (u.1, u.2.1, 0, u.2.2.2.1, nI r, u.2.2.2.2.2.1, u.2.2.2.2.2.2.1, upd (sg_U u) 0 0, u.2.2.2.2.2.2.2.2.1, u.2.2.2.2.2.2.2.2.2.1, u.2.2.2.2.2.2.2.2.2.2.1, u.2.2.2.2.2.2.2.2.2.2.2.1, u.2.2.2.2.2.2.2.2.2.2.2.2.1, u.2.2.2.2.2.2.2.2.2.2.2.2.2.1, u.2.2.2.2.2.2.2.2.2.2.2.2.2.2.1, u.2.2.2.2.2.2.2.2.2.2.2.2.2.2.2.1, u.2.2.2.2.2.2.2.2.2.2.2.2.2.2.2.2.1, u.2.2.2.2.2.2.2.2.2.2.2.2.2.2.2.2.2.1, u.2.2.2.2.2.2.2.2.2.2.2.2.2.2.2.2.2.2.1, u.2.2.2.2.2.2.2.2.2.2.2.2.2.2.2.2.2.2.2) G 0 r (sp_fo_add0 (sp_fo_same hfo (fun y => ⟨rfl, rfl, rfl, rfl, rfl, rfl, rfl, rfl, rfl, rfl, rfl⟩) (fun y hy => pk_un (z0 y hy)))) ?_ ?_ (fun _ _ => rfl) (by omega) r48 ⟨rfl, rfl, rfl⟩ rfl rfl
    · rw [hfo.1]; rfl
    · rfl
  · refine br_f (nI_ne0 (by omega) (by omega)) ⟨ir, ?_⟩
    have eS : sg_S u (nI r).toNatClampNeg = nI (G r).length := by rw [cr]; exact hA.1
    by_cases kl : k = (G r).length
    · refine br_t (by rw [kl]; exact eS.symm) ?_
      intro q eq
      subst eq
      refine h (u.1, u.2.1, nI r, u.2.2.2.1, 0, u.2.2.2.2.2.1, u.2.2.2.2.2.2.1, upd (sg_U u) 0 0, u.2.2.2.2.2.2.2.2.1, u.2.2.2.2.2.2.2.2.2.1, u.2.2.2.2.2.2.2.2.2.2.1, u.2.2.2.2.2.2.2.2.2.2.2.1, u.2.2.2.2.2.2.2.2.2.2.2.2.1, u.2.2.2.2.2.2.2.2.2.2.2.2.2.1, u.2.2.2.2.2.2.2.2.2.2.2.2.2.2.1, u.2.2.2.2.2.2.2.2.2.2.2.2.2.2.2.1, u.2.2.2.2.2.2.2.2.2.2.2.2.2.2.2.2.1, u.2.2.2.2.2.2.2.2.2.2.2.2.2.2.2.2.2.1, u.2.2.2.2.2.2.2.2.2.2.2.2.2.2.2.2.2.2.1, u.2.2.2.2.2.2.2.2.2.2.2.2.2.2.2.2.2.2.2) G r 0 (sp_fo_swap (sp_fo_add0 (sp_fo_same hfo (fun y => ⟨rfl, rfl, rfl, rfl, rfl, rfl, rfl, rfl, rfl, rfl, rfl⟩) (fun y hy => pk_un (z0 y hy))))) ?_ ?_ (fun _ _ => rfl) r48 (by omega) ⟨rfl, rfl, rfl⟩ rfl rfl
      · rw [kl, List.take_length]
      · rw [kl, List.drop_length, hfo.1]
    · refine br_f (fun q => kl ?_) ?_
      · have q' : nI k = nI (G r).length := q.trans eS
        exact (nI_eq (by omega) (by omega)).mp q'
      refine sp_bring (u := u) hfo (by omega) ?_
      intro u1 G1 x l r' hfo1 hGx hq1 clx hF1 hl hr e hlen
      have xD : x ∈ sp_D G1 (x :: rs) := sp_inD (by rw [e, sp_N_app]; exact List.mem_append_right _ (List.mem_cons_self ..))
      have x1 := (hfo1.2.2.2.1 x xD).1
      have x2 := (hfo1.2.2.2.1 x xD).2.1
      have hBx := (hfo1.2.2.2.1 x xD).2.2.2.1
      obtain ⟨-, -, xl, xr, lD, rD, xnl, xnr, dis⟩ := sp_kids hfo1 xD hl hr (by rw [sp_ox_cl clx, sp_ox_cl clx]; exact e)
      have hxr := hfo1.2.2.2.2 x (List.mem_cons_self ..) (by omega)
      have l0 : l ≠ 0 := fun q => by
        rw [q, hfo1.1] at hlen
        exact k0 hlen.symm
      have ix : vp_in (nI x) 49 := vp_in_nI (by omega) (by omega)
      have cx : (nI x).toNatClampNeg = x := nI_clamp (by omega)
      have il : vp_in (nI l) 49 := vp_in_nI (by have := hl.2.1; omega) (by omega)
      have cl' : (nI l).toNatClampNeg = l := nI_clamp (by have := hl.2.1; omega)
      have eL : sg_L u1 (nI x).toNatClampNeg = nI l := by rw [cx]; exact hl.1
      refine ⟨ix, nm_r (e' := nI l) eL ⟨il, fun q2 eq2 => ⟨ix, fun q3 eq3 => ?_⟩⟩⟩
      rw [cl'] at eq2
      rw [cx] at eq3
      subst eq2
      subst eq3
      have hvx : sp_nu (sg_V u1 x) := hBx _ (by rw [e, sp_V_app]; exact List.mem_append_right _ (List.mem_cons_self ..))
      refine sw_pull (u := (u1.1, u1.2.1, nI l, u1.2.2.2.1, u1.2.2.2.2.1, upd (sg_L u1) x 0, u1.2.2.2.2.2.2.1, upd (sg_U u1) l 0, u1.2.2.2.2.2.2.2.2.1, u1.2.2.2.2.2.2.2.2.2.1, u1.2.2.2.2.2.2.2.2.2.2.1, u1.2.2.2.2.2.2.2.2.2.2.2.1, u1.2.2.2.2.2.2.2.2.2.2.2.2.1, u1.2.2.2.2.2.2.2.2.2.2.2.2.2.1, u1.2.2.2.2.2.2.2.2.2.2.2.2.2.2.1, u1.2.2.2.2.2.2.2.2.2.2.2.2.2.2.2.1, u1.2.2.2.2.2.2.2.2.2.2.2.2.2.2.2.2.1, u1.2.2.2.2.2.2.2.2.2.2.2.2.2.2.2.2.2.1, u1.2.2.2.2.2.2.2.2.2.2.2.2.2.2.2.2.2.2.1, u1.2.2.2.2.2.2.2.2.2.2.2.2.2.2.2.2.2.2.2)) (x := x) (l := 0) (r := r') (A := []) (B := G1 r') x2 (by omega) hr.2.1 (by omega) (fun q => xr q.symm) pk_us hr.1 hfo1.2.1 (sp_fo_A hfo1 rD) hvx ?_
      intro u3 F3 K3 s3 a3
      obtain ⟨k1, k2, k3, k4, k5, k6, k7⟩ := K3
      show ∀ q : Nat → Int32, q = upd (sg_U u3) 0 0 → post (u3.1, u3.2.1, u3.2.2.1, u3.2.2.2.1, nI x, u3.2.2.2.2.2.1, u3.2.2.2.2.2.2.1, q, u3.2.2.2.2.2.2.2.2.1, u3.2.2.2.2.2.2.2.2.2.1, u3.2.2.2.2.2.2.2.2.2.2.1, u3.2.2.2.2.2.2.2.2.2.2.2.1, u3.2.2.2.2.2.2.2.2.2.2.2.2.1, u3.2.2.2.2.2.2.2.2.2.2.2.2.2.1, u3.2.2.2.2.2.2.2.2.2.2.2.2.2.2.1, u3.2.2.2.2.2.2.2.2.2.2.2.2.2.2.2.1, u3.2.2.2.2.2.2.2.2.2.2.2.2.2.2.2.2.1, u3.2.2.2.2.2.2.2.2.2.2.2.2.2.2.2.2.2.1, u3.2.2.2.2.2.2.2.2.2.2.2.2.2.2.2.2.2.2.1, u3.2.2.2.2.2.2.2.2.2.2.2.2.2.2.2.2.2.2.2)
      intro q eq
      subst eq
      have s3' : ∀ y, y ≠ x → sp_sv u1 u3 y := fun y hy => (s3 y hy).2.2
      have sL : ∀ y, y ≠ x → sg_L u3 y = sg_L u1 y := fun y hy => by rw [k1]; exact pk_un hy
      have sR : sg_R u3 = sg_R u1 := k2
      have sU : ∀ y, y ≠ 0 → upd (sg_U u3) 0 0 y = upd (sg_U u1) l 0 y := fun y hy => by rw [pk_un hy, k3]; rfl
      have hG' : ∃ G', G' = sp_up G1 x ((x, sg_V u1 x) :: G1 r') := ⟨_, rfl⟩
      obtain ⟨G', hG'⟩ := hG'
      have Gx : G' x = (x, sg_V u1 x) :: G1 r' := by rw [hG', sp_ups]
      have Gn : ∀ y, y ≠ x → G' y = G1 y := fun y hy => by rw [hG', sp_upn hy]
      have hq : ∀ q ∈ rs, G' q = G1 q := fun q hqq => Gn q (sp_fo_ne hfo1 (by omega) hqq)
      have hD : sp_D G' (l :: x :: rs) = sp_D G1 (x :: rs) := by
        rw [sp_D_cons, sp_D_cons, sp_D_cons, sp_D_eq hq, Gx, Gn l (fun q => xl q.symm), e, sp_N_app, List.append_assoc]
      have tk := sp_take_l (A := G1 l) (B := (x, sg_V u1 x) :: G1 r') hlen
      refine h (u3.1, u3.2.1, u3.2.2.1, u3.2.2.2.1, nI x, u3.2.2.2.2.2.1, u3.2.2.2.2.2.2.1, upd (sg_U u3) 0 0, u3.2.2.2.2.2.2.2.2.1, u3.2.2.2.2.2.2.2.2.2.1, u3.2.2.2.2.2.2.2.2.2.2.1, u3.2.2.2.2.2.2.2.2.2.2.2.1, u3.2.2.2.2.2.2.2.2.2.2.2.2.1, u3.2.2.2.2.2.2.2.2.2.2.2.2.2.1, u3.2.2.2.2.2.2.2.2.2.2.2.2.2.2.1, u3.2.2.2.2.2.2.2.2.2.2.2.2.2.2.2.1, u3.2.2.2.2.2.2.2.2.2.2.2.2.2.2.2.2.1, u3.2.2.2.2.2.2.2.2.2.2.2.2.2.2.2.2.2.1, u3.2.2.2.2.2.2.2.2.2.2.2.2.2.2.2.2.2.2.1, u3.2.2.2.2.2.2.2.2.2.2.2.2.2.2.2.2.2.2.2) G' l x ⟨by rw [Gn 0 (by omega)]; exact hfo1.1, ?_, by rw [hD]; exact hfo1.2.2.1, ?_, ?_⟩ ?_ ?_ (fun q hqq => (hq q hqq).trans (hq1 q hqq)) hl.2.1 x2 ?_ ?_ rfl
      · exact sp_sv_A (s3' 0 (by omega)) hfo1.2.1
      · rw [hD]
        intro y hy
        by_cases yx : y = x
        · subst yx
          refine sp_nd_mk (l := 0) (r := r') x1 x2 (by rw [Gx]; exact a3) (by rw [Gx]; rw [e] at hBx; exact fun v hv => hBx v (by rw [sp_V_app]; exact List.mem_append_right _ hv)) ⟨?_, by omega, fun z => absurd rfl z⟩ ⟨?_, hr.2.1, fun r0 => ⟨?_, ?_⟩⟩ ⟨?_, ?_, ?_⟩ ?_
          · show sg_L u3 y = nI 0
            rw [k1]
            exact pk_us
          · show sg_R u3 y = nI r'
            rw [sR]
            exact hr.1
          · rw [Gn r' (fun q => xr q.symm)]
            exact (hr.2.2 r0).1
          · show upd (sg_U u3) 0 0 r' = nI y
            rw [sU r' r0, pk_un (fun q => by
              subst q
              exact dis r' (hl.2.2 r0).1 (hr.2.2 r0).1)]
            exact (hr.2.2 r0).2
          · exact (congrFun k5 y).trans clx.1
          · exact (congrFun k6 y).trans clx.2.1
          · exact (congrFun k7 y).trans clx.2.2
          · rw [Gx, Gn 0 (by omega), hfo1.1, Gn r' (fun q => xr q.symm)]
            show _ = [] ++ (y, sg_V u3 y) :: G1 r'
            rw [k4]
            rfl
        · refine sp_nd_eq (hfo1.2.2.2.1 y hy) (sp_sv_sm (s3' y yx) (sL y yx) (congrFun sR y)) (Gn 0 (by omega)) (Gn y yx) ?_
          intro c c0 hc cu
          have y1 := (hfo1.2.2.2.1 y hy).1
          have y48 := (hfo1.2.2.2.1 y hy).2.1
          refine ⟨Gn c (fun q => ?_), ?_⟩
          · subst q
            rw [hxr.2.2] at cu
            exact nI_ne0 (by omega) (by omega) cu.symm
          · show upd (sg_U u3) 0 0 c = sg_U u1 c
            rw [sU c c0, pk_un (fun q => ?_)]
            subst q
            rw [(hl.2.2 c0).2, nI_eq (by omega) (by omega)] at cu
            exact yx cu.symm
      · intro q hqq q0
        show q ≤ 48 ∧ q ∈ sp_N (G' q) ∧ upd (sg_U u3) 0 0 q = 0
        rw [sU q q0]
        rcases List.mem_cons.mp hqq with z | z
        · subst z
          refine ⟨hl.2.1, by rw [Gn q (fun z => xl z.symm)]; exact (hl.2.2 q0).1, pk_us⟩
        · rcases List.mem_cons.mp z with z | z
          · subst z
            exact ⟨x2, by rw [Gx]; exact List.mem_cons_self .., by rw [pk_un xl]; exact hxr.2.2⟩
          · obtain ⟨w1, w2, w3⟩ := hfo1.2.2.2.2 q (List.mem_cons_of_mem _ z) q0
            refine ⟨w1, by rw [hq q z]; exact w2, ?_⟩
            rw [pk_un (fun t => ?_)]
            · exact w3
            · subst t
              rw [(hl.2.2 q0).2] at w3
              exact nI_ne0 (by omega) (by omega) w3
      · rw [← hGx, e, tk.1, Gn l (fun q => xl q.symm)]
      · rw [← hGx, e, tk.2, Gx]
      · exact ⟨F3.2.1.trans hF1.2.1, F3.2.2.2.2.2.1.trans hF1.2.2.2.2.2.1, F3.2.2.2.2.2.2.trans hF1.2.2.2.2.2.2⟩
      · exact F3.2.2.1
end
section
theorem sp_join {post : Int32 → SX → Prop} {u : SX} {G : Nat → List sp_E} {a b : Nat} {rs : List Nat} (hfo : sp_fo u G (a :: b :: rs)) (a48 : a ≤ 48) (b48 : b ≤ 48)
    (h : ∀ u' G' x, sp_fo u' G' (x :: rs) → G' x = G a ++ G b → (∀ q ∈ rs, G' q = G q) → x ≤ 48 → sp_F u u' → post (nI x) u') : wpX_join post u (nI a) (nI b) := by
  have ia : vp_in (nI a) 49 := vp_in_nI (by omega) (by omega)
  have ca : (nI a).toNatClampNeg = a := nI_clamp (by omega)
  by_cases a0 : a = 0
  · subst a0
    exact br_t nI_0 (h u G b (sp_fo_del hfo) (by rw [hfo.1]; rfl) (fun _ _ => rfl) b48 (sp_F_rfl u))
  · refine br_f (nI_ne0 (by omega) (by omega)) ?_
    by_cases b0 : b = 0
    · subst b0
      exact br_t nI_0 (h u G a (sp_fo_del (sp_fo_swap hfo)) (by rw [hfo.1, List.append_nil]) (fun _ _ => rfl) a48 (sp_F_rfl u))
    · refine br_f (nI_ne0 (by omega) (by omega)) ⟨ia, ?_⟩
      have haa := (hfo.2.2.2.2 a (List.mem_cons_self ..) a0).2.1
      have hlen0 : 0 < (G a).length := by
        rw [← sp_N_len]
        exact List.length_pos_of_mem haa
      have l48 := sp_fo_len1 hfo (sp_inD haa)
      have eS : sg_S u (nI a).toNatClampNeg - 1 = nI ((G a).length - 1) := by
        rw [ca, (sp_fo_A hfo (fun _ => sp_inD haa)).1]
        exact pk_sub (b := 1) hlen0
      show wpX_bring _ u (nI a) (sg_S u (nI a).toNatClampNeg - 1)
      rw [eS]
      refine sp_bring (u := u) hfo (by omega) ?_
      intro u1 G1 x l r' hfo1 hGx hq1 clx hF1 hl hr e hlen
      have xD : x ∈ sp_D G1 (x :: b :: rs) := sp_inD (by rw [e, sp_N_app]; exact List.mem_append_right _ (List.mem_cons_self ..))
      have x1 := (hfo1.2.2.2.1 x xD).1
      have x2 := (hfo1.2.2.2.1 x xD).2.1
      have hBx := (hfo1.2.2.2.1 x xD).2.2.2.1
      have e0 : G1 x = sp_ox u1 x (G1 l) ++ (x, sg_V u1 x) :: sp_ox u1 x (G1 r') := by rw [sp_ox_cl clx, sp_ox_cl clx]; exact e
      obtain ⟨-, -, xl, xr, lD, rD, xnl, xnr, dis⟩ := sp_kids hfo1 xD hl hr e0
      have hll := sp_nd_len e0
      rw [hGx] at hll
      have r0 : G1 r' = [] := List.eq_nil_of_length_eq_zero (by omega)
      rw [r0] at e
      have hxr := hfo1.2.2.2.2 x (List.mem_cons_self ..) (by omega)
      have hbr := hfo1.2.2.2.2 b (List.mem_cons_of_mem _ (List.mem_cons_self ..)) b0
      have bD : b ∈ sp_D G1 (x :: b :: rs) := sp_D_mem.mpr ⟨b, List.mem_cons_of_mem _ (List.mem_cons_self ..), hbr.2.1⟩
      have hBb := (hfo1.2.2.2.1 b bD).2.2.2.1
      have bx : b ≠ x := sp_fo_ne hfo1 (by omega) (List.mem_cons_self ..)
      have lb : l ≠ b := fun q => by
        subst q
        have := hbr.2.2
        rw [(hl.2.2 b0).2] at this
        exact nI_ne0 (by omega) (by omega) this
      have hvx : sp_nu (sg_V u1 x) := hBx _ (by rw [e, sp_V_app]; exact List.mem_append_right _ (List.mem_cons_self ..))
      show wpX_setRight _ u1 (nI x) (nI b)
      refine sw_setRight x2 b48 ?_
      refine sw_pull (u := (u1.1, u1.2.1, u1.2.2.1, u1.2.2.2.1, u1.2.2.2.2.1, u1.2.2.2.2.2.1, upd (sg_R u1) x (nI b), upd (sg_U u1) b (nI x), u1.2.2.2.2.2.2.2.2.1, u1.2.2.2.2.2.2.2.2.2.1, u1.2.2.2.2.2.2.2.2.2.2.1, u1.2.2.2.2.2.2.2.2.2.2.2.1, u1.2.2.2.2.2.2.2.2.2.2.2.2.1, u1.2.2.2.2.2.2.2.2.2.2.2.2.2.1, u1.2.2.2.2.2.2.2.2.2.2.2.2.2.2.1, u1.2.2.2.2.2.2.2.2.2.2.2.2.2.2.2.1, u1.2.2.2.2.2.2.2.2.2.2.2.2.2.2.2.2.1, u1.2.2.2.2.2.2.2.2.2.2.2.2.2.2.2.2.2.1, u1.2.2.2.2.2.2.2.2.2.2.2.2.2.2.2.2.2.2.1, u1.2.2.2.2.2.2.2.2.2.2.2.2.2.2.2.2.2.2.2)) (x := x) (l := l) (r := b) (A := G1 l) (B := G1 b) x2 hl.2.1 b48 (fun q => xl q.symm) bx hl.1 pk_us (sp_fo_A hfo1 lD) (sp_fo_A hfo1 (fun _ => bD)) hvx ?_
      intro u3 F3 K3 s3 a3
      obtain ⟨k1, k2, k3, k4, k5, k6, k7⟩ := K3
      have s3' : ∀ y, y ≠ x → sp_sv u1 u3 y := fun y hy => (s3 y hy).2.2
      have sL : sg_L u3 = sg_L u1 := k1
      have sR : ∀ y, y ≠ x → sg_R u3 y = sg_R u1 y := fun y hy => by rw [k2]; exact pk_un hy
      have sU : sg_U u3 = upd (sg_U u1) b (nI x) := k3
      have sV : sg_V u3 = sg_V u1 := k4
      have hG' : ∃ G', G' = sp_up G1 x (G1 x ++ G1 b) := ⟨_, rfl⟩
      obtain ⟨G', hG'⟩ := hG'
      have Gx : G' x = G1 x ++ G1 b := by rw [hG', sp_ups]
      have Gx2 : G' x = G1 l ++ (x, sg_V u1 x) :: G1 b := by rw [Gx, e, List.append_assoc]; rfl
      have Gn : ∀ y, y ≠ x → G' y = G1 y := fun y hy => by rw [hG', sp_upn hy]
      have hq : ∀ q ∈ rs, G' q = G1 q := fun q hqq => Gn q (sp_fo_ne hfo1 (by omega) (List.mem_cons_of_mem _ hqq))
      have hD : sp_D G' (x :: rs) = sp_D G1 (x :: b :: rs) := by
        rw [sp_D_cons, sp_D_cons, sp_D_cons, sp_D_eq hq, Gx, sp_N_app, List.append_assoc]
      refine h u3 G' x ⟨by rw [Gn 0 (by omega)]; exact hfo1.1, ?_, by rw [hD]; exact hfo1.2.2.1, ?_, ?_⟩ ?_ (fun q hqq => (hq q hqq).trans (hq1 q (List.mem_cons_of_mem _ hqq))) x2 ?_
      · exact sp_sv_A (s3' 0 (by omega)) hfo1.2.1
      · rw [hD]
        intro y hy
        by_cases yx : y = x
        · subst yx
          refine sp_nd_mk (l := l) (r := b) x1 x2 (by rw [Gx2]; exact a3) ?_ ⟨?_, hl.2.1, fun l0 => ⟨?_, ?_⟩⟩ ⟨?_, b48, fun _ => ⟨?_, ?_⟩⟩ ⟨(congrFun k5 y).trans clx.1, (congrFun k6 y).trans clx.2.1, (congrFun k7 y).trans clx.2.2⟩ ?_
          · rw [Gx]
            intro v hv
            rw [sp_V_app] at hv
            rcases List.mem_append.mp hv with z | z
            · exact hBx v z
            · exact hBb v z
          · rw [sL]
            exact hl.1
          · rw [Gn l (fun q => xl q.symm)]
            exact (hl.2.2 l0).1
          · rw [sU, pk_un lb]
            exact (hl.2.2 l0).2
          · rw [k2]
            exact pk_us
          · rw [Gn b bx]
            exact hbr.2.1
          · rw [sU, pk_us]
          · rw [Gx2, Gn l (fun q => xl q.symm), Gn b bx, sV]
        · refine sp_nd_eq (hfo1.2.2.2.1 y hy) (sp_sv_sm (s3' y yx) (congrFun sL y) (sR y yx)) (Gn 0 (by omega)) (Gn y yx) ?_
          intro c c0 hc cu
          have y1 := (hfo1.2.2.2.1 y hy).1
          have y48 := (hfo1.2.2.2.1 y hy).2.1
          refine ⟨Gn c (fun q => ?_), ?_⟩
          · subst q
            rw [hxr.2.2] at cu
            exact nI_ne0 (by omega) (by omega) cu.symm
          · rw [sU, pk_un (fun q => ?_)]
            subst q
            rw [hbr.2.2] at cu
            exact nI_ne0 (by omega) (by omega) cu.symm
      · intro q hqq q0
        rcases List.mem_cons.mp hqq with z | z
        · subst z
          exact ⟨x2, by rw [Gx, sp_N_app]; exact List.mem_append_left _ hxr.2.1, by rw [sU, pk_un (fun z => bx z.symm)]; exact hxr.2.2⟩
        · obtain ⟨w1, w2, w3⟩ := hfo1.2.2.2.2 q (List.mem_cons_of_mem _ (List.mem_cons_of_mem _ z)) q0
          have qb : q ≠ b := sp_fo_ne (sp_fo_del hfo1) b0 z
          exact ⟨w1, by rw [hq q z]; exact w2, by rw [sU, pk_un qb]; exact w3⟩
      · rw [Gx, hGx, hq1 b (List.mem_cons_self ..)]
      · exact sp_F_tr hF1 F3
theorem sp_open {post : SX → Prop} {u : SX} {G : Nat → List sp_E} {r : Nat} {rs : List Nat} {i j : Nat} (hfo : sp_fo u G (r :: rs)) (r48 : r ≤ 48) (hr : sg_r u = nI r) (hij : i ≤ j) (hj : j ≤ (G r).length)
    (h : ∀ u' G' a m b, sp_fo u' G' (a :: m :: b :: rs) → G' a = (G r).take i → G' m = ((G r).take j).drop i → G' b = (G r).drop j → (∀ q ∈ rs, G' q = G q) → a ≤ 48 → m ≤ 48 → b ≤ 48 →
      sp_Fc u u' → sg_b u' = nI a → sg_m u' = nI m → sg_e u' = nI b → post u') : wpX_open post u (nI i) (nI j) := by
  unfold wpX_open
  show wpX_part _ u (sg_r u) (nI j)
  rw [hr]
  refine sp_part (u := u) hfo r48 hj ?_
  intro u1 G1 a b hfo1 ha hb hq a48 b48 hF1 eb ee
  show wpX_part _ u1 (sg_b u1) (nI i)
  rw [eb]
  have hl : i ≤ (G1 a).length := by
    rw [ha, List.length_take]
    omega
  refine sp_part (u := u1) (rs := b :: rs) hfo1 a48 hl ?_
  intro u2 G2 a2 m2 hfo2 ha2 hm2 hq2 a248 m248 hF2 eb2 ee2
  refine h (u2.1, u2.2.1, u2.2.2.1, sg_e u2, sg_e u1, u2.2.2.2.2.2.1, u2.2.2.2.2.2.2.1, u2.2.2.2.2.2.2.2.1, u2.2.2.2.2.2.2.2.2.1, u2.2.2.2.2.2.2.2.2.2.1, u2.2.2.2.2.2.2.2.2.2.2.1, u2.2.2.2.2.2.2.2.2.2.2.2.1, u2.2.2.2.2.2.2.2.2.2.2.2.2.1, u2.2.2.2.2.2.2.2.2.2.2.2.2.2.1, u2.2.2.2.2.2.2.2.2.2.2.2.2.2.2.1, u2.2.2.2.2.2.2.2.2.2.2.2.2.2.2.2.1, u2.2.2.2.2.2.2.2.2.2.2.2.2.2.2.2.2.1, u2.2.2.2.2.2.2.2.2.2.2.2.2.2.2.2.2.2.1, u2.2.2.2.2.2.2.2.2.2.2.2.2.2.2.2.2.2.2.1, u2.2.2.2.2.2.2.2.2.2.2.2.2.2.2.2.2.2.2.2) G2 a2 m2 b (sp_fo_same hfo2 (fun y => ⟨rfl, rfl, rfl, rfl, rfl, rfl, rfl, rfl, rfl, rfl, rfl⟩) (fun y hy => rfl)) ?_ ?_ ?_ ?_ a248 m248 b48 (sp_Fc_tr hF1 hF2) eb2 ee2 ee
  · rw [ha2, ha, List.take_take, Nat.min_eq_left hij]
  · rw [hm2, ha]
  · rw [hq2 b (List.mem_cons_self ..), hb]
  · exact fun q hqq => (hq2 q (List.mem_cons_of_mem _ hqq)).trans (hq q hqq)
theorem sp_close {post : SX → Prop} {u : SX} {G : Nat → List sp_E} {a m b : Nat} {rs : List Nat} (hfo : sp_fo u G (a :: m :: b :: rs)) (a48 : a ≤ 48) (m48 : m ≤ 48) (b48 : b ≤ 48)
    (ha : sg_b u = nI a) (hm : sg_m u = nI m) (hb : sg_e u = nI b)
    (h : ∀ u' G' x, sp_fo u' G' (x :: rs) → G' x = G a ++ G m ++ G b → (∀ q ∈ rs, G' q = G q) → x ≤ 48 → sp_Fc u u' → sg_r u' = nI x → post u') : wpX_close post u := by
  unfold wpX_close
  show wpX_join _ u (sg_b u) (sg_m u)
  rw [ha, hm]
  refine sp_join (u := u) hfo a48 m48 ?_
  intro u1 G1 x1 hfo1 hx1 hq1 x148 hF1
  show wpX_join _ u1 (nI x1) (sg_e u1)
  rw [hF1.2.2.2.2.1, hb]
  refine sp_join (u := u1) hfo1 x148 b48 ?_
  intro u2 G2 x2 hfo2 hx2 hq2 x248 hF2
  have ix : vp_in (nI x2) 49 := vp_in_nI (by omega) (by omega)
  have cx : (nI x2).toNatClampNeg = x2 := nI_clamp (by omega)
  refine ⟨ix, fun q eq => ?_⟩
  rw [cx] at eq
  subst eq
  refine h (nI x2, u2.2.1, u2.2.2.1, u2.2.2.2.1, u2.2.2.2.2.1, u2.2.2.2.2.2.1, u2.2.2.2.2.2.2.1, upd (sg_U u2) x2 0, u2.2.2.2.2.2.2.2.2.1, u2.2.2.2.2.2.2.2.2.2.1, u2.2.2.2.2.2.2.2.2.2.2.1, u2.2.2.2.2.2.2.2.2.2.2.2.1, u2.2.2.2.2.2.2.2.2.2.2.2.2.1, u2.2.2.2.2.2.2.2.2.2.2.2.2.2.1, u2.2.2.2.2.2.2.2.2.2.2.2.2.2.2.1, u2.2.2.2.2.2.2.2.2.2.2.2.2.2.2.2.1, u2.2.2.2.2.2.2.2.2.2.2.2.2.2.2.2.2.1, u2.2.2.2.2.2.2.2.2.2.2.2.2.2.2.2.2.2.1, u2.2.2.2.2.2.2.2.2.2.2.2.2.2.2.2.2.2.2.1, u2.2.2.2.2.2.2.2.2.2.2.2.2.2.2.2.2.2.2.2) G2 x2 (sp_fo_same hfo2 (fun y => ⟨rfl, rfl, rfl, rfl, rfl, rfl, rfl, rfl, rfl, rfl, rfl⟩) (fun y hy => ?_)) ?_ ?_ x248 ?_ rfl
  · show upd (sg_U u2) x2 0 y = sg_U u2 y
    by_cases yx : y = x2
    · subst yx
      rw [pk_us, (hfo2.2.2.2.2 y (List.mem_cons_self ..) (by have := (hfo2.2.2.2.1 y hy).1; omega)).2.2]
    · rw [pk_un yx]
  · rw [hx2, hx1, hq1 b (List.mem_cons_self ..)]
  · exact fun q hqq => (hq2 q hqq).trans (hq1 q (List.mem_cons_of_mem _ hqq))
  · exact ⟨hF2.2.1.trans hF1.2.1, hF2.2.2.2.2.2.1.trans hF1.2.2.2.2.2.1, hF2.2.2.2.2.2.2.trans hF1.2.2.2.2.2.2⟩
end
section
/-! make: the least node that is free -/
def sp_us (u : SX) (ns : List Nat) : Prop := ∀ y, 1 ≤ y → y ≤ 48 → (¬ sg_E u y = 0 ↔ y ∈ ns)
def sp_fr (u : SX) (x k : Nat) : Prop := sg_E u x = 0 ∨ ∃ y, 1 ≤ y ∧ y ≤ k ∧ sg_E u y = 0
theorem sp_mk5 {post : Int32 → SX → Prop} {u : SX} {v : Int32}
    (h : ∀ (n x : Nat), 1 ≤ x → x ≤ 48 → sg_E u x = 0 → wX_make_5 post v u.1 u.2.1 u.2.2.1 u.2.2.2.1 u.2.2.2.2.1 u.2.2.2.2.2.1 u.2.2.2.2.2.2.1 u.2.2.2.2.2.2.2.1 u.2.2.2.2.2.2.2.2.1 u.2.2.2.2.2.2.2.2.2.1 u.2.2.2.2.2.2.2.2.2.2.1 u.2.2.2.2.2.2.2.2.2.2.2.1 u.2.2.2.2.2.2.2.2.2.2.2.2.1 u.2.2.2.2.2.2.2.2.2.2.2.2.2.1 u.2.2.2.2.2.2.2.2.2.2.2.2.2.2.1 u.2.2.2.2.2.2.2.2.2.2.2.2.2.2.2.1 u.2.2.2.2.2.2.2.2.2.2.2.2.2.2.2.2.1 u.2.2.2.2.2.2.2.2.2.2.2.2.2.2.2.2.2.1 u.2.2.2.2.2.2.2.2.2.2.2.2.2.2.2.2.2.2.1 u.2.2.2.2.2.2.2.2.2.2.2.2.2.2.2.2.2.2.2 (n + 1) (nI x) (nI 0)) :
    ∀ (n k x : Nat), k ≤ 48 → k < n → 1 ≤ x → x ≤ 48 → sp_fr u x k → wX_make_5 post v u.1 u.2.1 u.2.2.1 u.2.2.2.1 u.2.2.2.2.1 u.2.2.2.2.2.1 u.2.2.2.2.2.2.1 u.2.2.2.2.2.2.2.1 u.2.2.2.2.2.2.2.2.1 u.2.2.2.2.2.2.2.2.2.1 u.2.2.2.2.2.2.2.2.2.2.1 u.2.2.2.2.2.2.2.2.2.2.2.1 u.2.2.2.2.2.2.2.2.2.2.2.2.1 u.2.2.2.2.2.2.2.2.2.2.2.2.2.1 u.2.2.2.2.2.2.2.2.2.2.2.2.2.2.1 u.2.2.2.2.2.2.2.2.2.2.2.2.2.2.2.1 u.2.2.2.2.2.2.2.2.2.2.2.2.2.2.2.2.1 u.2.2.2.2.2.2.2.2.2.2.2.2.2.2.2.2.2.1 u.2.2.2.2.2.2.2.2.2.2.2.2.2.2.2.2.2.2.1 u.2.2.2.2.2.2.2.2.2.2.2.2.2.2.2.2.2.2.2 n (nI x) (nI k) := by
  intro n
  induction n with
  | zero => intro k x _ hn; omega
  | succ n ih =>
    intro k x hk hn x1 x2 hf
    cases k with
    | zero =>
      refine h n x x1 x2 ?_
      rcases hf with q | ⟨y, q1, q2, -⟩
      · exact q
      · omega
    | succ k =>
      have ik : vp_in (nI (k + 1)) 49 := vp_in_nI (by omega) (by omega)
      have ck : (nI (k + 1)).toNatClampNeg = k + 1 := nI_clamp (by omega)
      rw [wX_make_5]
      refine br_f (nI_nle (by omega) (by omega)) ⟨ik, ?_⟩
      rw [ck]
      refine br_c (fun hc => nm_r (e' := nI k) (pk_m1 k) (ih k (k + 1) (by omega) (by omega) (by omega) (by omega) (Or.inl hc))) (fun hc => nm_r (e' := nI k) (pk_m1 k) (ih k x (by omega) (by omega) x1 x2 ?_))
      rcases hf with q | ⟨y, q1, q2, q3⟩
      · exact Or.inl q
      · refine Or.inr ⟨y, q1, ?_, q3⟩
        by_cases e : y = k + 1
        · exact absurd (by rw [← e]; exact q3) hc
        · omega
theorem sp_make {post : Int32 → SX → Prop} {u : SX} {G : Nat → List sp_E} {rs : List Nat} {v : Int32} (hfo : sp_fo u G rs) (hus : sp_us u (sp_D G rs)) (hlen : (sp_D G rs).length < 48) (hv : sp_nu v)
    (h : ∀ u' G' x, sp_fo u' G' (x :: rs) → G' x = [(x, v)] → (∀ q ∈ rs, G' q = G q) → x ≤ 48 → sp_us u' (sp_D G' (x :: rs)) →
      sg_r u' = sg_r u → sg_c u' = sg_c u → sg_b u' = sg_b u → sg_e u' = sg_e u → sg_C u' = sg_C u → post (nI x) u') : wpX_make post u v := by
  refine ⟨49, ?_⟩
  refine sp_mk5 (u := u) ?_ 49 48 1 (by omega) (by omega) (by omega) (by omega) (Or.inr ?_)
  · intro n x x1 x2 hx
    have ix : vp_in (nI x) 49 := vp_in_nI (by omega) (by omega)
    have cx : (nI x).toNatClampNeg = x := nI_clamp (by omega)
    have xD : x ∉ sp_D G rs := fun q => (hus x x1 x2).mpr q hx
    rw [wX_make_5]
    refine br_t (Int32.le_refl _) ?_
    rw [cx, sp_nar0, sp_nar1]
    refine ⟨ix, fun q1 e1 => ⟨ix, fun q2 e2 => ⟨ix, fun q3 e3 => ⟨ix, fun q4 e4 => ⟨ix, fun q5 e5 => ⟨ix, fun q6 e6 => ⟨ix, fun q7 e7 => ⟨ix, fun q8 e8 => ?_⟩⟩⟩⟩⟩⟩⟩⟩
    subst e1 e2 e3 e4 e5 e6 e7 e8
    refine sw_pull (u := (u.1, u.2.1, u.2.2.1, u.2.2.2.1, u.2.2.2.2.1, upd (sg_L u) x 0, upd (sg_R u) x 0, upd (sg_U u) x 0, upd (sg_V u) x v, u.2.2.2.2.2.2.2.2.2.1, u.2.2.2.2.2.2.2.2.2.2.1, u.2.2.2.2.2.2.2.2.2.2.2.1, u.2.2.2.2.2.2.2.2.2.2.2.2.1, u.2.2.2.2.2.2.2.2.2.2.2.2.2.1, upd (sg_N u) x 0, upd (sg_M u) x 0, upd (sg_Q u) x 0, upd (sg_E u) x 1, u.2.2.2.2.2.2.2.2.2.2.2.2.2.2.2.2.2.2.1, u.2.2.2.2.2.2.2.2.2.2.2.2.2.2.2.2.2.2.2))
      (x := x) (l := 0) (r := 0) (A := []) (B := []) x2 (by omega) (by omega) (by omega) (by omega) pk_us pk_us hfo.2.1 hfo.2.1 (show sp_nu (upd (sg_V u) x v x) by rw [pk_us]; exact hv) ?_
    intro u' F K s a
    obtain ⟨k1, k2, k3, k4, k5, k6, k7⟩ := K
    have a' : sp_A u' x [(x, v)] := by
      have e : (x, upd (sg_V u) x v x) = (x, v) := by rw [pk_us]
      have a2 : sp_A u' x ([] ++ (x, upd (sg_V u) x v x) :: []) := a
      rw [e] at a2
      exact a2
    have hG' : ∃ G', G' = sp_up G x [(x, v)] := ⟨_, rfl⟩
    obtain ⟨G', hG'⟩ := hG'
    have Gx : G' x = [(x, v)] := by rw [hG', sp_ups]
    have Gn : ∀ y, y ≠ x → G' y = G y := fun y hy => by rw [hG', sp_upn hy]
    have hq : ∀ q ∈ rs, G' q = G q := fun q hqq => by
      refine Gn q (fun e => ?_)
      subst e
      exact xD (sp_D_mem.mpr ⟨q, hqq, (hfo.2.2.2.2 q hqq (by omega)).2.1⟩)
    have hD : sp_D G' (x :: rs) = x :: sp_D G rs := by
      rw [sp_D_cons, Gx, sp_D_eq hq]
      rfl
    have sv : ∀ y, y ≠ x → sp_sm u u' y := fun y hy => by
      obtain ⟨b1, b2, b3, b4, b5, b6, b7⟩ := s y hy
      exact ⟨b1.trans (pk_un hy), b2.trans (pk_un hy), b3.trans (pk_un hy), b4.trans (pk_un hy), b5.trans (pk_un hy), b6.trans (pk_un hy), b7⟩
    have sU : ∀ y, y ≠ x → sg_U u' y = sg_U u y := fun y hy => by rw [k3]; exact pk_un hy
    refine h u' G' x ⟨by rw [Gn 0 (by omega)]; exact hfo.1, sp_sm_A (sv 0 (by omega)) hfo.2.1, by rw [hD]; exact List.nodup_cons.mpr ⟨xD, hfo.2.2.1⟩, ?_, ?_⟩ Gx hq x2 ?_ F.1 F.2.1 F.2.2.1 F.2.2.2.2.1 F.2.2.2.2.2.2
    · rw [hD]
      intro y hy
      by_cases yx : y = x
      · subst yx
        refine sp_nd_mk (l := 0) (r := 0) x1 x2 (by rw [Gx]; exact a') ?_ ⟨by rw [k1]; exact pk_us, by omega, fun z => absurd rfl z⟩ ⟨by rw [k2]; exact pk_us, by omega, fun z => absurd rfl z⟩ ⟨by rw [k5]; exact pk_us, by rw [k6]; exact pk_us, by rw [k7]; exact pk_us⟩ ?_
        · rw [Gx]
          intro w hw
          rcases List.mem_cons.mp hw with z | z
          · rw [z]; exact hv
          · exact absurd z List.not_mem_nil
        · have e : sg_V u' y = v := by rw [k4]; exact pk_us
          rw [Gx, Gn 0 (by omega), hfo.1, e]
          rfl
      · have hy' : y ∈ sp_D G rs := (List.mem_cons.mp hy).resolve_left yx
        refine sp_nd_eq (hfo.2.2.2.1 y hy') (sv y yx) (Gn 0 (by omega)) (Gn y yx) ?_
        intro c c0 hc cu
        have cx : c ≠ x := fun e => by
          subst e
          exact xD (sp_fo_sub hfo hy' hc)
        exact ⟨Gn c cx, sU c cx⟩
    · intro q hqq q0
      rcases List.mem_cons.mp hqq with z | z
      · subst z
        exact ⟨x2, by rw [Gx]; exact List.mem_cons_self .., by rw [k3]; exact pk_us⟩
      · obtain ⟨w1, w2, w3⟩ := hfo.2.2.2.2 q z q0
        have qx : q ≠ x := fun e => by
          subst e
          exact xD (sp_D_mem.mpr ⟨q, z, w2⟩)
        exact ⟨w1, by rw [hq q z]; exact w2, by rw [sU q qx]; exact w3⟩
    · intro y y1 y2
      rw [hD, F.2.2.2.2.2.1]
      show ¬ upd (sg_E u) x 1 y = 0 ↔ _
      by_cases yx : y = x
      · subst yx
        rw [pk_us]
        exact ⟨fun _ => List.mem_cons_self .., fun _ => by decide⟩
      · rw [pk_un yx, hus y y1 y2]
        exact ⟨fun q => List.mem_cons_of_mem _ q, fun q => (List.mem_cons.mp q).resolve_left yx⟩
  · by_cases q : ∃ y, 1 ≤ y ∧ y ≤ 48 ∧ sg_E u y = 0
    · exact q
    · exfalso
      have : ∀ y, 1 ≤ y → y ≤ 48 → y ∈ sp_D G rs := fun y y1 y2 => (hus y y1 y2).mp (fun e => q ⟨y, y1, y2, e⟩)
      have := sp_has_all 48 _ this
      omega
/-! release -/
def sp_stk (K : Nat → Int32) : List Nat → Prop
  | [] => True
  | x :: st => K st.length = nI x ∧ sp_stk K st
theorem sp_stk_up {K : Nat → Int32} {k : Nat} {v : Int32} : ∀ {st : List Nat}, st.length ≤ k → sp_stk K st → sp_stk (upd K k v) st := by
  intro st
  induction st with
  | nil => intro _ _; exact trivial
  | cons x st ih =>
    intro h1 h2
    rw [List.length_cons] at h1
    exact ⟨by rw [pk_un (by omega)]; exact h2.1, ih (by omega) h2.2⟩
theorem sp_D_len {G : Nat → List sp_E} : ∀ {st : List Nat}, (∀ x ∈ st, x ∈ sp_N (G x)) → st.length ≤ (sp_D G st).length := by
  intro st
  induction st with
  | nil => intro _; exact Nat.zero_le _
  | cons x st ih =>
    intro h
    have h1 := ih (fun y hy => h y (List.mem_cons_of_mem _ hy))
    have h2 := List.length_pos_of_mem (h x (List.mem_cons_self ..))
    rw [sp_D_cons, List.length_append, List.length_cons]
    omega
/-- what release has still to do, with the trees of the stack -/
def sp_RI (u : SX) (G : Nat → List sp_E) (c : Nat) (i : Nat) (st : List Nat) (E K : Nat → Int32) : Prop :=
  sp_stk K st ∧ (∀ x ∈ st, x ∈ sp_N (G c)) ∧ (sp_D G st).Nodup ∧ i + (sp_D G st).length ≤ 48 ∧
  (∀ y ∈ sp_N (G c), y ∉ sp_D G st → E y = 0) ∧ (∀ y, y ∉ sp_N (G c) → E y = sg_E u y)
theorem sp_rl72 {post : SX → Prop} {J : Int32 → Int32 → (Nat → Int32) → (Nat → Int32) → (Nat → Int32) → (Nat → Int32) → (Nat → Int32) → (Nat → Int32) → (Nat → Int32) → (Nat → Int32) → (Nat → Int32) → (Nat → Int32) → (Nat → Int32) → (Nat → Int32) → (Nat → Int32) → (Nat → Int32) → (Nat → Int32) → Prop}
    {u : SX} {i x r : Nat} {st : List Nat} {E K : Nat → Int32} (hx : x ≤ 48) (hr : sg_R u x = nI r) (r48 : r ≤ 48) (hst : st.length ≤ 48) (hK : sp_stk K st)
    (h : ∀ st' K', st' = (if r = 0 then st else r :: st) → sp_stk K' st' → J (nI st'.length) (nI (i + 1)) u.2.2.2.2.2.1 u.2.2.2.2.2.2.1 u.2.2.2.2.2.2.2.1 u.2.2.2.2.2.2.2.2.1 u.2.2.2.2.2.2.2.2.2.1 u.2.2.2.2.2.2.2.2.2.2.1 u.2.2.2.2.2.2.2.2.2.2.2.1 u.2.2.2.2.2.2.2.2.2.2.2.2.1 u.2.2.2.2.2.2.2.2.2.2.2.2.2.1 u.2.2.2.2.2.2.2.2.2.2.2.2.2.2.1 u.2.2.2.2.2.2.2.2.2.2.2.2.2.2.2.1 u.2.2.2.2.2.2.2.2.2.2.2.2.2.2.2.2.1 (E) (K') u.2.2.2.2.2.2.2.2.2.2.2.2.2.2.2.2.2.2.2) :
    wX_release_72 post J (nI st.length) (nI i) (nI x) u.1 u.2.1 u.2.2.1 u.2.2.2.1 u.2.2.2.2.1 u.2.2.2.2.2.1 u.2.2.2.2.2.2.1 u.2.2.2.2.2.2.2.1 u.2.2.2.2.2.2.2.2.1 u.2.2.2.2.2.2.2.2.2.1 u.2.2.2.2.2.2.2.2.2.2.1 u.2.2.2.2.2.2.2.2.2.2.2.1 u.2.2.2.2.2.2.2.2.2.2.2.2.1 u.2.2.2.2.2.2.2.2.2.2.2.2.2.1 u.2.2.2.2.2.2.2.2.2.2.2.2.2.2.1 u.2.2.2.2.2.2.2.2.2.2.2.2.2.2.2.1 u.2.2.2.2.2.2.2.2.2.2.2.2.2.2.2.2.1 (E) (K) u.2.2.2.2.2.2.2.2.2.2.2.2.2.2.2.2.2.2.2 := by
  have ix : vp_in (nI x) 49 := vp_in_nI (by omega) (by omega)
  have cx : (nI x).toNatClampNeg = x := nI_clamp (by omega)
  have is' : vp_in (nI st.length) 49 := vp_in_nI (by omega) (by omega)
  have cs : (nI st.length).toNatClampNeg = st.length := nI_clamp (by omega)
  unfold wX_release_72
  rw [cx, cs]
  refine ⟨ix, ?_⟩
  by_cases r0 : r = 0
  · refine br_t (by rw [r0] at hr; exact hr) (nm_r (e' := nI (i + 1)) (nI_1 i) ?_)
    have := h st K (by rw [if_pos r0]) hK
    exact this
  · refine br_f (fun q => nI_ne0 (n := r) (by omega) (by omega) (hr.symm.trans q)) ⟨ix, is', nm_r (e' := upd K st.length (nI r)) (congrArg (upd K st.length) hr) (nm_r (e' := nI (st.length + 1)) (nI_1 _) (nm_r (e' := nI (i + 1)) (nI_1 i) ?_))⟩
    have := h (r :: st) (upd K st.length (nI r)) (by rw [if_neg r0]) ⟨pk_us, sp_stk_up (Nat.le_refl _) hK⟩
    exact this
theorem sp_rl17 {post : SX → Prop} {u : SX} {G : Nat → List sp_E} {c : Nat} {rs : List Nat} (hfo : sp_fo u G (c :: rs))
    (h : ∀ E K : Nat → Int32, (∀ y ∈ sp_N (G c), E y = 0) → (∀ y, y ∉ sp_N (G c) → E y = sg_E u y) → post (u.1, u.2.1, u.2.2.1, u.2.2.2.1, u.2.2.2.2.1, u.2.2.2.2.2.1, u.2.2.2.2.2.2.1, u.2.2.2.2.2.2.2.1, u.2.2.2.2.2.2.2.2.1, u.2.2.2.2.2.2.2.2.2.1, u.2.2.2.2.2.2.2.2.2.2.1, u.2.2.2.2.2.2.2.2.2.2.2.1, u.2.2.2.2.2.2.2.2.2.2.2.2.1, u.2.2.2.2.2.2.2.2.2.2.2.2.2.1, u.2.2.2.2.2.2.2.2.2.2.2.2.2.2.1, u.2.2.2.2.2.2.2.2.2.2.2.2.2.2.2.1, u.2.2.2.2.2.2.2.2.2.2.2.2.2.2.2.2.1, E, K, u.2.2.2.2.2.2.2.2.2.2.2.2.2.2.2.2.2.2.2)) :
    ∀ (n i : Nat) (st : List Nat) (E K : Nat → Int32), i ≤ 48 → 48 - i < n → sp_RI u G c i st E K → wX_release_17 post u.1 u.2.1 u.2.2.1 u.2.2.2.1 u.2.2.2.2.1 n (nI st.length) (nI i) u.2.2.2.2.2.1 u.2.2.2.2.2.2.1 u.2.2.2.2.2.2.2.1 u.2.2.2.2.2.2.2.2.1 u.2.2.2.2.2.2.2.2.2.1 u.2.2.2.2.2.2.2.2.2.2.1 u.2.2.2.2.2.2.2.2.2.2.2.1 u.2.2.2.2.2.2.2.2.2.2.2.2.1 u.2.2.2.2.2.2.2.2.2.2.2.2.2.1 u.2.2.2.2.2.2.2.2.2.2.2.2.2.2.1 u.2.2.2.2.2.2.2.2.2.2.2.2.2.2.2.1 u.2.2.2.2.2.2.2.2.2.2.2.2.2.2.2.2.1 (E) (K) u.2.2.2.2.2.2.2.2.2.2.2.2.2.2.2.2.2.2.2 := by
  intro n
  induction n with
  | zero => intro i st E K _ hn; omega
  | succ n ih =>
    intro i st E K hi hn hI
    obtain ⟨hK, hst, hnd, hlen, hE0, hE1⟩ := hI
    have ndc : ∀ x ∈ sp_N (G c), sp_nd u G x := fun x hx => hfo.2.2.2.1 x (sp_inD hx)
    have hsl := sp_D_len (G := G) (st := st) (fun x hx => sp_nd_self (ndc x (hst x hx)))
    rw [wX_release_17]
    cases st with
    | nil =>
      have fin : post (u.1, u.2.1, u.2.2.1, u.2.2.2.1, u.2.2.2.2.1, u.2.2.2.2.2.1, u.2.2.2.2.2.2.1, u.2.2.2.2.2.2.2.1, u.2.2.2.2.2.2.2.2.1, u.2.2.2.2.2.2.2.2.2.1, u.2.2.2.2.2.2.2.2.2.2.1, u.2.2.2.2.2.2.2.2.2.2.2.1, u.2.2.2.2.2.2.2.2.2.2.2.2.1, u.2.2.2.2.2.2.2.2.2.2.2.2.2.1, u.2.2.2.2.2.2.2.2.2.2.2.2.2.2.1, u.2.2.2.2.2.2.2.2.2.2.2.2.2.2.2.1, u.2.2.2.2.2.2.2.2.2.2.2.2.2.2.2.2.1, E, K, u.2.2.2.2.2.2.2.2.2.2.2.2.2.2.2.2.2.2.2) := h E K (fun y hy => hE0 y hy List.not_mem_nil) hE1
      exact br_c (fun _ => fin) (fun _ => br_t (Int32.le_refl _) fin)
    | cons x st =>
      have hxc := hst x (List.mem_cons_self ..)
      have ndx := ndc x hxc
      have hxx := sp_nd_self ndx
      have x1 : 1 ≤ x := ndx.1
      have x2 : x ≤ 48 := ndx.2.1
      rw [List.length_cons] at hsl
      have hDx : sp_D G (x :: st) = sp_N (G x) ++ sp_D G st := sp_D_cons ..
      have ix : vp_in (nI x) 49 := vp_in_nI (by omega) (by omega)
      have cx : (nI x).toNatClampNeg = x := nI_clamp (by omega)
      have is' : vp_in (nI st.length) 49 := vp_in_nI (by omega) (by omega)
      have cs : (nI st.length).toNatClampNeg = st.length := nI_clamp (by omega)
      refine br_f (nI_ge (a := i) (b := 48) (by omega) (by omega)) (br_f (nI_nle (n := st.length + 1) (by omega) (by omega)) (nm_r (e' := nI st.length) (pk_m1 _) ⟨is', nm_r (e' := nI x) (by rw [cs]; exact hK.1) ⟨ix, ?_⟩⟩))
      rw [cx, cs, sp_nar0]
      obtain ⟨-, -, -, -, l, r, hl, hr, e⟩ := ndx
      have hmem := sp_nd_mem e
      have hsub := sp_sub hfo.1 (ndc c (hfo.2.2.2.2 c (List.mem_cons_self ..) (sp_in0 hfo.1 hxc)).2.1) ndc x hxc
      have hperm : (sp_D G (x :: st)).Perm (x :: (sp_N (G r) ++ (sp_N (G l) ++ sp_D G st))) := by
        have p1 : (sp_N (G x)).Perm (sp_N (G l) ++ x :: sp_N (G r)) := by
          rw [e, sp_N_app, sp_N_cons]
          refine List.Perm.append ?_ (List.Perm.cons _ ?_)
          · unfold sp_ox
            rcases sp_o_N (sg_N u x) (sg_M u x) (sg_Q u x) (G l) with q | q <;> rw [q]
            exact List.reverse_perm _
          · unfold sp_ox
            rcases sp_o_N (sg_N u x) (sg_M u x) (sg_Q u x) (G r) with q | q <;> rw [q]
            exact List.reverse_perm _
        have p2 : (sp_N (G l) ++ x :: sp_N (G r)).Perm (x :: (sp_N (G r) ++ sp_N (G l))) :=
          (List.perm_middle).trans (List.Perm.cons _ List.perm_append_comm)
        rw [hDx]
        have p3 := List.Perm.append_right (sp_D G st) (p1.trans p2)
        rw [List.cons_append, List.append_assoc] at p3
        exact p3
      have hnd2 := List.nodup_cons.mp (hperm.nodup hnd)
      have hlen2 := hperm.length_eq
      rw [List.length_cons] at hlen2
      have cont : ∀ st' K', (∀ z ∈ st', z ∈ sp_N (G c)) → sp_D G st' = sp_N (G r) ++ (sp_N (G l) ++ sp_D G st) → sp_stk K' st' →
          wX_release_17 post u.1 u.2.1 u.2.2.1 u.2.2.2.1 u.2.2.2.2.1 n (nI st'.length) (nI (i + 1)) u.2.2.2.2.2.1 u.2.2.2.2.2.2.1 u.2.2.2.2.2.2.2.1 u.2.2.2.2.2.2.2.2.1 u.2.2.2.2.2.2.2.2.2.1 u.2.2.2.2.2.2.2.2.2.2.1 u.2.2.2.2.2.2.2.2.2.2.2.1 u.2.2.2.2.2.2.2.2.2.2.2.2.1 u.2.2.2.2.2.2.2.2.2.2.2.2.2.1 u.2.2.2.2.2.2.2.2.2.2.2.2.2.2.1 u.2.2.2.2.2.2.2.2.2.2.2.2.2.2.2.1 u.2.2.2.2.2.2.2.2.2.2.2.2.2.2.2.2.1 (upd E x 0) (K') u.2.2.2.2.2.2.2.2.2.2.2.2.2.2.2.2.2.2.2 := by
        intro st' K' h1 h2 h3
        refine ih (i + 1) st' (upd E x 0) K' (by omega) (by omega) ⟨h3, h1, by rw [h2]; exact hnd2.2, by rw [h2]; omega, ?_, ?_⟩
        · intro y hy hyn
          by_cases yx : y = x
          · rw [yx, pk_us]
          · rw [pk_un yx]
            refine hE0 y hy (fun q => ?_)
            rw [h2] at hyn
            exact hyn ((List.mem_cons.mp (hperm.mem_iff.mp q)).resolve_left yx)
        · intro y hy
          rw [pk_un (fun q => hy (by rw [q]; exact hxc))]
          exact hE1 y hy
      have hst0 : ∀ z ∈ st, z ∈ sp_N (G c) := fun z hz => hst z (List.mem_cons_of_mem _ hz)
      have hlc : l ≠ 0 → l ∈ sp_N (G c) := fun l0 => hsub l ((hmem l).mpr (Or.inl (hl.2.2 l0).1))
      have hrc : r ≠ 0 → r ∈ sp_N (G c) := fun r0 => hsub r ((hmem r).mpr (Or.inr (Or.inr (hr.2.2 r0).1)))
      have N0 : sp_N (G 0) = [] := by rw [hfo.1]; rfl
      have cont2 : ∀ st2 K2, (∀ z ∈ st2, z ∈ sp_N (G c)) → sp_D G st2 = sp_N (G l) ++ sp_D G st → st2.length ≤ 48 → sp_stk K2 st2 →
          wX_release_72 post (wX_release_17 post u.1 u.2.1 u.2.2.1 u.2.2.2.1 u.2.2.2.2.1 n) (nI st2.length) (nI i) (nI x) u.1 u.2.1 u.2.2.1 u.2.2.2.1 u.2.2.2.2.1 u.2.2.2.2.2.1 u.2.2.2.2.2.2.1 u.2.2.2.2.2.2.2.1 u.2.2.2.2.2.2.2.2.1 u.2.2.2.2.2.2.2.2.2.1 u.2.2.2.2.2.2.2.2.2.2.1 u.2.2.2.2.2.2.2.2.2.2.2.1 u.2.2.2.2.2.2.2.2.2.2.2.2.1 u.2.2.2.2.2.2.2.2.2.2.2.2.2.1 u.2.2.2.2.2.2.2.2.2.2.2.2.2.2.1 u.2.2.2.2.2.2.2.2.2.2.2.2.2.2.2.1 u.2.2.2.2.2.2.2.2.2.2.2.2.2.2.2.2.1 (upd E x 0) (K2) u.2.2.2.2.2.2.2.2.2.2.2.2.2.2.2.2.2.2.2 := by
        intro st2 K2 h1 h2 h3 h4
        refine sp_rl72 x2 hr.1 hr.2.1 h3 h4 ?_
        intro st' K' e1 e2
        by_cases r0 : r = 0
        · rw [if_pos r0] at e1
          subst e1
          exact cont st' K' h1 (by rw [h2, r0, N0]; rfl) e2
        · rw [if_neg r0] at e1
          subst e1
          refine cont (r :: st2) K' (fun z hz => ?_) (by rw [sp_D_cons, h2]) e2
          rcases List.mem_cons.mp hz with q | q
          · rw [q]; exact hrc r0
          · exact h1 z q
      refine nm_e ⟨ix, ?_⟩
      by_cases l0 : l = 0
      · refine br_t (by have := hl.1; rw [l0] at this; exact this) ?_
        exact cont2 st K hst0 (by rw [l0, N0]; rfl) (by omega) hK.2
      · refine br_f (fun q => nI_ne0 (n := l) (by omega) (by have := hl.2.1; omega) (hl.1.symm.trans q)) ⟨ix, is', nm_r (e' := upd K st.length (nI l)) (congrArg (upd K st.length) hl.1) (nm_r (e' := nI (st.length + 1)) (nI_1 _) ?_)⟩
        refine cont2 (l :: st) (upd K st.length (nI l)) (fun z hz => ?_) (by rw [sp_D_cons]) (by rw [List.length_cons]; omega) ⟨pk_us, sp_stk_up (Nat.le_refl _) hK.2⟩
        rcases List.mem_cons.mp hz with q | q
        · rw [q]; exact hlc l0
        · exact hst0 z q
theorem sp_release {post : SX → Prop} {u : SX} {G : Nat → List sp_E} {c : Nat} {rs : List Nat} (hfo : sp_fo u G (c :: rs)) (c48 : c ≤ 48)
    (h : ∀ E K : Nat → Int32, (∀ y ∈ sp_N (G c), E y = 0) → (∀ y, y ∉ sp_N (G c) → E y = sg_E u y) → post (u.1, u.2.1, u.2.2.1, u.2.2.2.1, u.2.2.2.2.1, u.2.2.2.2.2.1, u.2.2.2.2.2.2.1, u.2.2.2.2.2.2.2.1, u.2.2.2.2.2.2.2.2.1, u.2.2.2.2.2.2.2.2.2.1, u.2.2.2.2.2.2.2.2.2.2.1, u.2.2.2.2.2.2.2.2.2.2.2.1, u.2.2.2.2.2.2.2.2.2.2.2.2.1, u.2.2.2.2.2.2.2.2.2.2.2.2.2.1, u.2.2.2.2.2.2.2.2.2.2.2.2.2.2.1, u.2.2.2.2.2.2.2.2.2.2.2.2.2.2.2.1, u.2.2.2.2.2.2.2.2.2.2.2.2.2.2.2.2.1, E, K, u.2.2.2.2.2.2.2.2.2.2.2.2.2.2.2.2.2.2.2)) : wpX_release post u (nI c) := by
  by_cases c0 : c = 0
  · subst c0
    refine br_t nI_0 ⟨49, ?_⟩
    exact sp_rl17 hfo h 49 0 [] (sg_E u) (sg_K u) (by omega) (by omega) ⟨trivial, fun x hx => absurd hx List.not_mem_nil, List.Pairwise.nil, by show 0 + 0 ≤ 48; omega, fun y hy => absurd hy (by rw [hfo.1]; exact List.not_mem_nil), fun _ _ => rfl⟩
  · refine br_f (nI_ne0 (by omega) (by omega)) (nm_e ⟨49, ?_⟩)
    have hc := hfo.2.2.2.2 c (List.mem_cons_self ..) c0
    have hl := sp_fo_len1 hfo (sp_inD hc.2.1)
    have hDc : sp_D G [c] = sp_N (G c) := by rw [sp_D_cons]; exact List.append_nil _
    refine sp_rl17 hfo h 49 0 [c] (sg_E u) (upd (sg_K u) 0 (nI c)) (by omega) (by omega) ⟨⟨pk_us, trivial⟩, fun x hx => ?_, ?_, ?_, ?_, fun _ _ => rfl⟩
    · rcases List.mem_cons.mp hx with q | q
      · rw [q]; exact hc.2.1
      · exact absurd q List.not_mem_nil
    · rw [hDc]; exact sp_flat_nodup hfo.2.2.1 (List.mem_cons_self ..)
    · rw [hDc, sp_N_len]; omega
    · intro y hy hn
      rw [hDc] at hn
      exact absurd hy hn
end
section
/-! seek: the first place whose number is v or more -/
def sp_first (l : List Int32) (v : Int32) (k : Nat) : Prop := ∃ A w B, l = A ++ w :: B ∧ A.length = k ∧ v.toInt ≤ w.toInt ∧ ∀ z ∈ A, z.toInt < v.toInt
def sp_KI (u0 : SX) (G0 : Nat → List sp_E) (r : Nat) (rs : List Nat) (v : Int32) (u : SX) (G : Nat → List sp_E) (x p i : Nat) : Prop :=
  sp_fo u G (r :: rs) ∧ (∀ q ∈ r :: rs, G q = G0 q) ∧ x ∈ sp_N (G r) ∧ sp_F u0 u ∧ (∃ a b, G r = a ++ (G x ++ b) ∧ a.length = p ∧ ∀ z ∈ sp_V a, z.toInt < v.toInt) ∧
  (∃ w ∈ sp_V (G x), v.toInt ≤ w.toInt) ∧ (G x).length + i ≤ 48
theorem sp_lt {a b : Int32} (h : a < b) : a.toInt < b.toInt := Int32.lt_iff_toInt_lt.mp h
theorem sp_nlt {a b : Int32} (h : ¬ a < b) : b.toInt ≤ a.toInt := by
  rw [Int32.lt_iff_toInt_lt] at h
  omega
theorem sp_sk {post : Int32 → SX → Prop} {u0 : SX} {G0 : Nat → List sp_E} {r : Nat} {rs : List Nat} {v : Int32}
    (h : ∀ u' G' k, sp_fo u' G' (r :: rs) → (∀ q ∈ r :: rs, G' q = G0 q) → sp_F u0 u' → sp_first (sp_V (G0 r)) v k → k < 48 → post (nI k) u') :
    ∀ (n i : Nat) (u : SX) (G : Nat → List sp_E) (x p : Nat), i ≤ 48 → 48 - i < n → sp_KI u0 G0 r rs v u G x p i → wX_seek_11 post v n (nI x) (nI p) (-1) (nI i) u.1 u.2.1 u.2.2.1 u.2.2.2.1 u.2.2.2.2.1 u.2.2.2.2.2.1 u.2.2.2.2.2.2.1 u.2.2.2.2.2.2.2.1 u.2.2.2.2.2.2.2.2.1 u.2.2.2.2.2.2.2.2.2.1 u.2.2.2.2.2.2.2.2.2.2.1 u.2.2.2.2.2.2.2.2.2.2.2.1 u.2.2.2.2.2.2.2.2.2.2.2.2.1 u.2.2.2.2.2.2.2.2.2.2.2.2.2.1 u.2.2.2.2.2.2.2.2.2.2.2.2.2.2.1 u.2.2.2.2.2.2.2.2.2.2.2.2.2.2.2.1 u.2.2.2.2.2.2.2.2.2.2.2.2.2.2.2.2.1 u.2.2.2.2.2.2.2.2.2.2.2.2.2.2.2.2.2.1 u.2.2.2.2.2.2.2.2.2.2.2.2.2.2.2.2.2.2.1 u.2.2.2.2.2.2.2.2.2.2.2.2.2.2.2.2.2.2.2 := by
  intro n
  induction n with
  | zero => intro i u G x p _ hn; omega
  | succ n ih =>
    intro i u G x p hi hn hI
    obtain ⟨hfo, hrs, hx, hF, hab, hex, hlen⟩ := hI
    have hxD : x ∈ sp_D G (r :: rs) := sp_inD hx
    have x1 := (hfo.2.2.2.1 x hxD).1
    have x2 := (hfo.2.2.2.1 x hxD).2.1
    have ix : vp_in (nI x) 49 := vp_in_nI (by omega) (by omega)
    have cx : (nI x).toNatClampNeg = x := nI_clamp (by omega)
    have hpos : 0 < (G x).length := by
      rw [← sp_N_len]
      exact List.length_pos_of_mem (sp_nd_self (hfo.2.2.2.1 x hxD))
    have i47 : i < 48 := by clear hab hex; omega
    rw [wX_seek_11]
    refine br_f (nI_ge (a := i) (b := 48) (by omega) (by omega)) (br_f (by decide) ?_)
    refine sp_push (u := u) hfo hxD ?_
    intro u' G' l r' pu clx
    obtain ⟨hfo', hF', hU', hroot, hGy, hsm, hl, hr, e⟩ := pu
    have hD := sp_D_eq hroot
    have hxD' : x ∈ sp_D G' (r :: rs) := by rw [hD]; exact hxD
    obtain ⟨-, -, xl, xr, lD, rD, xnl, xnr, dis⟩ := sp_kids hfo' hxD' hl hr e
    have hlenx := sp_nd_len e
    have hmem := sp_nd_mem e
    rw [sp_ox_cl clx, sp_ox_cl clx] at e
    have hGx : G' x = G x := hGy x (fun q => absurd q xl) (fun q => absurd q xr)
    have hAl := sp_fo_A hfo' lD
    have il : vp_in (nI l) 49 := vp_in_nI (by have := hl.2.1; omega) (by omega)
    have cl' : (nI l).toNatClampNeg = l := nI_clamp (by have := hl.2.1; omega)
    have hx' : x ∈ sp_N (G' r) := by rw [hroot r (List.mem_cons_self ..)]; exact hx
    have hsub : ∀ z ∈ sp_N (G' x), z ∈ sp_N (G' r) := by
      have ht := sp_fo_tree hfo' (List.mem_cons_self ..) (sp_in0 hfo'.1 hx')
      exact sp_sub hfo'.1 ht.1 ht.2 x hx'
    have hrs' : ∀ q ∈ r :: rs, G' q = G0 q := fun q hq => (hroot q hq).trans (hrs q hq)
    have hFF := sp_F_tr hF hF'
    rw [← hGx] at hex hlen
    have hab' : ∃ a b, G' r = a ++ (G' x ++ b) ∧ a.length = p ∧ ∀ z ∈ sp_V a, z.toInt < v.toInt := by
      rw [hroot r (List.mem_cons_self ..), hGx]
      exact hab
    have eL : sg_L u' (nI x).toNatClampNeg = nI l := by rw [cx]; exact hl.1
    have eR : sg_R u' (nI x).toNatClampNeg = nI r' := by rw [cx]; exact hr.1
    have p48 : p < 48 := by
      obtain ⟨a, b, e1, e2, -⟩ := hab'
      have l1 := sp_fo_len1 hfo' (sp_inD (by rw [hroot r (List.mem_cons_self ..)]; exact (hfo.2.2.2.2 r (List.mem_cons_self ..) (sp_in0 hfo.1 hx)).2.1) : r ∈ sp_D G' (r :: rs))
      rw [e1, List.length_append, List.length_append] at l1
      rw [hGx] at l1
      clear hex hab
      omega
    have go58 : (∀ z ∈ sp_V (G' l), z.toInt < v.toInt) → wX_seek_58 post (wX_seek_11 post v n) v (nI x) (nI p) (-1) (nI i) (nI l) u'.1 u'.2.1 u'.2.2.1 u'.2.2.2.1 u'.2.2.2.2.1 u'.2.2.2.2.2.1 u'.2.2.2.2.2.2.1 u'.2.2.2.2.2.2.2.1 u'.2.2.2.2.2.2.2.2.1 u'.2.2.2.2.2.2.2.2.2.1 u'.2.2.2.2.2.2.2.2.2.2.1 u'.2.2.2.2.2.2.2.2.2.2.2.1 u'.2.2.2.2.2.2.2.2.2.2.2.2.1 u'.2.2.2.2.2.2.2.2.2.2.2.2.2.1 u'.2.2.2.2.2.2.2.2.2.2.2.2.2.2.1 u'.2.2.2.2.2.2.2.2.2.2.2.2.2.2.2.1 u'.2.2.2.2.2.2.2.2.2.2.2.2.2.2.2.2.1 u'.2.2.2.2.2.2.2.2.2.2.2.2.2.2.2.2.2.1 u'.2.2.2.2.2.2.2.2.2.2.2.2.2.2.2.2.2.2.1 u'.2.2.2.2.2.2.2.2.2.2.2.2.2.2.2.2.2.2.2 := by
      intro hlow
      unfold wX_seek_58
      rw [cx, cl']
      have eS : nI p + sg_S u' l = nI (p + (G' l).length) := by rw [hAl.1, nI_add]
      have hVx : sp_V (G' x) = sp_V (G' l) ++ sg_V u' x :: sp_V (G' r') := by rw [e, sp_V_app, sp_V_cons]
      refine ⟨ix, br_c (fun hc => ⟨il, nm_r (e' := nI (p + (G' l).length + 1)) ?_ ⟨ix, nm_r (e' := nI r') hr.1 (nm_r (e' := nI (i + 1)) (nI_1 i) ?_)⟩⟩) (fun hc => ⟨il, nm_r (e' := nI (p + (G' l).length)) eS (nm_r (e' := nI (i + 1)) (nI_1 i) ?_)⟩)⟩
      · rw [← nI_1, ← eS]
        rfl
      · have hc' := sp_lt hc
        have hc2 : (sg_V u' x).toInt < v.toInt := hc'
        have hex2 : ∃ w ∈ sp_V (G' r'), v.toInt ≤ w.toInt := by
          obtain ⟨w, hw, hw2⟩ := hex
          rw [hVx] at hw
          rcases List.mem_append.mp hw with q | q
          · have := hlow w q
            omega
          · rcases List.mem_cons.mp q with q | q
            · rw [q] at hw2
              omega
            · exact ⟨w, q, hw2⟩
        have r0 : r' ≠ 0 := fun q => by
          obtain ⟨w, hw, -⟩ := hex2
          rw [q, hfo'.1] at hw
          exact absurd hw List.not_mem_nil
        refine ih (i + 1) u' G' r' (p + (G' l).length + 1) (by omega) (by omega) ⟨hfo', hrs', hsub r' ((hmem r').mpr (Or.inr (Or.inr (hr.2.2 r0).1))), hFF, ?_, hex2, ?_⟩
        · obtain ⟨a, b, e1, e2, e3⟩ := hab'
          refine ⟨a ++ (G' l ++ [(x, sg_V u' x)]), b, ?_, ?_, ?_⟩
          · rw [e1, e]
            simp only [List.append_assoc, List.cons_append, List.nil_append]
          · simp only [List.length_append, List.length_cons, List.length_nil]
            omega
          · intro z hz
            rw [sp_V_app, sp_V_app] at hz
            rcases List.mem_append.mp hz with q | q
            · exact e3 z q
            · rcases List.mem_append.mp q with q | q
              · exact hlow z q
              · rcases List.mem_cons.mp q with q | q
                · rw [q]; exact hc2
                · exact absurd q List.not_mem_nil
        · clear hex hab hex2 hab'
          omega
      · have hc2 : v.toInt ≤ (sg_V u' x).toInt := sp_nlt hc
        obtain ⟨a, b, e1, e2, e3⟩ := hab'
        have hk : p + (G' l).length < 48 := by
          have l1 := sp_fo_len1 hfo' (sp_inD (by rw [hroot r (List.mem_cons_self ..)]; exact (hfo.2.2.2.2 r (List.mem_cons_self ..) (sp_in0 hfo.1 hx)).2.1) : r ∈ sp_D G' (r :: rs))
          rw [e1, List.length_append, List.length_append] at l1
          clear hex hab
          omega
        have fin : post (nI (p + (G' l).length)) u' := by
          refine h u' G' (p + (G' l).length) hfo' hrs' hFF ⟨sp_V (a ++ G' l), sg_V u' x, sp_V (G' r' ++ b), ?_, ?_, hc2, ?_⟩ hk
          · rw [← hrs' r (List.mem_cons_self ..), e1, e, ← sp_V_cons (x, sg_V u' x), ← sp_V_app]
            simp only [List.append_assoc, List.cons_append]
          · rw [sp_V_len, List.length_append]
            omega
          · intro z hz
            rw [sp_V_app] at hz
            rcases List.mem_append.mp hz with q | q
            · exact e3 z q
            · exact hlow z q
        obtain ⟨n', rfl⟩ : ∃ n', n = n' + 1 := ⟨n - 1, by clear hex hab; omega⟩
        rw [wX_seek_11]
        exact br_c (fun _ => fin) (fun _ => br_t (nI_pos' (by omega)) fin)
    refine ⟨ix, nm_r (e' := nI l) eL ?_⟩
    by_cases l0 : l = 0
    · refine br_t (by rw [l0]; rfl) (go58 ?_)
      rw [l0, hfo'.1]
      exact fun z hz => absurd hz List.not_mem_nil
    · refine br_f (nI_ne0 (by omega) (by have := hl.2.1; omega)) ⟨il, ?_⟩
      rw [cl']
      refine br_c (fun hc => go58 ?_) (fun hc => nm_r (e' := nI (i + 1)) (nI_1 i) ?_)
      · have hc2 : (sg_H u' l).toInt < v.toInt := sp_lt hc
        intro z hz
        have := hAl.2.2.2.1.1 z hz
        clear hex hab hab'
        omega
      · have hc2 : v.toInt ≤ (sg_H u' l).toInt := sp_nlt hc
        refine ih (i + 1) u' G' l p (by omega) (by omega) ⟨hfo', hrs', hsub l ((hmem l).mpr (Or.inl (hl.2.2 l0).1)), hFF, ?_, ⟨sg_H u' l, ?_, hc2⟩, ?_⟩
        · obtain ⟨a, b, e1, e2, e3⟩ := hab'
          refine ⟨a, (x, sg_V u' x) :: (G' r' ++ b), ?_, e2, e3⟩
          rw [e1, e]
          simp only [List.append_assoc, List.cons_append]
        · rcases hAl.2.2.2.1.2 with q | ⟨q, -⟩
          · exact q
          · have := (hl.2.2 l0).1
            have q' : G' l = [] := List.map_eq_nil_iff.mp q
            rw [q'] at this
            exact absurd this List.not_mem_nil
        · clear hex hab hab'
          omega
theorem sp_seek {post : Int32 → SX → Prop} {u : SX} {G : Nat → List sp_E} {r : Nat} {rs : List Nat} {v : Int32} (hfo : sp_fo u G (r :: rs)) (hex : ∃ w ∈ sp_V (G r), v.toInt ≤ w.toInt)
    (h : ∀ u' G' k, sp_fo u' G' (r :: rs) → (∀ q ∈ r :: rs, G' q = G q) → sp_F u u' → sp_first (sp_V (G r)) v k → k < 48 → post (nI k) u') : wpX_seek post u (nI r) v := by
  have r0 : r ≠ 0 := fun q => by
    obtain ⟨w, hw, -⟩ := hex
    rw [q, hfo.1] at hw
    exact absurd hw List.not_mem_nil
  have hr := hfo.2.2.2.2 r (List.mem_cons_self ..) r0
  have l48 := sp_fo_len1 hfo (sp_inD hr.2.1)
  refine ⟨49, ?_⟩
  exact sp_sk (u0 := u) (G0 := G) h 49 0 u G r 0 (by omega) (by omega) ⟨hfo, fun _ _ => rfl, hr.2.1, sp_F_rfl u, ⟨[], [], by simp, rfl, fun z hz => absurd hz List.not_mem_nil⟩, hex, l48⟩
end
section
/-! X against two rows of numbers -/
def sp_X (u : SX) (L C : List sp_E) : Prop :=
  ∃ (r c : Nat) (G : Nat → List sp_E), sg_r u = nI r ∧ sg_c u = nI c ∧ r ≤ 48 ∧ c ≤ 48 ∧ sp_fo u G [r, c] ∧ G r = L ∧ G c = C ∧ sp_us u (sp_N L ++ sp_N C)
def sp_XR (u : SX) (A B : List Int32) : Prop := ∃ L C, sp_X u L C ∧ sp_V L = A ∧ sp_V C = B
theorem sp_D2 (G : Nat → List sp_E) (r c : Nat) : sp_D G [r, c] = sp_N (G r) ++ sp_N (G c) := by
  rw [sp_D_cons, sp_D_cons]
  show _ ++ (_ ++ []) = _
  rw [List.append_nil]
theorem sp_fo_B {u : SX} {G : Nat → List sp_E} {rs : List Nat} (h : sp_fo u G rs) {r : Nat} (hr : r ∈ rs) : sp_B (sp_V (G r)) := by
  by_cases r0 : r = 0
  · rw [r0, h.1]
    exact fun v hv => absurd hv List.not_mem_nil
  · exact (sp_fo_tree h hr r0).1.2.2.2.1
theorem sp_fo_R {u : SX} {G : Nat → List sp_E} {rs : List Nat} (h : sp_fo u G rs) {r : Nat} (hr : r ∈ rs) : sp_A u r (G r) :=
  sp_fo_A h (fun q => sp_D_mem.mpr ⟨r, hr, (h.2.2.2.2 r hr q).2.1⟩)
theorem sp_XR_f {u : SX} {A B : List Int32} (hX : sp_XR u A B) :
    vp_in (sg_r u) 49 ∧ sg_S u (sg_r u).toNatClampNeg = nI A.length ∧ vp_in (sg_c u) 49 ∧ sg_S u (sg_c u).toNatClampNeg = nI B.length ∧ A.length + B.length ≤ 48 ∧ sp_B A ∧ sp_B B := by
  obtain ⟨L, C, ⟨r, c, G, hr, hc, r48, c48, hfo, rfl, rfl, hus⟩, rfl, rfl⟩ := hX
  have l := sp_fo_len hfo
  rw [sp_D2, List.length_append, sp_N_len, sp_N_len] at l
  have m1 : r ∈ [r, c] := List.mem_cons_self ..
  have m2 : c ∈ [r, c] := List.mem_cons_of_mem _ (List.mem_cons_self ..)
  rw [hr, hc, nI_clamp (by omega), nI_clamp (by omega), sp_V_len, sp_V_len]
  exact ⟨vp_in_nI (by omega) (by omega), (sp_fo_R hfo m1).1, vp_in_nI (by omega) (by omega), (sp_fo_R hfo m2).1, l, sp_fo_B hfo m1, sp_fo_B hfo m2⟩
theorem sp_us_mem {u : SX} {ns ms : List Nat} (h : sp_us u ns) (e : ∀ y, y ∈ ns ↔ y ∈ ms) : sp_us u ms := fun y a b => (h y a b).trans (e y)
theorem sp_us_E {u u' : SX} {ns : List Nat} (h : sp_us u ns) (e : sg_E u' = sg_E u) : sp_us u' ns := fun y a b => by rw [e]; exact h y a b
/-- an end of a call: the trees row and clip, no others -/
theorem sp_XR_i {u : SX} {G : Nat → List sp_E} {r c : Nat} (hr : sg_r u = nI r) (hc : sg_c u = nI c) (r48 : r ≤ 48) (c48 : c ≤ 48) (hfo : sp_fo u G [r, c]) (hus : sp_us u (sp_D G [r, c])) : sp_XR u (sp_V (G r)) (sp_V (G c)) :=
  ⟨G r, G c, ⟨r, c, G, hr, hc, r48, c48, hfo, rfl, rfl, by rw [← sp_D2]; exact hus⟩, rfl, rfl⟩
theorem sp_badNumber {post : Int32 → Prop} {u : SX} {p : Int32} (h1 : sp_nu p → post 0) (h0 : ¬ sp_nu p → post 1) : wpX_badNumber post u p := by
  unfold sp_nu at h1 h0
  refine br_c (fun c => h0 (fun q => ?_)) (fun c => br_c (fun d => h1 ?_) (fun d => h0 (fun q => ?_)))
  · have := sp_lt c
    rw [sp_lit_c] at this
    omega
  · have a := sp_nlt c
    have b := sp_le d
    rw [sp_lit_c] at a
    rw [sp_lit_d] at b
    exact ⟨a, b⟩
  · rw [Int32.le_iff_toInt_le, sp_lit_d] at d
    omega
def sp_st (p q : Int32) (n : Nat) : Prop := ∃ i j : Nat, p = nI i ∧ q = nI j ∧ i ≤ j ∧ j ≤ n
def sp_at (p : Int32) (n : Nat) : Prop := ∃ i : Nat, p = nI i ∧ i ≤ n
theorem sp_at_neg {p : Int32} {n : Nat} (hn : n ≤ 48) (h : p < 0) : ¬ sp_at p n := fun ⟨i, e, hi⟩ => by
  rw [e] at h
  exact nI_pos (by omega) h
theorem sp_at_big {p : Int32} {n : Nat} (hn : n ≤ 48) (h : nI n < p) : ¬ sp_at p n := fun ⟨i, e, hi⟩ => by
  rw [e, nI_ltI (by omega) (by omega)] at h
  omega
theorem sp_at_ok {p : Int32} {n : Nat} (hn : n ≤ 48) (h0 : ¬ p < 0) (h : ¬ nI n < p) : sp_at p n := by
  obtain ⟨i, hi, rfl⟩ := nI_of h0
  rw [nI_ltI (by omega) (by omega)] at h
  exact ⟨i, rfl, by omega⟩
theorem sp_at_le {p : Int32} {n : Nat} (h : p ≤ nI n) : ¬ nI n < p := by
  rw [Int32.lt_iff_toInt_lt]
  have := sp_le h
  omega
theorem sp_at_nle {p : Int32} {n : Nat} (h : ¬ p ≤ nI n) : nI n < p := by
  rw [Int32.lt_iff_toInt_lt]
  rw [Int32.le_iff_toInt_le] at h
  omega
theorem sp_st_neg {p q : Int32} {n : Nat} (hn : n ≤ 48) (h : p < 0) : ¬ sp_st p q n := fun ⟨i, j, e1, e2, a, b⟩ => by
  rw [e1] at h
  exact nI_pos (by omega) h
theorem sp_st_lt {p q : Int32} {n : Nat} (hn : n ≤ 48) (h : q < p) : ¬ sp_st p q n := fun ⟨i, j, e1, e2, a, b⟩ => by
  rw [e1, e2, nI_ltI (by omega) (by omega)] at h
  omega
theorem sp_st_big {p q : Int32} {n : Nat} (hn : n ≤ 48) (h : nI n < q) : ¬ sp_st p q n := fun ⟨i, j, e1, e2, a, b⟩ => by
  rw [e2, nI_ltI (by omega) (by omega)] at h
  omega
theorem sp_st_ok {p q : Int32} {n : Nat} (hn : n ≤ 48) (h0 : ¬ p < 0) (h1 : ¬ q < p) (h2 : ¬ nI n < q) : sp_st p q n := by
  obtain ⟨i, hi, rfl⟩ := nI_of h0
  have hq : ¬ q < 0 := fun z => h1 (by
    rw [Int32.lt_iff_toInt_lt] at z ⊢
    rw [Int32.lt_iff_toInt_lt] at h0
    rw [sp_lit_0] at z h0
    omega)
  obtain ⟨j, hj, rfl⟩ := nI_of hq
  rw [nI_ltI (by omega) (by omega)] at h1 h2
  exact ⟨i, j, rfl, rfl, by omega, by omega⟩
theorem sx_bad {post : Int32 → Prop} {u : SX} {A B : List Int32} {p q : Int32} (hX : sp_XR u A B) (h0 : sp_st p q A.length → post 0) (h1 : ¬ sp_st p q A.length → post 1) : wpX_bad post u p q := by
  obtain ⟨ir, eS, -, -, hn, -, -⟩ := sp_XR_f hX
  have n48 : A.length ≤ 48 := by omega
  refine br_c (fun c => h1 (sp_st_neg n48 c)) (fun c => br_c (fun d => h1 (sp_st_lt n48 d)) (fun d => ⟨ir, ?_⟩))
  show (q ≤ sg_S u (sg_r u).toNatClampNeg → post 0) ∧ (¬ q ≤ sg_S u (sg_r u).toNatClampNeg → post 1)
  rw [eS]
  exact br_c (fun e => h0 (sp_st_ok n48 c d (sp_at_le e))) (fun e => h1 (sp_st_big n48 (sp_at_nle e)))
theorem sx_size {post : Int32 → Prop} {u : SX} {A B : List Int32} (hX : sp_XR u A B) (h : post (nI A.length)) : wpX_size post u := by
  obtain ⟨ir, eS, -⟩ := sp_XR_f hX
  refine ⟨ir, ?_⟩
  show post (sg_S u (sg_r u).toNatClampNeg)
  rw [eS]
  exact h
theorem sx_clip {post : Int32 → Prop} {u : SX} {A B : List Int32} (hX : sp_XR u A B) (h : post (nI B.length)) : wpX_clip post u := by
  obtain ⟨-, -, ir, eS, -⟩ := sp_XR_f hX
  refine ⟨ir, ?_⟩
  show post (sg_S u (sg_c u).toNatClampNeg)
  rw [eS]
  exact h
/-- row is opened at i, j -/
theorem sx_open {post : SX → Prop} {u : SX} {A B : List Int32} {i j : Nat} (hX : sp_XR u A B) (hij : i ≤ j) (hj : j ≤ A.length)
    (h : ∀ u' G a m b c, sp_fo u' G [a, m, b, c] → sp_V (G a) = A.take i → sp_V (G m) = (A.take j).drop i → sp_V (G b) = A.drop j → sp_V (G c) = B → a ≤ 48 → m ≤ 48 → b ≤ 48 → c ≤ 48 →
      sg_b u' = nI a → sg_m u' = nI m → sg_e u' = nI b → sg_c u' = nI c → sp_us u' (sp_D G [a, m, b, c]) → post u') : wpX_open post u (nI i) (nI j) := by
  obtain ⟨L, C, ⟨r, c, G, hr, hc, r48, c48, hfo, rfl, rfl, hus⟩, rfl, rfl⟩ := hX
  rw [sp_V_len] at hj
  refine sp_open hfo r48 hr hij hj ?_
  intro u' G' a m b hfo' ha hm hb hq a48 m48 b48 hF e1 e2 e3
  have hcc := hq c (List.mem_cons_self ..)
  refine h u' G' a m b c hfo' ?_ ?_ ?_ (by rw [hcc]) a48 m48 b48 c48 e1 e2 e3 (hF.1.trans hc) ?_
  · rw [ha]; unfold sp_V; rw [List.map_take]
  · rw [hm]; unfold sp_V; rw [List.map_drop, List.map_take]
  · rw [hb]; unfold sp_V; rw [List.map_drop]
  · refine sp_us_mem (sp_us_E hus hF.2.1) (fun y => ?_)
    rw [sp_D_cons, sp_D_cons, sp_D2, ha, hm, hb, hcc]
    have e : G r = (G r).take i ++ (((G r).take j).drop i ++ (G r).drop j) := by
      rw [← List.append_assoc]
      have : (G r).take i = ((G r).take j).take i := by rw [List.take_take, Nat.min_eq_left hij]
      rw [this, List.take_append_drop, List.take_append_drop]
    have e2 := congrArg sp_N e
    rw [sp_N_app, sp_N_app] at e2
    rw [e2, List.append_assoc, List.append_assoc]
theorem sx_close {post : SX → Prop} {u : SX} {G : Nat → List sp_E} {a m b c : Nat} (hfo : sp_fo u G [a, m, b, c]) (a48 : a ≤ 48) (m48 : m ≤ 48) (b48 : b ≤ 48) (c48 : c ≤ 48)
    (ha : sg_b u = nI a) (hm : sg_m u = nI m) (hb : sg_e u = nI b) (hc : sg_c u = nI c) (hus : sp_us u (sp_D G [a, m, b, c]))
    (h : ∀ u', sp_XR u' (sp_V (G a) ++ sp_V (G m) ++ sp_V (G b)) (sp_V (G c)) → sg_c u' = sg_c u → post u') : wpX_close post u := by
  refine sp_close hfo a48 m48 b48 ha hm hb ?_
  intro u' G' x hfo' hx hq x48 hF hr
  have hcc := hq c (List.mem_cons_self ..)
  have k := sp_XR_i hr (hF.1.trans hc) x48 c48 hfo' ?_
  · rw [hx, hcc, sp_V_app, sp_V_app] at k
    exact h u' k hF.1
  · refine sp_us_mem (sp_us_E hus hF.2.1) (fun y => ?_)
    rw [sp_D2, hx, hcc, sp_D_cons, sp_D_cons, sp_D2, sp_N_app, sp_N_app, List.append_assoc, List.append_assoc]
theorem sx_put {post : SX → Prop} {u : SX} {A B : List Int32} {i : Nat} {v : Int32} (hX : sp_XR u A B) (hi : i ≤ A.length) (hv : sp_nu v) (hn : A.length + B.length < 48)
    (h : ∀ u', sp_XR u' (A.take i ++ v :: A.drop i) B → post u') : wpX_put post u (nI i) v := by
  unfold wpX_put
  refine sx_open (u := u) hX (Nat.le_refl i) hi ?_
  intro u1 G1 a m b c hfo1 ha hm hb hcc a48 m48 b48 c48 e1 e2 e3 e4 hus
  have m0 : m = 0 := by
    by_cases m0 : m = 0
    · exact m0
    · have h1 := (hfo1.2.2.2.2 m (List.mem_cons_of_mem _ (List.mem_cons_self ..)) m0).2.1
      have h2 : sp_V (G1 m) = [] := by rw [hm, List.drop_take_self]
      have h3 : G1 m = [] := List.map_eq_nil_iff.mp h2
      rw [h3] at h1
      exact absurd h1 List.not_mem_nil
  subst m0
  have hfo2 : sp_fo u1 G1 [a, b, c] := sp_fo_del (sp_fo_swap hfo1)
  have hD : sp_D G1 [a, 0, b, c] = sp_D G1 [a, b, c] := by
    rw [sp_D_cons, sp_D_cons, sp_D_cons (rs := [b, c]), hfo1.1]
    rfl
  rw [hD] at hus
  have hlen : (sp_D G1 [a, b, c]).length < 48 := by
    rw [sp_D_cons, sp_D2, List.length_append, List.length_append, sp_N_len, sp_N_len, sp_N_len, ← sp_V_len (G1 a), ← sp_V_len (G1 b), ← sp_V_len (G1 c), ha, hb, hcc, List.length_take, List.length_drop]
    omega
  refine sp_make (u := u1) hfo2 hus hlen hv ?_
  intro u2 G2 x hfo3 hx hq x48 hus2 k1 k2 k3 k4 k5
  have qa := hq a (List.mem_cons_self ..)
  have qb := hq b (List.mem_cons_of_mem _ (List.mem_cons_self ..))
  have qc := hq c (List.mem_cons_of_mem _ (List.mem_cons_of_mem _ (List.mem_cons_self ..)))
  have hfo4 : sp_fo u2 G2 [a, x, b, c] := sp_fo_swap hfo3
  refine sx_close (u := (u2.1, u2.2.1, u2.2.2.1, nI x, u2.2.2.2.2.1, u2.2.2.2.2.2.1, u2.2.2.2.2.2.2.1, u2.2.2.2.2.2.2.2.1, u2.2.2.2.2.2.2.2.2.1, u2.2.2.2.2.2.2.2.2.2.1, u2.2.2.2.2.2.2.2.2.2.2.1, u2.2.2.2.2.2.2.2.2.2.2.2.1, u2.2.2.2.2.2.2.2.2.2.2.2.2.1, u2.2.2.2.2.2.2.2.2.2.2.2.2.2.1, u2.2.2.2.2.2.2.2.2.2.2.2.2.2.2.1, u2.2.2.2.2.2.2.2.2.2.2.2.2.2.2.2.1, u2.2.2.2.2.2.2.2.2.2.2.2.2.2.2.2.2.1, u2.2.2.2.2.2.2.2.2.2.2.2.2.2.2.2.2.2.1, u2.2.2.2.2.2.2.2.2.2.2.2.2.2.2.2.2.2.2.1, u2.2.2.2.2.2.2.2.2.2.2.2.2.2.2.2.2.2.2.2)) (G := G2) (a := a) (m := x) (b := b) (c := c) (sp_fo_same hfo4 (fun y => ⟨rfl, rfl, rfl, rfl, rfl, rfl, rfl, rfl, rfl, rfl, rfl⟩) (fun y hy => rfl)) a48 x48 b48 c48 (k3.trans e1) rfl (k4.trans e3) (k2.trans e4) ?_ ?_
  · refine sp_us_mem (ns := sp_D G2 [x, a, b, c]) hus2 (fun y => ?_)
    exact (sp_D_perm (List.Perm.swap ..)).mem_iff
  · intro u' hX' _
    rw [qa, hx, qb, qc, ha, hb, hcc] at hX'
    have e : A.take i ++ sp_V [(x, v)] ++ A.drop i = A.take i ++ v :: A.drop i := by
      rw [List.append_assoc]
      rfl
    rw [e] at hX'
    exact h u' hX'
end
section
theorem sp_ins_len {A : List Int32} {i : Nat} {v : Int32} (hi : i ≤ A.length) : (A.take i ++ v :: A.drop i).length = A.length + 1 := by
  rw [List.length_append, List.length_cons, List.length_take, List.length_drop]
  omega
theorem sx_insert {post : Int32 → SX → Prop} {u : SX} {A B : List Int32} {p v : Int32} (hX : sp_XR u A B)
    (h1 : ¬ (sp_at p A.length ∧ sp_nu v) → post (-1) u) (h2 : sp_at p A.length → sp_nu v → A.length + B.length = 48 → post (-2) u)
    (h3 : ∀ i u', p = nI i → i ≤ A.length → sp_nu v → A.length + B.length < 48 → sp_XR u' (A.take i ++ v :: A.drop i) B → post (nI (A.length + 1)) u') : wpX_insert post u p v := by
  obtain ⟨ir, eS, ic, eC, hn, -, -⟩ := sp_XR_f hX
  have n48 : A.length ≤ 48 := by omega
  refine br_c (fun c => h1 (fun q => sp_at_neg n48 c q.1)) (fun c => ⟨ir, ?_⟩)
  show (sg_S u (sg_r u).toNatClampNeg < p → _) ∧ (¬ sg_S u (sg_r u).toNatClampNeg < p → _)
  rw [eS]
  refine br_c (fun d => h1 (fun q => sp_at_big n48 d q.1)) (fun d => ?_)
  have hat := sp_at_ok n48 c d
  refine sp_badNumber (fun hv => br_t rfl ⟨ir, ic, ?_⟩) (fun hv => br_f (by decide) (h1 (fun q => hv q.2)))
  show (sg_S u (sg_r u).toNatClampNeg + sg_S u (sg_c u).toNatClampNeg = 48 → _) ∧ (¬ sg_S u (sg_r u).toNatClampNeg + sg_S u (sg_c u).toNatClampNeg = 48 → _)
  rw [eS, eC, nI_add]
  refine pk_eq (A.length + B.length) 48 (fun e => h2 hat hv e) (fun e => ?_)
  obtain ⟨i, rfl, hi⟩ := hat
  refine sx_put (u := u) hX hi hv (by omega) ?_
  intro u' hX'
  obtain ⟨ir', eS', -⟩ := sp_XR_f hX'
  refine ⟨ir', ?_⟩
  show post (sg_S u' (sg_r u').toNatClampNeg) u'
  rw [eS', sp_ins_len hi]
  exact h3 i u' rfl hi hv (by omega) hX'
def sp_run (v d : Int32) (k : Nat) : List Int32 := (List.range k).map (fun n => v + nI n * d)
theorem sp_run_len (v d : Int32) (k : Nat) : (sp_run v d k).length = k := by simp [sp_run]
theorem sp_run_succ (v d : Int32) (k : Nat) : sp_run v d (k + 1) = sp_run v d k ++ [v + nI k * d] := by simp [sp_run, List.range_succ]
theorem sp_mulb (D : Int) (h1 : -1000000 ≤ D) (h2 : D ≤ 1000000) (n : Nat) : -(1000000 * (n : Int)) ≤ (n : Int) * D ∧ (n : Int) * D ≤ 1000000 * (n : Int) := by
  induction n with
  | zero => simp
  | succ n ih =>
    have e : ((n + 1 : Nat) : Int) * D = (n : Int) * D + D := by
      rw [Int.natCast_add, Int.add_mul]
      simp
    rw [e]
    omega
theorem sp_mulI {d : Int32} {n : Nat} (hd : sp_nu d) (hn : n ≤ 48) : (nI n * d).toInt = (n : Int) * d.toInt := by
  unfold sp_nu at hd
  have h := sp_mulb d.toInt hd.1 hd.2 n
  rw [Int32.toInt_mul, nI_toInt (by omega)]
  exact Int.bmod_eq_of_le (by omega) (by omega)
theorem sp_run_nu {v d : Int32} {n k : Nat} (hv : sp_nu v) (hd : sp_nu d) (hk : k ≤ 48) (hn : n < k) (h : sp_nu (v + nI (k - 1) * d)) : sp_nu (v + nI n * d) := by
  have e1 := sp_mulI (n := n) hd (by omega)
  have e2 := sp_mulI (n := k - 1) hd (by omega)
  unfold sp_nu at hv hd h ⊢
  have b1 := sp_mulb d.toInt hd.1 hd.2 n
  have b2 := sp_mulb d.toInt hd.1 hd.2 (k - 1)
  rw [sp_ta (by omega) (by omega), e2] at h
  rw [sp_ta (by omega) (by omega), e1]
  have hc : (n : Int) ≤ ((k - 1 : Nat) : Int) := by omega
  rcases Int.le_total 0 d.toInt with q | q
  · have z := Int.mul_le_mul_of_nonneg_right hc q
    have z0 := Int.mul_nonneg (Int.natCast_nonneg n) q
    omega
  · have z := Int.mul_le_mul_of_nonpos_right hc q
    have z0 := Int.mul_nonpos_of_nonneg_of_nonpos (Int.natCast_nonneg n) q
    omega
theorem sx_irl {post : Int32 → SX → Prop} {A B : List Int32} {i k : Nat} {v d : Int32} (hi : i ≤ A.length) (hk : A.length + B.length + k ≤ 48) (hv : sp_nu v) (hd : sp_nu d) (hr : 0 < k → sp_nu (v + nI (k - 1) * d))
    (h : ∀ u', sp_XR u' (A.take i ++ (sp_run v d k ++ A.drop i)) B → post (nI (A.length + k)) u') :
    ∀ (n m : Nat) (u : SX), m ≤ k → k - m < n → sp_XR u (A.take i ++ (sp_run v d m ++ A.drop i)) B → wX_insertRun_99 post (nI i) (nI k) v d n (nI m) u.1 u.2.1 u.2.2.1 u.2.2.2.1 u.2.2.2.2.1 u.2.2.2.2.2.1 u.2.2.2.2.2.2.1 u.2.2.2.2.2.2.2.1 u.2.2.2.2.2.2.2.2.1 u.2.2.2.2.2.2.2.2.2.1 u.2.2.2.2.2.2.2.2.2.2.1 u.2.2.2.2.2.2.2.2.2.2.2.1 u.2.2.2.2.2.2.2.2.2.2.2.2.1 u.2.2.2.2.2.2.2.2.2.2.2.2.2.1 u.2.2.2.2.2.2.2.2.2.2.2.2.2.2.1 u.2.2.2.2.2.2.2.2.2.2.2.2.2.2.2.1 u.2.2.2.2.2.2.2.2.2.2.2.2.2.2.2.2.1 u.2.2.2.2.2.2.2.2.2.2.2.2.2.2.2.2.2.1 u.2.2.2.2.2.2.2.2.2.2.2.2.2.2.2.2.2.2.1 u.2.2.2.2.2.2.2.2.2.2.2.2.2.2.2.2.2.2.2 := by
  intro n
  induction n with
  | zero => intro m u _ hn; omega
  | succ n ih =>
    intro m u hm hn hX
    have hlen : (A.take i ++ (sp_run v d m ++ A.drop i)).length = A.length + m := by
      rw [List.length_append, List.length_append, sp_run_len, List.length_take, List.length_drop]
      omega
    obtain ⟨ir, eS, -⟩ := sp_XR_f hX
    rw [hlen] at eS
    rw [wX_insertRun_99]
    refine pk_le k m (fun c => ⟨ir, ?_⟩) (fun c => ?_)
    · have e : m = k := by omega
      subst e
      show post (sg_S u (sg_r u).toNatClampNeg) u
      rw [eS]
      exact h u hX
    · rw [nI_add]
      refine sx_put (u := u) hX (by rw [hlen]; omega) (sp_run_nu (k := k) hv hd (by omega) c (hr (by omega))) (by rw [hlen]; omega) ?_
      intro u' hX'
      show ∀ q : Int32, q = nI m + 1 → wX_insertRun_99 post (nI i) (nI k) v d n q u'.1 u'.2.1 u'.2.2.1 u'.2.2.2.1 u'.2.2.2.2.1 u'.2.2.2.2.2.1 u'.2.2.2.2.2.2.1 u'.2.2.2.2.2.2.2.1 u'.2.2.2.2.2.2.2.2.1 u'.2.2.2.2.2.2.2.2.2.1 u'.2.2.2.2.2.2.2.2.2.2.1 u'.2.2.2.2.2.2.2.2.2.2.2.1 u'.2.2.2.2.2.2.2.2.2.2.2.2.1 u'.2.2.2.2.2.2.2.2.2.2.2.2.2.1 u'.2.2.2.2.2.2.2.2.2.2.2.2.2.2.1 u'.2.2.2.2.2.2.2.2.2.2.2.2.2.2.2.1 u'.2.2.2.2.2.2.2.2.2.2.2.2.2.2.2.2.1 u'.2.2.2.2.2.2.2.2.2.2.2.2.2.2.2.2.2.1 u'.2.2.2.2.2.2.2.2.2.2.2.2.2.2.2.2.2.2.1 u'.2.2.2.2.2.2.2.2.2.2.2.2.2.2.2.2.2.2.2
      refine nm_r (e' := nI (m + 1)) (nI_1 m) (ih (m + 1) u' (by omega) (by omega) ?_)
      have tk : (A.take i ++ (sp_run v d m ++ A.drop i)).take (i + m) = A.take i ++ sp_run v d m ∧ (A.take i ++ (sp_run v d m ++ A.drop i)).drop (i + m) = A.drop i := by
        rw [← List.append_assoc]
        have hl : (A.take i ++ sp_run v d m).length = i + m := by
          rw [List.length_append, sp_run_len, List.length_take]
          omega
        exact ⟨List.take_left' hl, List.drop_left' hl⟩
      rw [tk.1, tk.2] at hX'
      have e : A.take i ++ sp_run v d m ++ (v + nI m * d) :: A.drop i = A.take i ++ (sp_run v d (m + 1) ++ A.drop i) := by
        rw [sp_run_succ]
        simp only [List.append_assoc, List.cons_append, List.nil_append]
      rw [e] at hX'
      exact hX'
theorem sx_insertRun {post : Int32 → SX → Prop} {u : SX} {A B : List Int32} {p k v d : Int32} (hX : sp_XR u A B)
    (h1 : ¬ (sp_at p A.length ∧ sp_at k 48 ∧ sp_nu v ∧ sp_nu d ∧ (¬ k ≤ 0 → sp_nu (v + (k - 1) * d))) → post (-1) u)
    (h2 : ∀ n, k = nI n → n ≤ 48 → sp_at p A.length → sp_nu v → sp_nu d → (0 < n → sp_nu (v + nI (n - 1) * d)) → 48 < A.length + B.length + n → post (-2) u)
    (h3 : ∀ i n u', p = nI i → k = nI n → i ≤ A.length → sp_nu v → sp_nu d → (0 < n → sp_nu (v + nI (n - 1) * d)) → A.length + B.length + n ≤ 48 → sp_XR u' (A.take i ++ (sp_run v d n ++ A.drop i)) B → post (nI (A.length + n)) u') :
    wpX_insertRun post u p k v d := by
  obtain ⟨ir, eS, ic, eC, hn, -, -⟩ := sp_XR_f hX
  have n48 : A.length ≤ 48 := by omega
  refine br_c (fun c => h1 (fun q => sp_at_neg n48 c q.1)) (fun c => ⟨ir, ?_⟩)
  show (sg_S u (sg_r u).toNatClampNeg < p → _) ∧ (¬ sg_S u (sg_r u).toNatClampNeg < p → _)
  rw [eS]
  refine br_c (fun e => h1 (fun q => sp_at_big n48 e q.1)) (fun e => ?_)
  have hat := sp_at_ok n48 c e
  refine br_c (fun c2 => h1 (fun q => sp_at_neg (Nat.le_refl _) c2 q.2.1)) (fun c2 => br_c (fun c3 => h1 (fun q => sp_at_big (n := 48) (Nat.le_refl _) c3 q.2.1)) (fun c3 => ?_))
  have hak : sp_at k 48 := sp_at_ok (Nat.le_refl _) c2 c3
  obtain ⟨i, rfl, hi⟩ := hat
  obtain ⟨n, rfl, hn2⟩ := hak
  have k0 : n ≠ 0 → (nI n - 1) = nI (n - 1) := fun z => pk_sub (b := 1) (by omega)
  refine sp_badNumber (fun hv => br_t rfl ?_) (fun hv => br_f (by decide) (h1 (fun q => hv q.2.2.1)))
  refine sp_badNumber (fun hd => br_t rfl ?_) (fun hd => br_f (by decide) (h1 (fun q => hd q.2.2.2.1)))
  have go : (0 < n → sp_nu (v + nI (n - 1) * d)) → wX_insertRun_67 post (nI i) (nI n) v d u.1 u.2.1 u.2.2.1 u.2.2.2.1 u.2.2.2.2.1 u.2.2.2.2.2.1 u.2.2.2.2.2.2.1 u.2.2.2.2.2.2.2.1 u.2.2.2.2.2.2.2.2.1 u.2.2.2.2.2.2.2.2.2.1 u.2.2.2.2.2.2.2.2.2.2.1 u.2.2.2.2.2.2.2.2.2.2.2.1 u.2.2.2.2.2.2.2.2.2.2.2.2.1 u.2.2.2.2.2.2.2.2.2.2.2.2.2.1 u.2.2.2.2.2.2.2.2.2.2.2.2.2.2.1 u.2.2.2.2.2.2.2.2.2.2.2.2.2.2.2.1 u.2.2.2.2.2.2.2.2.2.2.2.2.2.2.2.2.1 u.2.2.2.2.2.2.2.2.2.2.2.2.2.2.2.2.2.1 u.2.2.2.2.2.2.2.2.2.2.2.2.2.2.2.2.2.2.1 u.2.2.2.2.2.2.2.2.2.2.2.2.2.2.2.2.2.2.2 := by
    intro hrun
    refine ⟨ir, ic, ?_⟩
    show (sg_S u (sg_r u).toNatClampNeg + sg_S u (sg_c u).toNatClampNeg + nI n ≤ 48 → _) ∧ (¬ sg_S u (sg_r u).toNatClampNeg + sg_S u (sg_c u).toNatClampNeg + nI n ≤ 48 → _)
    rw [eS, eC, nI_add, nI_add]
    refine pk_le (A.length + B.length + n) 48 (fun z => ⟨n + 1, ?_⟩) (fun z => h2 n rfl hn2 ⟨i, rfl, hi⟩ hv hd hrun z)
    refine sx_irl hi z hv hd hrun (fun u' hX' => h3 i n u' rfl rfl hi hv hd hrun z hX') (n + 1) 0 u (by omega) (by omega) ?_
    have e0 : A.take i ++ (sp_run v d 0 ++ A.drop i) = A := by
      show A.take i ++ A.drop i = A
      exact List.take_append_drop i A
    rw [e0]
    exact hX
  refine br_c (fun z => ?_) (fun z => ?_)
  · have n0 : n = 0 := by
      by_cases q : n = 0
      · exact q
      · exact absurd z (nI_nle (by omega) (by omega))
    exact go (fun q => by omega)
  · have n0 : n ≠ 0 := fun q => by
      rw [q] at z
      exact z (Int32.le_refl _)
    refine sp_badNumber (fun hq => br_t rfl (go (fun _ => ?_))) (fun hq => br_f (by decide) (h1 (fun q => hq (q.2.2.2.2 z))))
    rw [k0 n0] at hq
    exact hq
def sp_lx (p : Int32) (n : Nat) : Prop := ∃ i : Nat, p = nI i ∧ i < n
theorem sp_lx_ok {p : Int32} {n : Nat} (hn : n ≤ 48) (h0 : ¬ p < 0) (h : p < nI n) : sp_lx p n := by
  obtain ⟨i, hi, rfl⟩ := nI_of h0
  rw [nI_ltI (by omega) (by omega)] at h
  exact ⟨i, rfl, h⟩
theorem sp_lx_neg {p : Int32} {n : Nat} (hn : n ≤ 48) (h : p < 0) : ¬ sp_lx p n := fun ⟨i, e, hi⟩ => by
  rw [e] at h
  exact nI_pos (by omega) h
theorem sp_lx_big {p : Int32} {n : Nat} (hn : n ≤ 48) (h : ¬ p < nI n) : ¬ sp_lx p n := fun ⟨i, e, hi⟩ => by
  rw [e, nI_ltI (by omega) (by omega)] at h
  exact h hi
/-- bring, of the row -/
theorem sx_bring {post : Int32 → SX → Prop} {u : SX} {A B : List Int32} {i : Nat} (hX : sp_XR u A B) (hi : i < A.length)
    (h : ∀ u' G x l r' c, sp_fo u' G [x, c] → sp_V (G x) = A → sp_V (G c) = B → sp_cl u' x → sp_F u u' → sp_ch u' G x (sg_L u' x) l → sp_ch u' G x (sg_R u' x) r' →
      G x = G l ++ (x, sg_V u' x) :: G r' → (G l).length = i → 1 ≤ x → x ≤ 48 → c ≤ 48 → sg_c u' = nI c → sp_us u' (sp_D G [x, c]) → post (nI x) u') : wpX_bring post u (sg_r u) (nI i) := by
  obtain ⟨L, C, ⟨r, c, G, hr, hc, r48, c48, hfo, rfl, rfl, hus⟩, rfl, rfl⟩ := hX
  rw [sp_V_len] at hi
  rw [hr]
  refine sp_bring hfo hi ?_
  intro u' G' x l r' hfo' hGx hq clx hF hl hr' e hlen
  have hcc := hq c (List.mem_cons_self ..)
  have ndx := hfo'.2.2.2.1 x (sp_inD (by rw [e, sp_N_app]; exact List.mem_append_right _ (List.mem_cons_self ..)))
  refine h u' G' x l r' c hfo' (by rw [hGx]) (by rw [hcc]) clx hF hl hr' e hlen ndx.1 ndx.2.1 c48 (hF.2.1.trans hc) ?_
  rw [sp_D2, hGx, hcc]
  exact sp_us_E hus hF.2.2.2.2.2.1
theorem sp_get_app {P Q : List Int32} {w : Int32} {i : Nat} (h : P.length = i) : (P ++ w :: Q)[i]? = some w := by
  subst h
  rw [List.getElem?_append_right (Nat.le_refl _), Nat.sub_self]
  rfl
theorem sx_get {post : Int32 → SX → Prop} {u : SX} {A B : List Int32} {p : Int32} (hX : sp_XR u A B)
    (h0 : ¬ sp_lx p A.length → post 0 u) (h1 : ∀ i w u', p = nI i → i < A.length → A[i]? = some w → sp_XR u' A B → sg_C u' = sg_C u → post w u') : wpX_get post u p := by
  obtain ⟨ir, eS, -, -, hn, -, -⟩ := sp_XR_f hX
  have n48 : A.length ≤ 48 := by omega
  refine br_c (fun c => h0 (sp_lx_neg n48 c)) (fun c => ⟨ir, ?_⟩)
  show (p < sg_S u (sg_r u).toNatClampNeg → _) ∧ (¬ p < sg_S u (sg_r u).toNatClampNeg → _)
  rw [eS]
  refine br_c (fun d => ?_) (fun d => h0 (sp_lx_big n48 d))
  obtain ⟨i, rfl, hi⟩ := sp_lx_ok n48 c d
  show wpX_bring _ u (sg_r u) (nI i)
  refine sx_bring hX hi ?_
  intro u' G x l r' c hfo hA hB clx hF hl hr e hlen x1 x48 c48 hc hus
  have ix : vp_in (nI x) 49 := vp_in_nI (by omega) (by omega)
  have cx : (nI x).toNatClampNeg = x := nI_clamp (by omega)
  refine ⟨ix, ?_⟩
  rw [cx]
  have k := sp_XR_i (u := (nI x, u'.2.1, u'.2.2.1, u'.2.2.2.1, u'.2.2.2.2.1, u'.2.2.2.2.2.1, u'.2.2.2.2.2.2.1, u'.2.2.2.2.2.2.2.1, u'.2.2.2.2.2.2.2.2.1, u'.2.2.2.2.2.2.2.2.2.1, u'.2.2.2.2.2.2.2.2.2.2.1, u'.2.2.2.2.2.2.2.2.2.2.2.1, u'.2.2.2.2.2.2.2.2.2.2.2.2.1, u'.2.2.2.2.2.2.2.2.2.2.2.2.2.1, u'.2.2.2.2.2.2.2.2.2.2.2.2.2.2.1, u'.2.2.2.2.2.2.2.2.2.2.2.2.2.2.2.1, u'.2.2.2.2.2.2.2.2.2.2.2.2.2.2.2.2.1, u'.2.2.2.2.2.2.2.2.2.2.2.2.2.2.2.2.2.1, u'.2.2.2.2.2.2.2.2.2.2.2.2.2.2.2.2.2.2.1, u'.2.2.2.2.2.2.2.2.2.2.2.2.2.2.2.2.2.2.2)) (G := G) (r := x) (c := c) rfl hc x48 c48 (sp_fo_same hfo (fun y => ⟨rfl, rfl, rfl, rfl, rfl, rfl, rfl, rfl, rfl, rfl, rfl⟩) (fun y hy => rfl)) hus
  rw [hA, hB] at k
  refine h1 i (sg_V u' x) (nI x, u'.2.1, u'.2.2.1, u'.2.2.2.1, u'.2.2.2.2.1, u'.2.2.2.2.2.1, u'.2.2.2.2.2.2.1, u'.2.2.2.2.2.2.2.1, u'.2.2.2.2.2.2.2.2.1, u'.2.2.2.2.2.2.2.2.2.1, u'.2.2.2.2.2.2.2.2.2.2.1, u'.2.2.2.2.2.2.2.2.2.2.2.1, u'.2.2.2.2.2.2.2.2.2.2.2.2.1, u'.2.2.2.2.2.2.2.2.2.2.2.2.2.1, u'.2.2.2.2.2.2.2.2.2.2.2.2.2.2.1, u'.2.2.2.2.2.2.2.2.2.2.2.2.2.2.2.1, u'.2.2.2.2.2.2.2.2.2.2.2.2.2.2.2.2.1, u'.2.2.2.2.2.2.2.2.2.2.2.2.2.2.2.2.2.1, u'.2.2.2.2.2.2.2.2.2.2.2.2.2.2.2.2.2.2.1, u'.2.2.2.2.2.2.2.2.2.2.2.2.2.2.2.2.2.2.2) rfl hi ?_ k hF.2.2.2.2.2.2
  rw [← hA, e, sp_V_app, sp_V_cons]
  exact sp_get_app (by rw [sp_V_len]; exact hlen)
/-- a tree's top has changed -/
theorem sp_root_ed {u u' : SX} {G : Nat → List sp_E} {x : Nat} {rs : List Nat} {X : List sp_E} (hfo : sp_fo u G (x :: rs)) (x0 : x ≠ 0) (hp : (sp_N X).Perm (sp_N (G x))) (hU : sg_U u' = sg_U u)
    (hs : ∀ y, y ≠ x → sp_sm u u' y) (hnd : sp_nd u' (sp_up G x X) x) : sp_fo u' (sp_up G x X) (x :: rs) ∧ ∀ q ∈ rs, sp_up G x X q = G q := by
  have hq : ∀ q ∈ rs, sp_up G x X q = G q := fun q hqq => sp_upn (sp_fo_ne hfo x0 hqq)
  have hr := hfo.2.2.2.2 x (List.mem_cons_self ..) x0
  have hD : (sp_D (sp_up G x X) (x :: rs)).Perm (sp_D G (x :: rs)) := by
    rw [sp_D_cons, sp_D_cons, sp_ups, sp_D_eq hq]
    exact List.Perm.append_right _ hp
  refine ⟨⟨by rw [sp_upn (fun q => x0 q.symm)]; exact hfo.1, sp_sm_A (hs 0 (fun q => x0 q.symm)) hfo.2.1, hD.symm.nodup hfo.2.2.1, ?_, ?_⟩, hq⟩
  · intro y hy
    have hy := hD.mem_iff.mp hy
    by_cases yx : y = x
    · rw [yx]; exact hnd
    · have ndy := hfo.2.2.2.1 y hy
      refine sp_nd_eq ndy (hs y yx) (sp_upn (fun q => x0 q.symm)) (sp_upn yx) ?_
      intro c c0 hc cu
      refine ⟨sp_upn (fun q => ?_), by rw [hU]⟩
      subst q
      rw [hr.2.2] at cu
      exact nI_ne0 (by have := ndy.1; omega) (by have := ndy.2.1; omega) cu.symm
  · intro q hqq q0
    rw [hU]
    rcases List.mem_cons.mp hqq with z | z
    · subst z
      exact ⟨hr.1, by rw [sp_ups]; exact hp.symm.mem_iff.mp hr.2.1, hr.2.2⟩
    · rw [hq q z]
      exact hfo.2.2.2.2 q hqq q0
theorem sx_set {post : Int32 → SX → Prop} {u : SX} {A B : List Int32} {p v : Int32} (hX : sp_XR u A B)
    (h0 : ¬ (sp_lx p A.length ∧ sp_nu v) → post (-1) u) (h1 : ∀ i P w Q u', p = nI i → sp_nu v → A = P ++ w :: Q → P.length = i → sp_XR u' (P ++ v :: Q) B → post 0 u') : wpX_set post u p v := by
  obtain ⟨ir, eS, -, -, hn, -, -⟩ := sp_XR_f hX
  have n48 : A.length ≤ 48 := by omega
  refine br_c (fun c => h0 (fun q => sp_lx_neg n48 c q.1)) (fun c => ⟨ir, ?_⟩)
  show (sg_S u (sg_r u).toNatClampNeg ≤ p → _) ∧ (¬ sg_S u (sg_r u).toNatClampNeg ≤ p → _)
  rw [eS]
  refine br_c (fun d => h0 (fun q => sp_lx_big n48 ?_ q.1)) (fun d => ?_)
  · have := sp_le d
    rw [Int32.lt_iff_toInt_lt]
    omega
  obtain ⟨i, rfl, hi⟩ := sp_lx_ok (n := A.length) n48 c (by
    rw [Int32.le_iff_toInt_le] at d
    rw [Int32.lt_iff_toInt_lt]
    omega)
  refine sp_badNumber (fun hv => br_t rfl ?_) (fun hv => br_f (by decide) (h0 (fun q => hv q.2)))
  show wpX_bring _ u (sg_r u) (nI i)
  refine sx_bring hX hi ?_
  intro u' G x l r' c hfo hA hB clx hF hl hr e hlen x1 x48 c48 hc hus
  have ix : vp_in (nI x) 49 := vp_in_nI (by omega) (by omega)
  have cx : (nI x).toNatClampNeg = x := nI_clamp (by omega)
  have xD : x ∈ sp_D G [x, c] := sp_inD (by rw [e, sp_N_app]; exact List.mem_append_right _ (List.mem_cons_self ..))
  obtain ⟨-, -, xl, xr, lD, rD, xnl, xnr, dis⟩ := sp_kids hfo xD hl hr (by rw [sp_ox_cl clx, sp_ox_cl clx]; exact e)
  have hBx := (hfo.2.2.2.1 x xD).2.2.2.1
  refine ⟨ix, fun q eq => ?_⟩
  rw [cx] at eq
  subst eq
  refine sw_pull (u := (nI x, u'.2.1, u'.2.2.1, u'.2.2.2.1, u'.2.2.2.2.1, u'.2.2.2.2.2.1, u'.2.2.2.2.2.2.1, u'.2.2.2.2.2.2.2.1, upd (sg_V u') x v, u'.2.2.2.2.2.2.2.2.2.1, u'.2.2.2.2.2.2.2.2.2.2.1, u'.2.2.2.2.2.2.2.2.2.2.2.1, u'.2.2.2.2.2.2.2.2.2.2.2.2.1, u'.2.2.2.2.2.2.2.2.2.2.2.2.2.1, u'.2.2.2.2.2.2.2.2.2.2.2.2.2.2.1, u'.2.2.2.2.2.2.2.2.2.2.2.2.2.2.2.1, u'.2.2.2.2.2.2.2.2.2.2.2.2.2.2.2.2.1, u'.2.2.2.2.2.2.2.2.2.2.2.2.2.2.2.2.2.1, u'.2.2.2.2.2.2.2.2.2.2.2.2.2.2.2.2.2.2.1, u'.2.2.2.2.2.2.2.2.2.2.2.2.2.2.2.2.2.2.2)) (x := x) (l := l) (r := r') (A := G l) (B := G r') x48 hl.2.1 hr.2.1 (fun q => xl q.symm) (fun q => xr q.symm) hl.1 hr.1 (sp_fo_A hfo lD) (sp_fo_A hfo rD) (show sp_nu (upd (sg_V u') x v x) by rw [pk_us]; exact hv) ?_
  intro u2 F2 K2 s2 a2
  obtain ⟨k1, k2, k3, k4, k5, k6, k7⟩ := K2
  have a3 : sp_A u2 x (G l ++ (x, v) :: G r') := by
    have e2 : (x, upd (sg_V u') x v x) = (x, v) := by rw [pk_us]
    have a4 : sp_A u2 x (G l ++ (x, upd (sg_V u') x v x) :: G r') := a2
    rw [e2] at a4
    exact a4
  have sm : ∀ y, y ≠ x → sp_sm u' u2 y := fun y hy => by
    obtain ⟨b1, b2, b3, b4⟩ := s2 y hy
    exact ⟨b1, b2, b3.trans (pk_un hy), b4⟩
  have hp : (sp_N (G l ++ (x, v) :: G r')).Perm (sp_N (G x)) := by
    rw [e, sp_N_app, sp_N_app, sp_N_cons, sp_N_cons]
  have hU2 : sg_U u2 = sg_U u' := k3
  have hB2 : sp_B (sp_V (G l ++ (x, v) :: G r')) := by
    intro w hw
    rw [sp_V_app, sp_V_cons] at hw
    rcases List.mem_append.mp hw with z | z
    · exact hBx w (by rw [e, sp_V_app]; exact List.mem_append_left _ z)
    · rcases List.mem_cons.mp z with z | z
      · rw [z]; exact hv
      · exact hBx w (by rw [e, sp_V_app]; exact List.mem_append_right _ (List.mem_cons_of_mem _ z))
  have nd2 : sp_nd u2 (sp_up G x (G l ++ (x, v) :: G r')) x := by
    refine sp_nd_mk (l := l) (r := r') x1 x48 (by rw [sp_ups]; exact a3) (by rw [sp_ups]; exact hB2) (sp_ch_up hU2 (congrFun k1 x) (fun q => xl q.symm) hl) (sp_ch_up hU2 (congrFun k2 x) (fun q => xr q.symm) hr)
      ⟨(congrFun k5 x).trans clx.1, (congrFun k6 x).trans clx.2.1, (congrFun k7 x).trans clx.2.2⟩ ?_
    have ev : sg_V u2 x = v := by rw [k4]; exact pk_us
    rw [sp_ups, sp_upn (fun q => xl q.symm), sp_upn (fun q => xr q.symm), ev]
  obtain ⟨hfo3, hq3⟩ := sp_root_ed hfo (by omega) hp hU2 sm nd2
  have k := sp_XR_i (u := u2) (r := x) (c := c) F2.1 (F2.2.1.trans hc) x48 c48 hfo3 ?_
  · rw [sp_ups, hq3 c (List.mem_cons_self ..), hB, sp_V_app, sp_V_cons] at k
    refine h1 i (sp_V (G l)) (sg_V u' x) (sp_V (G r')) u2 rfl hv ?_ ?_ k
    · rw [← hA, e, sp_V_app, sp_V_cons]
    · rw [sp_V_len]; exact hlen
  · have hus' : sp_us u' (sp_D G [x, c]) := hus
    refine sp_us_mem (sp_us_E (u := u') hus' F2.2.2.2.2.2.1) (fun y => ?_)
    rw [sp_D2, sp_D2, sp_ups, hq3 c (List.mem_cons_self ..), List.mem_append, List.mem_append]
    exact or_congr hp.symm.mem_iff Iff.rfl
end
section
def sp_mid (A : List Int32) (i j : Nat) : List Int32 := (A.take j).drop i
theorem sp_mid_join (A : List Int32) {i j : Nat} (hij : i ≤ j) : A.take i ++ sp_mid A i j ++ A.drop j = A := by
  have : A.take i = (A.take j).take i := by rw [List.take_take, Nat.min_eq_left hij]
  unfold sp_mid
  rw [this, List.take_append_drop, List.take_append_drop]
theorem sp_mid_len {A : List Int32} {i j : Nat} (hij : i ≤ j) (hj : j ≤ A.length) : (sp_mid A i j).length = j - i := by
  unfold sp_mid
  rw [List.length_drop, List.length_take]
  omega
/-- the middle tree's top has changed -/
theorem sx_opm {f : List sp_E → List sp_E} (f0 : f [] = []) (fp : ∀ l, (sp_N (f l)).Perm (sp_N l)) {u u' : SX} {G : Nat → List sp_E} {a m b c : Nat} (hfo : sp_fo u G [a, m, b, c]) (hed : sp_ed u u' m)
    (hnd : m ≠ 0 → sp_nd u' (sp_up G m (f (G m))) m) (hus : sp_us u (sp_D G [a, m, b, c])) :
    ∃ G', sp_fo u' G' [a, m, b, c] ∧ G' m = f (G m) ∧ G' a = G a ∧ G' b = G b ∧ G' c = G c ∧ sp_us u' (sp_D G' [a, m, b, c]) := by
  by_cases m0 : m = 0
  · subst m0
    exact ⟨G, sp_fo_same hfo (fun y => hed.2.2 y (fun _ => rfl)) (fun y _ => by rw [hed.2.1]), by rw [hfo.1, f0], rfl, rfl, rfl, sp_us_E hus hed.1.2.2.2.2.2.1⟩
  · obtain ⟨h1, h2⟩ := sp_root_ed (sp_fo_swap hfo) m0 (fp (G m)) hed.2.1 (fun y hy => hed.2.2 y (fun q => absurd q hy)) (hnd m0)
    have qa := h2 a (List.mem_cons_self ..)
    have qb := h2 b (List.mem_cons_of_mem _ (List.mem_cons_self ..))
    have qc := h2 c (List.mem_cons_of_mem _ (List.mem_cons_of_mem _ (List.mem_cons_self ..)))
    refine ⟨sp_up G m (f (G m)), sp_fo_swap h1, sp_ups, qa, qb, qc, ?_⟩
    refine sp_us_mem (sp_us_E hus hed.1.2.2.2.2.2.1) (fun y => ?_)
    rw [sp_D_cons, sp_D_cons, sp_D2, sp_D_cons, sp_D_cons, sp_D2, qa, sp_ups, qb, qc]
    simp only [List.mem_append]
    exact or_congr Iff.rfl (or_congr (fp (G m)).symm.mem_iff Iff.rfl)
theorem sp_rev_p (l : List sp_E) : (sp_N (List.reverse l)).Perm (sp_N l) := by rw [sp_N_rev]; exact List.reverse_perm _
theorem sp_ng_p (l : List sp_E) : (sp_N (sp_ng l)).Perm (sp_N l) := by rw [sp_N_ng]
theorem sp_ad_p (d : Int32) (l : List sp_E) : (sp_N (sp_ad d l)).Perm (sp_N l) := by rw [sp_N_ad]
theorem sp_m_nd {u : SX} {G : Nat → List sp_E} {a m b c : Nat} (hfo : sp_fo u G [a, m, b, c]) (m0 : m ≠ 0) : sp_nd u G m ∧ (sp_N (G m)).Nodup := by
  have hm : m ∈ [a, m, b, c] := List.mem_cons_of_mem _ (List.mem_cons_self ..)
  exact ⟨(sp_fo_tree hfo hm m0).1, sp_flat_nodup hfo.2.2.1 hm⟩
theorem sx_reverse {post : Int32 → SX → Prop} {u : SX} {A B : List Int32} {p q : Int32} (hX : sp_XR u A B)
    (h0 : ¬ sp_st p q A.length → post (-1) u)
    (h1 : ∀ i j u', p = nI i → q = nI j → i ≤ j → j ≤ A.length → sp_XR u' (A.take i ++ (sp_mid A i j).reverse ++ A.drop j) B → post (q - p) u') : wpX_reverse post u p q := by
  unfold wpX_reverse
  refine sx_bad (u := u) hX (fun hs => br_t rfl ?_) (fun hs => br_f (by decide) (h0 hs))
  obtain ⟨i, j, rfl, rfl, hij, hj⟩ := hs
  refine sx_open (u := u) hX hij hj ?_
  intro u1 G a m b c hfo ha hm hb hc a48 m48 b48 c48 e1 e2 e3 e4 hus
  show wpX_turnAll _ u1 (sg_m u1)
  rw [e2]
  refine sp_turnAll (u := u1) (G := G) (fun m0 => sp_m_nd hfo m0) ?_
  intro u2 hed hnd
  obtain ⟨G', hfo', hm', ha', hb', hc', hus'⟩ := sx_opm (f := List.reverse) rfl sp_rev_p hfo hed hnd hus
  show wpX_close _ u2
  refine sx_close hfo' a48 m48 b48 c48 (hed.1.2.2.1.trans e1) (hed.1.2.2.2.1.trans e2) (hed.1.2.2.2.2.1.trans e3) (hed.1.2.1.trans e4) hus' ?_
  intro u' hX' _
  rw [ha', hm', hb', hc', sp_V_rev, ha, hm, hb, hc] at hX'
  exact h1 i j u' rfl rfl hij hj hX'
theorem sx_negate {post : Int32 → SX → Prop} {u : SX} {A B : List Int32} {p q : Int32} (hX : sp_XR u A B)
    (h0 : ¬ sp_st p q A.length → post (-1) u)
    (h1 : ∀ i j u', p = nI i → q = nI j → i ≤ j → j ≤ A.length → sp_XR u' (A.take i ++ (sp_mid A i j).map (fun v => -v) ++ A.drop j) B → post (q - p) u') : wpX_negate post u p q := by
  unfold wpX_negate
  refine sx_bad (u := u) hX (fun hs => br_t rfl ?_) (fun hs => br_f (by decide) (h0 hs))
  obtain ⟨i, j, rfl, rfl, hij, hj⟩ := hs
  refine sx_open (u := u) hX hij hj ?_
  intro u1 G a m b c hfo ha hm hb hc a48 m48 b48 c48 e1 e2 e3 e4 hus
  show wpX_negateAll _ u1 (sg_m u1)
  rw [e2]
  refine sp_negAll (u := u1) (G := G) (fun m0 => sp_m_nd hfo m0) ?_
  intro u2 hed hnd
  obtain ⟨G', hfo', hm', ha', hb', hc', hus'⟩ := sx_opm (f := sp_ng) rfl sp_ng_p hfo hed hnd hus
  show wpX_close _ u2
  refine sx_close hfo' a48 m48 b48 c48 (hed.1.2.2.1.trans e1) (hed.1.2.2.2.1.trans e2) (hed.1.2.2.2.2.1.trans e3) (hed.1.2.1.trans e4) hus' ?_
  intro u' hX' _
  rw [ha', hm', hb', hc', sp_V_ng, ha, hm, hb, hc] at hX'
  exact h1 i j u' rfl rfl hij hj hX'
theorem sp_fits {hi lo d : Int32} {l : List Int32} (hl : l ≠ []) (a : sp_mx hi l) (b : sp_mn lo l) (hB : sp_B l) (hd : sp_nu d) :
    (¬ 1000000 < hi + d ∧ ¬ hi + d < -1000000 ∨ True) ∧ ((¬ 1000000 < hi + d ∧ ¬ lo + d < -1000000) ↔ ∀ w ∈ l, sp_nu (w + d)) := by
  have hh : hi ∈ l := by rcases a.2 with q | ⟨q, _⟩; exact q; exact absurd q hl
  have hlo : lo ∈ l := by rcases b.2 with q | ⟨q, _⟩; exact q; exact absurd q hl
  have b1 := hB hi hh
  have b2 := hB lo hlo
  refine ⟨Or.inr trivial, ?_⟩
  rw [Int32.lt_iff_toInt_lt, Int32.lt_iff_toInt_lt, sp_lit_c, sp_lit_d]
  unfold sp_nu at b1 b2 hd
  rw [sp_ta (a := hi) (b := d) (by omega) (by omega), sp_ta (a := lo) (b := d) (by omega) (by omega)]
  constructor
  · intro h w hw
    have b3 := hB w hw
    have m1 := a.1 w hw
    have m2 := b.1 w hw
    unfold sp_nu at b3 ⊢
    rw [sp_ta (a := w) (b := d) (by omega) (by omega)]
    omega
  · intro h
    have n1 := h hi hh
    have n2 := h lo hlo
    unfold sp_nu at n1 n2
    rw [sp_ta (a := hi) (b := d) (by omega) (by omega)] at n1
    rw [sp_ta (a := lo) (b := d) (by omega) (by omega)] at n2
    omega
theorem sx_raise {post : Int32 → SX → Prop} {u : SX} {A B : List Int32} {p q d : Int32} (hX : sp_XR u A B)
    (h0 : ¬ (sp_st p q A.length ∧ sp_nu d) → post (-1) u)
    (h1 : ∀ i j u', p = nI i → q = nI j → i ≤ j → j ≤ A.length → sp_nu d → (∀ w ∈ sp_mid A i j, sp_nu (w + d)) → sp_XR u' (A.take i ++ (sp_mid A i j).map (fun v => v + d) ++ A.drop j) B → post (q - p) u')
    (h2 : ∀ i j u', p = nI i → q = nI j → i ≤ j → j ≤ A.length → sp_nu d → ¬ (∀ w ∈ sp_mid A i j, sp_nu (w + d)) → sp_XR u' A B → post (-1) u') : wpX_raise post u p q d := by
  unfold wpX_raise
  refine sx_bad (u := u) hX (fun hs => br_t rfl ?_) (fun hs => br_f (by decide) (h0 (fun z => hs z.1)))
  refine sp_badNumber (fun hd => br_t rfl ?_) (fun hd => br_f (by decide) (h0 (fun z => hd z.2)))
  obtain ⟨i, j, rfl, rfl, hij, hj⟩ := hs
  refine sx_open (u := u) hX hij hj ?_
  intro u1 G a m b c hfo ha hm hb hc a48 m48 b48 c48 e1 e2 e3 e4 hus
  have hmm : sp_V (G m) = sp_mid A i j := hm
  have hmi : m ∈ [a, m, b, c] := List.mem_cons_of_mem _ (List.mem_cons_self ..)
  have im : vp_in (nI m) 49 := vp_in_nI (by omega) (by omega)
  have cm : (nI m).toNatClampNeg = m := nI_clamp (by omega)
  have good : (∀ w ∈ sp_mid A i j, sp_nu (w + d)) → wX_raise_64 post (nI i) (nI j) d u1.1 u1.2.1 u1.2.2.1 u1.2.2.2.1 u1.2.2.2.2.1 u1.2.2.2.2.2.1 u1.2.2.2.2.2.2.1 u1.2.2.2.2.2.2.2.1 u1.2.2.2.2.2.2.2.2.1 u1.2.2.2.2.2.2.2.2.2.1 u1.2.2.2.2.2.2.2.2.2.2.1 u1.2.2.2.2.2.2.2.2.2.2.2.1 u1.2.2.2.2.2.2.2.2.2.2.2.2.1 u1.2.2.2.2.2.2.2.2.2.2.2.2.2.1 u1.2.2.2.2.2.2.2.2.2.2.2.2.2.2.1 u1.2.2.2.2.2.2.2.2.2.2.2.2.2.2.2.1 u1.2.2.2.2.2.2.2.2.2.2.2.2.2.2.2.2.1 u1.2.2.2.2.2.2.2.2.2.2.2.2.2.2.2.2.2.1 u1.2.2.2.2.2.2.2.2.2.2.2.2.2.2.2.2.2.2.1 u1.2.2.2.2.2.2.2.2.2.2.2.2.2.2.2.2.2.2.2 := by
    intro hw
    unfold wX_raise_64
    refine br_f (by decide) ?_
    show wpX_addAll _ u1 (sg_m u1) d
    rw [e2]
    refine sp_addAll (u := u1) (G := G) (fun m0 => ⟨(sp_m_nd hfo m0).1, (sp_m_nd hfo m0).2, ?_⟩) (fun m0 => sp_fo_len1 hfo (sp_D_mem.mpr ⟨m, hmi, (hfo.2.2.2.2 m hmi m0).2.1⟩)) ?_
    · rw [sp_V_ad, hmm]
      intro w hw2
      obtain ⟨w', hw', rfl⟩ := List.mem_map.mp hw2
      exact hw w' hw'
    · intro u2 hed hnd
      obtain ⟨G', hfo', hm', ha', hb', hc', hus'⟩ := sx_opm (f := sp_ad d) rfl (sp_ad_p d) hfo hed hnd hus
      show wpX_close _ u2
      refine sx_close hfo' a48 m48 b48 c48 (hed.1.2.2.1.trans e1) (hed.1.2.2.2.1.trans e2) (hed.1.2.2.2.2.1.trans e3) (hed.1.2.1.trans e4) hus' ?_
      intro u' hX' _
      rw [ha', hm', hb', hc', sp_V_ad, ha, hmm, hb, hc] at hX'
      exact br_f (by decide) (h1 i j u' rfl rfl hij hj hd hw hX')
  have badc : ¬ (∀ w ∈ sp_mid A i j, sp_nu (w + d)) → wX_raise_68 post (nI i) (nI j) d u1.1 u1.2.1 u1.2.2.1 u1.2.2.2.1 u1.2.2.2.2.1 u1.2.2.2.2.2.1 u1.2.2.2.2.2.2.1 u1.2.2.2.2.2.2.2.1 u1.2.2.2.2.2.2.2.2.1 u1.2.2.2.2.2.2.2.2.2.1 u1.2.2.2.2.2.2.2.2.2.2.1 u1.2.2.2.2.2.2.2.2.2.2.2.1 u1.2.2.2.2.2.2.2.2.2.2.2.2.1 u1.2.2.2.2.2.2.2.2.2.2.2.2.2.1 u1.2.2.2.2.2.2.2.2.2.2.2.2.2.2.1 u1.2.2.2.2.2.2.2.2.2.2.2.2.2.2.2.1 u1.2.2.2.2.2.2.2.2.2.2.2.2.2.2.2.2.1 u1.2.2.2.2.2.2.2.2.2.2.2.2.2.2.2.2.2.1 u1.2.2.2.2.2.2.2.2.2.2.2.2.2.2.2.2.2.2.1 u1.2.2.2.2.2.2.2.2.2.2.2.2.2.2.2.2.2.2.2 := by
    intro hw
    unfold wX_raise_68
    refine br_t rfl ?_
    show wpX_close _ u1
    refine sx_close hfo a48 m48 b48 c48 e1 e2 e3 e4 hus ?_
    intro u' hX' _
    rw [ha, hmm, hb, hc, sp_mid_join A hij] at hX'
    exact br_t rfl (h2 i j u' rfl rfl hij hj hd hw hX')
  show (sg_m u1 = 0 → _) ∧ (¬ sg_m u1 = 0 → _ ∧ _)
  rw [e2]
  by_cases m0 : m = 0
  · refine br_t (by rw [m0]; rfl) (good ?_)
    rw [m0, hfo.1] at hmm
    rw [← hmm]
    exact fun w hw => absurd hw List.not_mem_nil
  · refine br_f (nI_ne0 (by omega) (by omega)) ?_
    have hA := sp_fo_R hfo hmi
    have hne : sp_V (G m) ≠ [] := fun z => by
      have z2 : G m = [] := List.map_eq_nil_iff.mp z
      have := (hfo.2.2.2.2 m hmi m0).2.1
      rw [z2] at this
      exact absurd this List.not_mem_nil
    have hf := (sp_fits hne hA.2.2.2.1 hA.2.2.2.2 (sp_fo_B hfo hmi) hd).2
    rw [hmm] at hf
    have eH : sg_H u1 (sg_m u1).toNatClampNeg = sg_H u1 m := by rw [e2, cm]
    have eO : sg_O u1 (sg_m u1).toNatClampNeg = sg_O u1 m := by rw [e2, cm]
    have imm : vp_in (sg_m u1) 49 := by rw [e2]; exact im
    refine ⟨imm, br_c (fun z => badc (fun w => ?_)) (fun z => ⟨imm, br_c (fun z2 => badc (fun w => ?_)) (fun z2 => good (hf.mp ⟨?_, ?_⟩))⟩)⟩
    · have z' : 1000000 < sg_H u1 m + d := by rw [← eH]; exact z
      exact (hf.mpr w).1 z'
    · have z' : sg_O u1 m + d < -1000000 := by rw [← eO]; exact z2
      exact (hf.mpr w).2 z'
    · intro y
      rw [← eH] at y
      exact z y
    · intro y
      rw [← eO] at y
      exact z2 y
theorem sx_rotate {post : Int32 → SX → Prop} {u : SX} {A B : List Int32} {p q k : Int32} (hX : sp_XR u A B)
    (h0 : ¬ (sp_st p q A.length ∧ ¬ k < 0 ∧ k ≤ q - p) → post (-1) u)
    (h1 : ∀ i j n u', p = nI i → q = nI j → k = nI n → i ≤ j → j ≤ A.length → n ≤ j - i → sp_XR u' (A.take i ++ ((sp_mid A i j).drop n ++ (sp_mid A i j).take n) ++ A.drop j) B → post 0 u') : wpX_rotate post u p q k := by
  unfold wpX_rotate
  refine sx_bad (u := u) hX (fun hs => br_t rfl ?_) (fun hs => br_f (by decide) (h0 (fun z => hs z.1)))
  refine br_c (fun c => h0 (fun z => z.2.1 c)) (fun c => br_c (fun d => ?_) (fun d => h0 (fun z => d z.2.2)))
  obtain ⟨-, -, -, -, hn, -, -⟩ := sp_XR_f hX
  obtain ⟨i, j, rfl, rfl, hij, hj⟩ := hs
  obtain ⟨n, hn2, rfl⟩ := nI_of c
  rw [pk_sub hij, nI_leI hn2 (by omega)] at d
  refine sx_open (u := u) hX hij hj ?_
  intro u1 G a m b c hfo ha hm hb hc a48 m48 b48 c48 e1 e2 e3 e4 hus
  have hmm : sp_V (G m) = sp_mid A i j := hm
  show wpX_part _ u1 (sg_m u1) (nI n)
  rw [e2]
  have hml : n ≤ (G m).length := by
    rw [← sp_V_len, hmm, sp_mid_len hij hj]
    exact d
  refine sp_part (u := u1) (rs := [a, b, c]) (sp_fo_swap hfo) m48 hml ?_
  intro u2 G2 x y hfo2 hx hy hq2 x48 y48 hF2 eb ee
  show wpX_join _ u2 (sg_e u2) (sg_b u2)
  rw [eb, ee]
  refine sp_join (u := u2) (rs := [a, b, c]) (sp_fo_swap hfo2) y48 x48 ?_
  intro u3 G3 z hfo3 hz hq3 z48 hF3
  have qa := (hq3 a (List.mem_cons_self ..)).trans (hq2 a (List.mem_cons_self ..))
  have qb := (hq3 b (List.mem_cons_of_mem _ (List.mem_cons_self ..))).trans (hq2 b (List.mem_cons_of_mem _ (List.mem_cons_self ..)))
  have qc := (hq3 c (List.mem_cons_of_mem _ (List.mem_cons_of_mem _ (List.mem_cons_self ..)))).trans (hq2 c (List.mem_cons_of_mem _ (List.mem_cons_of_mem _ (List.mem_cons_self ..))))
  rw [hx, hy] at hz
  refine sx_close (u := (u3.1, u3.2.1, sg_b u1, nI z, sg_e u1, u3.2.2.2.2.2.1, u3.2.2.2.2.2.2.1, u3.2.2.2.2.2.2.2.1, u3.2.2.2.2.2.2.2.2.1, u3.2.2.2.2.2.2.2.2.2.1, u3.2.2.2.2.2.2.2.2.2.2.1, u3.2.2.2.2.2.2.2.2.2.2.2.1, u3.2.2.2.2.2.2.2.2.2.2.2.2.1, u3.2.2.2.2.2.2.2.2.2.2.2.2.2.1, u3.2.2.2.2.2.2.2.2.2.2.2.2.2.2.1, u3.2.2.2.2.2.2.2.2.2.2.2.2.2.2.2.1, u3.2.2.2.2.2.2.2.2.2.2.2.2.2.2.2.2.1, u3.2.2.2.2.2.2.2.2.2.2.2.2.2.2.2.2.2.1, u3.2.2.2.2.2.2.2.2.2.2.2.2.2.2.2.2.2.2.1, u3.2.2.2.2.2.2.2.2.2.2.2.2.2.2.2.2.2.2.2)) (G := G3) (a := a) (m := z) (b := b) (c := c) (sp_fo_same (sp_fo_swap hfo3) (fun y => ⟨rfl, rfl, rfl, rfl, rfl, rfl, rfl, rfl, rfl, rfl, rfl⟩) (fun y hy => rfl)) a48 z48 b48 c48 e1 rfl e3 ((hF3.2.1.trans hF2.1).trans e4) ?_ ?_
  · have hus3 : sp_us u3 (sp_D G [a, m, b, c]) := sp_us_E hus (hF3.2.2.2.2.2.1.trans hF2.2.1)
    refine sp_us_mem (ns := sp_D G [a, m, b, c]) hus3 (fun y => ?_)
    rw [sp_D_cons, sp_D_cons, sp_D2, sp_D_cons, sp_D_cons, sp_D2, qa, qb, qc, hz]
    simp only [List.mem_append]
    refine or_congr Iff.rfl (or_congr ?_ Iff.rfl)
    have e := congrArg sp_N (List.take_append_drop n (G m))
    rw [← e, sp_N_app, sp_N_app, List.mem_append, List.mem_append]
    exact or_comm
  · intro u' hX' _
    have ev : sp_V ((G m).drop n ++ (G m).take n) = (sp_mid A i j).drop n ++ (sp_mid A i j).take n := by
      rw [← hmm, sp_V_app]
      unfold sp_V
      rw [List.map_drop, List.map_take]
    rw [qa, qb, qc, hz, ev, ha, hb, hc] at hX'
    exact h1 i j n u' rfl rfl rfl hij hj d hX'
theorem sx_sum {post : Int32 → SX → Prop} {u : SX} {A B : List Int32} {p q : Int32} (hX : sp_XR u A B)
    (h0 : ¬ sp_st p q A.length → post 0 u)
    (h1 : ∀ i j u', p = nI i → q = nI j → i ≤ j → j ≤ A.length → sp_XR u' A B → post (sp_s (sp_mid A i j)) u') : wpX_sum post u p q := by
  unfold wpX_sum
  refine sx_bad (u := u) hX (fun hs => br_t rfl ?_) (fun hs => br_f (by decide) (h0 hs))
  obtain ⟨i, j, rfl, rfl, hij, hj⟩ := hs
  refine sx_open (u := u) hX hij hj ?_
  intro u1 G a m b c hfo ha hm hb hc a48 m48 b48 c48 e1 e2 e3 e4 hus
  have hmm : sp_V (G m) = sp_mid A i j := hm
  have hmi : m ∈ [a, m, b, c] := List.mem_cons_of_mem _ (List.mem_cons_self ..)
  have im : vp_in (sg_m u1) 49 := by rw [e2]; exact vp_in_nI (by omega) (by omega)
  have eT : sg_T u1 (sg_m u1).toNatClampNeg = sp_s (sp_mid A i j) := by
    rw [e2, nI_clamp (by omega), (sp_fo_R hfo hmi).2.1, hmm]
  refine ⟨im, nm_r (e' := sp_s (sp_mid A i j)) eT ?_⟩
  refine sx_close (u := u1) hfo a48 m48 b48 c48 e1 e2 e3 e4 hus ?_
  intro u' hX' _
  rw [ha, hmm, hb, hc, sp_mid_join A hij] at hX'
  exact h1 i j u' rfl rfl hij hj hX'
theorem sx_weighted {post : Int32 → SX → Prop} {u : SX} {A B : List Int32} {p q : Int32} (hX : sp_XR u A B)
    (h0 : ¬ sp_st p q A.length → post 0 u)
    (h1 : ∀ i j u', p = nI i → q = nI j → i ≤ j → j ≤ A.length → sp_XR u' A B → post (sp_w (sp_mid A i j)) u') : wpX_weighted post u p q := by
  unfold wpX_weighted
  refine sx_bad (u := u) hX (fun hs => br_t rfl ?_) (fun hs => br_f (by decide) (h0 hs))
  obtain ⟨i, j, rfl, rfl, hij, hj⟩ := hs
  refine sx_open (u := u) hX hij hj ?_
  intro u1 G a m b c hfo ha hm hb hc a48 m48 b48 c48 e1 e2 e3 e4 hus
  have hmm : sp_V (G m) = sp_mid A i j := hm
  have hmi : m ∈ [a, m, b, c] := List.mem_cons_of_mem _ (List.mem_cons_self ..)
  have im : vp_in (sg_m u1) 49 := by rw [e2]; exact vp_in_nI (by omega) (by omega)
  have eT : sg_W u1 (sg_m u1).toNatClampNeg = sp_w (sp_mid A i j) := by
    rw [e2, nI_clamp (by omega), (sp_fo_R hfo hmi).2.2.1, hmm]
  refine ⟨im, nm_r (e' := sp_w (sp_mid A i j)) eT ?_⟩
  refine sx_close (u := u1) hfo a48 m48 b48 c48 e1 e2 e3 e4 hus ?_
  intro u' hX' _
  rw [ha, hmm, hb, hc, sp_mid_join A hij] at hX'
  exact h1 i j u' rfl rfl hij hj hX'
theorem sx_greatest {post : Int32 → SX → Prop} {u : SX} {A B : List Int32} {p q : Int32} (hX : sp_XR u A B)
    (h0 : ¬ sp_st p q A.length → post 0 u) (h01 : sp_st p q A.length → p = q → post 0 u)
    (h1 : ∀ i j w u', p = nI i → q = nI j → i < j → j ≤ A.length → sp_mx w (sp_mid A i j) → sp_XR u' A B → post w u') : wpX_greatest post u p q := by
  unfold wpX_greatest
  refine sx_bad (u := u) hX (fun hs => br_t rfl ?_) (fun hs => br_f (by decide) (h0 hs))
  refine br_c (fun z => h01 hs z) (fun z => ?_)
  obtain ⟨i, j, rfl, rfl, hij, hj⟩ := hs
  have ij : i ≠ j := fun y => z (by rw [y])
  refine sx_open (u := u) hX hij hj ?_
  intro u1 G a m b c hfo ha hm hb hc a48 m48 b48 c48 e1 e2 e3 e4 hus
  have hmm : sp_V (G m) = sp_mid A i j := hm
  have hmi : m ∈ [a, m, b, c] := List.mem_cons_of_mem _ (List.mem_cons_self ..)
  have im : vp_in (sg_m u1) 49 := by rw [e2]; exact vp_in_nI (by omega) (by omega)
  have eT : sg_H u1 (sg_m u1).toNatClampNeg = sg_H u1 m := by
    rw [e2, nI_clamp (by omega)]
  refine ⟨im, nm_r (e' := sg_H u1 m) eT ?_⟩
  refine sx_close (u := u1) hfo a48 m48 b48 c48 e1 e2 e3 e4 hus ?_
  intro u' hX' _
  rw [ha, hmm, hb, hc, sp_mid_join A hij] at hX'
  exact h1 i j _ u' rfl rfl (by omega) hj (by rw [← hmm]; exact (sp_fo_R hfo hmi).2.2.2.1) hX'
theorem sp_seek_us {u u' : SX} {G G' : Nat → List sp_E} {rs : List Nat} (hq : ∀ q ∈ rs, G' q = G q) (hF : sp_F u u') (h : sp_us u (sp_D G rs)) : sp_us u' (sp_D G' rs) := by
  rw [sp_D_eq hq]
  exact sp_us_E h hF.2.2.2.2.2.1
/-- seek in the middle, then close -/
theorem sx_seek {post : Int32 → SX → Prop} {u : SX} {G : Nat → List sp_E} {a m b c : Nat} {v : Int32} (hfo : sp_fo u G [a, m, b, c]) (a48 : a ≤ 48) (m48 : m ≤ 48) (b48 : b ≤ 48) (c48 : c ≤ 48)
    (ha : sg_b u = nI a) (hm : sg_m u = nI m) (hb : sg_e u = nI b) (hc : sg_c u = nI c) (hus : sp_us u (sp_D G [a, m, b, c])) (hex : ∃ w ∈ sp_V (G m), v.toInt ≤ w.toInt)
    (h : ∀ k u' G', sp_first (sp_V (G m)) v k → k < 48 → sp_fo u' G' [a, m, b, c] → sg_b u' = nI a → sg_m u' = nI m → sg_e u' = nI b → sg_c u' = nI c → sp_us u' (sp_D G' [a, m, b, c]) →
      G' a = G a → G' m = G m → G' b = G b → G' c = G c → post (nI k) u') : wpX_seek post u (nI m) v := by
  refine sp_seek (u := u) (rs := [a, b, c]) (sp_fo_swap hfo) hex ?_
  intro u' G' k hfo' hq hF hf hk
  have qm := hq m (List.mem_cons_self ..)
  have qa := hq a (List.mem_cons_of_mem _ (List.mem_cons_self ..))
  have qb := hq b (List.mem_cons_of_mem _ (List.mem_cons_of_mem _ (List.mem_cons_self ..)))
  have qc := hq c (List.mem_cons_of_mem _ (List.mem_cons_of_mem _ (List.mem_cons_of_mem _ (List.mem_cons_self ..))))
  refine h k u' G' hf hk (sp_fo_swap hfo') (hF.2.2.1.trans ha) (hF.2.2.2.1.trans hm) (hF.2.2.2.2.1.trans hb) (hF.2.1.trans hc) ?_ qa qm qb qc
  have : sp_us u' (sp_D G [a, m, b, c]) := sp_us_E hus hF.2.2.2.2.2.1
  rw [sp_D_cons, sp_D_cons, sp_D2] at this ⊢
  rw [qa, qm, qb, qc]
  exact this
theorem sx_greatestAt {post : Int32 → SX → Prop} {u : SX} {A B : List Int32} {p q : Int32} (hX : sp_XR u A B)
    (h0 : ¬ sp_st p q A.length → post (-1) u) (h01 : sp_st p q A.length → p = q → post (-4) u)
    (h1 : ∀ i j w k u', p = nI i → q = nI j → i < j → j ≤ A.length → sp_mx w (sp_mid A i j) → sp_first (sp_mid A i j) w k → sp_XR u' A B → post (nI (i + k)) u') : wpX_greatestAt post u p q := by
  unfold wpX_greatestAt
  refine sx_bad (u := u) hX (fun hs => br_t rfl ?_) (fun hs => br_f (by decide) (h0 hs))
  refine br_c (fun z => h01 hs z) (fun z => ?_)
  obtain ⟨i, j, rfl, rfl, hij, hj⟩ := hs
  have ij : i ≠ j := fun y => z (by rw [y])
  refine sx_open (u := u) hX hij hj ?_
  intro u1 G a m b c hfo ha hm hb hc a48 m48 b48 c48 e1 e2 e3 e4 hus
  have hmm : sp_V (G m) = sp_mid A i j := hm
  have hmi : m ∈ [a, m, b, c] := List.mem_cons_of_mem _ (List.mem_cons_self ..)
  have im : vp_in (sg_m u1) 49 := by rw [e2]; exact vp_in_nI (by omega) (by omega)
  have eT : sg_H u1 (sg_m u1).toNatClampNeg = sg_H u1 m := by
    rw [e2, nI_clamp (by omega)]
  have hmx := (sp_fo_R hfo hmi).2.2.2.1
  refine ⟨im, ?_⟩
  show wpX_seek _ u1 (sg_m u1) (sg_H u1 (sg_m u1).toNatClampNeg)
  rw [eT, e2]
  refine sx_seek (u := u1) hfo a48 m48 b48 c48 e1 e2 e3 e4 hus ⟨sg_H u1 m, ?_, Int.le_refl _⟩ ?_
  · rcases hmx.2 with y | ⟨y, -⟩
    · exact y
    · have l := sp_mid_len hij hj
      rw [← hmm, y, List.length_nil] at l
      omega
  · intro k u2 G2 hf hk hfo2 f1 f2 f3 f4 hus2 qa qm qb qc
    refine sx_close (u := u2) hfo2 a48 m48 b48 c48 f1 f2 f3 f4 hus2 ?_
    intro u' hX' _
    rw [qa, qm, qb, qc, ha, hmm, hb, hc, sp_mid_join A hij] at hX'
    show post (nI i + nI k) u'
    rw [nI_add]
    exact h1 i j _ k u' rfl rfl (by omega) hj (by rw [← hmm]; exact hmx) (by rw [← hmm]; exact hf) hX'
theorem sx_firstFrom {post : Int32 → SX → Prop} {u : SX} {A B : List Int32} {p v : Int32} (hX : sp_XR u A B)
    (h0 : ¬ sp_at p A.length → post (-4) u)
    (h1 : ∀ i u', p = nI i → i ≤ A.length → (∀ w ∈ A.drop i, w.toInt < v.toInt) → sp_XR u' A B → post (-4) u')
    (h2 : ∀ i k u', p = nI i → i ≤ A.length → sp_first (A.drop i) v k → sp_XR u' A B → post (nI (i + k)) u') : wpX_firstFrom post u p v := by
  obtain ⟨ir, eS, -, -, hn, -, -⟩ := sp_XR_f hX
  have n48 : A.length ≤ 48 := by omega
  refine br_c (fun c => h0 (sp_at_neg n48 c)) (fun c => ⟨ir, ?_⟩)
  show (p ≤ sg_S u (sg_r u).toNatClampNeg → _ ∧ wpX_open _ u p (sg_S u (sg_r u).toNatClampNeg)) ∧ (¬ p ≤ sg_S u (sg_r u).toNatClampNeg → _)
  rw [eS]
  refine br_c (fun d => ⟨ir, ?_⟩) (fun d => h0 (sp_at_big n48 (sp_at_nle d)))
  obtain ⟨i, rfl, hi⟩ := sp_at_ok n48 c (sp_at_le d)
  refine sx_open (u := u) hX hi (Nat.le_refl _) ?_
  intro u1 G a m b c hfo ha hm hb hc a48 m48 b48 c48 e1 e2 e3 e4 hus
  have hmm : sp_V (G m) = A.drop i := by rw [hm, List.take_length]
  have hjoin : A.take i ++ A.drop i ++ A.drop A.length = A := by
    rw [List.take_append_drop, List.drop_length, List.append_nil]
  have hmi : m ∈ [a, m, b, c] := List.mem_cons_of_mem _ (List.mem_cons_self ..)
  have im : vp_in (sg_m u1) 49 := by rw [e2]; exact vp_in_nI (by omega) (by omega)
  have eT : sg_H u1 (sg_m u1).toNatClampNeg = sg_H u1 m := by
    rw [e2, nI_clamp (by omega)]
  have hmx := (sp_fo_R hfo hmi).2.2.2.1
  have none : (∀ w ∈ A.drop i, w.toInt < v.toInt) → wX_firstFrom_69 post (-4) u1.1 u1.2.1 u1.2.2.1 u1.2.2.2.1 u1.2.2.2.2.1 u1.2.2.2.2.2.1 u1.2.2.2.2.2.2.1 u1.2.2.2.2.2.2.2.1 u1.2.2.2.2.2.2.2.2.1 u1.2.2.2.2.2.2.2.2.2.1 u1.2.2.2.2.2.2.2.2.2.2.1 u1.2.2.2.2.2.2.2.2.2.2.2.1 u1.2.2.2.2.2.2.2.2.2.2.2.2.1 u1.2.2.2.2.2.2.2.2.2.2.2.2.2.1 u1.2.2.2.2.2.2.2.2.2.2.2.2.2.2.1 u1.2.2.2.2.2.2.2.2.2.2.2.2.2.2.2.1 u1.2.2.2.2.2.2.2.2.2.2.2.2.2.2.2.2.1 u1.2.2.2.2.2.2.2.2.2.2.2.2.2.2.2.2.2.1 u1.2.2.2.2.2.2.2.2.2.2.2.2.2.2.2.2.2.2.1 u1.2.2.2.2.2.2.2.2.2.2.2.2.2.2.2.2.2.2.2 := by
    intro hw
    unfold wX_firstFrom_69
    refine sx_close (u := u1) hfo a48 m48 b48 c48 e1 e2 e3 e4 hus ?_
    intro u' hX' _
    rw [ha, hmm, hb, hc, hjoin] at hX'
    exact h1 i u' rfl hi hw hX'
  show (sg_m u1 = 0 → _) ∧ (¬ sg_m u1 = 0 → _ ∧ (sg_H u1 (sg_m u1).toNatClampNeg < v → _) ∧ (¬ sg_H u1 (sg_m u1).toNatClampNeg < v → wpX_seek _ u1 (sg_m u1) v))
  rw [eT, e2]
  by_cases m0 : m = 0
  · refine br_t (by rw [m0]; rfl) (none ?_)
    rw [m0, hfo.1] at hmm
    rw [← hmm]
    exact fun w hw => absurd hw List.not_mem_nil
  · refine br_f (nI_ne0 (by omega) (by omega)) ⟨im, br_c (fun z => none ?_) (fun z => ?_)⟩
    · rw [← hmm]
      intro w hw
      have y1 := hmx.1 w hw
      have y2 := sp_lt z
      omega
    · have z2 := sp_nlt z
      refine sx_seek (u := u1) hfo a48 m48 b48 c48 e1 e2 e3 e4 hus ⟨sg_H u1 m, ?_, z2⟩ ?_
      · rcases hmx.2 with y | ⟨y, -⟩
        · exact y
        · have y2 : G m = [] := List.map_eq_nil_iff.mp y
          have := (hfo.2.2.2.2 m hmi m0).2.1
          rw [y2] at this
          exact absurd this List.not_mem_nil
      · intro k u2 G2 hf hk hfo2 f1 f2 f3 f4 hus2 qa qm qb qc
        show ∀ q : Int32, q = nI i + nI k → wX_firstFrom_69 post q u2.1 u2.2.1 u2.2.2.1 u2.2.2.2.1 u2.2.2.2.2.1 u2.2.2.2.2.2.1 u2.2.2.2.2.2.2.1 u2.2.2.2.2.2.2.2.1 u2.2.2.2.2.2.2.2.2.1 u2.2.2.2.2.2.2.2.2.2.1 u2.2.2.2.2.2.2.2.2.2.2.1 u2.2.2.2.2.2.2.2.2.2.2.2.1 u2.2.2.2.2.2.2.2.2.2.2.2.2.1 u2.2.2.2.2.2.2.2.2.2.2.2.2.2.1 u2.2.2.2.2.2.2.2.2.2.2.2.2.2.2.1 u2.2.2.2.2.2.2.2.2.2.2.2.2.2.2.2.1 u2.2.2.2.2.2.2.2.2.2.2.2.2.2.2.2.2.1 u2.2.2.2.2.2.2.2.2.2.2.2.2.2.2.2.2.2.1 u2.2.2.2.2.2.2.2.2.2.2.2.2.2.2.2.2.2.2.1 u2.2.2.2.2.2.2.2.2.2.2.2.2.2.2.2.2.2.2.2
        refine nm_r (e' := nI (i + k)) (nI_add i k) ?_
        unfold wX_firstFrom_69
        refine sx_close (u := u2) hfo2 a48 m48 b48 c48 f1 f2 f3 f4 hus2 ?_
        intro u' hX' _
        rw [qa, qm, qb, qc, ha, hmm, hb, hc, hjoin] at hX'
        exact h2 i k u' rfl hi (by rw [← hmm]; exact hf) hX'
end
section
theorem sp_parts3 {G : Nat → List sp_E} {r i j : Nat} (hij : i ≤ j) (y : Nat) :
    y ∈ sp_N (G r) ↔ (y ∈ sp_N ((G r).take i) ∨ y ∈ sp_N (((G r).take j).drop i) ∨ y ∈ sp_N ((G r).drop j)) := by
  have e : G r = (G r).take i ++ (((G r).take j).drop i ++ (G r).drop j) := by
    rw [← List.append_assoc]
    have : (G r).take i = ((G r).take j).take i := by rw [List.take_take, Nat.min_eq_left hij]
    rw [this, List.take_append_drop, List.take_append_drop]
  have e2 := congrArg sp_N e
  rw [sp_N_app, sp_N_app] at e2
  rw [e2, List.mem_append, List.mem_append]
/-- release gives back the clip's nodes, and no other -/
theorem sp_rel_us {u u' : SX} {G : Nat → List sp_E} {r c : Nat} (hfo : sp_fo u G [r, c]) (hus : sp_us u (sp_N (G r) ++ sp_N (G c)))
    (h0 : ∀ y ∈ sp_N (G c), sg_E u' y = 0) (h1 : ∀ y, y ∉ sp_N (G c) → sg_E u' y = sg_E u y) : sp_us u' (sp_N (G r)) := by
  intro y y1 y2
  by_cases hy : y ∈ sp_N (G c)
  · rw [h0 y hy]
    refine ⟨fun q => absurd rfl q, fun q => ?_⟩
    exact absurd hy (sp_fo_dis hfo (List.mem_cons_self ..) q)
  · rw [h1 y hy, hus y y1 y2, List.mem_append]
    exact ⟨fun q => q.resolve_right hy, Or.inl⟩
theorem sx_cut {post : Int32 → SX → Prop} {u : SX} {A B : List Int32} {p q : Int32} (hX : sp_XR u A B)
    (h0 : ¬ sp_st p q A.length → post (-1) u)
    (h1 : ∀ i j u', p = nI i → q = nI j → i ≤ j → j ≤ A.length → sp_XR u' (A.take i ++ A.drop j) (sp_mid A i j) → post (nI (j - i)) u') : wpX_cut post u p q := by
  unfold wpX_cut
  refine sx_bad (u := u) hX (fun hs => br_t rfl ?_) (fun hs => br_f (by decide) (h0 hs))
  obtain ⟨i, j, rfl, rfl, hij, hj⟩ := hs
  obtain ⟨L, C, ⟨r, c, G, hr, hc, r48, c48, hfo, rfl, rfl, hus⟩, rfl, rfl⟩ := hX
  have hj' : j ≤ (G r).length := by rw [← sp_V_len]; exact hj
  show wpX_release _ u (sg_c u)
  rw [hc]
  refine sp_release (u := u) (rs := [r]) (sp_fo_swap hfo) c48 ?_
  intro E K hE0 hE1
  have hus1 : sp_us (u.1, u.2.1, u.2.2.1, u.2.2.2.1, u.2.2.2.2.1, u.2.2.2.2.2.1, u.2.2.2.2.2.2.1, u.2.2.2.2.2.2.2.1, u.2.2.2.2.2.2.2.2.1, u.2.2.2.2.2.2.2.2.2.1, u.2.2.2.2.2.2.2.2.2.2.1, u.2.2.2.2.2.2.2.2.2.2.2.1, u.2.2.2.2.2.2.2.2.2.2.2.2.1, u.2.2.2.2.2.2.2.2.2.2.2.2.2.1, u.2.2.2.2.2.2.2.2.2.2.2.2.2.2.1, u.2.2.2.2.2.2.2.2.2.2.2.2.2.2.2.1, u.2.2.2.2.2.2.2.2.2.2.2.2.2.2.2.2.1, E, K, u.2.2.2.2.2.2.2.2.2.2.2.2.2.2.2.2.2.2.2) (sp_N (G r)) := sp_rel_us (u' := (u.1, u.2.1, u.2.2.1, u.2.2.2.1, u.2.2.2.2.1, u.2.2.2.2.2.1, u.2.2.2.2.2.2.1, u.2.2.2.2.2.2.2.1, u.2.2.2.2.2.2.2.2.1, u.2.2.2.2.2.2.2.2.2.1, u.2.2.2.2.2.2.2.2.2.2.1, u.2.2.2.2.2.2.2.2.2.2.2.1, u.2.2.2.2.2.2.2.2.2.2.2.2.1, u.2.2.2.2.2.2.2.2.2.2.2.2.2.1, u.2.2.2.2.2.2.2.2.2.2.2.2.2.2.1, u.2.2.2.2.2.2.2.2.2.2.2.2.2.2.2.1, u.2.2.2.2.2.2.2.2.2.2.2.2.2.2.2.2.1, E, K, u.2.2.2.2.2.2.2.2.2.2.2.2.2.2.2.2.2.2.2)) hfo hus hE0 hE1
  have hfo1 : sp_fo (u.1, u.2.1, u.2.2.1, u.2.2.2.1, u.2.2.2.2.1, u.2.2.2.2.2.1, u.2.2.2.2.2.2.1, u.2.2.2.2.2.2.2.1, u.2.2.2.2.2.2.2.2.1, u.2.2.2.2.2.2.2.2.2.1, u.2.2.2.2.2.2.2.2.2.2.1, u.2.2.2.2.2.2.2.2.2.2.2.1, u.2.2.2.2.2.2.2.2.2.2.2.2.1, u.2.2.2.2.2.2.2.2.2.2.2.2.2.1, u.2.2.2.2.2.2.2.2.2.2.2.2.2.2.1, u.2.2.2.2.2.2.2.2.2.2.2.2.2.2.2.1, u.2.2.2.2.2.2.2.2.2.2.2.2.2.2.2.2.1, E, K, u.2.2.2.2.2.2.2.2.2.2.2.2.2.2.2.2.2.2.2) G [r] := sp_fo_same (sp_fo_del (sp_fo_swap hfo)) (fun y => ⟨rfl, rfl, rfl, rfl, rfl, rfl, rfl, rfl, rfl, rfl, rfl⟩) (fun y hy => rfl)
  refine sp_open (u := (u.1, u.2.1, u.2.2.1, u.2.2.2.1, u.2.2.2.2.1, u.2.2.2.2.2.1, u.2.2.2.2.2.2.1, u.2.2.2.2.2.2.2.1, u.2.2.2.2.2.2.2.2.1, u.2.2.2.2.2.2.2.2.2.1, u.2.2.2.2.2.2.2.2.2.2.1, u.2.2.2.2.2.2.2.2.2.2.2.1, u.2.2.2.2.2.2.2.2.2.2.2.2.1, u.2.2.2.2.2.2.2.2.2.2.2.2.2.1, u.2.2.2.2.2.2.2.2.2.2.2.2.2.2.1, u.2.2.2.2.2.2.2.2.2.2.2.2.2.2.2.1, u.2.2.2.2.2.2.2.2.2.2.2.2.2.2.2.2.1, E, K, u.2.2.2.2.2.2.2.2.2.2.2.2.2.2.2.2.2.2.2)) (rs := []) hfo1 r48 hr hij hj' ?_
  intro u2 G2 a m b hfo2 ha hm hb hq a48 m48 b48 hF e1 e2 e3
  have hus2 : sp_us u2 (sp_N (G r)) := sp_us_E hus1 hF.2.1
  refine sx_close (u := (u2.1, sg_m u2, u2.2.2.1, 0, u2.2.2.2.2.1, u2.2.2.2.2.2.1, u2.2.2.2.2.2.2.1, u2.2.2.2.2.2.2.2.1, u2.2.2.2.2.2.2.2.2.1, u2.2.2.2.2.2.2.2.2.2.1, u2.2.2.2.2.2.2.2.2.2.2.1, u2.2.2.2.2.2.2.2.2.2.2.2.1, u2.2.2.2.2.2.2.2.2.2.2.2.2.1, u2.2.2.2.2.2.2.2.2.2.2.2.2.2.1, u2.2.2.2.2.2.2.2.2.2.2.2.2.2.2.1, u2.2.2.2.2.2.2.2.2.2.2.2.2.2.2.2.1, u2.2.2.2.2.2.2.2.2.2.2.2.2.2.2.2.2.1, u2.2.2.2.2.2.2.2.2.2.2.2.2.2.2.2.2.2.1, u2.2.2.2.2.2.2.2.2.2.2.2.2.2.2.2.2.2.2.1, u2.2.2.2.2.2.2.2.2.2.2.2.2.2.2.2.2.2.2.2)) (G := G2) (a := a) (m := 0) (b := b) (c := m)
    (sp_fo_same (sp_fo_perm (sp_fo_add0 hfo2) ((List.Perm.swap ..).trans (List.Perm.cons _ (List.Perm.cons _ (List.Perm.swap ..))))) (fun y => ⟨rfl, rfl, rfl, rfl, rfl, rfl, rfl, rfl, rfl, rfl, rfl⟩) (fun y hy => rfl))
    a48 (by omega) b48 m48 e1 rfl e3 e2 ?_ ?_
  · refine sp_us_mem (ns := sp_N (G r)) hus2 (fun y => ?_)
    rw [sp_parts3 hij y, sp_D_cons, sp_D_cons, sp_D2, ha, hm, hb, hfo2.1]
    simp only [List.mem_append]
    have : y ∉ sp_N [] := List.not_mem_nil
    exact or_congr Iff.rfl ⟨fun z => Or.inr z.symm, fun z => (z.resolve_left this).symm⟩
  · intro u' hX' _
    have ea : sp_V (G2 a) ++ sp_V (G2 0) ++ sp_V (G2 b) = (sp_V (G r)).take i ++ (sp_V (G r)).drop j := by
      rw [hfo2.1, ha, hb]
      show sp_V _ ++ [] ++ sp_V _ = _
      rw [List.append_nil]
      unfold sp_V
      rw [List.map_take, List.map_drop]
    have em : sp_V (G2 m) = sp_mid (sp_V (G r)) i j := by
      rw [hm]
      unfold sp_V sp_mid
      rw [List.map_drop, List.map_take]
    rw [ea, em] at hX'
    obtain ⟨-, -, ic, eC, -⟩ := sp_XR_f hX'
    refine ⟨ic, ?_⟩
    show post (sg_S u' (sg_c u').toNatClampNeg) u'
    rw [eC, sp_mid_len hij hj]
    exact h1 i j u' rfl rfl hij hj hX'
theorem sx_paste {post : Int32 → SX → Prop} {u : SX} {A B : List Int32} {p : Int32} (hX : sp_XR u A B)
    (h0 : ¬ sp_at p A.length → post (-1) u)
    (h1 : ∀ i u', p = nI i → i ≤ A.length → sp_XR u' (A.take i ++ (B ++ A.drop i)) [] → post (nI (A.length + B.length)) u') : wpX_paste post u p := by
  obtain ⟨ir, eS, -, -, hn, -, -⟩ := sp_XR_f hX
  have n48 : A.length ≤ 48 := by omega
  refine br_c (fun c => h0 (sp_at_neg n48 c)) (fun c => ⟨ir, ?_⟩)
  show (p ≤ sg_S u (sg_r u).toNatClampNeg → _) ∧ (¬ p ≤ sg_S u (sg_r u).toNatClampNeg → _)
  rw [eS]
  refine br_c (fun d => ?_) (fun d => h0 (sp_at_big n48 (sp_at_nle d)))
  obtain ⟨i, rfl, hi⟩ := sp_at_ok n48 c (sp_at_le d)
  refine sx_open (u := u) hX (Nat.le_refl i) hi ?_
  intro u1 G a m b c hfo ha hm hb hc a48 m48 b48 c48 e1 e2 e3 e4 hus
  have m0 : m = 0 := by
    by_cases m0 : m = 0
    · exact m0
    · have h1 := (hfo.2.2.2.2 m (List.mem_cons_of_mem _ (List.mem_cons_self ..)) m0).2.1
      have h2 : sp_V (G m) = [] := by rw [hm, List.drop_take_self]
      have h3 : G m = [] := List.map_eq_nil_iff.mp h2
      rw [h3] at h1
      exact absurd h1 List.not_mem_nil
  subst m0
  have pm : [a, 0, b, c].Perm [a, c, b, 0] := List.Perm.cons _ (((List.Perm.swap b 0 [c]).trans ((List.Perm.cons _ (List.Perm.swap c 0 [])).trans (List.Perm.swap c b [0]))))
  refine sx_close (u := (u1.1, 0, u1.2.2.1, sg_c u1, u1.2.2.2.2.1, u1.2.2.2.2.2.1, u1.2.2.2.2.2.2.1, u1.2.2.2.2.2.2.2.1, u1.2.2.2.2.2.2.2.2.1, u1.2.2.2.2.2.2.2.2.2.1, u1.2.2.2.2.2.2.2.2.2.2.1, u1.2.2.2.2.2.2.2.2.2.2.2.1, u1.2.2.2.2.2.2.2.2.2.2.2.2.1, u1.2.2.2.2.2.2.2.2.2.2.2.2.2.1, u1.2.2.2.2.2.2.2.2.2.2.2.2.2.2.1, u1.2.2.2.2.2.2.2.2.2.2.2.2.2.2.2.1, u1.2.2.2.2.2.2.2.2.2.2.2.2.2.2.2.2.1, u1.2.2.2.2.2.2.2.2.2.2.2.2.2.2.2.2.2.1, u1.2.2.2.2.2.2.2.2.2.2.2.2.2.2.2.2.2.2.1, u1.2.2.2.2.2.2.2.2.2.2.2.2.2.2.2.2.2.2.2)) (G := G) (a := a) (m := c) (b := b) (c := 0)
    (sp_fo_same (sp_fo_perm hfo pm) (fun y => ⟨rfl, rfl, rfl, rfl, rfl, rfl, rfl, rfl, rfl, rfl, rfl⟩) (fun y hy => rfl)) a48 c48 b48 (by omega) e1 e4 e3 rfl ?_ ?_
  · have hus' : sp_us u1 (sp_D G [a, 0, b, c]) := hus
    exact sp_us_mem (ns := sp_D G [a, 0, b, c]) hus' (fun y => (sp_D_perm pm).mem_iff)
  · intro u' hX' _
    have e0 : sp_V (G 0) = [] := by rw [hfo.1]; rfl
    rw [ha, hb, hc, e0, List.append_assoc] at hX'
    obtain ⟨ir', eS', -⟩ := sp_XR_f hX'
    refine ⟨ir', ?_⟩
    show post (sg_S u' (sg_r u').toNatClampNeg) u'
    have el : (A.take i ++ (B ++ A.drop i)).length = A.length + B.length := by
      rw [List.length_append, List.length_append, List.length_take, List.length_drop]
      omega
    rw [eS', el]
    exact h1 i u' rfl hi hX'
theorem sp_XR_eq {u u' : SX} {A B : List Int32} (hX : sp_XR u A B) (hs : ∀ y, sp_sm u u' y) (hU : sg_U u' = sg_U u) (hr : sg_r u' = sg_r u) (hc : sg_c u' = sg_c u) (hE : sg_E u' = sg_E u) : sp_XR u' A B := by
  obtain ⟨L, C, ⟨r, c, G, hr', hc', r48, c48, hfo, e1, e2, hus⟩, e3, e4⟩ := hX
  exact ⟨L, C, ⟨r, c, G, hr.trans hr', hc.trans hc', r48, c48, sp_fo_same hfo hs (fun y _ => by rw [hU]), e1, e2, sp_us_E hus hE⟩, e3, e4⟩
theorem sx_cp80 {post : Int32 → SX → Prop} {A : List Int32} {k : Nat} {Cc : Nat → Int32} (hk : A.length + k ≤ 48) (hB : ∀ t, t < k → sp_nu (Cc t))
    (h : ∀ u', sp_XR u' A ((List.range k).map Cc) → post (nI k) u') :
    ∀ (n m : Nat) (u : SX), m ≤ k → k - m < n → sp_XR u A ((List.range m).map Cc) → sg_C u = Cc → wX_copy_80 post (nI k) n (nI m) u.1 u.2.1 u.2.2.1 u.2.2.2.1 u.2.2.2.2.1 u.2.2.2.2.2.1 u.2.2.2.2.2.2.1 u.2.2.2.2.2.2.2.1 u.2.2.2.2.2.2.2.2.1 u.2.2.2.2.2.2.2.2.2.1 u.2.2.2.2.2.2.2.2.2.2.1 u.2.2.2.2.2.2.2.2.2.2.2.1 u.2.2.2.2.2.2.2.2.2.2.2.2.1 u.2.2.2.2.2.2.2.2.2.2.2.2.2.1 u.2.2.2.2.2.2.2.2.2.2.2.2.2.2.1 u.2.2.2.2.2.2.2.2.2.2.2.2.2.2.2.1 u.2.2.2.2.2.2.2.2.2.2.2.2.2.2.2.2.1 u.2.2.2.2.2.2.2.2.2.2.2.2.2.2.2.2.2.1 u.2.2.2.2.2.2.2.2.2.2.2.2.2.2.2.2.2.2.1 u.2.2.2.2.2.2.2.2.2.2.2.2.2.2.2.2.2.2.2 := by
  intro n
  induction n with
  | zero => intro m u _ hn; omega
  | succ n ih =>
    intro m u hm hn hX hC
    rw [wX_copy_80]
    refine pk_le k m (fun c => ?_) (fun c => ⟨vp_in_nI (by omega) (by omega), ?_⟩)
    · have e : m = k := by omega
      subst e
      exact h u hX
    · have cm : (nI m).toNatClampNeg = m := nI_clamp (by omega)
      rw [cm]
      show wpX_make _ u (sg_C u m)
      rw [hC]
      obtain ⟨L, C, ⟨r, cc, G, hr, hc, r48, c48, hfo, rfl, rfl, hus⟩, rfl, e4⟩ := hX
      rw [← sp_D2] at hus
      have hlen : (sp_D G [r, cc]).length < 48 := by
        rw [sp_D2, List.length_append, sp_N_len, sp_N_len, ← sp_V_len (G r), ← sp_V_len (G cc), e4, List.length_map, List.length_range]
        omega
      refine sp_make (u := u) hfo hus hlen (hB m c) ?_
      intro u1 G1 x hfo1 hx hq x48 hus1 k1 k2 k3 k4 k5
      have qr := hq r (List.mem_cons_self ..)
      have qc := hq cc (List.mem_cons_of_mem _ (List.mem_cons_self ..))
      have pm : [x, r, cc].Perm [cc, x, r] := (List.Perm.cons _ (List.Perm.swap cc r [])).trans (List.Perm.swap cc x [r])
      show wpX_join _ u1 (sg_c u1) (nI x)
      rw [k2, hc]
      refine sp_join (u := u1) (sp_fo_perm hfo1 pm) c48 x48 ?_
      intro u2 G2 z hfo2 hz hq2 z48 hF2
      have qr2 := hq2 r (List.mem_cons_self ..)
      show ∀ w : Int32, w = nI m + 1 → wX_copy_80 post (nI k) n w u2.1 (nI z) u2.2.2.1 u2.2.2.2.1 u2.2.2.2.2.1 u2.2.2.2.2.2.1 u2.2.2.2.2.2.2.1 u2.2.2.2.2.2.2.2.1 u2.2.2.2.2.2.2.2.2.1 u2.2.2.2.2.2.2.2.2.2.1 u2.2.2.2.2.2.2.2.2.2.2.1 u2.2.2.2.2.2.2.2.2.2.2.2.1 u2.2.2.2.2.2.2.2.2.2.2.2.2.1 u2.2.2.2.2.2.2.2.2.2.2.2.2.2.1 u2.2.2.2.2.2.2.2.2.2.2.2.2.2.2.1 u2.2.2.2.2.2.2.2.2.2.2.2.2.2.2.2.1 u2.2.2.2.2.2.2.2.2.2.2.2.2.2.2.2.2.1 u2.2.2.2.2.2.2.2.2.2.2.2.2.2.2.2.2.2.1 u2.2.2.2.2.2.2.2.2.2.2.2.2.2.2.2.2.2.2.1 u2.2.2.2.2.2.2.2.2.2.2.2.2.2.2.2.2.2.2.2
      refine nm_r (e' := nI (m + 1)) (nI_1 m) ?_
      refine ih (m + 1) (u2.1, nI z, u2.2.2.1, u2.2.2.2.1, u2.2.2.2.2.1, u2.2.2.2.2.2.1, u2.2.2.2.2.2.2.1, u2.2.2.2.2.2.2.2.1, u2.2.2.2.2.2.2.2.2.1, u2.2.2.2.2.2.2.2.2.2.1, u2.2.2.2.2.2.2.2.2.2.2.1, u2.2.2.2.2.2.2.2.2.2.2.2.1, u2.2.2.2.2.2.2.2.2.2.2.2.2.1, u2.2.2.2.2.2.2.2.2.2.2.2.2.2.1, u2.2.2.2.2.2.2.2.2.2.2.2.2.2.2.1, u2.2.2.2.2.2.2.2.2.2.2.2.2.2.2.2.1, u2.2.2.2.2.2.2.2.2.2.2.2.2.2.2.2.2.1, u2.2.2.2.2.2.2.2.2.2.2.2.2.2.2.2.2.2.1, u2.2.2.2.2.2.2.2.2.2.2.2.2.2.2.2.2.2.2.1, u2.2.2.2.2.2.2.2.2.2.2.2.2.2.2.2.2.2.2.2) (by omega) (by omega) ?_ (hF2.2.2.2.2.2.2.trans (k5.trans hC))
      have kk := sp_XR_i (u := (u2.1, nI z, u2.2.2.1, u2.2.2.2.1, u2.2.2.2.2.1, u2.2.2.2.2.2.1, u2.2.2.2.2.2.2.1, u2.2.2.2.2.2.2.2.1, u2.2.2.2.2.2.2.2.2.1, u2.2.2.2.2.2.2.2.2.2.1, u2.2.2.2.2.2.2.2.2.2.2.1, u2.2.2.2.2.2.2.2.2.2.2.2.1, u2.2.2.2.2.2.2.2.2.2.2.2.2.1, u2.2.2.2.2.2.2.2.2.2.2.2.2.2.1, u2.2.2.2.2.2.2.2.2.2.2.2.2.2.2.1, u2.2.2.2.2.2.2.2.2.2.2.2.2.2.2.2.1, u2.2.2.2.2.2.2.2.2.2.2.2.2.2.2.2.2.1, u2.2.2.2.2.2.2.2.2.2.2.2.2.2.2.2.2.2.1, u2.2.2.2.2.2.2.2.2.2.2.2.2.2.2.2.2.2.2.1, u2.2.2.2.2.2.2.2.2.2.2.2.2.2.2.2.2.2.2.2)) (G := G2) (r := r) (c := z) (hF2.1.trans (k1.trans hr)) rfl r48 z48 (sp_fo_same (sp_fo_swap hfo2) (fun y => ⟨rfl, rfl, rfl, rfl, rfl, rfl, rfl, rfl, rfl, rfl, rfl⟩) (fun y hy => rfl)) ?_
      · have ez : sp_V (G2 z) = (List.range (m + 1)).map Cc := by
          rw [hz, qc, hx, sp_V_app, e4, List.range_succ, List.map_append]
          rfl
        rw [ez, qr2, qr] at kk
        exact kk
      · have hus2 : sp_us u2 (sp_D G1 [x, r, cc]) := sp_us_E hus1 hF2.2.2.2.2.2.1
        refine sp_us_mem (ns := sp_D G1 [x, r, cc]) hus2 (fun y => ?_)
        rw [sp_D_cons, sp_D2, sp_D2, qr2, hz, sp_N_app]
        simp only [List.mem_append]
        exact ⟨fun w => w.elim (fun w => Or.inr (Or.inr w)) (fun w => w.elim Or.inl (fun w => Or.inr (Or.inl w))), fun w => w.elim (fun w => Or.inr (Or.inl w)) (fun w => w.elim (fun w => Or.inr (Or.inr w)) Or.inl)⟩
theorem sp_mid_get {A : List Int32} {i j t : Nat} (ht : t < j - i) : (sp_mid A i j)[t]? = A[i + t]? := by
  unfold sp_mid
  rw [List.getElem?_drop, List.getElem?_take_of_lt (by omega)]
theorem sp_mid_map {A : List Int32} {i j : Nat} {Cc : Nat → Int32} (hij : i ≤ j) (hj : j ≤ A.length) (h : ∀ t, t < j - i → A[i + t]? = some (Cc t)) : (List.range (j - i)).map Cc = sp_mid A i j := by
  apply List.ext_getElem?
  intro t
  by_cases ht : t < j - i
  · rw [sp_mid_get ht, h t ht, List.getElem?_map, List.getElem?_range ht]
    rfl
  · rw [List.getElem?_eq_none (by rw [List.length_map, List.length_range]; omega), List.getElem?_eq_none (by rw [sp_mid_len hij hj]; omega)]
theorem sx_cp37 {post : Int32 → SX → Prop} {A B : List Int32} {i j : Nat} (hij : i ≤ j) (hj : j ≤ A.length) (hk : A.length + (j - i) ≤ 48)
    (h : ∀ u', sp_XR u' A (sp_mid A i j) → post (nI (j - i)) u') :
    ∀ (n m : Nat) (u : SX), m ≤ j - i → j - i - m < n → sp_XR u A B → (∀ t, t < m → A[i + t]? = some (sg_C u t)) → wX_copy_37 post (nI i) (nI (j - i)) n (nI m) u.1 u.2.1 u.2.2.1 u.2.2.2.1 u.2.2.2.2.1 u.2.2.2.2.2.1 u.2.2.2.2.2.2.1 u.2.2.2.2.2.2.2.1 u.2.2.2.2.2.2.2.2.1 u.2.2.2.2.2.2.2.2.2.1 u.2.2.2.2.2.2.2.2.2.2.1 u.2.2.2.2.2.2.2.2.2.2.2.1 u.2.2.2.2.2.2.2.2.2.2.2.2.1 u.2.2.2.2.2.2.2.2.2.2.2.2.2.1 u.2.2.2.2.2.2.2.2.2.2.2.2.2.2.1 u.2.2.2.2.2.2.2.2.2.2.2.2.2.2.2.1 u.2.2.2.2.2.2.2.2.2.2.2.2.2.2.2.2.1 u.2.2.2.2.2.2.2.2.2.2.2.2.2.2.2.2.2.1 u.2.2.2.2.2.2.2.2.2.2.2.2.2.2.2.2.2.2.1 u.2.2.2.2.2.2.2.2.2.2.2.2.2.2.2.2.2.2.2 := by
  intro n
  induction n with
  | zero => intro m u _ hn; omega
  | succ n ih =>
    intro m u hm hn hX hC
    rw [wX_copy_37]
    refine pk_le (j - i) m (fun c => ?_) (fun c => ?_)
    · have e : m = j - i := by omega
      subst e
      have hmm := sp_mid_map hij hj hC
      have hBm : ∀ t, t < j - i → sp_nu (sg_C u t) := fun t ht => by
        obtain ⟨-, -, -, -, -, hBA, -⟩ := sp_XR_f hX
        exact hBA _ (List.mem_of_getElem? (hC t ht))
      obtain ⟨L, C, ⟨r, cc, G, hr, hc, r48, c48, hfo, rfl, rfl, hus⟩, rfl, e4⟩ := hX
      show wpX_release _ u (sg_c u)
      rw [hc]
      refine sp_release (u := u) (rs := [r]) (sp_fo_swap hfo) c48 ?_
      intro E K hE0 hE1
      have hus1 : sp_us (u.1, 0, u.2.2.1, u.2.2.2.1, u.2.2.2.2.1, u.2.2.2.2.2.1, u.2.2.2.2.2.2.1, u.2.2.2.2.2.2.2.1, u.2.2.2.2.2.2.2.2.1, u.2.2.2.2.2.2.2.2.2.1, u.2.2.2.2.2.2.2.2.2.2.1, u.2.2.2.2.2.2.2.2.2.2.2.1, u.2.2.2.2.2.2.2.2.2.2.2.2.1, u.2.2.2.2.2.2.2.2.2.2.2.2.2.1, u.2.2.2.2.2.2.2.2.2.2.2.2.2.2.1, u.2.2.2.2.2.2.2.2.2.2.2.2.2.2.2.1, u.2.2.2.2.2.2.2.2.2.2.2.2.2.2.2.2.1, E, K, u.2.2.2.2.2.2.2.2.2.2.2.2.2.2.2.2.2.2.2) (sp_N (G r)) := sp_rel_us (u' := (u.1, 0, u.2.2.1, u.2.2.2.1, u.2.2.2.2.1, u.2.2.2.2.2.1, u.2.2.2.2.2.2.1, u.2.2.2.2.2.2.2.1, u.2.2.2.2.2.2.2.2.1, u.2.2.2.2.2.2.2.2.2.1, u.2.2.2.2.2.2.2.2.2.2.1, u.2.2.2.2.2.2.2.2.2.2.2.1, u.2.2.2.2.2.2.2.2.2.2.2.2.1, u.2.2.2.2.2.2.2.2.2.2.2.2.2.1, u.2.2.2.2.2.2.2.2.2.2.2.2.2.2.1, u.2.2.2.2.2.2.2.2.2.2.2.2.2.2.2.1, u.2.2.2.2.2.2.2.2.2.2.2.2.2.2.2.2.1, E, K, u.2.2.2.2.2.2.2.2.2.2.2.2.2.2.2.2.2.2.2)) hfo hus hE0 hE1
      have hfo1 : sp_fo (u.1, 0, u.2.2.1, u.2.2.2.1, u.2.2.2.2.1, u.2.2.2.2.2.1, u.2.2.2.2.2.2.1, u.2.2.2.2.2.2.2.1, u.2.2.2.2.2.2.2.2.1, u.2.2.2.2.2.2.2.2.2.1, u.2.2.2.2.2.2.2.2.2.2.1, u.2.2.2.2.2.2.2.2.2.2.2.1, u.2.2.2.2.2.2.2.2.2.2.2.2.1, u.2.2.2.2.2.2.2.2.2.2.2.2.2.1, u.2.2.2.2.2.2.2.2.2.2.2.2.2.2.1, u.2.2.2.2.2.2.2.2.2.2.2.2.2.2.2.1, u.2.2.2.2.2.2.2.2.2.2.2.2.2.2.2.2.1, E, K, u.2.2.2.2.2.2.2.2.2.2.2.2.2.2.2.2.2.2.2) G [r, 0] := sp_fo_same (sp_fo_swap (sp_fo_add0 (sp_fo_del (sp_fo_swap hfo)))) (fun y => ⟨rfl, rfl, rfl, rfl, rfl, rfl, rfl, rfl, rfl, rfl, rfl⟩) (fun y hy => rfl)
      have kk := sp_XR_i (u := (u.1, 0, u.2.2.1, u.2.2.2.1, u.2.2.2.2.1, u.2.2.2.2.2.1, u.2.2.2.2.2.2.1, u.2.2.2.2.2.2.2.1, u.2.2.2.2.2.2.2.2.1, u.2.2.2.2.2.2.2.2.2.1, u.2.2.2.2.2.2.2.2.2.2.1, u.2.2.2.2.2.2.2.2.2.2.2.1, u.2.2.2.2.2.2.2.2.2.2.2.2.1, u.2.2.2.2.2.2.2.2.2.2.2.2.2.1, u.2.2.2.2.2.2.2.2.2.2.2.2.2.2.1, u.2.2.2.2.2.2.2.2.2.2.2.2.2.2.2.1, u.2.2.2.2.2.2.2.2.2.2.2.2.2.2.2.2.1, E, K, u.2.2.2.2.2.2.2.2.2.2.2.2.2.2.2.2.2.2.2)) (G := G) (r := r) (c := 0) hr rfl r48 (by omega) hfo1 (by
        refine sp_us_mem hus1 (fun y => ?_)
        rw [sp_D2, hfo.1]
        show _ ↔ y ∈ _ ++ []
        rw [List.append_nil])
      refine ⟨j - i + 1, ?_⟩
      refine sx_cp80 (A := sp_V (G r)) (Cc := sg_C u) hk hBm (fun u' hX' => ?_) (j - i + 1) 0 (u.1, 0, u.2.2.1, u.2.2.2.1, u.2.2.2.2.1, u.2.2.2.2.2.1, u.2.2.2.2.2.2.1, u.2.2.2.2.2.2.2.1, u.2.2.2.2.2.2.2.2.1, u.2.2.2.2.2.2.2.2.2.1, u.2.2.2.2.2.2.2.2.2.2.1, u.2.2.2.2.2.2.2.2.2.2.2.1, u.2.2.2.2.2.2.2.2.2.2.2.2.1, u.2.2.2.2.2.2.2.2.2.2.2.2.2.1, u.2.2.2.2.2.2.2.2.2.2.2.2.2.2.1, u.2.2.2.2.2.2.2.2.2.2.2.2.2.2.2.1, u.2.2.2.2.2.2.2.2.2.2.2.2.2.2.2.2.1, E, K, u.2.2.2.2.2.2.2.2.2.2.2.2.2.2.2.2.2.2.2) (by omega) (by omega) ?_ rfl
      · rw [hmm] at hX'
        exact h u' hX'
      · rw [hfo.1] at kk
        exact kk
    · rw [nI_add]
      refine sx_get (u := u) hX (fun q => absurd ⟨i + m, rfl, by omega⟩ q) ?_
      intro t w u' et ht hw hX' hC'
      rw [nI_eq (by omega) (by omega)] at et
      subst et
      have cm : (nI m).toNatClampNeg = m := nI_clamp (by omega)
      refine ⟨vp_in_nI (by omega) (by omega), fun q eq => ?_⟩
      rw [cm] at eq
      subst eq
      refine nm_r (e' := nI (m + 1)) (nI_1 m) ?_
      refine ih (m + 1) (u'.1, u'.2.1, u'.2.2.1, u'.2.2.2.1, u'.2.2.2.2.1, u'.2.2.2.2.2.1, u'.2.2.2.2.2.2.1, u'.2.2.2.2.2.2.2.1, u'.2.2.2.2.2.2.2.2.1, u'.2.2.2.2.2.2.2.2.2.1, u'.2.2.2.2.2.2.2.2.2.2.1, u'.2.2.2.2.2.2.2.2.2.2.2.1, u'.2.2.2.2.2.2.2.2.2.2.2.2.1, u'.2.2.2.2.2.2.2.2.2.2.2.2.2.1, u'.2.2.2.2.2.2.2.2.2.2.2.2.2.2.1, u'.2.2.2.2.2.2.2.2.2.2.2.2.2.2.2.1, u'.2.2.2.2.2.2.2.2.2.2.2.2.2.2.2.2.1, u'.2.2.2.2.2.2.2.2.2.2.2.2.2.2.2.2.2.1, u'.2.2.2.2.2.2.2.2.2.2.2.2.2.2.2.2.2.2.1, upd (sg_C u') m w) (by omega) (by omega) (sp_XR_eq hX' (fun y => ⟨rfl, rfl, rfl, rfl, rfl, rfl, rfl, rfl, rfl, rfl, rfl⟩) rfl rfl rfl rfl) ?_
      intro t ht
      show _ = some (upd (sg_C u') m w t)
      by_cases tm : t = m
      · rw [tm, pk_us]; exact hw
      · rw [pk_un tm, hC']
        exact hC t (by omega)
theorem sx_copy {post : Int32 → SX → Prop} {u : SX} {A B : List Int32} {p q : Int32} (hX : sp_XR u A B)
    (h0 : ¬ sp_st p q A.length → post (-1) u)
    (h2 : ∀ i j, p = nI i → q = nI j → i ≤ j → j ≤ A.length → 48 < A.length + (j - i) → post (-2) u)
    (h1 : ∀ i j u', p = nI i → q = nI j → i ≤ j → j ≤ A.length → A.length + (j - i) ≤ 48 → sp_XR u' A (sp_mid A i j) → post (nI (j - i)) u') : wpX_copy post u p q := by
  unfold wpX_copy
  obtain ⟨ir, eS, -, -, hn, -, -⟩ := sp_XR_f hX
  refine sx_bad (u := u) hX (fun hs => br_t rfl ?_) (fun hs => br_f (by decide) (h0 hs))
  obtain ⟨i, j, rfl, rfl, hij, hj⟩ := hs
  refine nm_r (e' := nI (j - i)) (pk_sub hij) ⟨ir, ?_⟩
  show (sg_S u (sg_r u).toNatClampNeg + nI (j - i) ≤ 48 → _) ∧ (¬ sg_S u (sg_r u).toNatClampNeg + nI (j - i) ≤ 48 → _)
  rw [eS, nI_add]
  refine pk_le (A.length + (j - i)) 48 (fun z => ⟨j - i + 1, ?_⟩) (fun z => h2 i j rfl rfl hij hj z)
  exact sx_cp37 hij hj z (fun u' hX' => h1 i j u' rfl rfl hij hj z hX') (j - i + 1) 0 u (by omega) (by omega) hX (fun t ht => by omega)
/-! alike -/
def sp_alk (A : List Int32) (i j k : Nat) : Prop := ∀ t, t < k → A[i + t]? = A[j + t]?
theorem sp_alk_mid {A : List Int32} {i j k : Nat} (hi : i + k ≤ A.length) (hj : j + k ≤ A.length) (h : sp_alk A i j k) : sp_mid A i (i + k) = sp_mid A j (j + k) := by
  apply List.ext_getElem?
  intro t
  by_cases ht : t < k
  · rw [sp_mid_get (by omega), sp_mid_get (by omega), h t ht]
  · rw [List.getElem?_eq_none (by rw [sp_mid_len (by omega) (by omega)]; omega), List.getElem?_eq_none (by rw [sp_mid_len (by omega) (by omega)]; omega)]
theorem sx_alk {post : Int32 → SX → Prop} {A B : List Int32} {i j k : Nat} (hi : i + k ≤ A.length) (hj : j + k ≤ A.length)
    (h1 : ∀ u', sp_XR u' A B → sp_alk A i j k → post 1 u') (h0 : ∀ u', sp_XR u' A B → ¬ sp_alk A i j k → post 0 u') :
    ∀ (n m : Nat) (s : Int32) (u : SX), m ≤ k → k - m < n → (s = 1 ∧ sp_alk A i j m ∨ s = 0 ∧ ¬ sp_alk A i j k) → sp_XR u A B → wX_alike_84 post (nI i) (nI j) (nI k) n s (nI m) u.1 u.2.1 u.2.2.1 u.2.2.2.1 u.2.2.2.2.1 u.2.2.2.2.2.1 u.2.2.2.2.2.2.1 u.2.2.2.2.2.2.2.1 u.2.2.2.2.2.2.2.2.1 u.2.2.2.2.2.2.2.2.2.1 u.2.2.2.2.2.2.2.2.2.2.1 u.2.2.2.2.2.2.2.2.2.2.2.1 u.2.2.2.2.2.2.2.2.2.2.2.2.1 u.2.2.2.2.2.2.2.2.2.2.2.2.2.1 u.2.2.2.2.2.2.2.2.2.2.2.2.2.2.1 u.2.2.2.2.2.2.2.2.2.2.2.2.2.2.2.1 u.2.2.2.2.2.2.2.2.2.2.2.2.2.2.2.2.1 u.2.2.2.2.2.2.2.2.2.2.2.2.2.2.2.2.2.1 u.2.2.2.2.2.2.2.2.2.2.2.2.2.2.2.2.2.2.1 u.2.2.2.2.2.2.2.2.2.2.2.2.2.2.2.2.2.2.2 := by
  intro n
  induction n with
  | zero => intro m s u _ hn; omega
  | succ n ih =>
    intro m s u hm hn hs hX
    obtain ⟨-, -, -, -, hn48, -, -⟩ := sp_XR_f hX
    rw [wX_alike_84]
    rcases hs with ⟨rfl, ha⟩ | ⟨rfl, ha⟩
    · refine pk_le k m (fun c => ⟨rfl, ?_⟩) (fun c => br_f (by decide) ?_)
      · have e : m = k := by omega
        subst e
        exact h1 u hX ha
      · rw [nI_add, nI_add]
        refine sx_get (u := u) hX (fun q => absurd ⟨i + m, rfl, by omega⟩ q) ?_
        intro t w u1 et ht hw hX1 _
        rw [nI_eq (by omega) (by omega)] at et
        subst et
        show wpX_get _ u1 (nI (j + m))
        refine sx_get (u := u1) hX1 (fun q => absurd ⟨j + m, rfl, by omega⟩ q) ?_
        intro t2 w2 u2 et2 ht2 hw2 hX2 _
        rw [nI_eq (by omega) (by omega)] at et2
        subst et2
        refine br_c (fun e => nm_r (e' := nI (m + 1)) (nI_1 m) ?_) (fun e => nm_r (e' := nI (m + 1)) (nI_1 m) ?_)
        · refine ih (m + 1) 1 u2 (by omega) (by omega) (Or.inl ⟨rfl, fun t ht => ?_⟩) hX2
          by_cases tm : t = m
          · rw [tm, hw, hw2, e]
          · exact ha t (by omega)
        · refine ih (m + 1) 0 u2 (by omega) (by omega) (Or.inr ⟨rfl, fun q => ?_⟩) hX2
          have := q m c
          rw [hw, hw2] at this
          exact e (Option.some.inj this)
    · have fin := h0 u hX ha
      exact br_c (fun _ => ⟨rfl, fin⟩) (fun _ => br_t rfl ⟨rfl, fin⟩)
def sp_ak (p q k : Int32) (n : Nat) : Prop := ∃ i j m : Nat, p = nI i ∧ q = nI j ∧ k = nI m ∧ i + m ≤ n ∧ j + m ≤ n
theorem sx_alike {post : Int32 → SX → Prop} {u : SX} {A B : List Int32} {p q k : Int32} (hX : sp_XR u A B)
    (h : ¬ sp_ak p q k A.length → post 0 u)
    (h1 : ∀ i j m u', p = nI i → q = nI j → k = nI m → i + m ≤ A.length → j + m ≤ A.length → sp_alk A i j m → sp_XR u' A B → post 1 u')
    (h0 : ∀ i j m u', p = nI i → q = nI j → k = nI m → i + m ≤ A.length → j + m ≤ A.length → ¬ sp_alk A i j m → sp_XR u' A B → post 0 u') : wpX_alike post u p q k := by
  obtain ⟨ir, eS, -, -, hn, -, -⟩ := sp_XR_f hX
  refine ⟨ir, nm_r (e' := nI A.length) eS ?_⟩
  refine br_c (fun c => h (fun ⟨i, j, m, e1, e2, e3, e4, e5⟩ => ?_)) (fun c1 => br_c (fun c => h (fun ⟨i, j, m, e1, e2, e3, e4, e5⟩ => ?_)) (fun c2 => br_c (fun c => h (fun ⟨i, j, m, e1, e2, e3, e4, e5⟩ => ?_)) (fun c3 => ?_)))
  · rw [e1] at c; exact nI_pos (by omega) c
  · rw [e2] at c; exact nI_pos (by omega) c
  · rw [e3] at c; exact nI_pos (by omega) c
  obtain ⟨i, hi, rfl⟩ := nI_of c1
  obtain ⟨j, hj, rfl⟩ := nI_of c2
  obtain ⟨m, hm, rfl⟩ := nI_of c3
  have out : ¬ (i + m ≤ A.length ∧ j + m ≤ A.length) → ¬ sp_ak (nI i) (nI j) (nI m) A.length := fun z ⟨i', j', m', e1, e2, e3, e4, e5⟩ => by
    rw [nI_eq (by omega) (by omega)] at e1 e2 e3
    subst e1 e2 e3
    exact z ⟨e4, e5⟩
  refine pk_lt A.length m (fun c => h (out (by omega))) (fun c4 => ?_)
  rw [pk_sub c4]
  refine pk_lt (A.length - m) i (fun c => h (out (by omega))) (fun c5 => pk_le j (A.length - m) (fun c6 => ?_) (fun c => h (out (by omega))))
  show wpX_sum _ u (nI i) (nI i + nI m)
  rw [nI_add i m]
  refine sx_sum (u := u) hX (fun z => absurd ⟨i, i + m, rfl, rfl, by omega, by omega⟩ z) ?_
  intro i1 j1 u1 e1 e2 _ _ hX1
  rw [nI_eq (by omega) (by omega)] at e1 e2
  subst e1 e2
  show wpX_sum _ u1 (nI j) (nI j + nI m)
  rw [nI_add j m]
  refine sx_sum (u := u1) hX1 (fun z => absurd ⟨j, j + m, rfl, rfl, by omega, by omega⟩ z) ?_
  intro i1 j1 u2 e1 e2 _ _ hX2
  rw [nI_eq (by omega) (by omega)] at e1 e2
  subst e1 e2
  have k1 := fun (u' : SX) (q1 : sp_XR u' A B) (q2 : sp_alk A i j m) => h1 i j m u' rfl rfl rfl (by omega) (by omega) q2 q1
  have k0 := fun (u' : SX) (q1 : sp_XR u' A B) (q2 : ¬ sp_alk A i j m) => h0 i j m u' rfl rfl rfl (by omega) (by omega) q2 q1
  refine br_c (fun e => ⟨m + 1, ?_⟩) (fun e => ⟨m + 1, ?_⟩)
  · exact sx_alk (by omega) (by omega) k1 k0 (m + 1) 0 1 u2 (by omega) (by omega) (Or.inl ⟨rfl, fun t ht => by omega⟩) hX2
  · refine sx_alk (by omega) (by omega) k1 k0 (m + 1) 0 0 u2 (by omega) (by omega) (Or.inr ⟨rfl, fun z => e ?_⟩) hX2
    rw [sp_alk_mid (by omega) (by omega) z]
end
section
/-! the reference against two rows of numbers -/
def sp_ar (a : Nat → Int32) (L : List Int32) : Prop := ∀ t, t < L.length → L[t]? = some (a t)
def sp_YR (v : SY) (A B : List Int32) : Prop := v.1 = nI A.length ∧ v.2.1 = nI B.length ∧ sp_ar v.2.2.1 A ∧ sp_ar v.2.2.2.1 B
theorem sp_splice_get {A X : List Int32} {i j t : Nat} (hi : i ≤ A.length) :
    (A.take i ++ (X ++ A.drop j))[t]? = if t < i then A[t]? else if t < i + X.length then X[t - i]? else A[j + (t - i - X.length)]? := by
  have hl : (A.take i).length = i := by rw [List.length_take]; omega
  by_cases h1 : t < i
  · rw [if_pos h1, List.getElem?_append_left (by omega), List.getElem?_take_of_lt h1]
  · rw [if_neg h1, List.getElem?_append_right (by omega), hl]
    by_cases h2 : t < i + X.length
    · rw [if_pos h2, List.getElem?_append_left (by omega)]
    · rw [if_neg h2, List.getElem?_append_right (by omega), List.getElem?_drop]
theorem sp_splice_len {A X : List Int32} {i j : Nat} (hi : i ≤ A.length) (hj : j ≤ A.length) : (A.take i ++ (X ++ A.drop j)).length = i + X.length + (A.length - j) := by
  rw [List.length_append, List.length_append, List.length_take, List.length_drop]
  omega
/-- the array holds a row of which a stretch is new -/
theorem sp_splice_ar {A X : List Int32} {R a : Nat → Int32} {i j : Nat} (hi : i ≤ A.length) (hj : j ≤ A.length) (hA : sp_ar R A)
    (h1 : ∀ t, t < i → a t = R t) (h2 : ∀ t, t < X.length → X[t]? = some (a (i + t))) (h3 : ∀ t, j ≤ t → t < A.length → a (i + X.length + (t - j)) = R t) : sp_ar a (A.take i ++ (X ++ A.drop j)) := by
  intro t ht
  rw [sp_splice_len hi hj] at ht
  rw [sp_splice_get hi]
  by_cases c1 : t < i
  · rw [if_pos c1, h1 t c1]
    exact hA t (by omega)
  · rw [if_neg c1]
    by_cases c2 : t < i + X.length
    · rw [if_pos c2, h2 (t - i) (by omega)]
      exact congrArg (fun z => some (a z)) (by omega)
    · rw [if_neg c2, hA _ (by omega)]
      have := h3 (j + (t - i - X.length)) (by omega) (by omega)
      rw [← this]
      exact congrArg (fun z => some (a z)) (by omega)
theorem sy_isNumber {post : Int32 → Prop} {v : SY} {p : Int32} (h1 : sp_nu p → post 1) (h0 : ¬ sp_nu p → post 0) : wpY_isNumber post v p := by
  unfold sp_nu at h1 h0
  refine br_c (fun c => h0 (fun q => ?_)) (fun c => br_c (fun d => h0 (fun q => ?_)) (fun d => h1 ?_))
  · have := sp_lt c
    rw [sp_lit_c] at this
    omega
  · have := sp_lt d
    rw [sp_lit_d] at this
    omega
  · have a := sp_nlt c
    have b := sp_nlt d
    rw [sp_lit_c] at a
    rw [sp_lit_d] at b
    exact ⟨a, b⟩
section
variable {c : Int32} {R C S : Nat → Int32}
theorem sy_isStretch {post : Int32 → Prop} {n : Nat} {p q : Int32} (n48 : n ≤ 48) (h1 : sp_st p q n → post 1) (h0 : ¬ sp_st p q n → post 0) : wpY_isStretch post (nI n, c, R, C, S) p q :=
  br_c (fun d => h0 (sp_st_neg n48 d)) (fun d => br_c (fun e => h0 (sp_st_lt n48 e)) (fun e => br_c (fun f => h0 (sp_st_big n48 f)) (fun f => h1 (sp_st_ok n48 d e f))))
theorem sy_op7 {post : SY → Prop} {n i k : Nat} (hk : n + k ≤ 48)
    (h : ∀ a, (∀ t, t < i → a t = R t) → (∀ t, i ≤ t → t < n → a (t + k) = R t) → post (nI (n + k), c, a, C, S)) :
    ∀ (f s : Nat) (a : Nat → Int32), i ≤ s → s ≤ n → s - i < f → (∀ t, t < s → a t = R t) → (∀ t, s ≤ t → t < n → a (t + k) = R t) → wY_open_7 post (nI i) (nI k) (nI n) c f (nI s - 1) a C S := by
  intro f
  induction f with
  | zero => intro s a _ _ hf; omega
  | succ f ih =>
    intro s a his hsn hf h1 h2
    rw [wY_open_7]
    by_cases e : s = i
    · subst e
      have hlt : nI s - 1 < nI s := by
        rw [Int32.lt_iff_toInt_lt, show nI s - 1 = nI s - nI 1 from rfl, Int32.toInt_sub, nI_toInt (n := s) (by omega), nI_toInt (n := 1) (by omega), Int.bmod_eq_of_le (by omega) (by omega)]
        omega
      refine br_t hlt (nm_r (e' := nI (n + k)) (nI_add n k) (h a h1 h2))
    · have e1 : nI s - 1 = nI (s - 1) := pk_sub (b := 1) (by omega)
      rw [e1]
      have i1 : vp_in (nI (s - 1)) 48 := vp_in_nI (by omega) (by omega)
      have i2 : vp_in (nI (s - 1 + k)) 48 := vp_in_nI (by omega) (by omega)
      refine br_f (nI_nlt (by omega) (by omega)) ⟨i1, ?_⟩
      rw [nI_add]
      refine ⟨i2, ?_⟩
      rw [nI_clamp (n := s - 1) (by omega), nI_clamp (n := s - 1 + k) (by omega)]
      refine nm_e ?_
      have e2 : nI (s - 1) + (-1) = nI (s - 1) - 1 := by grind
      refine nm_r (e' := nI (s - 1) - 1) e2 (ih (s - 1) _ (by omega) (by omega) (by omega) ?_ ?_)
      · intro t ht
        rw [pk_un (by omega)]
        exact h1 t (by omega)
      · intro t t1 t2
        by_cases q : t = s - 1
        · rw [q, pk_us]
          exact h1 (s - 1) (by omega)
        · rw [pk_un (by omega)]
          exact h2 t (by omega) t2
theorem sy_open {post : SY → Prop} {n i k : Nat} (hi : i ≤ n) (hk : n + k ≤ 48)
    (h : ∀ a, (∀ t, t < i → a t = R t) → (∀ t, i ≤ t → t < n → a (t + k) = R t) → post (nI (n + k), c, a, C, S)) : wpY_open post (nI n, c, R, C, S) (nI i) (nI k) := by
  intro q eq
  rw [eq]
  exact ⟨n - i + 1, sy_op7 hk h (n - i + 1) n R hi (Nat.le_refl _) (by omega) (fun _ _ => rfl) (fun t t1 t2 => by omega)⟩
end
section
variable {A B : List Int32} {R C S : Nat → Int32}
theorem sy_insert {post : Int32 → SY → Prop} {p v : Int32} (hn : A.length + B.length ≤ 48) (hA : sp_ar R A) (hB : sp_ar C B)
    (h1 : ¬ (sp_at p A.length ∧ sp_nu v) → post (-1) (nI A.length, nI B.length, R, C, S))
    (h2 : sp_at p A.length → sp_nu v → A.length + B.length = 48 → post (-2) (nI A.length, nI B.length, R, C, S))
    (h3 : ∀ i v', p = nI i → i ≤ A.length → sp_nu v → A.length + B.length < 48 → sp_YR v' (A.take i ++ v :: A.drop i) B → post (nI (A.length + 1)) v') :
    wpY_insert post (nI A.length, nI B.length, R, C, S) p v := by
  have n48 : A.length ≤ 48 := by omega
  refine br_c (fun d => h1 (fun q => sp_at_neg n48 d q.1)) (fun d => br_c (fun e => h1 (fun q => sp_at_big n48 e q.1)) (fun e => ?_))
  have hat := sp_at_ok n48 d e
  refine sy_isNumber (fun hv => br_f (by decide) ?_) (fun hv => br_t rfl (h1 (fun q => hv q.2)))
  rw [nI_add]
  refine pk_eq (A.length + B.length) 48 (fun z => h2 hat hv z) (fun z => ?_)
  obtain ⟨i, rfl, hi⟩ := hat
  refine sy_open (k := 1) hi (by omega) ?_
  intro a a1 a2
  refine ⟨vp_in_nI (by omega) (by omega), ?_⟩
  rw [nI_clamp (n := i) (by omega)]
  refine nm_e (h3 i _ rfl hi hv (by omega) ⟨?_, rfl, ?_, hB⟩)
  · show nI (A.length + 1) = nI (A.take i ++ v :: A.drop i).length
    rw [sp_ins_len hi]
  · show sp_ar (upd a i v) (A.take i ++ ([v] ++ A.drop i))
    refine sp_splice_ar hi hi hA (fun t ht => ?_) (fun t ht => ?_) (fun t t1 t2 => ?_)
    · rw [pk_un (by omega)]; exact a1 t ht
    · have : t = 0 := by simp at ht; exact ht
      subst this
      rw [Nat.add_zero, pk_us]
      rfl
    · show upd a i v (i + 1 + (t - i)) = R t
      rw [pk_un (by omega)]
      have := a2 t t1 t2
      rw [← this]
      exact congrArg a (by omega)
theorem sp_run_get {v d : Int32} {k t : Nat} (ht : t < k) : (sp_run v d k)[t]? = some (v + nI t * d) := by
  unfold sp_run
  rw [List.getElem?_map, List.getElem?_range ht]
  rfl
theorem sy_ir90 {post : Int32 → SY → Prop} {n i k : Nat} {c v d : Int32} {a0 : Nat → Int32} (hi : i + k ≤ 48)
    (h : ∀ a, (∀ t, t < k → a (i + t) = v + nI t * d) → (∀ t, t < i ∨ i + k ≤ t → a t = a0 t) → post (nI n) (nI n, c, a, C, S)) :
    ∀ (f m : Nat) (a : Nat → Int32), m ≤ k → k - m < f → (∀ t, t < m → a (i + t) = v + nI t * d) → (∀ t, t < i ∨ i + k ≤ t → a t = a0 t) → wY_insertRun_90 post (nI i) (nI k) v d (nI n) c f (nI m) a C S := by
  intro f
  induction f with
  | zero => intro m a _ hf; omega
  | succ f ih =>
    intro m a hm hf h1 h2
    rw [wY_insertRun_90]
    refine pk_le k m (fun z => ?_) (fun z => ?_)
    · have e : m = k := by omega
      subst e
      exact h a h1 h2
    · rw [nI_add]
      refine ⟨vp_in_nI (by omega) (by omega), ?_⟩
      rw [nI_clamp (n := i + m) (by omega)]
      refine nm_e (nm_r (e' := nI (m + 1)) (nI_1 m) (ih (m + 1) _ (by omega) (by omega) ?_ ?_))
      · intro t ht
        by_cases q : t = m
        · rw [q, pk_us]
        · rw [pk_un (by omega)]
          exact h1 t (by omega)
      · intro t ht
        rw [pk_un (by omega)]
        exact h2 t ht
theorem sy_insertRun {post : Int32 → SY → Prop} {p k v d : Int32} (hn : A.length + B.length ≤ 48) (hA : sp_ar R A) (hB : sp_ar C B)
    (h1 : ¬ (sp_at p A.length ∧ sp_at k 48 ∧ sp_nu v ∧ sp_nu d ∧ (¬ k ≤ 0 → sp_nu (v + (k - 1) * d))) → post (-1) (nI A.length, nI B.length, R, C, S))
    (h2 : ∀ n, k = nI n → n ≤ 48 → sp_at p A.length → sp_nu v → sp_nu d → (¬ k ≤ 0 → sp_nu (v + (k - 1) * d)) → 48 < A.length + B.length + n → post (-2) (nI A.length, nI B.length, R, C, S))
    (h3 : ∀ i n v', p = nI i → k = nI n → i ≤ A.length → sp_nu v → sp_nu d → (¬ k ≤ 0 → sp_nu (v + (k - 1) * d)) → A.length + B.length + n ≤ 48 → sp_YR v' (A.take i ++ (sp_run v d n ++ A.drop i)) B → post (nI (A.length + n)) v') :
    wpY_insertRun post (nI A.length, nI B.length, R, C, S) p k v d := by
  have n48 : A.length ≤ 48 := by omega
  refine br_c (fun z => h1 (fun q => sp_at_neg n48 z q.1)) (fun z => br_c (fun e => h1 (fun q => sp_at_big n48 e q.1)) (fun e => ?_))
  have hat := sp_at_ok n48 z e
  refine br_c (fun c2 => h1 (fun q => sp_at_neg (Nat.le_refl _) c2 q.2.1)) (fun c2 => br_c (fun c3 => h1 (fun q => sp_at_big (n := 48) (Nat.le_refl _) c3 q.2.1)) (fun c3 => ?_))
  have hak : sp_at k 48 := sp_at_ok (Nat.le_refl _) c2 c3
  refine sy_isNumber (fun hv => br_f (by decide) ?_) (fun hv => br_t rfl (h1 (fun q => hv q.2.2.1)))
  refine sy_isNumber (fun hd => br_f (by decide) ?_) (fun hd => br_t rfl (h1 (fun q => hd q.2.2.2.1)))
  have go : (¬ k ≤ 0 → sp_nu (v + (k - 1) * d)) → wY_insertRun_62 post p k v d (nI A.length) (nI B.length) R C S := by
    intro hrun
    obtain ⟨i, rfl, hi⟩ := hat
    obtain ⟨n, rfl, hn2⟩ := hak
    unfold wY_insertRun_62
    rw [nI_add, nI_add]
    refine pk_le (A.length + B.length + n) 48 (fun y => ?_) (fun y => h2 n rfl hn2 ⟨i, rfl, hi⟩ hv hd hrun y)
    refine sy_open hi (by omega) ?_
    intro a a1 a2
    refine ⟨n + 1, sy_ir90 (a0 := a) (by omega) ?_ (n + 1) 0 a (by omega) (by omega) (fun t ht => by omega) (fun t _ => rfl)⟩
    intro a' b1 b2
    refine h3 i n _ rfl rfl hi hv hd hrun y ⟨?_, rfl, ?_, hB⟩
    · show nI (A.length + n) = nI (A.take i ++ (sp_run v d n ++ A.drop i)).length
      rw [sp_splice_len hi hi, sp_run_len]
      exact congrArg nI (by omega)
    · refine sp_splice_ar hi hi hA (fun t ht => ?_) (fun t ht => ?_) (fun t t1 t2 => ?_)
      · exact (b2 t (Or.inl ht)).trans (a1 t ht)
      · rw [sp_run_len] at ht
        rw [sp_run_get ht]
        exact congrArg some (b1 t ht).symm
      · rw [sp_run_len]
        have e1 := b2 (i + n + (t - i)) (Or.inr (by omega))
        have e2 := a2 t t1 t2
        exact e1.trans ((congrArg a (by omega)).trans e2)
  refine br_c (fun y => go (fun q => absurd y q)) (fun y => ?_)
  exact sy_isNumber (fun hq => br_f (by decide) (go (fun _ => hq))) (fun hq => br_t rfl (h1 (fun q => hq (q.2.2.2.2 y))))
theorem sy_get {post : Int32 → Prop} {p : Int32} (hn : A.length + B.length ≤ 48) (hA : sp_ar R A)
    (h0 : ¬ sp_lx p A.length → post 0) (h1 : ∀ i w, p = nI i → A[i]? = some w → post w) : wpY_get post (nI A.length, nI B.length, R, C, S) p := by
  have n48 : A.length ≤ 48 := by omega
  refine br_c (fun d => h0 (sp_lx_neg n48 d)) (fun d => br_c (fun e => h0 (sp_lx_big n48 ?_)) (fun e => ?_))
  · have := sp_le e
    rw [Int32.lt_iff_toInt_lt]
    omega
  · obtain ⟨i, rfl, hi⟩ := sp_lx_ok (n := A.length) n48 d (by
      rw [Int32.le_iff_toInt_le] at e
      rw [Int32.lt_iff_toInt_lt]
      omega)
    refine ⟨vp_in_nI (by omega) (by omega), ?_⟩
    rw [nI_clamp (by omega)]
    exact h1 i _ rfl (hA i hi)
theorem sy_set {post : Int32 → SY → Prop} {p v : Int32} (hn : A.length + B.length ≤ 48) (hA : sp_ar R A) (hB : sp_ar C B)
    (h0 : ¬ (sp_lx p A.length ∧ sp_nu v) → post (-1) (nI A.length, nI B.length, R, C, S))
    (h1 : ∀ i v', p = nI i → i < A.length → sp_nu v → (∀ P w Q, A = P ++ w :: Q → P.length = i → sp_YR v' (P ++ v :: Q) B) → post 0 v') : wpY_set post (nI A.length, nI B.length, R, C, S) p v := by
  have n48 : A.length ≤ 48 := by omega
  refine br_c (fun d => h0 (fun q => sp_lx_neg n48 d q.1)) (fun d => br_c (fun e => h0 (fun q => sp_lx_big n48 ?_ q.1)) (fun e => ?_))
  · have := sp_le e
    rw [Int32.lt_iff_toInt_lt]
    omega
  obtain ⟨i, rfl, hi⟩ := sp_lx_ok (n := A.length) n48 d (by
      rw [Int32.le_iff_toInt_le] at e
      rw [Int32.lt_iff_toInt_lt]
      omega)
  refine sy_isNumber (fun hv => br_f (by decide) ⟨vp_in_nI (by omega) (by omega), ?_⟩) (fun hv => br_t rfl (h0 (fun q => hv q.2)))
  rw [nI_clamp (n := i) (by omega)]
  refine nm_e (h1 i _ rfl hi hv ?_)
  intro P w Q e1 e2
  have hl : A.length = (P ++ v :: Q).length := by
    rw [e1, List.length_append, List.length_append, List.length_cons, List.length_cons]
  refine ⟨congrArg nI hl, rfl, fun t ht => ?_, hB⟩
  show _ = some (upd R i v t)
  by_cases q : t = i
  · rw [q, pk_us]
    exact sp_get_app e2
  · rw [pk_un q, ← hA t (by rw [hl]; exact ht), e1]
    by_cases q2 : t < P.length
    · rw [List.getElem?_append_left q2, List.getElem?_append_left q2]
    · rw [List.getElem?_append_right (by omega), List.getElem?_append_right (by omega)]
      obtain ⟨y, hy⟩ : ∃ y, t - P.length = y + 1 := ⟨t - P.length - 1, by omega⟩
      rw [hy, List.getElem?_cons_succ, List.getElem?_cons_succ]
end
end
section
section
variable {A B : List Int32} {R C S : Nat → Int32}
theorem sp_mid_ar {i j t : Nat} (hA : sp_ar R A) (hj : j ≤ A.length) (ht : t < j - i) : (sp_mid A i j)[t]? = some (R (i + t)) := by
  rw [sp_mid_get ht]
  exact hA (i + t) (by omega)
theorem sp_mid_all {i j : Nat} {P : Int32 → Prop} (hA : sp_ar R A) (hij : i ≤ j) (hj : j ≤ A.length) : (∀ w ∈ sp_mid A i j, P w) ↔ ∀ t, i ≤ t → t < j → P (R t) := by
  constructor
  · intro h t t1 t2
    refine h _ (List.mem_of_getElem? (i := t - i) ?_)
    rw [sp_mid_ar hA hj (by omega)]
    exact congrArg (fun z => some (R z)) (by omega)
  · intro h w hw
    obtain ⟨t, ht⟩ := List.getElem?_of_mem hw
    have hl : t < j - i := by
      have := (List.getElem?_eq_some_iff.mp ht).1
      rw [sp_mid_len hij hj] at this
      exact this
    rw [sp_mid_ar hA hj hl] at ht
    rw [← Option.some.inj ht]
    exact h _ (by omega) (by omega)
theorem sp_mid_succ {i p : Nat} (hA : sp_ar R A) (hip : i ≤ p) (hp : p < A.length) : sp_mid A i (p + 1) = sp_mid A i p ++ [R p] := by
  have e : A.take (p + 1) = A.take p ++ [R p] := by
    rw [List.take_add_one, hA p hp]
    rfl
  unfold sp_mid
  rw [e, List.drop_append_of_le_length (by rw [List.length_take]; omega)]
theorem sp_mid_nil {i : Nat} : sp_mid A i i = [] := by
  unfold sp_mid
  exact List.drop_take_self
theorem sy_tk9 {post : SY → Prop} {n i j : Nat} {c : Int32} (hj : j ≤ 48) (h : ∀ a, (∀ t, t < j - i → a t = R (i + t)) → post (nI n, c, R, a, S)) :
    ∀ (f p : Nat) (a : Nat → Int32), i ≤ p → p ≤ j → j - p < f → (∀ t, t < p - i → a t = R (i + t)) → wY_take_9 post (nI i) (nI j) (nI n) c f (nI p) R a S := by
  intro f
  induction f with
  | zero => intro p a _ _ hf; omega
  | succ f ih =>
    intro p a hip hpj hf h1
    rw [wY_take_9]
    refine pk_le j p (fun z => ?_) (fun z => ⟨vp_in_nI (by omega) (by omega), ?_⟩)
    · have e : p = j := by omega
      subst e
      exact h a h1
    · rw [pk_sub hip]
      refine ⟨vp_in_nI (by omega) (by omega), ?_⟩
      rw [nI_clamp (n := p) (by omega), nI_clamp (n := p - i) (by omega)]
      refine nm_e (nm_r (e' := nI (p + 1)) (nI_1 p) (ih (p + 1) _ (by omega) (by omega) (by omega) ?_))
      intro t ht
      by_cases q : t = p - i
      · rw [q, pk_us]
        exact congrArg R (by omega)
      · rw [pk_un q]
        exact h1 t (by omega)
theorem sy_take {post : SY → Prop} {n i j : Nat} {c : Int32} (hij : i ≤ j) (hj : j ≤ 48) (h : ∀ a, (∀ t, t < j - i → a t = R (i + t)) → post (nI n, nI (j - i), R, a, S)) :
    wpY_take post (nI n, c, R, C, S) (nI i) (nI j) :=
  nm_r (e' := nI (j - i)) (pk_sub hij) ⟨j - i + 1, sy_tk9 hj h (j - i + 1) i C (Nat.le_refl _) hij (by omega) (fun t ht => by omega)⟩
theorem sp_mid_arr {i j : Nat} {a : Nat → Int32} (hA : sp_ar R A) (hij : i ≤ j) (hj : j ≤ A.length) (h : ∀ t, t < j - i → a t = R (i + t)) : sp_ar a (sp_mid A i j) := by
  intro t ht
  rw [sp_mid_len hij hj] at ht
  rw [sp_mid_ar hA hj ht, h t ht]
theorem sy_ct19 {post : Int32 → SY → Prop} {n i j : Nat} (hn : n ≤ 48) (hij : i ≤ j) (hj : j ≤ n)
    (h : ∀ a, (∀ t, t < i → a t = R t) → (∀ t, j ≤ t → t < n → a (t - (j - i)) = R t) → post (nI (j - i)) (nI (n - (j - i)), nI (j - i), a, C, S)) :
    ∀ (f p : Nat) (a : Nat → Int32), j ≤ p → p ≤ n → n - p < f → (∀ t, t < i → a t = R t) → (∀ t, j ≤ t → t < p → a (t - (j - i)) = R t) → (∀ t, p ≤ t → a t = R t) → wY_cut_19 post (nI n) (nI (j - i)) f (nI p) a C S := by
  intro f
  induction f with
  | zero => intro p a _ _ hf; omega
  | succ f ih =>
    intro p a hjp hpn hf h1 h2 h3
    rw [wY_cut_19]
    refine pk_le n p (fun z => ?_) (fun z => ⟨vp_in_nI (by omega) (by omega), ?_⟩)
    · have e : p = n := by omega
      subst e
      exact nm_r (e' := nI (p - (j - i))) (pk_sub (by omega)) (h a h1 h2)
    · rw [pk_sub (a := p) (b := j - i) (by omega)]
      refine ⟨vp_in_nI (by omega) (by omega), ?_⟩
      rw [nI_clamp (n := p) (by omega), nI_clamp (n := p - (j - i)) (by omega)]
      refine nm_e (nm_r (e' := nI (p + 1)) (nI_1 p) (ih (p + 1) _ (by omega) (by omega) (by omega) ?_ ?_ ?_))
      · intro t ht
        rw [pk_un (by omega)]
        exact h1 t ht
      · intro t t1 t2
        by_cases q : t = p
        · rw [q, pk_us]
          exact h3 p (Nat.le_refl _)
        · rw [pk_un (by omega)]
          exact h2 t t1 (by omega)
      · intro t ht
        rw [pk_un (by omega)]
        exact h3 t (by omega)
theorem sy_cut {post : Int32 → SY → Prop} {p q : Int32} (hn : A.length + B.length ≤ 48) (hA : sp_ar R A)
    (h0 : ¬ sp_st p q A.length → post (-1) (nI A.length, nI B.length, R, C, S))
    (h1 : ∀ i j v', p = nI i → q = nI j → i ≤ j → j ≤ A.length → sp_YR v' (A.take i ++ A.drop j) (sp_mid A i j) → post (nI (j - i)) v') : wpY_cut post (nI A.length, nI B.length, R, C, S) p q := by
  unfold wpY_cut
  have n48 : A.length ≤ 48 := by omega
  refine sy_isStretch n48 (fun hs => br_f (by decide) ?_) (fun hs => br_t rfl (h0 hs))
  obtain ⟨i, j, rfl, rfl, hij, hj⟩ := hs
  refine sy_take hij (by omega) ?_
  intro a ha
  refine ⟨A.length - j + 1, sy_ct19 n48 hij hj ?_ (A.length - j + 1) j R (Nat.le_refl _) hj (by omega) (fun _ _ => rfl) (fun t t1 t2 => by omega) (fun _ _ => rfl)⟩
  intro b b1 b2
  refine h1 i j _ rfl rfl hij hj ⟨?_, ?_, ?_, ?_⟩
  · show nI (A.length - (j - i)) = nI (A.take i ++ A.drop j).length
    rw [List.length_append, List.length_take, List.length_drop]
    exact congrArg nI (by omega)
  · show nI (j - i) = nI (sp_mid A i j).length
    rw [sp_mid_len hij hj]
  · refine sp_splice_ar (X := []) (by omega) hj hA b1 (fun t ht => absurd ht (by simp)) (fun t t1 t2 => ?_)
    have := b2 t t1 t2
    rw [← this]
    exact congrArg b (by simp; omega)
  · exact sp_mid_arr hA hij hj ha
theorem sy_copy {post : Int32 → SY → Prop} {p q : Int32} (hn : A.length + B.length ≤ 48) (hA : sp_ar R A)
    (h0 : ¬ sp_st p q A.length → post (-1) (nI A.length, nI B.length, R, C, S))
    (h2 : ∀ i j, p = nI i → q = nI j → i ≤ j → j ≤ A.length → 48 < A.length + (j - i) → post (-2) (nI A.length, nI B.length, R, C, S))
    (h1 : ∀ i j v', p = nI i → q = nI j → i ≤ j → j ≤ A.length → A.length + (j - i) ≤ 48 → sp_YR v' A (sp_mid A i j) → post (nI (j - i)) v') : wpY_copy post (nI A.length, nI B.length, R, C, S) p q := by
  unfold wpY_copy
  have n48 : A.length ≤ 48 := by omega
  refine sy_isStretch n48 (fun hs => br_f (by decide) ?_) (fun hs => br_t rfl (h0 hs))
  obtain ⟨i, j, rfl, rfl, hij, hj⟩ := hs
  rw [nI_add, pk_sub (by omega)]
  refine pk_le (A.length + j - i) 48 (fun z => ?_) (fun z => h2 i j rfl rfl hij hj (by omega))
  refine sy_take hij (by omega) ?_
  intro a ha
  exact h1 i j _ rfl rfl hij hj (by omega) ⟨rfl, congrArg nI (sp_mid_len hij hj).symm, hA, sp_mid_arr hA hij hj ha⟩
theorem sy_ps25 {post : Int32 → SY → Prop} {n i m : Nat} {a0 : Nat → Int32} (hi : i + m ≤ 48)
    (h : ∀ a, (∀ t, t < m → a (i + t) = C t) → (∀ t, t < i ∨ i + m ≤ t → a t = a0 t) → post (nI n) (nI n, 0, a, C, S)) :
    ∀ (f k : Nat) (a : Nat → Int32), k ≤ m → m - k < f → (∀ t, t < k → a (i + t) = C t) → (∀ t, t < i ∨ i + m ≤ t → a t = a0 t) → wY_paste_25 post (nI i) (nI n) (nI m) f (nI k) a C S := by
  intro f
  induction f with
  | zero => intro k a _ hf; omega
  | succ f ih =>
    intro k a hk hf h1 h2
    rw [wY_paste_25]
    refine pk_le m k (fun z => ?_) (fun z => ⟨vp_in_nI (by omega) (by omega), ?_⟩)
    · have e : k = m := by omega
      subst e
      exact h a h1 h2
    · rw [nI_add]
      refine ⟨vp_in_nI (by omega) (by omega), ?_⟩
      rw [nI_clamp (n := i + k) (by omega), nI_clamp (n := k) (by omega)]
      refine nm_e (nm_r (e' := nI (k + 1)) (nI_1 k) (ih (k + 1) _ (by omega) (by omega) ?_ ?_))
      · intro t ht
        by_cases q : t = k
        · rw [q, pk_us]
        · rw [pk_un (by omega)]
          exact h1 t (by omega)
      · intro t ht
        rw [pk_un (by omega)]
        exact h2 t ht
theorem sy_paste {post : Int32 → SY → Prop} {p : Int32} (hn : A.length + B.length ≤ 48) (hA : sp_ar R A) (hB : sp_ar C B)
    (h0 : ¬ sp_at p A.length → post (-1) (nI A.length, nI B.length, R, C, S))
    (h1 : ∀ i v', p = nI i → i ≤ A.length → sp_YR v' (A.take i ++ (B ++ A.drop i)) [] → post (nI (A.length + B.length)) v') : wpY_paste post (nI A.length, nI B.length, R, C, S) p := by
  have n48 : A.length ≤ 48 := by omega
  refine br_c (fun d => h0 (sp_at_neg n48 d)) (fun d => br_c (fun e => ?_) (fun e => h0 (sp_at_big n48 (sp_at_nle e))))
  obtain ⟨i, rfl, hi⟩ := sp_at_ok n48 d (sp_at_le e)
  refine sy_open hi hn ?_
  intro a a1 a2
  refine ⟨B.length + 1, sy_ps25 (a0 := a) (by omega) ?_ (B.length + 1) 0 a (by omega) (by omega) (fun t ht => by omega) (fun t _ => rfl)⟩
  intro b b1 b2
  refine h1 i _ rfl hi ⟨?_, rfl, ?_, fun t ht => absurd ht (by simp)⟩
  · show nI (A.length + B.length) = nI (A.take i ++ (B ++ A.drop i)).length
    rw [sp_splice_len hi hi]
    exact congrArg nI (by omega)
  · refine sp_splice_ar hi hi hA (fun t ht => (b2 t (Or.inl ht)).trans (a1 t ht)) (fun t ht => ?_) (fun t t1 t2 => ?_)
    · rw [hB t ht]
      exact congrArg some (b1 t ht).symm
    · have e1 := b2 (i + B.length + (t - i)) (Or.inr (by omega))
      exact e1.trans ((congrArg a (by omega)).trans (a2 t t1 t2))
/-- a loop that writes each place of a stretch once -/
theorem sy_loop {W : Nat → Int32 → (Nat → Int32) → Prop} {g : Nat → Int32 → Int32} {i j : Nat} (hij : i ≤ j)
    (hx : ∀ f a, (∀ t, i ≤ t → t < j → a t = g t (R t)) → (∀ t, t < i ∨ j ≤ t → a t = R t) → W (f + 1) (nI j) a)
    (hs : ∀ f p a, i ≤ p → p < j → W f (nI (p + 1)) (upd a p (g p (a p))) → W (f + 1) (nI p) a) : ∃ f, W f (nI i) R := by
  have key : ∀ (f p : Nat) (a : Nat → Int32), i ≤ p → p ≤ j → j - p < f → (∀ t, i ≤ t → t < p → a t = g t (R t)) → (∀ t, t < i ∨ p ≤ t → a t = R t) → W f (nI p) a := by
    intro f
    induction f with
    | zero => intro p a _ _ hf; omega
    | succ f ih =>
      intro p a hip hpj hf h1 h2
      by_cases e : p = j
      · subst e
        exact hx f a h1 h2
      · refine hs f p a hip (by omega) (ih (p + 1) _ (by omega) (by omega) (by omega) ?_ ?_)
        · intro t t1 t2
          by_cases q : t = p
          · rw [q, pk_us, h2 p (Or.inr (Nat.le_refl _))]
          · rw [pk_un q]
            exact h1 t t1 (by omega)
        · intro t ht
          rw [pk_un (by omega)]
          exact h2 t (by omega)
  exact ⟨j - i + 1, key (j - i + 1) i R (Nat.le_refl _) hij (by omega) (fun t t1 t2 => by omega) (fun _ _ => rfl)⟩
/-- .. and the row after it -/
theorem sp_map_ar {i j : Nat} {X : List Int32} {a : Nat → Int32} (hA : sp_ar R A) (hij : i ≤ j) (hj : j ≤ A.length) (hl : X.length = j - i) (h1 : ∀ t, t < j - i → X[t]? = some (a (i + t))) (h2 : ∀ t, t < i ∨ j ≤ t → a t = R t) :
    nI A.length = nI (A.take i ++ X ++ A.drop j).length ∧ sp_ar a (A.take i ++ X ++ A.drop j) := by
  rw [List.append_assoc]
  refine ⟨?_, sp_splice_ar (by omega) hj hA (fun t ht => h2 t (Or.inl ht)) (fun t ht => h1 t (by omega)) (fun t t1 t2 => ?_)⟩
  · rw [sp_splice_len (by omega) hj]
    exact congrArg nI (by omega)
  · rw [hl]
    have e : i + (j - i) + (t - j) = t := by omega
    rw [e]
    exact h2 t (Or.inr t1)
theorem sy_reverse {post : Int32 → SY → Prop} {p q : Int32} (hn : A.length + B.length ≤ 48) (hA : sp_ar R A) (hB : sp_ar C B)
    (h0 : ¬ sp_st p q A.length → post (-1) (nI A.length, nI B.length, R, C, S))
    (h1 : ∀ i j v', p = nI i → q = nI j → i ≤ j → j ≤ A.length → sp_YR v' (A.take i ++ (sp_mid A i j).reverse ++ A.drop j) B → post (q - p) v') : wpY_reverse post (nI A.length, nI B.length, R, C, S) p q := by
  unfold wpY_reverse
  have n48 : A.length ≤ 48 := by omega
  refine sy_isStretch n48 (fun hs => br_f (by decide) ?_) (fun hs => br_t rfl (h0 hs))
  obtain ⟨i, j, rfl, rfl, hij, hj⟩ := hs
  have lp : ∀ (f m : Nat) (a : Nat → Int32), i ≤ m → m ≤ j → j - m < f → (∀ t, i ≤ t → t < m → a (i + j - 1 - t) = R t) → wY_reverse_13 post (nI i) (nI j) (nI A.length) (nI B.length) f (nI m) R C a := by
    intro f
    induction f with
    | zero => intro m a _ _ hf; omega
    | succ f ih =>
      intro m a him hmj hf hm
      rw [wY_reverse_13]
      refine pk_le j m (fun z => ?_) (fun z => ⟨vp_in_nI (by omega) (by omega), ?_⟩)
      · have e : m = j := by omega
        subst e
        refine sy_loop (W := fun f p b => wY_reverse_44 post (nI i) (nI m) (nI A.length) (nI B.length) f p b C a) (g := fun t _ => a t) hij ?_ ?_
        · intro f b b1 b2
          show wY_reverse_44 post (nI i) (nI m) (nI A.length) (nI B.length) (f + 1) (nI m) b C a
          rw [wY_reverse_44]
          refine br_t (Int32.le_refl _) ?_
          have hX : ∀ t, t < m - i → (sp_mid A i m).reverse[t]? = some (b (i + t)) := by
            intro t ht
            rw [List.getElem?_reverse (by rw [sp_mid_len hij hj]; exact ht), sp_mid_len hij hj, sp_mid_ar hA hj (by omega)]
            have e2 := b1 (i + t) (by omega) (by omega)
            have e3 := hm (i + (m - i - 1 - t)) (by omega) (by omega)
            rw [e2, ← e3]
            exact congrArg (fun z => some (a z)) (by omega)
          obtain ⟨k1, k2⟩ := sp_map_ar (X := (sp_mid A i m).reverse) (a := b) hA hij hj (by rw [List.length_reverse, sp_mid_len hij hj]) hX b2
          exact h1 i m _ rfl rfl hij hj ⟨k1, rfl, k2, hB⟩
        · intro f p b p1 p2 hw
          show wY_reverse_44 post (nI i) (nI m) (nI A.length) (nI B.length) (f + 1) (nI p) b C a
          rw [wY_reverse_44]
          have ip : vp_in (nI p) 48 := vp_in_nI (by omega) (by omega)
          refine br_f (nI_ge p2 (by omega)) ⟨ip, ip, ?_⟩
          rw [nI_clamp (n := p) (by omega)]
          exact nm_e (nm_r (e' := nI (p + 1)) (nI_1 p) hw)
      · have e : nI i + nI j - 1 - nI m = nI (i + j - 1 - m) := by
          rw [nI_add, show nI (i + j) - 1 = nI (i + j - 1) from pk_sub (b := 1) (by omega), pk_sub (by omega)]
        rw [e]
        refine ⟨vp_in_nI (by omega) (by omega), ?_⟩
        rw [nI_clamp (n := m) (by omega), nI_clamp (n := i + j - 1 - m) (by omega)]
        refine nm_e (nm_r (e' := nI (m + 1)) (nI_1 m) (ih (m + 1) _ (by omega) (by omega) (by omega) ?_))
        intro t t1 t2
        by_cases y : t = m
        · rw [y, pk_us]
        · rw [pk_un (by omega)]
          exact hm t t1 (by omega)
  exact ⟨j - i + 1, lp (j - i + 1) i S (Nat.le_refl _) hij (by omega) (fun t t1 t2 => by omega)⟩
theorem sy_negate {post : Int32 → SY → Prop} {p q : Int32} (hn : A.length + B.length ≤ 48) (hA : sp_ar R A) (hB : sp_ar C B)
    (h0 : ¬ sp_st p q A.length → post (-1) (nI A.length, nI B.length, R, C, S))
    (h1 : ∀ i j v', p = nI i → q = nI j → i ≤ j → j ≤ A.length → sp_YR v' (A.take i ++ (sp_mid A i j).map (fun v => -v) ++ A.drop j) B → post (q - p) v') : wpY_negate post (nI A.length, nI B.length, R, C, S) p q := by
  unfold wpY_negate
  have n48 : A.length ≤ 48 := by omega
  refine sy_isStretch n48 (fun hs => br_f (by decide) ?_) (fun hs => br_t rfl (h0 hs))
  obtain ⟨i, j, rfl, rfl, hij, hj⟩ := hs
  refine sy_loop (W := fun f p b => wY_negate_13 post (nI i) (nI j) (nI A.length) (nI B.length) f p b C S) (g := fun _ x => -x) hij ?_ ?_
  · intro f b b1 b2
    show wY_negate_13 post (nI i) (nI j) (nI A.length) (nI B.length) (f + 1) (nI j) b C S
    rw [wY_negate_13]
    refine br_t (Int32.le_refl _) ?_
    have hX : ∀ t, t < j - i → ((sp_mid A i j).map (fun v => -v))[t]? = some (b (i + t)) := by
      intro t ht
      rw [List.getElem?_map, sp_mid_ar hA hj ht, b1 (i + t) (by omega) (by omega)]
      rfl
    obtain ⟨k1, k2⟩ := sp_map_ar (X := (sp_mid A i j).map (fun v => -v)) (a := b) hA hij hj (by rw [List.length_map, sp_mid_len hij hj]) hX b2
    exact h1 i j _ rfl rfl hij hj ⟨k1, rfl, k2, hB⟩
  · intro f p b p1 p2 hw
    show wY_negate_13 post (nI i) (nI j) (nI A.length) (nI B.length) (f + 1) (nI p) b C S
    rw [wY_negate_13]
    have ip : vp_in (nI p) 48 := vp_in_nI (by omega) (by omega)
    refine br_f (nI_ge p2 (by omega)) ⟨ip, ip, ?_⟩
    rw [nI_clamp (n := p) (by omega)]
    exact nm_e (nm_r (e' := nI (p + 1)) (nI_1 p) hw)
theorem sy_raise {post : Int32 → SY → Prop} {p q d : Int32} (hn : A.length + B.length ≤ 48) (hA : sp_ar R A) (hB : sp_ar C B)
    (h0 : ¬ (sp_st p q A.length ∧ sp_nu d) → post (-1) (nI A.length, nI B.length, R, C, S))
    (h1 : ∀ i j v', p = nI i → q = nI j → i ≤ j → j ≤ A.length → sp_nu d → (∀ w ∈ sp_mid A i j, sp_nu (w + d)) → sp_YR v' (A.take i ++ (sp_mid A i j).map (fun v => v + d) ++ A.drop j) B → post (q - p) v')
    (h2 : ∀ i j, p = nI i → q = nI j → i ≤ j → j ≤ A.length → sp_nu d → ¬ (∀ w ∈ sp_mid A i j, sp_nu (w + d)) → post (-1) (nI A.length, nI B.length, R, C, S)) : wpY_raise post (nI A.length, nI B.length, R, C, S) p q d := by
  unfold wpY_raise
  have n48 : A.length ≤ 48 := by omega
  refine sy_isStretch n48 (fun hs => br_f (by decide) ?_) (fun hs => br_t rfl (h0 (fun z => hs z.1)))
  refine sy_isNumber (fun hd => br_f (by decide) ?_) (fun hd => br_t rfl (h0 (fun z => hd z.2)))
  obtain ⟨i, j, rfl, rfl, hij, hj⟩ := hs
  have hall := sp_mid_all (P := fun w => sp_nu (w + d)) hA hij hj
  have lp : ∀ (f m : Nat), i ≤ m → m ≤ j → j - m < f → (∀ t, i ≤ t → t < m → sp_nu (R t + d)) → wY_raise_22 post (nI i) (nI j) d (nI A.length) (nI B.length) R C S f (nI m) := by
    intro f
    induction f with
    | zero => intro m _ _ hf; omega
    | succ f ih =>
      intro m him hmj hf hm
      rw [wY_raise_22]
      refine pk_le j m (fun z => ?_) (fun z => ⟨vp_in_nI (by omega) (by omega), ?_⟩)
      · have e : m = j := by omega
        subst e
        refine sy_loop (W := fun f p b => wY_raise_55 post (nI i) (nI m) d (nI A.length) (nI B.length) f p b C S) (g := fun _ x => x + d) hij ?_ ?_
        · intro f b b1 b2
          show wY_raise_55 post (nI i) (nI m) d (nI A.length) (nI B.length) (f + 1) (nI m) b C S
          rw [wY_raise_55]
          refine br_t (Int32.le_refl _) ?_
          have hX : ∀ t, t < m - i → ((sp_mid A i m).map (fun v => v + d))[t]? = some (b (i + t)) := by
            intro t ht
            rw [List.getElem?_map, sp_mid_ar hA hj ht, b1 (i + t) (by omega) (by omega)]
            rfl
          obtain ⟨k1, k2⟩ := sp_map_ar (X := (sp_mid A i m).map (fun v => v + d)) (a := b) hA hij hj (by rw [List.length_map, sp_mid_len hij hj]) hX b2
          exact h1 i m _ rfl rfl hij hj hd (hall.mpr hm) ⟨k1, rfl, k2, hB⟩
        · intro f p b p1 p2 hw
          show wY_raise_55 post (nI i) (nI m) d (nI A.length) (nI B.length) (f + 1) (nI p) b C S
          rw [wY_raise_55]
          have ip : vp_in (nI p) 48 := vp_in_nI (by omega) (by omega)
          refine br_f (nI_ge p2 (by omega)) ⟨ip, ip, ?_⟩
          rw [nI_clamp (n := p) (by omega)]
          exact nm_e (nm_r (e' := nI (p + 1)) (nI_1 p) hw)
      · rw [nI_clamp (n := m) (by omega)]
        refine sy_isNumber (fun hq => br_f (by decide) (nm_r (e' := nI (m + 1)) (nI_1 m) (ih (m + 1) (by omega) (by omega) (by omega) ?_))) (fun hq => br_t rfl (h2 i j rfl rfl hij hj hd (fun y => hq ?_)))
        · intro t t1 t2
          by_cases y : t = m
          · rw [y]; exact hq
          · exact hm t t1 (by omega)
        · exact hall.mp y m him z
  exact ⟨j - i + 1, lp (j - i + 1) i (Nat.le_refl _) hij (by omega) (fun t t1 t2 => by omega)⟩
end
end
section
section
variable {A B : List Int32} {R C S : Nat → Int32}
/-- where rotate puts place t -/
def sp_to (i j n t : Nat) : Nat := if t < i + n then t - i + j - n else t - n
theorem sy_rotate {post : Int32 → SY → Prop} {p q k : Int32} (hn : A.length + B.length ≤ 48) (hA : sp_ar R A) (hB : sp_ar C B)
    (h0 : ¬ (sp_st p q A.length ∧ ¬ k < 0 ∧ k ≤ q - p) → post (-1) (nI A.length, nI B.length, R, C, S))
    (h1 : ∀ i j n v', p = nI i → q = nI j → k = nI n → i ≤ j → j ≤ A.length → n ≤ j - i → sp_YR v' (A.take i ++ ((sp_mid A i j).drop n ++ (sp_mid A i j).take n) ++ A.drop j) B → post 0 v') : wpY_rotate post (nI A.length, nI B.length, R, C, S) p q k := by
  unfold wpY_rotate
  have n48 : A.length ≤ 48 := by omega
  refine sy_isStretch n48 (fun hs => br_f (by decide) ?_) (fun hs => br_t rfl (h0 (fun z => hs z.1)))
  refine br_c (fun c => h0 (fun z => z.2.1 c)) (fun c => br_c (fun d => ?_) (fun d => h0 (fun z => d z.2.2)))
  obtain ⟨i, j, rfl, rfl, hij, hj⟩ := hs
  obtain ⟨n, hn2, rfl⟩ := nI_of c
  rw [pk_sub hij, nI_leI hn2 (by omega)] at d
  have lp : ∀ (f m : Nat) (a : Nat → Int32), i ≤ m → m ≤ j → j - m < f → (∀ t, i ≤ t → t < m → a (sp_to i j n t) = R t) → wY_rotate_25 post (nI i) (nI j) (nI n) (nI A.length) (nI B.length) f (nI m) R C a := by
    intro f
    induction f with
    | zero => intro m a _ _ hf; omega
    | succ f ih =>
      intro m a him hmj hf hm
      rw [wY_rotate_25]
      refine pk_le j m (fun z => ?_) (fun z => ?_)
      · have e : m = j := by omega
        subst e
        refine sy_loop (W := fun f p b => wY_rotate_79 post (nI m) (nI A.length) (nI B.length) f p b C a) (g := fun t _ => a t) hij ?_ ?_
        · intro f b b1 b2
          show wY_rotate_79 post (nI m) (nI A.length) (nI B.length) (f + 1) (nI m) b C a
          rw [wY_rotate_79]
          refine br_t (Int32.le_refl _) ?_
          have hml := sp_mid_len hij hj
          have hX : ∀ t, t < m - i → ((sp_mid A i m).drop n ++ (sp_mid A i m).take n)[t]? = some (b (i + t)) := by
            intro t ht
            rw [b1 (i + t) (by omega) (by omega)]
            by_cases y : t < m - i - n
            · rw [List.getElem?_append_left (by rw [List.length_drop, hml]; exact y), List.getElem?_drop, sp_mid_ar hA hj (by omega)]
              have e3 := hm (i + (n + t)) (by omega) (by omega)
              rw [← e3]
              unfold sp_to
              rw [if_neg (by omega)]
              exact congrArg (fun z => some (a z)) (by omega)
            · rw [List.getElem?_append_right (by rw [List.length_drop, hml]; omega), List.length_drop, hml, List.getElem?_take_of_lt (by omega), sp_mid_ar hA hj (by omega)]
              have e3 := hm (i + (t - (m - i - n))) (by omega) (by omega)
              rw [← e3]
              unfold sp_to
              rw [if_pos (by omega)]
              exact congrArg (fun z => some (a z)) (by omega)
          obtain ⟨k1, k2⟩ := sp_map_ar (X := (sp_mid A i m).drop n ++ (sp_mid A i m).take n) (a := b) hA hij hj (by rw [List.length_append, List.length_drop, List.length_take, hml]; omega) hX b2
          exact h1 i m n _ rfl rfl rfl hij hj d ⟨k1, rfl, k2, hB⟩
        · intro f p b p1 p2 hw
          show wY_rotate_79 post (nI m) (nI A.length) (nI B.length) (f + 1) (nI p) b C a
          rw [wY_rotate_79]
          have ip : vp_in (nI p) 48 := vp_in_nI (by omega) (by omega)
          refine br_f (nI_ge p2 (by omega)) ⟨ip, ip, ?_⟩
          rw [nI_clamp (n := p) (by omega)]
          exact nm_e (nm_r (e' := nI (p + 1)) (nI_1 p) hw)
      · have im : vp_in (nI m) 48 := vp_in_nI (by omega) (by omega)
        have st : ∀ z0 : Int32, z0 = nI (sp_to i j n m) → wY_rotate_54 post (wY_rotate_25 post (nI i) (nI j) (nI n) (nI A.length) (nI B.length) f) (nI i) (nI j) (nI n) (nI m) z0 (nI A.length) (nI B.length) R C a := by
          intro z0 ez
          have tl : sp_to i j n m < 48 := by
            unfold sp_to
            split <;> omega
          subst ez
          unfold wY_rotate_54
          refine ⟨im, vp_in_nI tl (by omega), ?_⟩
          rw [nI_clamp (n := m) (by omega), nI_clamp (n := sp_to i j n m) (by omega)]
          refine nm_e (nm_r (e' := nI (m + 1)) (nI_1 m) (ih (m + 1) _ (by omega) (by omega) (by omega) ?_))
          intro t t1 t2
          by_cases y : t = m
          · rw [y, pk_us]
          · have ne : sp_to i j n t ≠ sp_to i j n m := by
              unfold sp_to
              split <;> split <;> omega
            rw [pk_un ne]
            exact hm t t1 (by omega)
        have tI : (nI m - nI n).toInt = (m : Int) - n := by
          rw [Int32.toInt_sub, nI_toInt (by omega), nI_toInt (by omega)]
          exact Int.bmod_eq_of_le (by omega) (by omega)
        by_cases y : m < i + n
        · refine br_f (fun q => ?_) (st _ ?_)
          · have := sp_le q
            rw [tI, nI_toInt (by omega)] at this
            omega
          · have e : nI m - nI n + nI j - nI i = nI m + nI j - (nI n + nI i) := by grind
            rw [e, nI_add, nI_add, pk_sub (by omega)]
            unfold sp_to
            rw [if_pos y]
            exact congrArg nI (by omega)
        · refine br_t ?_ (st _ ?_)
          · rw [Int32.le_iff_toInt_le, tI, nI_toInt (by omega)]
            omega
          · rw [pk_sub (by omega)]
            unfold sp_to
            rw [if_neg y]
  exact ⟨j - i + 1, lp (j - i + 1) i S (Nat.le_refl _) hij (by omega) (fun t t1 t2 => by omega)⟩
theorem sy_sum {post : Int32 → Prop} {p q : Int32} (hn : A.length + B.length ≤ 48) (hA : sp_ar R A)
    (h0 : ¬ sp_st p q A.length → post 0) (h1 : ∀ i j, p = nI i → q = nI j → i ≤ j → j ≤ A.length → post (sp_s (sp_mid A i j))) : wpY_sum post (nI A.length, nI B.length, R, C, S) p q := by
  unfold wpY_sum
  have n48 : A.length ≤ 48 := by omega
  refine sy_isStretch n48 (fun hs => br_f (by decide) ?_) (fun hs => br_t rfl (h0 hs))
  obtain ⟨i, j, rfl, rfl, hij, hj⟩ := hs
  have lp : ∀ (f m : Nat), i ≤ m → m ≤ j → j - m < f → wY_sum_14 post (nI j) (nI A.length) (nI B.length) R C S f (sp_s (sp_mid A i m)) (nI m) := by
    intro f
    induction f with
    | zero => intro m _ _ hf; omega
    | succ f ih =>
      intro m him hmj hf
      rw [wY_sum_14]
      refine pk_le j m (fun z => ?_) (fun z => ⟨vp_in_nI (by omega) (by omega), ?_⟩)
      · have e : m = j := by omega
        subst e
        exact h1 i m rfl rfl hij hj
      · rw [nI_clamp (n := m) (by omega)]
        refine nm_r (e' := sp_s (sp_mid A i (m + 1))) ?_ (nm_r (e' := nI (m + 1)) (nI_1 m) (ih (m + 1) (by omega) (by omega) (by omega)))
        rw [sp_mid_succ hA him (by omega), sp_s_app]
        show _ = _ + (R m + 0)
        rw [Int32.add_zero]
  have := lp (j - i + 1) i (Nat.le_refl _) hij (by omega)
  rw [sp_mid_nil] at this
  exact ⟨j - i + 1, this⟩
theorem sy_weighted {post : Int32 → Prop} {p q : Int32} (hn : A.length + B.length ≤ 48) (hA : sp_ar R A)
    (h0 : ¬ sp_st p q A.length → post 0) (h1 : ∀ i j, p = nI i → q = nI j → i ≤ j → j ≤ A.length → post (sp_w (sp_mid A i j))) : wpY_weighted post (nI A.length, nI B.length, R, C, S) p q := by
  unfold wpY_weighted
  have n48 : A.length ≤ 48 := by omega
  refine sy_isStretch n48 (fun hs => br_f (by decide) ?_) (fun hs => br_t rfl (h0 hs))
  obtain ⟨i, j, rfl, rfl, hij, hj⟩ := hs
  have lp : ∀ (f m : Nat), i ≤ m → m ≤ j → j - m < f → wY_weighted_14 post (nI i) (nI j) (nI A.length) (nI B.length) R C S f (sp_w (sp_mid A i m)) (nI m) := by
    intro f
    induction f with
    | zero => intro m _ _ hf; omega
    | succ f ih =>
      intro m him hmj hf
      rw [wY_weighted_14]
      refine pk_le j m (fun z => ?_) (fun z => ⟨vp_in_nI (by omega) (by omega), ?_⟩)
      · have e : m = j := by omega
        subst e
        exact h1 i m rfl rfl hij hj
      · rw [nI_clamp (n := m) (by omega)]
        refine nm_r (e' := sp_w (sp_mid A i (m + 1))) ?_ (nm_r (e' := nI (m + 1)) (nI_1 m) (ih (m + 1) (by omega) (by omega) (by omega)))
        rw [sp_mid_succ hA him (by omega), sp_w_app, sp_mid_len him (by omega), pk_sub him]
        show _ = _ + (R m + (0 + 0)) + nI (m - i) * (R m + 0)
        grind
  have := lp (j - i + 1) i (Nat.le_refl _) hij (by omega)
  rw [sp_mid_nil] at this
  exact ⟨j - i + 1, this⟩
/-- b is the first place of the greatest number from i to j -/
def sp_best (R : Nat → Int32) (i j b : Nat) : Prop := i ≤ b ∧ b < j ∧ (∀ t, i ≤ t → t < b → (R t).toInt < (R b).toInt) ∧ (∀ t, b ≤ t → t < j → (R t).toInt ≤ (R b).toInt)
theorem sp_lit_4 {b : Nat} (hb : b ≤ 48) : ¬ nI b = -4 := by
  intro h
  have := congrArg Int32.toInt h
  rw [nI_toInt (by omega), show (-4 : Int32).toInt = -4 by decide] at this
  omega
theorem sy_greatestAt {post : Int32 → Prop} {p q : Int32} (hn : A.length + B.length ≤ 48)
    (h0 : ¬ sp_st p q A.length → post (-1)) (h01 : sp_st p q A.length → p = q → post (-4))
    (h1 : ∀ i j b, p = nI i → q = nI j → i < j → j ≤ A.length → sp_best R i j b → post (nI b)) : wpY_greatestAt post (nI A.length, nI B.length, R, C, S) p q := by
  unfold wpY_greatestAt
  have n48 : A.length ≤ 48 := by omega
  refine sy_isStretch n48 (fun hs => br_f (by decide) ?_) (fun hs => br_t rfl (h0 hs))
  have hs' := hs
  obtain ⟨i, j, rfl, rfl, hij, hj⟩ := hs
  have lp : ∀ (f m b : Nat), m ≤ j → j - m < f → sp_best R i m b → wY_greatestAt_17 post (nI j) (nI A.length) (nI B.length) R C S f (nI b) (nI m) := by
    intro f
    induction f with
    | zero => intro m b _ hf; omega
    | succ f ih =>
      intro m b hmj hf hb
      obtain ⟨b1, b2, b3, b4⟩ := hb
      rw [wY_greatestAt_17]
      refine pk_le j m (fun z => ?_) (fun z => br_f (sp_lit_4 (by omega)) ⟨vp_in_nI (by omega) (by omega), vp_in_nI (by omega) (by omega), ?_⟩)
      · have e : m = j := by omega
        subst e
        exact h1 i m b rfl rfl (by omega) hj ⟨b1, b2, b3, b4⟩
      · rw [nI_clamp (n := m) (by omega), nI_clamp (n := b) (by omega)]
        refine br_c (fun y => nm_r (e' := nI (m + 1)) (nI_1 m) (ih (m + 1) b (by omega) (by omega) ⟨b1, by omega, b3, ?_⟩)) (fun y => nm_r (e' := nI (m + 1)) (nI_1 m) (ih (m + 1) m (by omega) (by omega) ⟨by omega, by omega, ?_, ?_⟩))
        · intro t t1 t2
          by_cases e : t = m
          · rw [e]; exact sp_le y
          · exact b4 t t1 (by omega)
        · rw [Int32.le_iff_toInt_le] at y
          intro t t1 t2
          by_cases e : t < b
          · have := b3 t t1 e
            omega
          · have := b4 t (by omega) t2
            omega
        · intro t t1 t2
          have : t = m := by omega
          rw [this]
          exact Int.le_refl _
  refine ⟨j - i + 1, ?_⟩
  rw [wY_greatestAt_17]
  refine pk_le j i (fun z => ?_) (fun z => br_t rfl (nm_r (e' := nI (i + 1)) (nI_1 i) (lp (j - i) (i + 1) i (by omega) (by omega) ⟨Nat.le_refl _, by omega, fun t t1 t2 => by omega, fun t t1 t2 => ?_⟩)))
  · have e : i = j := by omega
    subst e
    exact h01 hs' rfl
  · have : t = i := by omega
    rw [this]
    exact Int.le_refl _
theorem sy_greatest {post : Int32 → Prop} {p q : Int32} (hn : A.length + B.length ≤ 48)
    (h0 : ¬ sp_st p q A.length → post 0) (h01 : sp_st p q A.length → p = q → post 0)
    (h1 : ∀ i j b, p = nI i → q = nI j → i < j → j ≤ A.length → sp_best R i j b → post (R b)) : wpY_greatest post (nI A.length, nI B.length, R, C, S) p q := by
  unfold wpY_greatest
  refine sy_greatestAt hn (fun z => br_f (by decide) (h0 z)) (fun z y => br_f (by decide) (h01 z y)) ?_
  intro i j b e1 e2 hij hj hb
  have b2 := hb.2.1
  refine br_t (nI_pos' (by omega)) ⟨vp_in_nI (by omega) (by omega), ?_⟩
  rw [nI_clamp (n := b) (by omega)]
  exact h1 i j b e1 e2 hij hj hb
/-- what X finds is what the reference finds -/
theorem sp_best_first {i j b k : Nat} {w : Int32} (hA : sp_ar R A) (hij : i ≤ j) (hj : j ≤ A.length) (hb : sp_best R i j b) (hm : sp_mx w (sp_mid A i j)) : R b = w ∧ (sp_first (sp_mid A i j) w k → b = i + k) := by
  obtain ⟨b1, b2, b3, b4⟩ := hb
  have hall := (sp_mid_all (P := fun v => v.toInt ≤ w.toInt) hA hij hj).mp hm.1
  have hle : ∀ t, i ≤ t → t < j → (R t).toInt ≤ (R b).toInt := fun t t1 t2 => by
    by_cases e : t < b
    · have := b3 t t1 e
      omega
    · exact b4 t (by omega) t2
  have hwb : w.toInt ≤ (R b).toInt := by
    have hl := sp_mid_len hij hj
    have hmem : w ∈ sp_mid A i j := by
      rcases hm.2 with y | ⟨y, -⟩
      · exact y
      · rw [y, List.length_nil] at hl
        omega
    exact (sp_mid_all (P := fun v => v.toInt ≤ (R b).toInt) hA hij hj).mpr hle w hmem
  have hbw := hall b b1 b2
  have eq : (R b).toInt = w.toInt := by omega
  refine ⟨Int32.toInt_inj.mp eq, ?_⟩
  rintro ⟨P, x, Q, e1, e2, e3, e4⟩
  have hl := sp_mid_len hij hj
  have hl2 : k < j - i := by
    rw [e1, List.length_append, List.length_cons] at hl
    omega
  have hx : (sp_mid A i j)[k]? = some x := by
    rw [e1]
    exact sp_get_app e2
  rw [sp_mid_ar hA hj hl2] at hx
  have hx' := Option.some.inj hx
  by_cases c1 : b < i + k
  · have hP : P[b - i]? = some (R b) := by
      have h3 := sp_mid_ar (i := i) (j := j) (t := b - i) hA hj (by omega)
      rw [e1, List.getElem?_append_left (by omega)] at h3
      rw [h3]
      exact congrArg (fun z => some (R z)) (by omega)
    have := e4 _ (List.mem_of_getElem? hP)
    omega
  · by_cases c2 : i + k < b
    · have := b3 (i + k) (by omega) c2
      rw [hx'] at this
      omega
    · omega
theorem sy_firstFrom {post : Int32 → Prop} {p v : Int32} (hn : A.length + B.length ≤ 48)
    (h0 : ¬ sp_at p A.length → post (-4))
    (h1 : ∀ i, p = nI i → i ≤ A.length → (∀ t, i ≤ t → t < A.length → (R t).toInt < v.toInt) → post (-4))
    (h2 : ∀ i b, p = nI i → i ≤ A.length → i ≤ b → b < A.length → (∀ t, i ≤ t → t < b → (R t).toInt < v.toInt) → v.toInt ≤ (R b).toInt → post (nI b)) : wpY_firstFrom post (nI A.length, nI B.length, R, C, S) p v := by
  have n48 : A.length ≤ 48 := by omega
  refine br_c (fun d => h0 (sp_at_neg n48 d)) (fun d => br_c (fun e => ?_) (fun e => h0 (sp_at_big n48 (sp_at_nle e))))
  obtain ⟨i, rfl, hi⟩ := sp_at_ok n48 d (sp_at_le e)
  have lp : ∀ (f m : Nat), i ≤ m → m ≤ A.length → A.length - m < f → (∀ t, i ≤ t → t < m → (R t).toInt < v.toInt) → wY_firstFrom_17 post v (nI A.length) (nI B.length) R C S f (nI m) := by
    intro f
    induction f with
    | zero => intro m _ _ hf; omega
    | succ f ih =>
      intro m him hmj hf hm
      rw [wY_firstFrom_17]
      refine pk_le A.length m (fun z => ?_) (fun z => ⟨vp_in_nI (by omega) (by omega), ?_⟩)
      · have e : m = A.length := by omega
        exact h1 i rfl hi (fun t t1 t2 => hm t t1 (by omega))
      · rw [nI_clamp (n := m) (by omega)]
        refine br_c (fun y => nm_r (e' := nI (m + 1)) (nI_1 m) (ih (m + 1) (by omega) (by omega) (by omega) ?_)) (fun y => h2 i m rfl hi him z hm (sp_nlt y))
        intro t t1 t2
        by_cases e : t = m
        · rw [e]; exact sp_lt y
        · exact hm t t1 (by omega)
  exact ⟨A.length - i + 1, lp (A.length - i + 1) i (Nat.le_refl _) hi (by omega) (fun t t1 t2 => by omega)⟩
theorem sy_alike {post : Int32 → Prop} {p q k : Int32} (hn : A.length + B.length ≤ 48) (hA : sp_ar R A)
    (h : ¬ sp_ak p q k A.length → post 0)
    (h1 : ∀ i j m, p = nI i → q = nI j → k = nI m → i + m ≤ A.length → j + m ≤ A.length → sp_alk A i j m → post 1)
    (h0 : ∀ i j m, p = nI i → q = nI j → k = nI m → i + m ≤ A.length → j + m ≤ A.length → ¬ sp_alk A i j m → post 0) : wpY_alike post (nI A.length, nI B.length, R, C, S) p q k := by
  refine br_c (fun c => h (fun ⟨i, j, m, e1, e2, e3, e4, e5⟩ => ?_)) (fun c1 => br_c (fun c => h (fun ⟨i, j, m, e1, e2, e3, e4, e5⟩ => ?_)) (fun c2 => br_c (fun c => h (fun ⟨i, j, m, e1, e2, e3, e4, e5⟩ => ?_)) (fun c3 => ?_)))
  · rw [e3] at c; exact nI_pos (by omega) c
  · rw [e1] at c; exact nI_pos (by omega) c
  · rw [e2] at c; exact nI_pos (by omega) c
  obtain ⟨m, hm, rfl⟩ := nI_of c1
  obtain ⟨i, hi, rfl⟩ := nI_of c2
  obtain ⟨j, hj, rfl⟩ := nI_of c3
  have out : ¬ (i + m ≤ A.length ∧ j + m ≤ A.length) → ¬ sp_ak (nI i) (nI j) (nI m) A.length := fun z ⟨i', j', m', e1, e2, e3, e4, e5⟩ => by
    rw [nI_eq (by omega) (by omega)] at e1 e2 e3
    subst e1 e2 e3
    exact z ⟨e4, e5⟩
  have tI : (nI A.length - nI m).toInt = (A.length : Int) - m := by
    rw [Int32.toInt_sub, nI_toInt (by omega), nI_toInt (by omega)]
    exact Int.bmod_eq_of_le (by omega) (by omega)
  refine br_c (fun c => h (out ?_)) (fun c4 => br_c (fun c => h (out ?_)) (fun c5 => pk_le m A.length (fun c6 => ?_) (fun c => h (out (by omega)))))
  · have := sp_lt c
    rw [tI, nI_toInt hi] at this
    omega
  · have := sp_lt c
    rw [tI, nI_toInt hj] at this
    omega
  have d4 := sp_nlt c4
  have d5 := sp_nlt c5
  rw [tI, nI_toInt hi] at d4
  rw [tI, nI_toInt hj] at d5
  have lp : ∀ (f t : Nat), t ≤ m → m - t < f → sp_alk A i j t → wY_alike_45 post (nI i) (nI j) (nI m) (nI A.length) (nI B.length) R C S f (nI t) := by
    intro f
    induction f with
    | zero => intro t _ hf; omega
    | succ f ih =>
      intro t htm hf ht
      rw [wY_alike_45]
      refine pk_le m t (fun z => ?_) (fun z => ?_)
      · have e : t = m := by omega
        subst e
        exact h1 i j t rfl rfl rfl (by omega) (by omega) ht
      · rw [nI_add, nI_add]
        refine ⟨vp_in_nI (by omega) (by omega), vp_in_nI (by omega) (by omega), ?_⟩
        rw [nI_clamp (n := i + t) (by omega), nI_clamp (n := j + t) (by omega)]
        have ei := hA (i + t) (by omega)
        have ej := hA (j + t) (by omega)
        refine br_c (fun y => nm_r (e' := nI (t + 1)) (nI_1 t) (ih (t + 1) (by omega) (by omega) ?_)) (fun y => h0 i j m rfl rfl rfl (by omega) (by omega) (fun w => y ?_))
        · intro s hs
          by_cases e : s = t
          · rw [e, ei, ej, y]
          · exact ht s (by omega)
        · have := w t z
          rw [ei, ej] at this
          exact Option.some.inj this
  exact ⟨m + 1, lp (m + 1) 0 (by omega) (by omega) (fun t ht => by omega)⟩
end
end
section
/-- the relation: the same two rows of numbers, in trees and in arrays -/
def i_Rel (_ : Nat) (u : SX) (v : SY) : Prop := ∃ A B : List Int32, sp_XR u A B ∧ sp_YR v A B
theorem i_up {k : Nat} {u : SX} {v : SY} (h : i_Rel k u v) : i_Rel (k + 5) u v := h
theorem i_vc0 : wpX_init (fun u => wpY_init (fun v => i_Rel 0 u v)) := by
  refine nm_e (nm_e ?_)
  refine ⟨[], [], ⟨[], [], ⟨0, 0, fun _ => [], rfl, rfl, by omega, by omega, ⟨rfl, ⟨rfl, rfl, rfl, ⟨fun v hv => absurd hv List.not_mem_nil, Or.inr ⟨rfl, rfl⟩⟩, ⟨fun v hv => absurd hv List.not_mem_nil, Or.inr ⟨rfl, rfl⟩⟩⟩, List.Pairwise.nil, fun x hx => absurd hx List.not_mem_nil, ?_⟩, rfl, rfl, ?_⟩, rfl, rfl⟩, ⟨rfl, rfl, fun t ht => absurd ht (by simp), fun t ht => absurd ht (by simp)⟩⟩
  · intro r hr r0
    simp at hr
    exact absurd hr r0
  · intro y _ _
    exact ⟨fun q => absurd rfl q, fun q => absurd q List.not_mem_nil⟩
theorem i_vc_insert {k : Nat} {u : SX} {v : SY} (I : i_Rel k u v) (hk : k + 5 ≤ 2560) (v1 : Int32) (v2 : Int32) : wpX_insert (fun r u' => wpY_insert (fun r' v' => r' = r ∧ i_Rel (k + 5) u' v') v v1 v2) u v1 v2 := by
  obtain ⟨A, B, hX, hY⟩ := I
  obtain ⟨f_n, f_c, R, C, S⟩ := v
  obtain ⟨rfl, rfl, hA, hB⟩ := hY
  have hn := (sp_XR_f hX).2.2.2.2.1
  have me : i_Rel (k + 5) u (nI A.length, nI B.length, R, C, S) := ⟨A, B, hX, rfl, rfl, hA, hB⟩
  refine sx_insert hX (fun b => ?_) (fun a b c => ?_) (fun i u' e1 a b c hX' => ?_)
  · exact sy_insert hn hA hB (fun _ => ⟨rfl, me⟩) (fun a' b' _ => absurd ⟨a', b'⟩ b) (fun i v' e a' b' _ _ => absurd ⟨⟨i, e, a'⟩, b'⟩ b)
  · exact sy_insert hn hA hB (fun q => absurd ⟨a, b⟩ q) (fun _ _ _ => ⟨rfl, me⟩) (fun i v' e a' b' c' _ => by omega)
  · refine sy_insert hn hA hB (fun q => absurd ⟨⟨i, e1, a⟩, b⟩ q) (fun _ _ q => by omega) (fun i' v' e2 a' b' c' hY' => ?_)
    rw [e1, nI_eq (by omega) (by omega)] at e2
    subst e2
    exact ⟨rfl, _, _, hX', hY'⟩
theorem i_vc_insertRun {k : Nat} {u : SX} {v : SY} (I : i_Rel k u v) (hk : k + 5 ≤ 2560) (v1 : Int32) (v2 : Int32) (v3 : Int32) (v4 : Int32) : wpX_insertRun (fun r u' => wpY_insertRun (fun r' v' => r' = r ∧ i_Rel (k + 5) u' v') v v1 v2 v3 v4) u v1 v2 v3 v4 := by
  obtain ⟨A, B, hX, hY⟩ := I
  obtain ⟨f_n, f_c, R, C, S⟩ := v
  obtain ⟨rfl, rfl, hA, hB⟩ := hY
  have hn := (sp_XR_f hX).2.2.2.2.1
  have me : i_Rel (k + 5) u (nI A.length, nI B.length, R, C, S) := ⟨A, B, hX, rfl, rfl, hA, hB⟩
  have run : ∀ n : Nat, v2 = nI n → n ≤ 48 → (0 < n → sp_nu (v3 + nI (n - 1) * v4)) → (¬ v2 ≤ 0 → sp_nu (v3 + (v2 - 1) * v4)) := by
    intro n e n48 h q
    subst e
    have n0 : n ≠ 0 := fun z => by
      rw [z] at q
      exact q (Int32.le_refl _)
    rw [show nI n - 1 = nI (n - 1) from pk_sub (b := 1) (by omega)]
    exact h (by omega)
  refine sx_insertRun hX (fun b => ?_) (fun n e1 n48 a b c d f => ?_) (fun i n u' e1 e2 a b c d f hX' => ?_)
  · exact sy_insertRun hn hA hB (fun _ => ⟨rfl, me⟩) (fun n e n48 a' b' c' d' _ => absurd ⟨a', ⟨n, e, n48⟩, b', c', d'⟩ b) (fun i n v' e e2 a' b' c' d' f' _ => absurd ⟨⟨i, e, a'⟩, ⟨n, e2, by omega⟩, b', c', d'⟩ b)
  · refine sy_insertRun hn hA hB (fun q => absurd ⟨a, ⟨n, e1, n48⟩, b, c, run n e1 n48 d⟩ q) (fun _ _ _ _ _ _ _ _ => ⟨rfl, me⟩) (fun i n' v' e e2 a' b' c' d' f' _ => ?_)
    rw [e1, nI_eq (by omega) (by omega)] at e2
    omega
  · refine sy_insertRun hn hA hB (fun q => absurd ⟨⟨i, e1, a⟩, ⟨n, e2, by omega⟩, b, c, run n e2 (by omega) d⟩ q) (fun n' e3 n48 a' b' c' d' f' => ?_) (fun i' n' v' e3 e4 a' b' c' d' f' hY' => ?_)
    · rw [e2, nI_eq (by omega) (by omega)] at e3
      omega
    · rw [e1, nI_eq (by omega) (by omega)] at e3
      rw [e2, nI_eq (by omega) (by omega)] at e4
      subst e3
      subst e4
      exact ⟨rfl, _, _, hX', hY'⟩
theorem i_vc_size {k : Nat} {u : SX} {v : SY} (I : i_Rel k u v) (hk : k + 5 ≤ 2560) : wpX_size (fun r => wpY_size (fun r' => r' = r ∧ i_Rel (k + 5) u v) v) u := by
  have me := i_up I
  obtain ⟨A, B, hX, hY⟩ := I
  obtain ⟨f_n, f_c, R, C, S⟩ := v
  refine sx_size hX ?_
  exact ⟨hY.1, me⟩
theorem i_vc_get {k : Nat} {u : SX} {v : SY} (I : i_Rel k u v) (hk : k + 5 ≤ 2560) (v1 : Int32) : wpX_get (fun r u' => wpY_get (fun r' => r' = r ∧ i_Rel (k + 5) u' v) v v1) u v1 := by
  obtain ⟨A, B, hX, hY⟩ := I
  obtain ⟨f_n, f_c, R, C, S⟩ := v
  obtain ⟨rfl, rfl, hA, hB⟩ := hY
  have hn := (sp_XR_f hX).2.2.2.2.1
  refine sx_get hX (fun b => ?_) (fun i w u' e1 a hw hX' _ => ?_)
  · refine sy_get hn hA (fun _ => ⟨rfl, A, B, hX, rfl, rfl, hA, hB⟩) (fun i w e hw => absurd ⟨i, e, ?_⟩ b)
    exact (List.getElem?_eq_some_iff.mp hw).1
  · refine sy_get hn hA (fun q => absurd ⟨i, e1, a⟩ q) (fun i' w' e2 hw' => ?_)
    have a' := (List.getElem?_eq_some_iff.mp hw').1
    rw [e1, nI_eq (by omega) (by omega)] at e2
    subst e2
    rw [hw] at hw'
    exact ⟨(Option.some.inj hw').symm, A, B, hX', rfl, rfl, hA, hB⟩
theorem i_vc_set {k : Nat} {u : SX} {v : SY} (I : i_Rel k u v) (hk : k + 5 ≤ 2560) (v1 : Int32) (v2 : Int32) : wpX_set (fun r u' => wpY_set (fun r' v' => r' = r ∧ i_Rel (k + 5) u' v') v v1 v2) u v1 v2 := by
  obtain ⟨A, B, hX, hY⟩ := I
  obtain ⟨f_n, f_c, R, C, S⟩ := v
  obtain ⟨rfl, rfl, hA, hB⟩ := hY
  have hn := (sp_XR_f hX).2.2.2.2.1
  refine sx_set hX (fun b => ?_) (fun i P w Q u' e1 hv e2 e3 hX' => ?_)
  · exact sy_set hn hA hB (fun _ => ⟨rfl, A, B, hX, rfl, rfl, hA, hB⟩) (fun i v' e a hv _ => absurd ⟨⟨i, e, a⟩, hv⟩ b)
  · have il : i < A.length := by
      rw [e2, List.length_append, List.length_cons]
      omega
    refine sy_set hn hA hB (fun q => absurd ⟨⟨i, e1, il⟩, hv⟩ q) (fun i' v' e4 a _ h => ?_)
    rw [e1, nI_eq (by omega) (by omega)] at e4
    subst e4
    exact ⟨rfl, _, _, hX', h P w Q e2 e3⟩
theorem i_vc_cut {k : Nat} {u : SX} {v : SY} (I : i_Rel k u v) (hk : k + 5 ≤ 2560) (v1 : Int32) (v2 : Int32) : wpX_cut (fun r u' => wpY_cut (fun r' v' => r' = r ∧ i_Rel (k + 5) u' v') v v1 v2) u v1 v2 := by
  obtain ⟨A, B, hX, hY⟩ := I
  obtain ⟨f_n, f_c, R, C, S⟩ := v
  obtain ⟨rfl, rfl, hA, hB⟩ := hY
  have hn := (sp_XR_f hX).2.2.2.2.1
  refine sx_cut hX (fun b => ?_) (fun i j u' e1 e2 hij hj hX' => ?_)
  · exact sy_cut hn hA (fun _ => ⟨rfl, A, B, hX, rfl, rfl, hA, hB⟩) (fun i j v' a1 a2 a3 a4 _ => absurd ⟨i, j, a1, a2, a3, a4⟩ b)
  · refine sy_cut hn hA (fun q => absurd ⟨i, j, e1, e2, hij, hj⟩ q) (fun i' j' v' a1 a2 a3 a4 hY' => ?_)
    rw [e1, nI_eq (by omega) (by omega)] at a1
    rw [e2, nI_eq (by omega) (by omega)] at a2
    subst a1
    subst a2
    exact ⟨rfl, _, _, hX', hY'⟩
theorem i_vc_copy {k : Nat} {u : SX} {v : SY} (I : i_Rel k u v) (hk : k + 5 ≤ 2560) (v1 : Int32) (v2 : Int32) : wpX_copy (fun r u' => wpY_copy (fun r' v' => r' = r ∧ i_Rel (k + 5) u' v') v v1 v2) u v1 v2 := by
  obtain ⟨A, B, hX, hY⟩ := I
  obtain ⟨f_n, f_c, R, C, S⟩ := v
  obtain ⟨rfl, rfl, hA, hB⟩ := hY
  have hn := (sp_XR_f hX).2.2.2.2.1
  have me : i_Rel (k + 5) u (nI A.length, nI B.length, R, C, S) := ⟨A, B, hX, rfl, rfl, hA, hB⟩
  refine sx_copy hX (fun b => ?_) (fun i j e1 e2 hij hj hf => ?_) (fun i j u' e1 e2 hij hj hf hX' => ?_)
  · exact sy_copy hn hA (fun _ => ⟨rfl, me⟩) (fun i j a1 a2 a3 a4 _ => absurd ⟨i, j, a1, a2, a3, a4⟩ b) (fun i j v' a1 a2 a3 a4 _ _ => absurd ⟨i, j, a1, a2, a3, a4⟩ b)
  · refine sy_copy hn hA (fun q => absurd ⟨i, j, e1, e2, hij, hj⟩ q) (fun _ _ _ _ _ _ _ => ⟨rfl, me⟩) (fun i' j' v' a1 a2 a3 a4 a5 _ => ?_)
    rw [e1, nI_eq (by omega) (by omega)] at a1
    rw [e2, nI_eq (by omega) (by omega)] at a2
    omega
  · refine sy_copy hn hA (fun q => absurd ⟨i, j, e1, e2, hij, hj⟩ q) (fun i' j' a1 a2 a3 a4 a5 => ?_) (fun i' j' v' a1 a2 a3 a4 a5 hY' => ?_)
    · rw [e1, nI_eq (by omega) (by omega)] at a1
      rw [e2, nI_eq (by omega) (by omega)] at a2
      omega
    · rw [e1, nI_eq (by omega) (by omega)] at a1
      rw [e2, nI_eq (by omega) (by omega)] at a2
      subst a1
      subst a2
      exact ⟨rfl, _, _, hX', hY'⟩
theorem i_vc_paste {k : Nat} {u : SX} {v : SY} (I : i_Rel k u v) (hk : k + 5 ≤ 2560) (v1 : Int32) : wpX_paste (fun r u' => wpY_paste (fun r' v' => r' = r ∧ i_Rel (k + 5) u' v') v v1) u v1 := by
  obtain ⟨A, B, hX, hY⟩ := I
  obtain ⟨f_n, f_c, R, C, S⟩ := v
  obtain ⟨rfl, rfl, hA, hB⟩ := hY
  have hn := (sp_XR_f hX).2.2.2.2.1
  refine sx_paste hX (fun b => ?_) (fun i u' e1 a hX' => ?_)
  · exact sy_paste hn hA hB (fun _ => ⟨rfl, A, B, hX, rfl, rfl, hA, hB⟩) (fun i v' a1 a2 _ => absurd ⟨i, a1, a2⟩ b)
  · refine sy_paste hn hA hB (fun q => absurd ⟨i, e1, a⟩ q) (fun i' v' a1 a2 hY' => ?_)
    rw [e1, nI_eq (by omega) (by omega)] at a1
    subst a1
    exact ⟨rfl, _, _, hX', hY'⟩
theorem i_vc_clip {k : Nat} {u : SX} {v : SY} (I : i_Rel k u v) (hk : k + 5 ≤ 2560) : wpX_clip (fun r => wpY_clip (fun r' => r' = r ∧ i_Rel (k + 5) u v) v) u := by
  have me := i_up I
  obtain ⟨A, B, hX, hY⟩ := I
  obtain ⟨f_n, f_c, R, C, S⟩ := v
  refine sx_clip hX ?_
  exact ⟨hY.2.1, me⟩
theorem i_vc_reverse {k : Nat} {u : SX} {v : SY} (I : i_Rel k u v) (hk : k + 5 ≤ 2560) (v1 : Int32) (v2 : Int32) : wpX_reverse (fun r u' => wpY_reverse (fun r' v' => r' = r ∧ i_Rel (k + 5) u' v') v v1 v2) u v1 v2 := by
  obtain ⟨A, B, hX, hY⟩ := I
  obtain ⟨f_n, f_c, R, C, S⟩ := v
  obtain ⟨rfl, rfl, hA, hB⟩ := hY
  have hn := (sp_XR_f hX).2.2.2.2.1
  refine sx_reverse hX (fun b => ?_) (fun i j u' e1 e2 hij hj hX' => ?_)
  · exact sy_reverse hn hA hB (fun _ => ⟨rfl, A, B, hX, rfl, rfl, hA, hB⟩) (fun i j v' a1 a2 a3 a4 _ => absurd ⟨i, j, a1, a2, a3, a4⟩ b)
  · refine sy_reverse hn hA hB (fun q => absurd ⟨i, j, e1, e2, hij, hj⟩ q) (fun i' j' v' a1 a2 a3 a4 hY' => ?_)
    rw [e1, nI_eq (by omega) (by omega)] at a1
    rw [e2, nI_eq (by omega) (by omega)] at a2
    subst a1
    subst a2
    exact ⟨rfl, _, _, hX', hY'⟩
theorem i_vc_raise {k : Nat} {u : SX} {v : SY} (I : i_Rel k u v) (hk : k + 5 ≤ 2560) (v1 : Int32) (v2 : Int32) (v3 : Int32) : wpX_raise (fun r u' => wpY_raise (fun r' v' => r' = r ∧ i_Rel (k + 5) u' v') v v1 v2 v3) u v1 v2 v3 := by
  obtain ⟨A, B, hX, hY⟩ := I
  obtain ⟨f_n, f_c, R, C, S⟩ := v
  obtain ⟨rfl, rfl, hA, hB⟩ := hY
  have hn := (sp_XR_f hX).2.2.2.2.1
  refine sx_raise hX (fun b => ?_) (fun i j u' e1 e2 hij hj hd hw hX' => ?_) (fun i j u' e1 e2 hij hj hd hw hX' => ?_)
  · exact sy_raise hn hA hB (fun _ => ⟨rfl, A, B, hX, rfl, rfl, hA, hB⟩) (fun i j v' a1 a2 a3 a4 a5 _ _ => absurd ⟨⟨i, j, a1, a2, a3, a4⟩, a5⟩ b) (fun i j a1 a2 a3 a4 a5 _ => absurd ⟨⟨i, j, a1, a2, a3, a4⟩, a5⟩ b)
  · refine sy_raise hn hA hB (fun q => absurd ⟨⟨i, j, e1, e2, hij, hj⟩, hd⟩ q) (fun i' j' v' a1 a2 a3 a4 a5 a6 hY' => ?_) (fun i' j' a1 a2 a3 a4 a5 a6 => ?_)
    · rw [e1, nI_eq (by omega) (by omega)] at a1
      rw [e2, nI_eq (by omega) (by omega)] at a2
      subst a1
      subst a2
      exact ⟨rfl, _, _, hX', hY'⟩
    · rw [e1, nI_eq (by omega) (by omega)] at a1
      rw [e2, nI_eq (by omega) (by omega)] at a2
      subst a1
      subst a2
      exact absurd hw a6
  · refine sy_raise hn hA hB (fun q => absurd ⟨⟨i, j, e1, e2, hij, hj⟩, hd⟩ q) (fun i' j' v' a1 a2 a3 a4 a5 a6 hY' => ?_) (fun i' j' a1 a2 a3 a4 a5 a6 => ⟨rfl, A, B, hX', rfl, rfl, hA, hB⟩)
    rw [e1, nI_eq (by omega) (by omega)] at a1
    rw [e2, nI_eq (by omega) (by omega)] at a2
    subst a1
    subst a2
    exact absurd a6 hw
theorem i_vc_negate {k : Nat} {u : SX} {v : SY} (I : i_Rel k u v) (hk : k + 5 ≤ 2560) (v1 : Int32) (v2 : Int32) : wpX_negate (fun r u' => wpY_negate (fun r' v' => r' = r ∧ i_Rel (k + 5) u' v') v v1 v2) u v1 v2 := by
  obtain ⟨A, B, hX, hY⟩ := I
  obtain ⟨f_n, f_c, R, C, S⟩ := v
  obtain ⟨rfl, rfl, hA, hB⟩ := hY
  have hn := (sp_XR_f hX).2.2.2.2.1
  refine sx_negate hX (fun b => ?_) (fun i j u' e1 e2 hij hj hX' => ?_)
  · exact sy_negate hn hA hB (fun _ => ⟨rfl, A, B, hX, rfl, rfl, hA, hB⟩) (fun i j v' a1 a2 a3 a4 _ => absurd ⟨i, j, a1, a2, a3, a4⟩ b)
  · refine sy_negate hn hA hB (fun q => absurd ⟨i, j, e1, e2, hij, hj⟩ q) (fun i' j' v' a1 a2 a3 a4 hY' => ?_)
    rw [e1, nI_eq (by omega) (by omega)] at a1
    rw [e2, nI_eq (by omega) (by omega)] at a2
    subst a1
    subst a2
    exact ⟨rfl, _, _, hX', hY'⟩
theorem i_vc_rotate {k : Nat} {u : SX} {v : SY} (I : i_Rel k u v) (hk : k + 5 ≤ 2560) (v1 : Int32) (v2 : Int32) (v3 : Int32) : wpX_rotate (fun r u' => wpY_rotate (fun r' v' => r' = r ∧ i_Rel (k + 5) u' v') v v1 v2 v3) u v1 v2 v3 := by
  obtain ⟨A, B, hX, hY⟩ := I
  obtain ⟨f_n, f_c, R, C, S⟩ := v
  obtain ⟨rfl, rfl, hA, hB⟩ := hY
  have hn := (sp_XR_f hX).2.2.2.2.1
  have ok : ∀ i j n : Nat, v1 = nI i → v2 = nI j → v3 = nI n → i ≤ j → j ≤ A.length → n ≤ j - i → sp_st v1 v2 A.length ∧ ¬ v3 < 0 ∧ v3 ≤ v2 - v1 := by
    intro i j n a1 a2 a3 a4 a5 a6
    refine ⟨⟨i, j, a1, a2, a4, a5⟩, ?_, ?_⟩
    · rw [a3]; exact nI_pos (by omega)
    · rw [a1, a2, a3, pk_sub a4]
      exact nI_le a6 (by omega)
  refine sx_rotate hX (fun b => ?_) (fun i j n u' e1 e2 e3 hij hj hd hX' => ?_)
  · exact sy_rotate hn hA hB (fun _ => ⟨rfl, A, B, hX, rfl, rfl, hA, hB⟩) (fun i j n v' a1 a2 a3 a4 a5 a6 _ => absurd (ok i j n a1 a2 a3 a4 a5 a6) b)
  · refine sy_rotate hn hA hB (fun q => absurd (ok i j n e1 e2 e3 hij hj hd) q) (fun i' j' n' v' a1 a2 a3 a4 a5 a6 hY' => ?_)
    rw [e1, nI_eq (by omega) (by omega)] at a1
    rw [e2, nI_eq (by omega) (by omega)] at a2
    rw [e3, nI_eq (by omega) (by omega)] at a3
    subst a1
    subst a2
    subst a3
    exact ⟨rfl, _, _, hX', hY'⟩
theorem i_vc_sum {k : Nat} {u : SX} {v : SY} (I : i_Rel k u v) (hk : k + 5 ≤ 2560) (v1 : Int32) (v2 : Int32) : wpX_sum (fun r u' => wpY_sum (fun r' => r' = r ∧ i_Rel (k + 5) u' v) v v1 v2) u v1 v2 := by
  obtain ⟨A, B, hX, hY⟩ := I
  obtain ⟨f_n, f_c, R, C, S⟩ := v
  obtain ⟨rfl, rfl, hA, hB⟩ := hY
  have hn := (sp_XR_f hX).2.2.2.2.1
  refine sx_sum hX (fun b => ?_) (fun i j u' e1 e2 hij hj hX' => ?_)
  · exact sy_sum hn hA (fun _ => ⟨rfl, A, B, hX, rfl, rfl, hA, hB⟩) (fun i j a1 a2 a3 a4 => absurd ⟨i, j, a1, a2, a3, a4⟩ b)
  · refine sy_sum hn hA (fun q => absurd ⟨i, j, e1, e2, hij, hj⟩ q) (fun i' j' a1 a2 a3 a4 => ?_)
    rw [e1, nI_eq (by omega) (by omega)] at a1
    rw [e2, nI_eq (by omega) (by omega)] at a2
    subst a1
    subst a2
    exact ⟨rfl, A, B, hX', rfl, rfl, hA, hB⟩
theorem i_vc_greatest {k : Nat} {u : SX} {v : SY} (I : i_Rel k u v) (hk : k + 5 ≤ 2560) (v1 : Int32) (v2 : Int32) : wpX_greatest (fun r u' => wpY_greatest (fun r' => r' = r ∧ i_Rel (k + 5) u' v) v v1 v2) u v1 v2 := by
  obtain ⟨A, B, hX, hY⟩ := I
  obtain ⟨f_n, f_c, R, C, S⟩ := v
  obtain ⟨rfl, rfl, hA, hB⟩ := hY
  have hn := (sp_XR_f hX).2.2.2.2.1
  refine sx_greatest hX (fun b => ?_) (fun a b => ?_) (fun i j w u' e1 e2 hij hj hm hX' => ?_)
  · exact sy_greatest hn (fun _ => ⟨rfl, A, B, hX, rfl, rfl, hA, hB⟩) (fun a _ => absurd a b) (fun i j c a1 a2 a3 a4 _ => absurd ⟨i, j, a1, a2, by omega, a4⟩ b)
  · refine sy_greatest hn (fun q => absurd a q) (fun _ _ => ⟨rfl, A, B, hX, rfl, rfl, hA, hB⟩) (fun i j c a1 a2 a3 a4 _ => ?_)
    rw [a1, a2, nI_eq (by omega) (by omega)] at b
    omega
  · refine sy_greatest hn (fun q => absurd ⟨i, j, e1, e2, by omega, hj⟩ q) (fun _ q => ?_) (fun i' j' c a1 a2 a3 a4 hb => ?_)
    · rw [e1, e2, nI_eq (by omega) (by omega)] at q
      omega
    · rw [e1, nI_eq (by omega) (by omega)] at a1
      rw [e2, nI_eq (by omega) (by omega)] at a2
      subst a1
      subst a2
      exact ⟨(sp_best_first (k := 0) hA (by omega) hj hb hm).1, A, B, hX', rfl, rfl, hA, hB⟩
theorem i_vc_greatestAt {k : Nat} {u : SX} {v : SY} (I : i_Rel k u v) (hk : k + 5 ≤ 2560) (v1 : Int32) (v2 : Int32) : wpX_greatestAt (fun r u' => wpY_greatestAt (fun r' => r' = r ∧ i_Rel (k + 5) u' v) v v1 v2) u v1 v2 := by
  obtain ⟨A, B, hX, hY⟩ := I
  obtain ⟨f_n, f_c, R, C, S⟩ := v
  obtain ⟨rfl, rfl, hA, hB⟩ := hY
  have hn := (sp_XR_f hX).2.2.2.2.1
  refine sx_greatestAt hX (fun b => ?_) (fun a b => ?_) (fun i j w m u' e1 e2 hij hj hm hf hX' => ?_)
  · exact sy_greatestAt hn (fun _ => ⟨rfl, A, B, hX, rfl, rfl, hA, hB⟩) (fun a _ => absurd a b) (fun i j c a1 a2 a3 a4 _ => absurd ⟨i, j, a1, a2, by omega, a4⟩ b)
  · refine sy_greatestAt hn (fun q => absurd a q) (fun _ _ => ⟨rfl, A, B, hX, rfl, rfl, hA, hB⟩) (fun i j c a1 a2 a3 a4 _ => ?_)
    rw [a1, a2, nI_eq (by omega) (by omega)] at b
    omega
  · refine sy_greatestAt hn (fun q => absurd ⟨i, j, e1, e2, by omega, hj⟩ q) (fun _ q => ?_) (fun i' j' c a1 a2 a3 a4 hb => ?_)
    · rw [e1, e2, nI_eq (by omega) (by omega)] at q
      omega
    · rw [e1, nI_eq (by omega) (by omega)] at a1
      rw [e2, nI_eq (by omega) (by omega)] at a2
      subst a1
      subst a2
      exact ⟨congrArg nI ((sp_best_first (k := m) hA (by omega) hj hb hm).2 hf), A, B, hX', rfl, rfl, hA, hB⟩
theorem i_vc_firstFrom {k : Nat} {u : SX} {v : SY} (I : i_Rel k u v) (hk : k + 5 ≤ 2560) (v1 : Int32) (v2 : Int32) : wpX_firstFrom (fun r u' => wpY_firstFrom (fun r' => r' = r ∧ i_Rel (k + 5) u' v) v v1 v2) u v1 v2 := by
  obtain ⟨A, B, hX, hY⟩ := I
  obtain ⟨f_n, f_c, R, C, S⟩ := v
  obtain ⟨rfl, rfl, hA, hB⟩ := hY
  have hn := (sp_XR_f hX).2.2.2.2.1
  have dr : ∀ i t : Nat, i ≤ t → t < A.length → (A.drop i)[t - i]? = some (R t) := fun i t t1 t2 => by
    rw [List.getElem?_drop, show i + (t - i) = t by omega]
    exact hA t t2
  refine sx_firstFrom hX (fun b => ?_) (fun i u' e1 hi hw hX' => ?_) (fun i m u' e1 hi hf hX' => ?_)
  · exact sy_firstFrom hn (fun _ => ⟨rfl, A, B, hX, rfl, rfl, hA, hB⟩) (fun i a1 a2 _ => absurd ⟨i, a1, a2⟩ b) (fun i c a1 a2 _ _ _ _ => absurd ⟨i, a1, a2⟩ b)
  · refine sy_firstFrom hn (fun q => absurd ⟨i, e1, hi⟩ q) (fun _ _ _ _ => ⟨rfl, A, B, hX', rfl, rfl, hA, hB⟩) (fun i' b a1 a2 a3 a4 a5 a6 => ?_)
    rw [e1, nI_eq (by omega) (by omega)] at a1
    subst a1
    have := hw _ (List.mem_of_getElem? (dr i b a3 a4))
    omega
  · obtain ⟨P, x, Q, f1, f2, f3, f4⟩ := hf
    have hl : i + m < A.length := by
      have := congrArg List.length f1
      rw [List.length_drop, List.length_append, List.length_cons] at this
      omega
    have hx : R (i + m) = x := by
      have h1 := dr i (i + m) (by omega) hl
      rw [show i + m - i = m by omega, f1, sp_get_app f2] at h1
      exact (Option.some.inj h1).symm
    refine sy_firstFrom hn (fun q => absurd ⟨i, e1, hi⟩ q) (fun i' a1 a2 a3 => ?_) (fun i' b a1 a2 a3 a4 a5 a6 => ?_)
    · rw [e1, nI_eq (by omega) (by omega)] at a1
      subst a1
      have := a3 (i + m) (by omega) hl
      rw [hx] at this
      omega
    · rw [e1, nI_eq (by omega) (by omega)] at a1
      subst a1
      refine ⟨congrArg nI ?_, A, B, hX', rfl, rfl, hA, hB⟩
      by_cases c1 : b < i + m
      · have hP : P[b - i]? = some (R b) := by
          have h3 := dr i b a3 a4
          rw [f1, List.getElem?_append_left (by omega)] at h3
          exact h3
        have := f4 _ (List.mem_of_getElem? hP)
        omega
      · by_cases c2 : i + m < b
        · have := a5 (i + m) (by omega) c2
          rw [hx] at this
          omega
        · omega
theorem i_vc_weighted {k : Nat} {u : SX} {v : SY} (I : i_Rel k u v) (hk : k + 5 ≤ 2560) (v1 : Int32) (v2 : Int32) : wpX_weighted (fun r u' => wpY_weighted (fun r' => r' = r ∧ i_Rel (k + 5) u' v) v v1 v2) u v1 v2 := by
  obtain ⟨A, B, hX, hY⟩ := I
  obtain ⟨f_n, f_c, R, C, S⟩ := v
  obtain ⟨rfl, rfl, hA, hB⟩ := hY
  have hn := (sp_XR_f hX).2.2.2.2.1
  refine sx_weighted hX (fun b => ?_) (fun i j u' e1 e2 hij hj hX' => ?_)
  · exact sy_weighted hn hA (fun _ => ⟨rfl, A, B, hX, rfl, rfl, hA, hB⟩) (fun i j a1 a2 a3 a4 => absurd ⟨i, j, a1, a2, a3, a4⟩ b)
  · refine sy_weighted hn hA (fun q => absurd ⟨i, j, e1, e2, hij, hj⟩ q) (fun i' j' a1 a2 a3 a4 => ?_)
    rw [e1, nI_eq (by omega) (by omega)] at a1
    rw [e2, nI_eq (by omega) (by omega)] at a2
    subst a1
    subst a2
    exact ⟨rfl, A, B, hX', rfl, rfl, hA, hB⟩
theorem i_vc_alike {k : Nat} {u : SX} {v : SY} (I : i_Rel k u v) (hk : k + 5 ≤ 2560) (v1 : Int32) (v2 : Int32) (v3 : Int32) : wpX_alike (fun r u' => wpY_alike (fun r' => r' = r ∧ i_Rel (k + 5) u' v) v v1 v2 v3) u v1 v2 v3 := by
  obtain ⟨A, B, hX, hY⟩ := I
  obtain ⟨f_n, f_c, R, C, S⟩ := v
  obtain ⟨rfl, rfl, hA, hB⟩ := hY
  have hn := (sp_XR_f hX).2.2.2.2.1
  refine sx_alike hX (fun b => ?_) (fun i j m u' e1 e2 e3 hi hj ha hX' => ?_) (fun i j m u' e1 e2 e3 hi hj ha hX' => ?_)
  · exact sy_alike hn hA (fun _ => ⟨rfl, A, B, hX, rfl, rfl, hA, hB⟩) (fun i j m a1 a2 a3 a4 a5 _ => absurd ⟨i, j, m, a1, a2, a3, a4, a5⟩ b) (fun i j m a1 a2 a3 a4 a5 _ => absurd ⟨i, j, m, a1, a2, a3, a4, a5⟩ b)
  · refine sy_alike hn hA (fun q => absurd ⟨i, j, m, e1, e2, e3, hi, hj⟩ q) (fun _ _ _ _ _ _ _ _ _ => ⟨rfl, A, B, hX', rfl, rfl, hA, hB⟩) (fun i' j' m' a1 a2 a3 a4 a5 a6 => ?_)
    rw [e1, nI_eq (by omega) (by omega)] at a1
    rw [e2, nI_eq (by omega) (by omega)] at a2
    rw [e3, nI_eq (by omega) (by omega)] at a3
    subst a1
    subst a2
    subst a3
    exact absurd ha a6
  · refine sy_alike hn hA (fun q => absurd ⟨i, j, m, e1, e2, e3, hi, hj⟩ q) (fun i' j' m' a1 a2 a3 a4 a5 a6 => ?_) (fun _ _ _ _ _ _ _ _ _ => ⟨rfl, A, B, hX', rfl, rfl, hA, hB⟩)
    rw [e1, nI_eq (by omega) (by omega)] at a1
    rw [e2, nI_eq (by omega) (by omega)] at a2
    rw [e3, nI_eq (by omega) (by omega)] at a3
    subst a1
    subst a2
    subst a3
    exact absurd a6 ha
end
