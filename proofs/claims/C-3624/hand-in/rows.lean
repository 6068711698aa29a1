section
/-! rows of the kit to paste (starting text): stores, arithmetic of nI, branches by naturals, shifts, masks -/
theorem pk_us {f : Nat → Int32} {k : Nat} {x : Int32} : upd f k x k = x := if_pos rfl
theorem pk_un {f : Nat → Int32} {k j : Nat} {x : Int32} (h : j ≠ k) : upd f k x j = f j := if_neg h
theorem pk_sub {a b : Nat} (h : b ≤ a) : nI a - nI b = nI (a - b) := by
  obtain ⟨c, rfl⟩ : ∃ c, a = c + b := ⟨a - b, by omega⟩
  rw [← nI_add, Int32.add_sub_cancel, Nat.add_sub_cancel]
theorem pk_m1 (n : Nat) : nI (n + 1) + (-1) = nI n := by
  rw [← nI_1, Int32.add_assoc, show (1 : Int32) + (-1) = 0 from rfl, Int32.add_zero]
theorem pk_mul (a b : Nat) : nI a * nI b = nI (a * b) := (Int32.ofNat_mul a b).symm
theorem pk_div {a d : Nat} (ha : a < 2 ^ 31) (h0 : 0 < d) (hd : d < 2 ^ 31) : nI a / nI d = nI (a / d) := by
  apply Int32.toInt_inj.mp
  rw [lg_idiv_nonneg (by rw [nI_toInt ha]; omega) (by rw [nI_toInt hd]; omega), nI_toInt ha, nI_toInt hd, nI_toInt (Nat.lt_of_le_of_lt (Nat.div_le_self a d) ha)]
  first | rfl | exact (Int.natCast_ediv _ _).symm
theorem pk_rem {a d : Nat} (ha : a < 2 ^ 31) (h0 : 0 < d) (hd : d < 2 ^ 31) : nI a - nI a / nI d * nI d = nI (a % d) := by
  rw [pk_div ha h0 hd, pk_mul, pk_sub (Nat.div_mul_le_self a d)]
  exact congrArg nI (by have := Nat.div_add_mod' a d; omega)
theorem pk_le {x y : Int32} {A B : Prop} (a b : Nat) (f : a ≤ b → A) (g : b < a → B) (hx : x = nI a := by rfl) (hy : y = nI b := by rfl) (ha : a < 2 ^ 31 := by omega) (hb : b < 2 ^ 31 := by omega) : (x ≤ y → A) ∧ (¬ x ≤ y → B) := by
  subst hx hy
  rw [nI_leI ha hb]
  exact ⟨f, fun z => g (by omega)⟩
theorem pk_lt {x y : Int32} {A B : Prop} (a b : Nat) (f : a < b → A) (g : b ≤ a → B) (hx : x = nI a := by rfl) (hy : y = nI b := by rfl) (ha : a < 2 ^ 31 := by omega) (hb : b < 2 ^ 31 := by omega) : (x < y → A) ∧ (¬ x < y → B) := by
  subst hx hy
  rw [nI_ltI ha hb]
  exact ⟨f, fun z => g (by omega)⟩
theorem pk_eq {x y : Int32} {A B : Prop} (a b : Nat) (f : a = b → A) (g : a ≠ b → B) (hx : x = nI a := by rfl) (hy : y = nI b := by rfl) (ha : a < 2 ^ 31 := by omega) (hb : b < 2 ^ 31 := by omega) : (x = y → A) ∧ (¬ x = y → B) := by
  subst hx hy
  rw [nI_eq ha hb]
  exact ⟨f, g⟩
theorem pk_in {x : Int32} (n N : Nat) (h : n < N) (hx : x = nI n := by rfl) (hN : N < 2 ^ 31 := by omega) : vp_in x N := by
  subst hx
  exact vp_in_nI h hN
theorem pk_cl {x : Int32} (n : Nat) (hx : x = nI n := by rfl) (h : n < 2 ^ 31 := by omega) : x.toNatClampNeg = n := by
  subst hx
  exact nI_clamp h
theorem pk_tn {n : Nat} (h : n < 2 ^ 32) : (nI n).toBitVec.toNat = n := Nat.mod_eq_of_lt h
theorem pk_and (x : Int32) {m : Int32} (k : Nat) (hm : m.toBitVec.toNat = 2 ^ k - 1) : x &&& m = nI (x.toBitVec.toNat % 2 ^ k) := by
  apply Int32.toBitVec_inj.mp
  apply BitVec.eq_of_toNat_eq
  rw [Int32.toBitVec_and, BitVec.toNat_and, hm, Nat.and_two_pow_sub_one_eq_mod]
  show _ = (BitVec.ofNat 32 _).toNat
  rw [BitVec.toNat_ofNat]
  exact (Nat.mod_eq_of_lt (Nat.lt_of_le_of_lt (Nat.mod_le _ _) x.toBitVec.isLt)).symm
theorem pk_andN {n : Nat} (h : n < 2 ^ 32) {m : Int32} (k : Nat) (hm : m.toBitVec.toNat = 2 ^ k - 1) : nI n &&& m = nI (n % 2 ^ k) := by
  rw [pk_and _ k hm, pk_tn h]
theorem pk_shl (a s : Int32) (k : Nat) (hs : (s.toBitVec.smod 32).toNat = k) : (a <<< s).toBitVec.toNat = a.toBitVec.toNat * 2 ^ k % 2 ^ 32 := by
  show (a.toBitVec <<< (s.toBitVec.smod 32).toNat).toNat = _
  rw [hs, BitVec.toNat_shiftLeft, Nat.shiftLeft_eq]
theorem pk_shlN {n : Nat} (s : Int32) (k : Nat) (hs : (s.toBitVec.smod 32).toNat = k) (h : n * 2 ^ k < 2 ^ 32) : nI n <<< s = nI (n * 2 ^ k) := by
  apply Int32.toBitVec_inj.mp
  apply BitVec.eq_of_toNat_eq
  have hn : n < 2 ^ 32 := Nat.lt_of_le_of_lt (Nat.le_mul_of_pos_right n (Nat.two_pow_pos k)) h
  rw [pk_shl _ _ k hs, pk_tn hn, pk_tn h, Nat.mod_eq_of_lt h]
theorem pk_shr (a s : Int32) (k : Nat) (hs : (s.toBitVec.smod 32).toNat = k) : (a >>> s).toInt = a.toInt >>> k := by
  show (a.toBitVec.sshiftRight (s.toBitVec.smod 32).toNat).toInt = _
  rw [hs, BitVec.toInt_sshiftRight]
  rfl
theorem pk_shrN {n : Nat} (h : n < 2 ^ 31) (s : Int32) (k : Nat) (hs : (s.toBitVec.smod 32).toNat = k) : nI n >>> s = nI (n / 2 ^ k) := by
  apply Int32.toInt_inj.mp
  have h2 : n / 2 ^ k ≤ n := Nat.div_le_self _ _
  rw [pk_shr _ _ k hs, nI_toInt h, nI_toInt (by omega), Int.shiftRight_eq_div_pow]
  rfl
theorem s_l : ∀ n, n < 32 → ((nI n &&& 31).toBitVec.smod 32).toNat = n := by decide +kernel
theorem nx_and (a b : Nat) : nI a &&& nI b = nI (a &&& b) := by
  apply Int32.toBitVec_inj.1
  show BitVec.ofNat 32 a &&& BitVec.ofNat 32 b = BitVec.ofNat 32 (a &&& b)
  apply BitVec.eq_of_getLsbD_eq
  intro i hi
  simp [hi]
theorem nx_xor (a b : Nat) : nI a ^^^ nI b = nI (a ^^^ b) := by
  apply Int32.toBitVec_inj.1
  show BitVec.ofNat 32 a ^^^ BitVec.ofNat 32 b = BitVec.ofNat 32 (a ^^^ b)
  apply BitVec.eq_of_getLsbD_eq
  intro i hi
  simp [hi]
end
section
/-! plans as lists of joins (a join of l and r is the number 32 l + r, parts come first), and what is asked of lists of plans -/
theorem jo_nt {b : Bool} (h : ¬ b = true) : b = false := by simpa using h
def jo_u (j : Nat) : Nat := (j / 32) ||| (j % 32)
def jo_cost (sz : Nat → Nat) : List Nat → Nat
  | [] => 0
  | j :: p => sz (jo_u j) + jo_cost sz p
theorem jo_cost_app (sz : Nat → Nat) (p q : List Nat) : jo_cost sz (p ++ q) = jo_cost sz p + jo_cost sz q := by
  induction p with
  | nil => simp [jo_cost]
  | cons j p ih => simp only [List.cons_append, jo_cost, ih]; omega
theorem jo_cost_j (sz : Nat → Nat) (a b : List Nat) (j : Nat) : jo_cost sz (a ++ (b ++ [j])) = jo_cost sz a + jo_cost sz b + sz (jo_u j) := by
  simp only [jo_cost_app, jo_cost]; omega
theorem jo_cost_mono {sz bz : Nat → Nat} (h : ∀ t, sz t ≤ bz t) (p : List Nat) : jo_cost sz p ≤ jo_cost bz p := by
  induction p with
  | nil => exact Nat.le_refl _
  | cons j p ih => simp only [jo_cost]; have := h (jo_u j); omega
def jo_comb (A B : List (List Nat)) (j : Nat) : List (List Nat) := A.flatMap (fun a => B.map (fun b => a ++ (b ++ [j])))
theorem jo_comb_mem {A B : List (List Nat)} {j : Nat} {p : List Nat} : p ∈ jo_comb A B j ↔ ∃ a, a ∈ A ∧ ∃ b, b ∈ B ∧ a ++ (b ++ [j]) = p := by
  simp only [jo_comb, List.mem_flatMap, List.mem_map]
theorem jo_comb_cons (a : List Nat) (A B : List (List Nat)) (j : Nat) : jo_comb (a :: A) B j = B.map (fun b => a ++ (b ++ [j])) ++ jo_comb A B j := by
  simp only [jo_comb, List.flatMap_cons]
theorem jo_comb_nil (B : List (List Nat)) (j : Nat) : jo_comb [] B j = [] := rfl
theorem jo_comb_nil' (A : List (List Nat)) (j : Nat) : jo_comb A [] j = [] := by
  induction A with
  | nil => rfl
  | cons a A ih => rw [jo_comb_cons, ih]; rfl
theorem jo_comb_len (A B : List (List Nat)) (j : Nat) : (jo_comb A B j).length = A.length * B.length := by
  induction A with
  | nil => simp [jo_comb_nil]
  | cons a A ih => rw [jo_comb_cons, List.length_append, List.length_map, ih, List.length_cons, Nat.add_mul]; omega
theorem jo_comb_ne {A B : List (List Nat)} {j : Nat} (hA : A ≠ []) (hB : B ≠ []) : jo_comb A B j ≠ [] := by
  intro h
  have h1 := congrArg List.length h
  rw [jo_comb_len, List.length_nil] at h1
  have a1 := List.length_pos_iff.mpr hA
  have b1 := List.length_pos_iff.mpr hB
  have := Nat.mul_pos a1 b1
  omega
theorem jo_comb_filter {A B : List (List Nat)} {j : Nat} {f fa fb : List Nat → Bool} (h : ∀ a, a ∈ A → ∀ b, b ∈ B → f (a ++ (b ++ [j])) = (fa a && fb b)) :
    (jo_comb A B j).filter f = jo_comb (A.filter fa) (B.filter fb) j := by
  induction A with
  | nil => rfl
  | cons a A ih =>
    rw [jo_comb_cons, List.filter_append, ih (fun x hx => h x (List.mem_cons_of_mem _ hx)), List.filter_map]
    have h0 := h a (List.mem_cons_self ..)
    by_cases ha : fa a = true
    · have e : B.filter (f ∘ fun b => a ++ (b ++ [j])) = B.filter fb := List.filter_congr (fun b hb => by
        show f (a ++ (b ++ [j])) = fb b
        rw [h0 b hb, ha, Bool.true_and])
      rw [e, List.filter_cons_of_pos ha, jo_comb_cons]
    · have e : B.filter (f ∘ fun b => a ++ (b ++ [j])) = [] := List.filter_eq_nil_iff.mpr (fun b hb => by
        show ¬ f (a ++ (b ++ [j])) = true
        rw [h0 b hb, jo_nt ha, Bool.false_and]; decide)
      rw [e, List.filter_cons_of_neg ha]; rfl
/-- the least of a list, the greatest of a list -/
def jo_mn : List Nat → Nat
  | [] => 2147483647
  | a :: l => min a (jo_mn l)
def jo_mx : List Nat → Nat
  | [] => 0
  | a :: l => max a (jo_mx l)
theorem jo_mn_far (l : List Nat) : jo_mn l ≤ 2147483647 := by
  induction l with
  | nil => exact Nat.le_refl _
  | cons a l ih => simp only [jo_mn]; omega
theorem jo_mn_le {l : List Nat} {a : Nat} (h : a ∈ l) : jo_mn l ≤ a := by
  induction l with
  | nil => cases h
  | cons b l ih =>
    simp only [jo_mn]
    rcases List.mem_cons.mp h with e | e
    · omega
    · have := ih e; omega
theorem jo_mn_ge {l : List Nat} {b : Nat} (hb : b ≤ 2147483647) (h : ∀ a, a ∈ l → b ≤ a) : b ≤ jo_mn l := by
  induction l with
  | nil => exact hb
  | cons c l ih =>
    simp only [jo_mn]
    have h1 := h c (List.mem_cons_self ..)
    have h2 := ih (fun a ha => h a (List.mem_cons_of_mem _ ha))
    omega
theorem jo_mn_mem (l : List Nat) : jo_mn l = 2147483647 ∨ jo_mn l ∈ l := by
  induction l with
  | nil => exact Or.inl rfl
  | cons a l ih =>
    simp only [jo_mn]
    by_cases h : a ≤ jo_mn l
    · right; rw [Nat.min_eq_left h]; exact List.mem_cons_self ..
    · rw [Nat.min_eq_right (by omega)]
      rcases ih with e | e
      · exact Or.inl e
      · exact Or.inr (List.mem_cons_of_mem _ e)
theorem jo_mn_app (A B : List Nat) : jo_mn (A ++ B) = min (jo_mn A) (jo_mn B) := by
  induction A with
  | nil => have := jo_mn_far B; simp only [List.nil_append, jo_mn]; omega
  | cons a A ih => simp only [List.cons_append, jo_mn, ih]; omega
theorem jo_mn_sub {A B : List Nat} (h : ∀ a, a ∈ B → a ∈ A) : jo_mn A ≤ jo_mn B := jo_mn_ge (jo_mn_far A) (fun a ha => jo_mn_le (h a ha))
theorem jo_mn_perm {A B : List Nat} (h : A.Perm B) : jo_mn A = jo_mn B :=
  Nat.le_antisymm (jo_mn_sub (fun _ ha => h.mem_iff.mpr ha)) (jo_mn_sub (fun _ ha => h.mem_iff.mp ha))
theorem jo_mx_ge {l : List Nat} {a : Nat} (h : a ∈ l) : a ≤ jo_mx l := by
  induction l with
  | nil => cases h
  | cons b l ih =>
    simp only [jo_mx]
    rcases List.mem_cons.mp h with e | e
    · omega
    · have := ih e; omega
theorem jo_mx_le {l : List Nat} {b : Nat} (h : ∀ a, a ∈ l → a ≤ b) : jo_mx l ≤ b := by
  induction l with
  | nil => exact Nat.zero_le _
  | cons c l ih =>
    simp only [jo_mx]
    have h1 := h c (List.mem_cons_self ..)
    have h2 := ih (fun a ha => h a (List.mem_cons_of_mem _ ha))
    omega
theorem jo_mx_mem {l : List Nat} (h : l ≠ []) : jo_mx l ∈ l := by
  induction l with
  | nil => exact absurd rfl h
  | cons a l ih =>
    simp only [jo_mx]
    by_cases hl : l = []
    · subst hl
      have e : max a (jo_mx []) = a := by simp only [jo_mx]; omega
      rw [e]; exact List.mem_cons_self ..
    · by_cases h : jo_mx l ≤ a
      · rw [Nat.max_eq_left h]; exact List.mem_cons_self ..
      · rw [Nat.max_eq_right (by omega)]; exact List.mem_cons_of_mem _ (ih hl)
theorem jo_mx_app (A B : List Nat) : jo_mx (A ++ B) = max (jo_mx A) (jo_mx B) := by
  induction A with
  | nil => simp only [List.nil_append, jo_mx]; omega
  | cons a A ih => simp only [List.cons_append, jo_mx, ih]; omega
theorem jo_mx_sub {A B : List Nat} (h : ∀ a, a ∈ A → a ∈ B) : jo_mx A ≤ jo_mx B := jo_mx_le (fun a ha => jo_mx_ge (h a ha))
theorem jo_mx_perm {A B : List Nat} (h : A.Perm B) : jo_mx A = jo_mx B :=
  Nat.le_antisymm (jo_mx_sub (fun _ ha => h.mem_iff.mp ha)) (jo_mx_sub (fun _ ha => h.mem_iff.mpr ha))
/-- the least cost, the greatest cost of a list of plans -/
def jo_mc (sz : Nat → Nat) (L : List (List Nat)) : Nat := jo_mn (L.map (jo_cost sz))
def jo_xc (sz : Nat → Nat) (L : List (List Nat)) : Nat := jo_mx (L.map (jo_cost sz))
section
variable {sz : Nat → Nat} {L M A B : List (List Nat)} {j : Nat}
theorem jo_mc_app : jo_mc sz (L ++ M) = min (jo_mc sz L) (jo_mc sz M) := by simp only [jo_mc, List.map_append, jo_mn_app]
theorem jo_xc_app : jo_xc sz (L ++ M) = max (jo_xc sz L) (jo_xc sz M) := by simp only [jo_xc, List.map_append, jo_mx_app]
theorem jo_mc_far : jo_mc sz L ≤ 2147483647 := jo_mn_far _
theorem jo_mc_le {p : List Nat} (h : p ∈ L) : jo_mc sz L ≤ jo_cost sz p := jo_mn_le (List.mem_map_of_mem h)
theorem jo_xc_ge {p : List Nat} (h : p ∈ L) : jo_cost sz p ≤ jo_xc sz L := jo_mx_ge (List.mem_map_of_mem h)
theorem jo_mc_ge {b : Nat} (hb : b ≤ 2147483647) (h : ∀ p, p ∈ L → b ≤ jo_cost sz p) : b ≤ jo_mc sz L :=
  jo_mn_ge hb (fun a ha => by obtain ⟨p, hp, rfl⟩ := List.mem_map.mp ha; exact h p hp)
theorem jo_xc_le {b : Nat} (h : ∀ p, p ∈ L → jo_cost sz p ≤ b) : jo_xc sz L ≤ b :=
  jo_mx_le (fun a ha => by obtain ⟨p, hp, rfl⟩ := List.mem_map.mp ha; exact h p hp)
theorem jo_mc_att (hne : L ≠ []) (hb : ∀ p, p ∈ L → jo_cost sz p ≤ 2147483646) : ∃ p, p ∈ L ∧ jo_cost sz p = jo_mc sz L := by
  rcases jo_mn_mem (L.map (jo_cost sz)) with e | e
  · obtain ⟨p, hp⟩ := List.exists_mem_of_ne_nil L hne
    have h1 : jo_mc sz L ≤ jo_cost sz p := jo_mc_le hp
    have h2 := hb p hp
    have h3 : jo_mc sz L = 2147483647 := e
    omega
  · obtain ⟨p, hp, h⟩ := List.mem_map.mp e
    exact ⟨p, hp, h⟩
theorem jo_xc_att (hne : L ≠ []) : ∃ p, p ∈ L ∧ jo_cost sz p = jo_xc sz L := by
  have hn : L.map (jo_cost sz) ≠ [] := fun h => hne (List.map_eq_nil_iff.mp h)
  obtain ⟨p, hp, h⟩ := List.mem_map.mp (jo_mx_mem hn)
  exact ⟨p, hp, h⟩
theorem jo_mc_lt (hne : L ≠ []) (hb : ∀ p, p ∈ L → jo_cost sz p ≤ 2147483646) : jo_mc sz L ≤ 2147483646 := by
  obtain ⟨p, hp, e⟩ := jo_mc_att hne hb
  rw [← e]; exact hb p hp
theorem jo_mc_perm (h : L.Perm M) : jo_mc sz L = jo_mc sz M := jo_mn_perm (h.map _)
theorem jo_xc_perm (h : L.Perm M) : jo_xc sz L = jo_xc sz M := jo_mx_perm (h.map _)
theorem jo_comb_bA (hB : B ≠ []) (hb : ∀ p, p ∈ jo_comb A B j → jo_cost sz p ≤ 2147483646) : ∀ p, p ∈ A → jo_cost sz p ≤ 2147483646 := by
  intro p hp
  obtain ⟨q, hq⟩ := List.exists_mem_of_ne_nil B hB
  have := hb _ (jo_comb_mem.mpr ⟨p, hp, q, hq, rfl⟩)
  rw [jo_cost_j] at this
  omega
theorem jo_comb_bB (hA : A ≠ []) (hb : ∀ p, p ∈ jo_comb A B j → jo_cost sz p ≤ 2147483646) : ∀ p, p ∈ B → jo_cost sz p ≤ 2147483646 := by
  intro p hp
  obtain ⟨q, hq⟩ := List.exists_mem_of_ne_nil A hA
  have := hb _ (jo_comb_mem.mpr ⟨q, hq, p, hp, rfl⟩)
  rw [jo_cost_j] at this
  omega
theorem jo_mc_comb (hA : A ≠ []) (hB : B ≠ []) (hb : ∀ p, p ∈ jo_comb A B j → jo_cost sz p ≤ 2147483646) :
    jo_mc sz (jo_comb A B j) = jo_mc sz A + jo_mc sz B + sz (jo_u j) := by
  obtain ⟨a, ha, ea⟩ := jo_mc_att hA (jo_comb_bA hB hb)
  obtain ⟨b, hb', eb⟩ := jo_mc_att hB (jo_comb_bB hA hb)
  have hm : a ++ (b ++ [j]) ∈ jo_comb A B j := jo_comb_mem.mpr ⟨a, ha, b, hb', rfl⟩
  have h1 := jo_mc_le (sz := sz) hm
  have h2 := hb _ hm
  rw [jo_cost_j] at h1 h2
  apply Nat.le_antisymm
  · omega
  · apply jo_mc_ge (by omega)
    intro p hp
    obtain ⟨x, hx, y, hy, rfl⟩ := jo_comb_mem.mp hp
    have := jo_mc_le (sz := sz) hx
    have := jo_mc_le (sz := sz) hy
    rw [jo_cost_j]; omega
theorem jo_xc_comb (hA : A ≠ []) (hB : B ≠ []) : jo_xc sz (jo_comb A B j) = jo_xc sz A + jo_xc sz B + sz (jo_u j) := by
  obtain ⟨a, ha, ea⟩ := jo_xc_att (sz := sz) hA
  obtain ⟨b, hb', eb⟩ := jo_xc_att (sz := sz) hB
  have h1 := jo_xc_ge (sz := sz) (jo_comb_mem.mpr ⟨a, ha, b, hb', rfl⟩ : _ ∈ jo_comb A B j)
  rw [jo_cost_j] at h1
  apply Nat.le_antisymm
  · apply jo_xc_le
    intro p hp
    obtain ⟨x, hx, y, hy, rfl⟩ := jo_comb_mem.mp hp
    have := jo_xc_ge (sz := sz) hx
    have := jo_xc_ge (sz := sz) hy
    rw [jo_cost_j]; omega
  · omega
/-- the cheapest plans of a list -/
def jo_G (sz : Nat → Nat) (L : List (List Nat)) : List (List Nat) := L.filter (fun p => jo_cost sz p == jo_mc sz L)
theorem jo_flt_nil {c : Nat} (h : c < jo_mc sz L) : L.filter (fun p => jo_cost sz p == c) = [] :=
  List.filter_eq_nil_iff.mpr (fun p hp => by
    have := jo_mc_le (sz := sz) hp
    rw [beq_iff_eq]; omega)
theorem jo_G_lt (h : jo_mc sz M < jo_mc sz L) : jo_G sz (L ++ M) = jo_G sz M := by
  unfold jo_G
  rw [jo_mc_app, Nat.min_eq_right (by omega), List.filter_append, jo_flt_nil h]; rfl
theorem jo_G_gt (h : jo_mc sz L < jo_mc sz M) : jo_G sz (L ++ M) = jo_G sz L := by
  unfold jo_G
  rw [jo_mc_app, Nat.min_eq_left (by omega), List.filter_append, jo_flt_nil h, List.append_nil]
theorem jo_G_eq (h : jo_mc sz L = jo_mc sz M) : jo_G sz (L ++ M) = jo_G sz L ++ jo_G sz M := by
  unfold jo_G
  rw [jo_mc_app, ← h, Nat.min_self, List.filter_append]
theorem jo_G_ne (hne : L ≠ []) (hb : ∀ p, p ∈ L → jo_cost sz p ≤ 2147483646) : jo_G sz L ≠ [] := by
  obtain ⟨p, hp, e⟩ := jo_mc_att hne hb
  exact List.ne_nil_of_mem (List.mem_filter.mpr ⟨hp, beq_iff_eq.mpr e⟩)
theorem jo_G_comb (hA : A ≠ []) (hB : B ≠ []) (hb : ∀ p, p ∈ jo_comb A B j → jo_cost sz p ≤ 2147483646) :
    jo_G sz (jo_comb A B j) = jo_comb (jo_G sz A) (jo_G sz B) j := by
  unfold jo_G
  rw [jo_mc_comb hA hB hb]
  apply jo_comb_filter
  intro a ha b hb'
  have h1 := jo_mc_le (sz := sz) ha
  have h2 := jo_mc_le (sz := sz) hb'
  rw [jo_cost_j, Bool.eq_iff_iff, Bool.and_eq_true, beq_iff_eq, beq_iff_eq, beq_iff_eq]
  omega
theorem jo_G_perm (h : L.Perm M) : (jo_G sz L).Perm (jo_G sz M) := by
  unfold jo_G
  rw [jo_mc_perm h]
  exact h.filter _
end
/-- a plan's left set -/
def jo_lf (p : List Nat) : Nat := p.getLastD 0 / 32
theorem jo_lf_j (a b : List Nat) (j : Nat) : jo_lf (a ++ (b ++ [j])) = j / 32 := by
  unfold jo_lf
  rw [← List.append_assoc, List.getLastD_concat]
def jo_ml (sz : Nat → Nat) (L : List (List Nat)) : Nat := min 32 (jo_mn ((jo_G sz L).map jo_lf))
theorem jo_all_j (g : Nat → Bool) (a b : List Nat) (j : Nat) : (a ++ (b ++ [j])).all g = (a.all g && (b.all g && g j)) := by
  simp only [List.all_append, List.all_cons, List.all_nil, Bool.and_true]
/-- the plans all of whose joins are of a kind -/
def jo_K (g : Nat → Bool) (L : List (List Nat)) : List (List Nat) := L.filter (fun p => p.all g)
theorem jo_K_app (g : Nat → Bool) (L M : List (List Nat)) : jo_K g (L ++ M) = jo_K g L ++ jo_K g M := List.filter_append ..
theorem jo_K_comb {g : Nat → Bool} {j : Nat} (h : g j = true) (A B : List (List Nat)) : jo_K g (jo_comb A B j) = jo_comb (jo_K g A) (jo_K g B) j :=
  jo_comb_filter (fun a _ b _ => by rw [jo_all_j, h, Bool.and_true])
theorem jo_K_comb0 {g : Nat → Bool} {j : Nat} (h : g j = false) (A B : List (List Nat)) : jo_K g (jo_comb A B j) = [] :=
  List.filter_eq_nil_iff.mpr (fun p hp => by
    obtain ⟨a, _, b, _, rfl⟩ := jo_comb_mem.mp hp
    rw [jo_all_j, h, Bool.and_false, Bool.and_false]; decide)
theorem jo_K_sub {g : Nat → Bool} {L : List (List Nat)} {p : List Nat} (h : p ∈ jo_K g L) : p ∈ L := (List.mem_filter.mp h).1
theorem jo_K_perm {g : Nat → Bool} {L M : List (List Nat)} (h : L.Perm M) : (jo_K g L).Perm (jo_K g M) := h.filter _
end
section
/-! the component's plans of a set (jo_pl), the reference's plans of a set by their numbers (jo_pY) -/
def jo_lefts (s : Nat) : Nat → Nat → List Nat
  | 0, _ => []
  | n + 1, l => if l = 0 then [] else l :: jo_lefts s n ((l - 1) &&& s)
def jo_P : Nat → Nat → List (List Nat)
  | 0, _ => []
  | n + 1, s => if s &&& (s - 1) = 0 then [[]] else (jo_lefts s 32 ((s - 1) &&& s)).flatMap (fun l => jo_comb (jo_P n l) (jo_P n (s - l)) (l * 32 + (s - l)))
def jo_pl (s : Nat) : List (List Nat) := jo_P 5 s
/-- a set's tables are counted -/
def jo_pc (s : Nat) : Nat → Nat
  | 0 => 0
  | i + 1 => if s.testBit i then jo_pc s i + 1 else jo_pc s i
def jo_bz (s : Nat) : Nat := 64 ^ jo_pc s 5
def jo_fact : Nat → Nat
  | 0 => 1
  | n + 1 => jo_fact n * (n + 1)
def jo_isF (form : Nat) : Nat → Nat → Nat → Bool
  | 0, _, held => held == 1
  | d + 1, i, held => if form.testBit i then jo_isF form d (i + 1) (held + 1) else if held ≤ 1 then false else jo_isF form d (i + 1) (held - 1)
def jo_fm (m : Nat) : List Nat :=
  match m with
  | 1 => [1]
  | 2 => [3]
  | 3 => [7, 11]
  | 4 => [15, 23, 27, 39, 43]
  | 5 => [31, 47, 55, 59, 79, 87, 91, 103, 107, 143, 151, 155, 167, 171]
  | _ => []
def jo_nth (left : Nat) : Nat → Nat → Nat → Option Nat
  | 0, _, _ => none
  | n + 1, k, t => if left.testBit t then (if k = 0 then some t else jo_nth left n (k - 1) (t + 1)) else jo_nth left n k (t + 1)
def jo_row (m : Nat) : Nat → Nat → Nat → Nat → Nat → Option (List Nat)
  | 0, _, _, _, _ => some []
  | d + 1, i, rest, unit, left =>
    if unit / (m - i) = 0 then none else
      match jo_nth left 5 (rest / (unit / (m - i))) 0 with
      | none => none
      | some t =>
        match jo_row m d (i + 1) (rest % (unit / (m - i))) (unit / (m - i)) (left - 2 ^ t) with
        | none => none
        | some r => some (t :: r)
def jo_fol (form : Nat) : Nat → Nat → List Nat → List Nat → Option (List Nat)
  | 0, _, _, _ => some []
  | d + 1, i, stk, rows =>
    if form.testBit i then
      match rows with
      | [] => none
      | t :: rows' => if stk.length < 5 then jo_fol form d (i + 1) (2 ^ t :: stk) rows' else none
    else
      match stk with
      | r :: l :: stk' =>
        match jo_fol form d (i + 1) ((l ||| r) :: stk') rows with
        | none => none
        | some js => some ((l * 32 + r) :: js)
      | _ => none
/-- the ways to go on with single tables from h to s, as in a dictionary -/
def jo_cm (s : Nat) : Nat → Nat → List (List Nat)
  | 0, _ => []
  | n + 1, h => if h = s then [[]] else (List.range 5).flatMap (fun i => if s.testBit i && !h.testBit i then (jo_cm s n (h ||| 2 ^ i)).map (fun r => i :: r) else [])
def jo_rw (s o : Nat) : List Nat := (jo_cm s 6 0).getD o []
def jo_fc (s : Nat) : Nat := (jo_fm (jo_pc s 5)).length
def jo_tot (s : Nat) : Nat := jo_fact (jo_pc s 5) * jo_fc s
def jo_po (s i : Nat) : Option (List Nat) := jo_fol ((jo_fm (jo_pc s 5)).getD (i % jo_fc s) 0) (2 * jo_pc s 5 - 1) 0 [] (jo_rw s (i / jo_fc s))
def jo_pY (s i : Nat) : List Nat := (jo_po s i).getD []
/-- a join with a single right part -/
def jo_lin (j : Nat) : Bool := (j % 32) &&& (j % 32 - 1) == 0
def jo_lp : Nat → List Nat → List Nat
  | _, [] => []
  | h, t :: r => (h * 32 + 2 ^ t) :: jo_lp (h ||| 2 ^ t) r
def jo_l0 (r : List Nat) : List Nat :=
  match r with
  | [] => []
  | t :: r => jo_lp (2 ^ t) r
def jo_rc (sz : Nat → Nat) : Nat → List Nat → Nat
  | _, [] => 0
  | h, t :: r => (if h = 0 then 0 else sz (h ||| 2 ^ t)) + jo_rc sz (h ||| 2 ^ t) r
/-! sorting lists of plans -/
def jo_ple : List Nat → List Nat → Bool
  | [], _ => true
  | _ :: _, [] => false
  | a :: p, b :: q => if a < b then true else if b < a then false else jo_ple p q
def jo_mg : Nat → List (List Nat) → List (List Nat) → List (List Nat)
  | 0, A, B => A ++ B
  | _ + 1, [], B => B
  | _ + 1, a :: A, [] => a :: A
  | n + 1, a :: A, b :: B => if jo_ple a b then a :: jo_mg n A (b :: B) else b :: jo_mg n (a :: A) B
def jo_pr : List (List (List Nat)) → List (List (List Nat))
  | [] => []
  | [a] => [a]
  | a :: b :: r => jo_mg 4000 a b :: jo_pr r
def jo_so : Nat → List (List (List Nat)) → List (List Nat)
  | 0, L => L.flatten
  | n + 1, L => jo_so n (jo_pr L)
def jo_ms (L : List (List Nat)) : List (List Nat) := jo_so 11 (L.map (fun x => [x]))
theorem jo_mg_perm : ∀ (n : Nat) (A B : List (List Nat)), (jo_mg n A B).Perm (A ++ B) := by
  intro n
  induction n with
  | zero => intro A B; exact List.Perm.refl _
  | succ n ih =>
    intro A B
    match A, B with
    | [], B => simp only [jo_mg]; exact List.Perm.refl _
    | a :: A, [] => simp only [jo_mg, List.append_nil]; exact List.Perm.refl _
    | a :: A, b :: B =>
      simp only [jo_mg]
      split
      · exact (ih A (b :: B)).cons a
      · refine ((ih (a :: A) B).cons b).trans ?_
        exact (List.perm_middle (a := b) (l₁ := a :: A) (l₂ := B)).symm
theorem jo_pr_perm : ∀ (L : List (List (List Nat))), (jo_pr L).flatten.Perm L.flatten
  | [] => List.Perm.refl _
  | [a] => List.Perm.refl _
  | a :: b :: r => by
    simp only [jo_pr, List.flatten_cons]
    rw [← List.append_assoc]
    exact (jo_mg_perm 4000 a b).append (jo_pr_perm r)
theorem jo_so_perm : ∀ (n : Nat) (L : List (List (List Nat))), (jo_so n L).Perm L.flatten := by
  intro n
  induction n with
  | zero => intro L; exact List.Perm.refl _
  | succ n ih => intro L; simp only [jo_so]; exact (ih _).trans (jo_pr_perm L)
theorem jo_ms_perm (L : List (List Nat)) : (jo_ms L).Perm L := by
  have h := jo_so_perm 11 (L.map (fun x => [x]))
  have e : (L.map (fun x => [x])).flatten = L := by
    induction L with
    | nil => rfl
    | cons a L ih => simp only [List.map_cons, List.flatten_cons, List.singleton_append]; rw [ih (jo_so_perm 11 _)]
  rw [e] at h
  exact h
theorem jo_ms_eq {A B : List (List Nat)} (h : (jo_ms A == jo_ms B) = true) : A.Perm B := by
  have e : jo_ms A = jo_ms B := eq_of_beq h
  exact ((jo_ms_perm A).symm.trans (e ▸ List.Perm.refl _)).trans (jo_ms_perm B)
end
section
/-! closed checks over the 31 sets -/
set_option maxRecDepth 1000000 in
theorem jo_ck_pl : (List.range 32).all (fun s => s &&& (s - 1) == 0 || jo_pl s == (jo_lefts s 32 ((s - 1) &&& s)).flatMap (fun l => jo_comb (jo_pl l) (jo_pl (s - l)) (l * 32 + (s - l)))) = true := by decide +kernel
set_option maxRecDepth 1000000 in
theorem jo_ck_bd : (List.range 32).all (fun s => !(jo_pl s).isEmpty && (jo_pl s).all (fun p => Nat.ble (jo_cost jo_bz p) 2147483646)) = true := by decide +kernel
theorem jo_ck_lf : (List.range 32).all (fun s => (List.range 32).all (fun l => !(l &&& s == l && Nat.blt 0 l && Nat.blt l s) || ((jo_lefts s 32 ((s - 1) &&& s)).contains l && l ||| (s - l) == s))) = true := by decide +kernel
set_option maxRecDepth 1000000 in
theorem jo_ck_fm : [1, 2, 3, 4, 5].all (fun m => (List.range 512).filter (fun f => Nat.blt f (2 ^ (2 * m - 1)) && jo_isF f (2 * m - 1) 0 0) == jo_fm m) = true := by decide +kernel
set_option maxRecDepth 1000000 in
theorem jo_ck_row : (List.range 32).all (fun s => s == 0 || (List.range (jo_fact (jo_pc s 5))).all (fun o => jo_row (jo_pc s 5) (jo_pc s 5) 0 o (jo_fact (jo_pc s 5)) s == some (jo_rw s o) && (jo_rw s o).length == jo_pc s 5 && (jo_rw s o).all (fun t => Nat.blt t 5))) = true := by decide +kernel
set_option maxRecDepth 1000000 in
theorem jo_ck_cl : (List.range 32).all (fun s => s == 0 || (jo_cm s 6 0).length == jo_fact (jo_pc s 5)) = true := by decide +kernel
set_option maxRecDepth 1000000 in
theorem jo_ck_po : (List.range 32).all (fun s => (List.range (jo_tot s)).all (fun i => (jo_po s i).isSome)) = true := by decide +kernel
set_option maxRecDepth 1000000 in
theorem jo_ck_pm : (List.range 32).all (fun s => s == 0 || jo_ms ((List.range (jo_tot s)).map (jo_pY s)) == jo_ms (jo_pl s)) = true := by decide +kernel
set_option maxRecDepth 1000000 in
theorem jo_ck_li : (List.range 32).all (fun s => (List.range (jo_tot s)).all (fun i => (jo_pY s i).all jo_lin == (i % jo_fc s + 1 == jo_fc s) && (!(i % jo_fc s + 1 == jo_fc s) || jo_pY s i == jo_l0 (jo_rw s (i / jo_fc s))))) = true := by decide +kernel
set_option maxRecDepth 1000000 in
theorem jo_ck_cm : (List.range 32).all (fun s => (List.range 32).all (fun h => !(h &&& s == h) || jo_cm s 6 h == (if h = s then [[]] else (List.range 5).flatMap (fun i => if s.testBit i && !h.testBit i then (jo_cm s 6 (h ||| 2 ^ i)).map (fun r => i :: r) else [])))) = true := by decide +kernel
set_option maxRecDepth 1000000 in
theorem jo_ck_rc : (List.range 32).all (fun s => (List.range 32).all (fun h => !(h &&& s == h) || (!(jo_cm s 6 h).isEmpty && (jo_cm s 6 h).all (fun r => Nat.ble (jo_rc jo_bz h r) 2147483646)))) = true := by decide +kernel
/-! what they say -/
theorem jo_all32 {f : Nat → Bool} (h : (List.range 32).all f = true) {s : Nat} (hs : s < 32) : f s = true :=
  List.all_eq_true.mp h s (List.mem_range.mpr hs)
theorem jo_allN {f : Nat → Bool} {n : Nat} (h : (List.range n).all f = true) {s : Nat} (hs : s < n) : f s = true :=
  List.all_eq_true.mp h s (List.mem_range.mpr hs)
theorem jo_pl_1 {s : Nat} (h : s &&& (s - 1) = 0) : jo_pl s = [[]] := by
  unfold jo_pl jo_P
  rw [if_pos h]
theorem jo_pl_eq {s : Nat} (hs : s < 32) (h : ¬ s &&& (s - 1) = 0) : jo_pl s = (jo_lefts s 32 ((s - 1) &&& s)).flatMap (fun l => jo_comb (jo_pl l) (jo_pl (s - l)) (l * 32 + (s - l))) := by
  have c := jo_all32 jo_ck_pl hs
  rw [Bool.or_eq_true, beq_iff_eq] at c
  rcases c with c | c
  · exact absurd c h
  · exact eq_of_beq c
theorem jo_pl_ne {s : Nat} (hs : s < 32) : jo_pl s ≠ [] := by
  have c := jo_all32 jo_ck_bd hs
  rw [Bool.and_eq_true] at c
  intro e
  rw [e] at c
  exact absurd c.1 (by decide)
theorem jo_pl_bd {sz : Nat → Nat} (hz : ∀ t, sz t ≤ jo_bz t) {s : Nat} (hs : s < 32) {p : List Nat} (hp : p ∈ jo_pl s) : jo_cost sz p ≤ 2147483646 := by
  have c := jo_all32 jo_ck_bd hs
  rw [Bool.and_eq_true] at c
  have c2 := List.all_eq_true.mp c.2 p hp
  exact Nat.le_trans (jo_cost_mono hz p) (Nat.le_of_ble_eq_true c2)
theorem jo_lefts_ok {s l : Nat} (hs : s < 32) (h1 : l &&& s = l) (h2 : 0 < l) (h3 : l < s) : l ∈ jo_lefts s 32 ((s - 1) &&& s) ∧ l ||| (s - l) = s := by
  have c := jo_allN (jo_all32 jo_ck_lf hs) (show l < 32 by omega)
  have a : (l &&& s == l && Nat.blt 0 l && Nat.blt l s) = true := by
    rw [Bool.and_eq_true, Bool.and_eq_true, beq_iff_eq]
    exact ⟨⟨h1, Nat.ble_eq_true_of_le h2⟩, Nat.ble_eq_true_of_le h3⟩
  rw [a, Bool.not_true, Bool.false_or, Bool.and_eq_true, beq_iff_eq, List.contains_iff_mem] at c
  exact c
theorem jo_pc_le (s : Nat) : ∀ n, jo_pc s n ≤ n
  | 0 => Nat.le_refl _
  | n + 1 => by
    have := jo_pc_le s n
    simp only [jo_pc]
    split <;> omega
theorem jo_ck_pc : (List.range 32).all (fun s => s == 0 || Nat.blt 0 (jo_pc s 5)) = true := by decide +kernel
theorem jo_pc_pos {s : Nat} (h0 : 0 < s) (hs : s < 32) : 0 < jo_pc s 5 := by
  have c := jo_all32 jo_ck_pc hs
  rw [Bool.or_eq_true, beq_iff_eq] at c
  rcases c with c | c
  · omega
  · exact Nat.le_of_ble_eq_true c
theorem jo_fm_ok {m : Nat} (h0 : 0 < m) (h5 : m ≤ 5) : (List.range 512).filter (fun f => Nat.blt f (2 ^ (2 * m - 1)) && jo_isF f (2 * m - 1) 0 0) = jo_fm m := by
  have hm : m ∈ [1, 2, 3, 4, 5] := by
    have : m = 1 ∨ m = 2 ∨ m = 3 ∨ m = 4 ∨ m = 5 := by omega
    rcases this with rfl | rfl | rfl | rfl | rfl <;> decide
  exact eq_of_beq (List.all_eq_true.mp jo_ck_fm m hm)
theorem jo_row_ok {s o : Nat} (h0 : 0 < s) (hs : s < 32) (ho : o < jo_fact (jo_pc s 5)) :
    jo_row (jo_pc s 5) (jo_pc s 5) 0 o (jo_fact (jo_pc s 5)) s = some (jo_rw s o) ∧ (jo_rw s o).length = jo_pc s 5 ∧ ∀ t, t ∈ jo_rw s o → t < 5 := by
  have c := jo_all32 jo_ck_row hs
  rw [Bool.or_eq_true, beq_iff_eq] at c
  rcases c with c | c
  · omega
  · have c2 := jo_allN c ho
    rw [Bool.and_eq_true, Bool.and_eq_true, beq_iff_eq, beq_iff_eq, List.all_eq_true] at c2
    exact ⟨c2.1.1, c2.1.2, fun t ht => Nat.le_of_ble_eq_true (c2.2 t ht)⟩
theorem jo_cl_ok {s : Nat} (h0 : 0 < s) (hs : s < 32) : (jo_cm s 6 0).length = jo_fact (jo_pc s 5) := by
  have c := jo_all32 jo_ck_cl hs
  rw [Bool.or_eq_true, beq_iff_eq, beq_iff_eq] at c
  rcases c with c | c
  · omega
  · exact c
theorem jo_po_ok {s i : Nat} (hs : s < 32) (hi : i < jo_tot s) : jo_po s i = some (jo_pY s i) := by
  have c := jo_allN (jo_all32 jo_ck_po hs) hi
  unfold jo_pY
  obtain ⟨p, e⟩ := Option.isSome_iff_exists.mp c
  rw [e]; rfl
theorem jo_pm_ok {s : Nat} (h0 : 0 < s) (hs : s < 32) : ((List.range (jo_tot s)).map (jo_pY s)).Perm (jo_pl s) := by
  have c := jo_all32 jo_ck_pm hs
  rw [Bool.or_eq_true, beq_iff_eq] at c
  rcases c with c | c
  · omega
  · exact jo_ms_eq c
theorem jo_li_ok {s i : Nat} (hs : s < 32) (hi : i < jo_tot s) : ((jo_pY s i).all jo_lin = (i % jo_fc s + 1 == jo_fc s)) ∧ (i % jo_fc s + 1 = jo_fc s → jo_pY s i = jo_l0 (jo_rw s (i / jo_fc s))) := by
  have c := jo_allN (jo_all32 jo_ck_li hs) hi
  rw [Bool.and_eq_true, beq_iff_eq, Bool.or_eq_true] at c
  refine ⟨c.1, fun e => ?_⟩
  rcases c.2 with c2 | c2
  · rw [beq_iff_eq.mpr e] at c2
    exact absurd c2 (by decide)
  · exact eq_of_beq c2
theorem jo_cm_eq {s h : Nat} (hs : s < 32) (hh : h < 32) (hm : h &&& s = h) : jo_cm s 6 h = (if h = s then [[]] else (List.range 5).flatMap (fun i => if s.testBit i && !h.testBit i then (jo_cm s 6 (h ||| 2 ^ i)).map (fun r => i :: r) else [])) := by
  have c := jo_allN (jo_all32 jo_ck_cm hs) hh
  rw [beq_iff_eq.mpr hm, Bool.not_true, Bool.false_or] at c
  exact eq_of_beq c
theorem jo_rc_mono {sz bz : Nat → Nat} (hz : ∀ t, sz t ≤ bz t) : ∀ (r : List Nat) (h : Nat), jo_rc sz h r ≤ jo_rc bz h r
  | [], _ => Nat.le_refl _
  | t :: r, h => by
    have a := jo_rc_mono hz r (h ||| 2 ^ t)
    have b := hz (h ||| 2 ^ t)
    simp only [jo_rc]
    split <;> omega
theorem jo_cm_ne {s h : Nat} (hs : s < 32) (hh : h < 32) (hm : h &&& s = h) : jo_cm s 6 h ≠ [] := by
  have c := jo_allN (jo_all32 jo_ck_rc hs) hh
  rw [beq_iff_eq.mpr hm, Bool.not_true, Bool.false_or, Bool.and_eq_true] at c
  intro e
  rw [e] at c
  exact absurd c.1 (by decide)
theorem jo_cm_bd {sz : Nat → Nat} (hz : ∀ t, sz t ≤ jo_bz t) {s h : Nat} (hs : s < 32) (hh : h < 32) (hm : h &&& s = h) {r : List Nat} (hr : r ∈ jo_cm s 6 h) : jo_rc sz h r ≤ 2147483646 := by
  have c := jo_allN (jo_all32 jo_ck_rc hs) hh
  rw [beq_iff_eq.mpr hm, Bool.not_true, Bool.false_or, Bool.and_eq_true] at c
  exact Nat.le_trans (jo_rc_mono hz r h) (Nat.le_of_ble_eq_true (List.all_eq_true.mp c.2 r hr))
end
section
/-! numbers as ints: bits, shifts, sums -/
theorem jo_or (a b : Nat) : nI a ||| nI b = nI (a ||| b) := by
  apply Int32.toBitVec_inj.1
  show BitVec.ofNat 32 a ||| BitVec.ofNat 32 b = BitVec.ofNat 32 (a ||| b)
  apply BitVec.eq_of_getLsbD_eq
  intro i hi
  simp [hi]
theorem jo_shl1 {t : Nat} (ht : t < 31) : (1 : Int32) <<< (nI t &&& 31) = nI (2 ^ t) := by
  have h := pk_shlN (n := 1) (nI t &&& 31) t (s_l t (by omega)) (by
    rw [Nat.one_mul]; exact Nat.pow_lt_pow_right (by decide) (by omega))
  rw [Nat.one_mul] at h
  exact h
theorem jo_bitv {n i : Nat} (hn : n < 2 ^ 31) (hi : i < 32) : ((nI n >>> (nI i &&& 31)) &&& 1) = nI (n / 2 ^ i % 2) := by
  rw [pk_shrN hn _ i (s_l i hi), pk_andN (Nat.lt_of_le_of_lt (Nat.div_le_self _ _) (by omega)) 1 (by decide)]
theorem jo_bit1 {n i : Nat} (hn : n < 2 ^ 31) (hi : i < 32) (h : n.testBit i = true) : ((nI n >>> (nI i &&& 31)) &&& 1) = 1 := by
  rw [jo_bitv hn hi]
  rw [Nat.testBit_eq_decide_div_mod_eq, decide_eq_true_eq] at h
  rw [h]; rfl
theorem jo_bit0 {n i : Nat} (hn : n < 2 ^ 31) (hi : i < 32) (h : n.testBit i = false) : ((nI n >>> (nI i &&& 31)) &&& 1) = 0 := by
  rw [jo_bitv hn hi]
  rw [Nat.testBit_eq_decide_div_mod_eq, decide_eq_false_iff_not] at h
  have e : n / 2 ^ i % 2 = 0 := by omega
  rw [e]; rfl
theorem jo_bitn {n i : Nat} (hn : n < 2 ^ 31) (hi : i < 32) (h : n.testBit i = false) : ¬ ((nI n >>> (nI i &&& 31)) &&& 1) = 1 := by
  rw [jo_bit0 hn hi h]; decide
theorem jo_ix (i j : Nat) : nI i * 5 + nI j = nI (i * 5 + j) := by
  rw [show (5 : Int32) = nI 5 from rfl, pk_mul, nI_add]
theorem jo_iy (i j : Nat) : 5 * nI i + nI j = nI (i * 5 + j) := by
  rw [show (5 : Int32) = nI 5 from rfl, pk_mul, nI_add, Nat.mul_comm]
theorem jo_oi_n (b : Nat) : nI b = Int32.ofInt (b : Int) := Int32.ofInt_eq_ofNat.symm
theorem jo_oi_add (a : Int) (b : Nat) : Int32.ofInt a + nI b = Int32.ofInt (a + b) := by rw [jo_oi_n, Int32.ofInt_add]
theorem jo_oi_sub (a : Int) (b : Nat) : Int32.ofInt a - nI b = Int32.ofInt (a - b) := by rw [jo_oi_n, Int32.ofInt_sub]
theorem jo_oi_0 : Int32.ofInt 0 = 0 := by decide
/-! a set's size -/
def jo_in (ds : Nat → Nat) (s i : Nat) : Nat → Nat
  | 0 => 0
  | j + 1 => jo_in ds s i j + (if s.testBit j then ds (i * 5 + j) else 0)
def jo_S (dp ds : Nat → Nat) (s : Nat) : Nat → Int
  | 0 => 0
  | i + 1 => if s.testBit i then jo_S dp ds s i + (dp i : Int) - (jo_in ds s i i : Int) else jo_S dp ds s i
def jo_sz (dp ds : Nat → Nat) (s : Nat) : Nat := if jo_S dp ds s 5 < 0 then 1 else 2 ^ (jo_S dp ds s 5).toNat
theorem jo_in_le {ds : Nat → Nat} (h : ∀ e, e < 25 → ds e ≤ 6) (s : Nat) {i : Nat} (hi : i < 5) : ∀ j, j ≤ i → jo_in ds s i j ≤ 6 * j
  | 0, _ => Nat.le_refl _
  | j + 1, hj => by
    have := jo_in_le h s hi j (by omega)
    have := h (i * 5 + j) (by omega)
    simp only [jo_in]
    split <;> omega
theorem jo_S_le {dp ds : Nat → Nat} (h : ∀ i, i < 5 → dp i ≤ 6) (s : Nat) : ∀ n, n ≤ 5 → jo_S dp ds s n ≤ 6 * (jo_pc s n : Int)
  | 0, _ => by simp [jo_S, jo_pc]
  | n + 1, hn => by
    have := jo_S_le (ds := ds) h s n (by omega)
    have := h n (by omega)
    simp only [jo_S, jo_pc]
    split <;> omega
theorem jo_S_ge {dp ds : Nat → Nat} (h : ∀ e, e < 25 → ds e ≤ 6) (s : Nat) : ∀ n : Nat, n ≤ 5 → -(30 * (n : Int)) ≤ jo_S dp ds s n
  | 0, _ => by simp [jo_S]
  | n + 1, hn => by
    have := jo_S_ge (dp := dp) h s n (by omega)
    have := jo_in_le h s (show n < 5 by omega) n (by omega)
    simp only [jo_S]
    split <;> omega
theorem jo_S_30 {dp ds : Nat → Nat} (h : ∀ i, i < 5 → dp i ≤ 6) (s : Nat) : jo_S dp ds s 5 ≤ 30 := by
  have := jo_S_le (ds := ds) h s 5 (by omega)
  have := jo_pc_le s 5
  omega
theorem jo_sz_le {dp ds : Nat → Nat} (h : ∀ i, i < 5 → dp i ≤ 6) (s : Nat) : jo_sz dp ds s ≤ jo_bz s := by
  unfold jo_sz jo_bz
  split
  · exact Nat.pow_pos (by decide)
  · have a := jo_S_le (ds := ds) h s 5 (by omega)
    have e : (64 : Nat) ^ jo_pc s 5 = 2 ^ (6 * jo_pc s 5) := by rw [Nat.pow_mul]
    rw [e]
    exact Nat.pow_le_pow_right (by decide) (by omega)
theorem jo_sz_30 {dp ds : Nat → Nat} (h : ∀ i, i < 5 → dp i ≤ 6) (s : Nat) : jo_sz dp ds s < 2 ^ 31 := by
  unfold jo_sz
  split
  · decide
  · have := jo_S_30 (ds := ds) h s
    exact Nat.pow_lt_pow_right (by decide) (by omega)
/-- what both sizeOf answer -/
theorem jo_sz_end {dp ds : Nat → Nat} (h : ∀ i, i < 5 → dp i ≤ 6) (h6 : ∀ e, e < 25 → ds e ≤ 6) (s : Nat) {post : Int32 → Prop} (K : post (nI (jo_sz dp ds s))) :
    (0 ≤ Int32.ofInt (jo_S dp ds s 5) → post ((1 : Int32) <<< (Int32.ofInt (jo_S dp ds s 5) &&& 31))) ∧ (¬ 0 ≤ Int32.ofInt (jo_S dp ds s 5) → post 1) := by
  have a := jo_S_30 (ds := ds) h s
  have b := jo_S_ge (dp := dp) h6 s 5 (by omega)
  have t : (Int32.ofInt (jo_S dp ds s 5)).toInt = jo_S dp ds s 5 := Int32.toInt_ofInt_of_le (by omega) (by omega)
  unfold jo_sz at K
  by_cases c : jo_S dp ds s 5 < 0
  · rw [if_pos c] at K
    refine br_f ?_ K
    rw [Int32.le_iff_toInt_le, t]
    show ¬ (0 : Int) ≤ _
    omega
  · rw [if_neg c] at K
    have c2 : (0 : Int32) ≤ Int32.ofInt (jo_S dp ds s 5) := by
      rw [Int32.le_iff_toInt_le, t]
      show (0 : Int) ≤ _
      omega
    refine br_t c2 ?_
    have e : Int32.ofInt (jo_S dp ds s 5) = nI (jo_S dp ds s 5).toNat := by
      rw [jo_oi_n]; congr 1; omega
    rw [e, jo_shl1 (by omega)]
    exact K
/-! which tables are linked -/
def jo_lc (dh : Nat → Bool) (a b e : Nat) : Bool := dh e && (a.testBit (e / 5) && b.testBit (e % 5))
def jo_lkF (dh : Nat → Bool) (a b : Nat) : Nat → Nat → Bool
  | 0, _ => false
  | d + 1, e => jo_lc dh a b e || jo_lkF dh a b d (e + 1)
def jo_lk (dh : Nat → Bool) (a b : Nat) : Bool := jo_lkF dh a b 25 0
theorem jo_lkF_iff (dh : Nat → Bool) (a b : Nat) : ∀ d e, jo_lkF dh a b d e = true ↔ ∃ k, e ≤ k ∧ k < e + d ∧ jo_lc dh a b k = true
  | 0, e => ⟨fun h => absurd h (by simp [jo_lkF]), fun ⟨k, h1, h2, _⟩ => absurd h2 (by omega)⟩
  | d + 1, e => by
    simp only [jo_lkF, Bool.or_eq_true, jo_lkF_iff dh a b d (e + 1)]
    constructor
    · rintro (h | ⟨k, h1, h2, h3⟩)
      · exact ⟨e, by omega, by omega, h⟩
      · exact ⟨k, by omega, by omega, h3⟩
    · rintro ⟨k, h1, h2, h3⟩
      by_cases z : k = e
      · subst z; exact Or.inl h3
      · exact Or.inr ⟨k, by omega, by omega, h3⟩
theorem jo_lk_iff (dh : Nat → Bool) (a b : Nat) : jo_lk dh a b = true ↔ ∃ k, k < 25 ∧ jo_lc dh a b k = true := by
  unfold jo_lk
  rw [jo_lkF_iff]
  exact ⟨fun ⟨k, _, h2, h3⟩ => ⟨k, by omega, h3⟩, fun ⟨k, h2, h3⟩ => ⟨k, by omega, by omega, h3⟩⟩
def jo_lw (dh : Nat → Bool) (a : Nat) : Nat → Nat
  | 0 => 0
  | e + 1 => if a.testBit (e / 5) && dh e then jo_lw dh a e ||| 2 ^ (e % 5) else jo_lw dh a e
theorem jo_p32 {t : Nat} (h : t < 5) : 2 ^ t < 32 := Nat.pow_lt_pow_right (a := 2) (n := 5) (by decide) h
theorem jo_o32 {a b : Nat} (ha : a < 32) (hb : b < 32) : a ||| b < 32 := Nat.or_lt_two_pow (n := 5) ha hb
theorem jo_a32 {a b : Nat} (hb : b < 32) : a &&& b < 32 := Nat.and_lt_two_pow (n := 5) a hb
theorem jo_lw_lt (dh : Nat → Bool) (a : Nat) : ∀ n, jo_lw dh a n < 32
  | 0 => by simp [jo_lw]
  | n + 1 => by
    have := jo_lw_lt dh a n
    simp only [jo_lw]
    split
    · exact jo_o32 this (jo_p32 (Nat.mod_lt _ (by decide)))
    · exact this
theorem jo_lw_bit (dh : Nat → Bool) (a j : Nat) : ∀ n, (jo_lw dh a n).testBit j = true ↔ ∃ e, e < n ∧ e % 5 = j ∧ a.testBit (e / 5) = true ∧ dh e = true
  | 0 => by simp [jo_lw]
  | n + 1 => by
    have ih := jo_lw_bit dh a j n
    simp only [jo_lw]
    by_cases c : (a.testBit (n / 5) && dh n) = true
    · rw [if_pos c, Nat.testBit_or, Bool.or_eq_true, ih, Nat.testBit_two_pow, decide_eq_true_eq]
      rw [Bool.and_eq_true] at c
      constructor
      · rintro (⟨e, h1, h2⟩ | h)
        · exact ⟨e, by omega, h2⟩
        · exact ⟨n, by omega, h, c⟩
      · rintro ⟨e, h1, h2, h3⟩
        by_cases z : e = n
        · subst z; exact Or.inr h2
        · exact Or.inl ⟨e, by omega, h2, h3⟩
    · rw [if_neg c, ih]
      rw [Bool.and_eq_true] at c
      constructor
      · rintro ⟨e, h1, h2⟩
        exact ⟨e, by omega, h2⟩
      · rintro ⟨e, h1, h2, h3⟩
        by_cases z : e = n
        · subst z; exact absurd h3 c
        · exact ⟨e, by omega, h2, h3⟩
theorem jo_lw_and (dh : Nat → Bool) (a b : Nat) : jo_lw dh a 25 &&& b = 0 ↔ jo_lk dh a b = false := by
  constructor
  · intro h
    rw [← Bool.not_eq_true, jo_lk_iff]
    rintro ⟨k, hk, hc⟩
    simp only [jo_lc, Bool.and_eq_true] at hc
    have h1 : (jo_lw dh a 25 &&& b).testBit (k % 5) = true := by
      rw [Nat.testBit_and, Bool.and_eq_true]
      exact ⟨(jo_lw_bit dh a (k % 5) 25).mpr ⟨k, hk, rfl, hc.2.1, hc.1⟩, hc.2.2⟩
    rw [h, Nat.zero_testBit] at h1
    exact absurd h1 (by decide)
  · intro h
    apply Nat.eq_of_testBit_eq
    intro j
    rw [Nat.zero_testBit, ← Bool.not_eq_true, Nat.testBit_and, Bool.and_eq_true, jo_lw_bit]
    rintro ⟨⟨e, h1, h2, h3, h4⟩, h5⟩
    rw [← Bool.not_eq_true, jo_lk_iff] at h
    apply h
    refine ⟨e, h1, ?_⟩
    simp only [jo_lc, Bool.and_eq_true]
    exact ⟨h4, h3, by rw [h2]; exact h5⟩
/-! what the arrays hold -/
def jo_dd (dp ds : Nat → Nat) (dh : Nat → Bool) : Prop :=
  (∀ i, i < 5 → dp i ≤ 6) ∧ (∀ e, e < 25 → ds e ≤ 6) ∧ (∀ e, e < 25 → dh e = false → ds e = 0) ∧ (∀ i, i < 5 → ∀ j, j < 5 → dh (i * 5 + j) = dh (j * 5 + i))
def jo_dX (dp ds : Nat → Nat) (dh : Nat → Bool) (pw st hf : Nat → Int32) : Prop :=
  (∀ i, i < 5 → pw i = nI (dp i)) ∧ (∀ e, e < 25 → st e = nI (ds e)) ∧ (∀ e, e < 25 → hf e = if dh e then 1 else 0)
def jo_dY (dp ds : Nat → Nat) (dh : Nat → Bool) (tb fl : Nat → Int32) : Prop :=
  (∀ i, i < 5 → tb i = nI (dp i)) ∧ (∀ e, e < 25 → fl e = if dh e then nI (ds e) else -1)
def jo_b (b : Bool) : Int32 := if b then 1 else 0
end
section
/-! the small methods: sizeOf, linkedWith of the component; has, sizeOf, isLinked, count, isForm of the reference -/
section
variable {f_filled : Int32} {a_power a_strength a_hasFilter a_sizes a_best a_leftOf a_ties a_line a_joined a_dear a_many a_manyLinked a_ahead : Nat → Int32}
theorem jo_xs30 {post : Int32 → Prop} {J : Int32 → Int32 → Prop} {ds : Nat → Nat} {s i : Nat} (hs : s < 32) (hi : i < 5) (hst : ∀ e, e < 25 → a_strength e = nI (ds e)) (v : Int)
    (K : J (Int32.ofInt (v - (jo_in ds s i i : Int))) (nI (i + 1))) :
    ∀ d j, j + d = i → wX_sizeOf_30 post J (nI s) (nI i) f_filled a_power a_strength a_hasFilter a_sizes a_best a_leftOf a_ties a_line a_joined a_dear a_many a_manyLinked a_ahead (d + 1) (Int32.ofInt (v - (jo_in ds s i j : Int))) (nI j) := by
  intro d
  induction d with
  | zero =>
    intro j hj
    obtain rfl : j = i := by omega
    exact br_t (Int32.le_refl _) (nm_r (nI_1 j) K)
  | succ d ih =>
    intro j hj
    have hk : i * 5 + j < 25 := by omega
    refine br_f (nI_ge (by omega) (by omega)) ⟨?_, nm_r (e' := Int32.ofInt (v - (jo_in ds s i (j + 1) : Int))) ?_ (nm_r (nI_1 j) (ih (j + 1) (by omega)))⟩
    · rw [jo_ix]; exact vp_in_nI hk (by omega)
    · rw [jo_ix, nI_clamp (by omega), hst _ hk]
      simp only [jo_in]
      by_cases c : s.testBit j = true
      · rw [jo_bit1 (by omega) (by omega) c, if_pos c, Int32.one_mul, jo_oi_sub]
        congr 1; omega
      · rw [jo_bit0 (by omega) (by omega) (jo_nt c), if_neg c, Int32.zero_mul, Int32.sub_zero]
        rfl
theorem jo_xs4 {post : Int32 → Prop} {dp ds : Nat → Nat} {s : Nat} (hs : s < 32) (hpw : ∀ i, i < 5 → a_power i = nI (dp i)) (hst : ∀ e, e < 25 → a_strength e = nI (ds e))
    (h : ∀ i, i < 5 → dp i ≤ 6) (h6 : ∀ e, e < 25 → ds e ≤ 6) (K : post (nI (jo_sz dp ds s))) :
    ∀ d i, i + d = 5 → wX_sizeOf_4 post (nI s) f_filled a_power a_strength a_hasFilter a_sizes a_best a_leftOf a_ties a_line a_joined a_dear a_many a_manyLinked a_ahead (d + 1) (Int32.ofInt (jo_S dp ds s i)) (nI i) := by
  intro d
  induction d with
  | zero =>
    intro i hi
    obtain rfl : i = 5 := by omega
    exact br_t (Int32.le_refl _) (jo_sz_end h h6 s K)
  | succ d ih =>
    intro i hi
    have ih' := ih (i + 1) (by omega)
    refine br_f (lt5' i (by omega)) ?_
    by_cases c : s.testBit i = true
    · refine br_t (jo_bit1 (by omega) (by omega) c) ⟨vp_in_nI (by omega) (by omega), nm_r (e' := Int32.ofInt (jo_S dp ds s i + (dp i : Int) - (jo_in ds s i 0 : Int))) ?_ ⟨i + 1, ?_⟩⟩
      · rw [nI_clamp (by omega), hpw i (by omega), jo_oi_add]
        simp only [jo_in]
        congr 1; omega
      · refine jo_xs30 hs (by omega) hst _ ?_ i 0 (by omega)
        simp only [jo_S] at ih'
        rw [if_pos c] at ih'
        exact ih'
    · refine br_f (jo_bitn (by omega) (by omega) (jo_nt c)) (nm_r (nI_1 i) ?_)
      simp only [jo_S] at ih'
      rw [if_neg c] at ih'
      exact ih'
theorem jo_xsize {post : Int32 → Prop} {dp ds : Nat → Nat} {dh : Nat → Bool} {s : Nat} (hs : s < 32) (D : jo_dd dp ds dh) (DX : jo_dX dp ds dh a_power a_strength a_hasFilter)
    (K : post (nI (jo_sz dp ds s))) : wpX_sizeOf post (f_filled, a_power, a_strength, a_hasFilter, a_sizes, a_best, a_leftOf, a_ties, a_line, a_joined, a_dear, a_many, a_manyLinked, a_ahead) (nI s) :=
  ⟨6, by
    have h := jo_xs4 (post := post) (f_filled := f_filled) (a_power := a_power) (a_strength := a_strength) (a_hasFilter := a_hasFilter) (a_sizes := a_sizes) (a_best := a_best) (a_leftOf := a_leftOf) (a_ties := a_ties) (a_line := a_line) (a_joined := a_joined) (a_dear := a_dear) (a_many := a_many) (a_manyLinked := a_manyLinked) (a_ahead := a_ahead) hs DX.1 DX.2.1 D.1 D.2.1 K 5 0 rfl
    simp only [jo_S] at h
    rw [jo_oi_0] at h
    exact h⟩
theorem jo_xl12 {post : Int32 → Prop} {J : Int32 → Int32 → Prop} {dh : Nat → Bool} {s i : Nat} (hs : s < 32) (hi : i < 5) (hhf : ∀ e, e < 25 → a_hasFilter e = if dh e then 1 else 0)
    (K : J (nI (jo_lw dh s (i * 5 + 5))) (nI (i + 1))) :
    ∀ d j, j + d = 5 → wX_linkedWith_12 post J (nI s) (nI i) f_filled a_power a_strength a_hasFilter a_sizes a_best a_leftOf a_ties a_line a_joined a_dear a_many a_manyLinked a_ahead (d + 1) (nI (jo_lw dh s (i * 5 + j))) (nI j) := by
  intro d
  induction d with
  | zero =>
    intro j hj
    obtain rfl : j = 5 := by omega
    exact br_t (Int32.le_refl _) (nm_r (nI_1 i) K)
  | succ d ih =>
    intro j hj
    have hk : i * 5 + j < 25 := by omega
    have ih' := ih (j + 1) (by omega)
    have e1 : (i * 5 + j) / 5 = i := by omega
    have e2 : (i * 5 + j) % 5 = j := by omega
    have e3 : jo_lw dh s (i * 5 + (j + 1)) = if s.testBit i && dh (i * 5 + j) then jo_lw dh s (i * 5 + j) ||| 2 ^ j else jo_lw dh s (i * 5 + j) := by
      show jo_lw dh s (i * 5 + j + 1) = _
      simp only [jo_lw, e1, e2]
    rw [e3] at ih'
    refine br_f (lt5' j (by omega)) ?_
    by_cases c : s.testBit i = true
    · refine br_t (jo_bit1 (by omega) (by omega) c) ⟨?_, ?_⟩
      · rw [jo_ix]; exact vp_in_nI hk (by omega)
      · rw [jo_ix, nI_clamp (by omega), hhf _ hk]
        rw [c, Bool.true_and] at ih'
        by_cases g : dh (i * 5 + j) = true
        · rw [if_pos g] at ih' ⊢
          refine br_f (by decide) (nm_r (e' := nI (jo_lw dh s (i * 5 + j) ||| 2 ^ j)) ?_ (nm_r (nI_1 j) ih'))
          rw [jo_shl1 (by omega), jo_or]
        · rw [if_neg g] at ih' ⊢
          exact br_t rfl (nm_r (nI_1 j) ih')
    · refine br_f (jo_bitn (by omega) (by omega) (jo_nt c)) (nm_r (nI_1 j) ?_)
      rw [jo_nt c, Bool.false_and] at ih'
      exact ih'
theorem jo_xl4 {post : Int32 → Prop} {dh : Nat → Bool} {s : Nat} (hs : s < 32) (hhf : ∀ e, e < 25 → a_hasFilter e = if dh e then 1 else 0)
    (K : post (nI (jo_lw dh s 25))) :
    ∀ d i, i + d = 5 → wX_linkedWith_4 post (nI s) f_filled a_power a_strength a_hasFilter a_sizes a_best a_leftOf a_ties a_line a_joined a_dear a_many a_manyLinked a_ahead (d + 1) (nI (jo_lw dh s (i * 5))) (nI i) := by
  intro d
  induction d with
  | zero =>
    intro i hi
    obtain rfl : i = 5 := by omega
    exact br_t (Int32.le_refl _) K
  | succ d ih =>
    intro i hi
    have ih' := ih (i + 1) (by omega)
    have e : (i + 1) * 5 = i * 5 + 5 := by omega
    rw [e] at ih'
    exact br_f (lt5' i (by omega)) ⟨6, jo_xl12 hs (by omega) hhf ih' 5 0 rfl⟩
theorem jo_xlinked {post : Int32 → Prop} {dp ds : Nat → Nat} {dh : Nat → Bool} {s : Nat} (hs : s < 32) (DX : jo_dX dp ds dh a_power a_strength a_hasFilter)
    (K : post (nI (jo_lw dh s 25))) : wpX_linkedWith post (f_filled, a_power, a_strength, a_hasFilter, a_sizes, a_best, a_leftOf, a_ties, a_line, a_joined, a_dear, a_many, a_manyLinked, a_ahead) (nI s) :=
  ⟨6, jo_xl4 hs DX.2.2 K 5 0 rfl⟩
end
section
variable {f_formCount f_cost f_leftSet f_linked f_linear : Int32} {a_tables a_filters a_sizes a_forms a_row a_stack : Nat → Int32}
theorem jo_yhas {post : Int32 → Prop} {u : SY} {n i : Nat} (hn : n < 2 ^ 31) (hi : i < 32) (K : post (if n.testBit i then 1 else 0)) : wpY_has post u (nI n) (nI i) := by
  obtain ⟨f_formCount, f_cost, f_leftSet, f_linked, f_linear, a_tables, a_filters, a_sizes, a_forms, a_row, a_stack⟩ := u
  by_cases c : n.testBit i = true
  · rw [if_pos c] at K
    exact br_t (jo_bit1 hn hi c) K
  · rw [if_neg c] at K
    exact br_f (jo_bitn hn hi (jo_nt c)) K
theorem jo_yhas1 {post : Int32 → Prop} {u : SY} {n i : Nat} (hn : n < 2 ^ 31) (hi : i < 32) (c : n.testBit i = true) (K : post 1) : wpY_has post u (nI n) (nI i) :=
  jo_yhas hn hi (by rw [if_pos c]; exact K)
theorem jo_yhas0 {post : Int32 → Prop} {u : SY} {n i : Nat} (hn : n < 2 ^ 31) (hi : i < 32) (c : n.testBit i = false) (K : post 0) : wpY_has post u (nI n) (nI i) :=
  jo_yhas hn hi (by rw [c]; exact K)
theorem jo_ys34 {post : Int32 → Prop} {J : Int32 → Int32 → Prop} {dp ds : Nat → Nat} {dh : Nat → Bool} {s i : Nat} (hs : s < 32) (hi : i < 5) (D : jo_dd dp ds dh) (hfl : ∀ e, e < 25 → a_filters e = if dh e then nI (ds e) else -1) (c : s.testBit i = true) (v : Int)
    (K : J (Int32.ofInt (v - (jo_in ds s i i : Int))) (nI (i + 1))) :
    ∀ d j, j + d = i → wY_sizeOf_34 post J (nI s) (nI i) f_formCount f_cost f_leftSet f_linked f_linear a_tables a_filters a_sizes a_forms a_row a_stack (d + 1) (Int32.ofInt (v - (jo_in ds s i j : Int))) (nI j) := by
  intro d
  induction d with
  | zero =>
    intro j hj
    obtain rfl : j = i := by omega
    exact br_t (Int32.le_refl _) (nm_r (nI_1 j) K)
  | succ d ih =>
    intro j hj
    have hk : i * 5 + j < 25 := by omega
    have ih' := ih (j + 1) (by omega)
    simp only [jo_in] at ih'
    refine br_f (nI_ge (by omega) (by omega)) (jo_yhas1 (by omega) (by omega) c (br_f (by decide) ?_))
    by_cases g : s.testBit j = true
    · rw [if_pos g] at ih'
      refine jo_yhas1 (by omega) (by omega) g (br_f (by decide) ⟨?_, ?_⟩)
      · rw [jo_iy]; exact vp_in_nI hk (by omega)
      · rw [jo_iy, nI_clamp (by omega), hfl _ hk]
        have h6 := D.2.1 _ hk
        by_cases t : dh (i * 5 + j) = true
        · rw [if_pos t]
          by_cases z : ds (i * 5 + j) = 0
          · rw [z] at ih' ⊢
            exact br_t (by decide) (nm_r (nI_1 j) ih')
          · refine br_f (nI_nle (by omega) (by omega)) ⟨vp_in_nI hk (by omega), nm_r (e' := Int32.ofInt (v - ((jo_in ds s i j + ds (i * 5 + j) : Nat) : Int))) ?_ (nm_r (nI_1 j) ih')⟩
            rw [jo_oi_sub]
            congr 1; omega
        · rw [if_neg t]
          rw [D.2.2.1 _ hk (jo_nt t)] at ih'
          exact br_t (by decide) (nm_r (nI_1 j) ih')
    · rw [if_neg g] at ih'
      exact jo_yhas0 (by omega) (by omega) (jo_nt g) (br_t rfl (nm_r (nI_1 j) ih'))
theorem jo_ys34' {post : Int32 → Prop} {J : Int32 → Int32 → Prop} {s i : Nat} (hs : s < 32) (hi : i < 5) (c : s.testBit i = false) {x : Int32}
    (K : J x (nI (i + 1))) : ∀ d j, j + d = i → wY_sizeOf_34 post J (nI s) (nI i) f_formCount f_cost f_leftSet f_linked f_linear a_tables a_filters a_sizes a_forms a_row a_stack (d + 1) x (nI j) := by
  intro d
  induction d with
  | zero =>
    intro j hj
    obtain rfl : j = i := by omega
    exact br_t (Int32.le_refl _) (nm_r (nI_1 j) K)
  | succ d ih =>
    intro j hj
    exact br_f (nI_ge (by omega) (by omega)) (jo_yhas0 (by omega) (by omega) c (br_t rfl (nm_r (nI_1 j) (ih (j + 1) (by omega)))))
theorem jo_ys4 {post : Int32 → Prop} {dp ds : Nat → Nat} {dh : Nat → Bool} {s : Nat} (hs : s < 32) (D : jo_dd dp ds dh) (DY : jo_dY dp ds dh a_tables a_filters)
    (K : post (nI (jo_sz dp ds s))) :
    ∀ d i, i + d = 5 → wY_sizeOf_4 post (nI s) f_formCount f_cost f_leftSet f_linked f_linear a_tables a_filters a_sizes a_forms a_row a_stack (d + 1) (Int32.ofInt (jo_S dp ds s i)) (nI i) := by
  intro d
  induction d with
  | zero =>
    intro i hi
    obtain rfl : i = 5 := by omega
    exact br_t (Int32.le_refl _) (jo_sz_end D.1 D.2.1 s K)
  | succ d ih =>
    intro i hi
    have ih' := ih (i + 1) (by omega)
    simp only [jo_S] at ih'
    refine br_f (lt5' i (by omega)) ?_
    by_cases c : s.testBit i = true
    · rw [if_pos c] at ih'
      refine jo_yhas1 (by omega) (by omega) c (br_f (by decide) ⟨vp_in_nI (by omega) (by omega), nm_r (e' := Int32.ofInt (jo_S dp ds s i + (dp i : Int) - (jo_in ds s i 0 : Int))) ?_ ⟨i + 1, ?_⟩⟩)
      · rw [nI_clamp (by omega), DY.1 i (by omega), jo_oi_add]
        simp only [jo_in]
        congr 1; omega
      · exact jo_ys34 hs (by omega) D DY.2 c _ ih' i 0 (by omega)
    · rw [if_neg c] at ih'
      exact jo_yhas0 (by omega) (by omega) (jo_nt c) (br_t rfl ⟨i + 1, jo_ys34' hs (by omega) (jo_nt c) ih' i 0 (by omega)⟩)
theorem jo_ysize {post : Int32 → Prop} {dp ds : Nat → Nat} {dh : Nat → Bool} {s : Nat} (hs : s < 32) (D : jo_dd dp ds dh) (DY : jo_dY dp ds dh a_tables a_filters)
    (K : post (nI (jo_sz dp ds s))) : wpY_sizeOf post (f_formCount, f_cost, f_leftSet, f_linked, f_linear, a_tables, a_filters, a_sizes, a_forms, a_row, a_stack) (nI s) :=
  ⟨6, by
    have h := jo_ys4 (post := post) (f_formCount := f_formCount) (f_cost := f_cost) (f_leftSet := f_leftSet) (f_linked := f_linked) (f_linear := f_linear) (a_tables := a_tables) (a_filters := a_filters) (a_sizes := a_sizes) (a_forms := a_forms) (a_row := a_row) (a_stack := a_stack) hs D DY K 5 0 rfl
    simp only [jo_S] at h
    rw [jo_oi_0] at h
    exact h⟩
theorem jo_yl2 {post : Int32 → Prop} {dp ds : Nat → Nat} {dh : Nat → Bool} {a b : Nat} (ha : a < 32) (hb : b < 32) (D : jo_dd dp ds dh) (hfl : ∀ e, e < 25 → a_filters e = if dh e then nI (ds e) else -1) :
    ∀ d e, e + d = 25 → post (jo_b (jo_lkF dh a b d e)) → wY_isLinked_2 post (nI a) (nI b) f_formCount f_cost f_leftSet f_linked f_linear a_tables a_filters a_sizes a_forms a_row a_stack (d + 1) (nI e) := by
  intro d
  induction d with
  | zero =>
    intro e he K
    obtain rfl : e = 25 := by omega
    exact br_t (Int32.le_refl _) K
  | succ d ih =>
    intro e he K
    have hk : e < 25 := by omega
    have ih' := ih (e + 1) (by omega)
    have h6 := D.2.1 _ hk
    simp only [jo_lkF, jo_lc] at K
    refine br_f (nI_ge (b := 25) (by omega) (by decide)) ⟨vp_in_nI hk (by decide), ?_⟩
    rw [nI_clamp (by omega), hfl e hk]
    by_cases t : dh e = true
    · rw [if_pos t]
      rw [t, Bool.true_and] at K
      refine br_f (nI_pos (by omega)) ⟨by decide, ?_⟩
      have q : nI e / 5 = nI (e / 5) := pk_div (d := 5) (by omega) (by decide) (by decide)
      have r : nI e - nI e / 5 * 5 = nI (e % 5) := pk_rem (d := 5) (by omega) (by decide) (by decide)
      rw [q] at r ⊢
      by_cases c : a.testBit (e / 5) = true
      · rw [c, Bool.true_and] at K
        refine jo_yhas1 (by omega) (by omega) c (br_f (by decide) ⟨by decide, ?_⟩)
        rw [r]
        by_cases g : b.testBit (e % 5) = true
        · rw [g, Bool.true_or] at K
          exact jo_yhas1 (by omega) (by omega) g (br_f (by decide) K)
        · rw [jo_nt g, Bool.false_or] at K
          exact jo_yhas0 (by omega) (by omega) (jo_nt g) (br_t rfl (nm_r (nI_1 e) (ih' K)))
      · rw [jo_nt c, Bool.false_and, Bool.false_or] at K
        exact jo_yhas0 (by omega) (by omega) (jo_nt c) (br_t rfl (nm_r (nI_1 e) (ih' K)))
    · rw [if_neg t]
      rw [jo_nt t, Bool.false_and, Bool.false_or] at K
      exact br_t (by decide) (nm_r (nI_1 e) (ih' K))
theorem jo_ylinked {post : Int32 → Prop} {dp ds : Nat → Nat} {dh : Nat → Bool} {a b : Nat} (ha : a < 32) (hb : b < 32) (D : jo_dd dp ds dh) (DY : jo_dY dp ds dh a_tables a_filters)
    (K : post (jo_b (jo_lk dh a b))) : wpY_isLinked post (f_formCount, f_cost, f_leftSet, f_linked, f_linear, a_tables, a_filters, a_sizes, a_forms, a_row, a_stack) (nI a) (nI b) :=
  ⟨26, jo_yl2 ha hb D DY.2 25 0 rfl K⟩
theorem jo_yc4 {post : Int32 → Prop} {s : Nat} (hs : s < 32) (K : post (nI (jo_pc s 5))) :
    ∀ d i, i + d = 5 → wY_count_4 post (nI s) f_formCount f_cost f_leftSet f_linked f_linear a_tables a_filters a_sizes a_forms a_row a_stack (d + 1) (nI (jo_pc s i)) (nI i) := by
  intro d
  induction d with
  | zero =>
    intro i hi
    obtain rfl : i = 5 := by omega
    exact br_t (Int32.le_refl _) K
  | succ d ih =>
    intro i hi
    have ih' := ih (i + 1) (by omega)
    simp only [jo_pc] at ih'
    refine br_f (lt5' i (by omega)) ?_
    by_cases c : s.testBit i = true
    · rw [if_pos c] at ih'
      exact jo_yhas1 (by omega) (by omega) c (br_f (by decide) (nm_r (nI_1 _) (nm_r (nI_1 i) ih')))
    · rw [if_neg c] at ih'
      exact jo_yhas0 (by omega) (by omega) (jo_nt c) (br_t rfl (nm_r (nI_1 i) ih'))
theorem jo_ycount {post : Int32 → Prop} {s : Nat} (hs : s < 32) (K : post (nI (jo_pc s 5))) : wpY_count post (f_formCount, f_cost, f_leftSet, f_linked, f_linear, a_tables, a_filters, a_sizes, a_forms, a_row, a_stack) (nI s) :=
  ⟨6, jo_yc4 hs K 5 0 rfl⟩
theorem jo_2m1 {m : Nat} (h : 0 < m) : 2 * nI m - 1 = nI (2 * m - 1) := by
  rw [show (2 : Int32) = nI 2 from rfl, show (1 : Int32) = nI 1 from rfl, pk_mul, pk_sub (by omega)]
theorem jo_yf5 {post : Int32 → Prop} {f m : Nat} (hf : f < 512) (h0 : 0 < m) (hm : m ≤ 5) :
    ∀ d i h, i + d = 2 * m - 1 → h ≤ i → post (jo_b (jo_isF f d i h)) → wY_isForm_5 post (nI f) (nI m) f_formCount f_cost f_leftSet f_linked f_linear a_tables a_filters a_sizes a_forms a_row a_stack (d + 1) (nI h) (nI i) := by
  intro d
  induction d with
  | zero =>
    intro i h hi hh K
    simp only [jo_isF] at K
    refine br_t (by rw [jo_2m1 h0]; exact nI_le (by omega) (by omega)) ?_
    exact pk_eq h 1 (fun z => by rw [beq_iff_eq.mpr z] at K; exact K) (fun z => by rw [beq_eq_false_iff_ne.mpr z] at K; exact K)
  | succ d ih =>
    intro i h hi hh K
    simp only [jo_isF] at K
    refine br_f (by rw [jo_2m1 h0]; exact nI_ge (by omega) (by omega)) ?_
    by_cases c : f.testBit i = true
    · rw [if_pos c] at K
      refine br_t (jo_bit1 (by omega) (by omega) c) ?_
      rw [nI_1]
      exact br_t (nI_le (a := 1) (by omega) (by omega)) (nm_r (nI_1 i) (ih (i + 1) (h + 1) (by omega) (by omega) K))
    · rw [if_neg c] at K
      refine br_f (jo_bitn (by omega) (by omega) (jo_nt c)) ?_
      by_cases z : h ≤ 1
      · rw [if_pos z] at K
        refine br_f ?_ K
        have : h = 0 ∨ h = 1 := by omega
        rcases this with rfl | rfl <;> decide
      · rw [if_neg z] at K
        obtain ⟨g, rfl⟩ : ∃ g, h = g + 1 := ⟨h - 1, by omega⟩
        rw [nI_pred]
        rw [Nat.add_sub_cancel] at K
        exact br_t (nI_le (a := 1) (by omega) (by omega)) (nm_r (nI_1 i) (ih (i + 1) g (by omega) (by omega) K))
theorem jo_yform {post : Int32 → Prop} {f m : Nat} (hf : f < 512) (h0 : 0 < m) (hm : m ≤ 5) (K : post (jo_b (jo_isF f (2 * m - 1) 0 0))) : wpY_isForm post (f_formCount, f_cost, f_leftSet, f_linked, f_linear, a_tables, a_filters, a_sizes, a_forms, a_row, a_stack) (nI f) (nI m) :=
  ⟨2 * m - 1 + 1, jo_yf5 hf h0 hm (2 * m - 1) 0 0 (by omega) (by omega) K⟩
end
end
section
/-! a set's row while its plans are entered: the plans entered so far, and those of one more split -/
def jo_lj (dh : Nat → Bool) (j : Nat) : Bool := jo_lk dh (j / 32) (j % 32)
def jo_at (g : Nat → Int32) (s : Nat) (v : Int32) (a : Nat → Int32) : Prop := (∀ t, 1 ≤ t → t < s → a t = g t) ∧ a s = v
theorem jo_at_upd {g : Nat → Int32} {s : Nat} {v w w' : Int32} {a : Nat → Int32} (h : jo_at g s v a) (e : w = w') : jo_at g s w' (upd a s w) :=
  ⟨fun t h1 h2 => by rw [pk_un (by omega)]; exact h.1 t h1 h2, by rw [pk_us]; exact e⟩
theorem jo_at_eq {g : Nat → Int32} {s : Nat} {v v' : Int32} {a : Nat → Int32} (h : jo_at g s v a) (e : v = v') : jo_at g s v' a := e ▸ h
theorem jo_at_next {g : Nat → Int32} {s : Nat} {a : Nat → Int32} (h : jo_at g s (g s) a) : ∀ t, 1 ≤ t → t < s + 1 → a t = g t := fun t h1 h2 => by
  by_cases e : t = s
  · rw [e]; exact h.2
  · exact h.1 t h1 (by omega)
set_option maxRecDepth 1000000 in
theorem jo_ck_kl : (List.range 32).all (fun s => !(jo_K jo_lin (jo_pl s)).isEmpty) = true := by decide +kernel
theorem jo_kl_ne {s : Nat} (hs : s < 32) : jo_K jo_lin (jo_pl s) ≠ [] := by
  have c := jo_all32 jo_ck_kl hs
  intro e
  rw [e] at c
  exact absurd c (by decide)
def jo_M (l r : Nat) : List (List Nat) := jo_comb (jo_pl l) (jo_pl r) (l * 32 + r)
/-- a split of s -/
def jo_sp (sz : Nat → Nat) (s l r : Nat) : Prop :=
  s < 32 ∧ 0 < l ∧ l < s ∧ 0 < r ∧ r < s ∧ l ||| r = s ∧ ∀ p, p ∈ jo_M l r → jo_cost sz p ≤ 2147483646
section
variable {sz : Nat → Nat} {dh : Nat → Bool} {s l r : Nat} {L : List (List Nat)}
theorem jo_sp_u (H : jo_sp sz s l r) : jo_u (l * 32 + r) = s := by
  obtain ⟨h1, h2, h3, h4, h5, h6, h7⟩ := H
  unfold jo_u
  rw [show (l * 32 + r) / 32 = l by omega, show (l * 32 + r) % 32 = r by omega, h6]
theorem jo_sp_j {g : Nat → Nat → Bool} (H : jo_sp sz s l r) : g ((l * 32 + r) / 32) ((l * 32 + r) % 32) = g l r := by
  obtain ⟨h1, h2, h3, h4, h5, h6, h7⟩ := H
  rw [show (l * 32 + r) / 32 = l by omega, show (l * 32 + r) % 32 = r by omega]
theorem jo_M_mc (H : jo_sp sz s l r) : jo_mc sz (jo_M l r) = jo_mc sz (jo_pl l) + jo_mc sz (jo_pl r) + sz s := by
  have u := jo_sp_u H
  obtain ⟨h1, h2, h3, h4, h5, h6, h7⟩ := H
  have h := jo_mc_comb (jo_pl_ne (show l < 32 by omega)) (jo_pl_ne (show r < 32 by omega)) h7
  rw [u] at h
  exact h
theorem jo_M_ne (H : jo_sp sz s l r) : jo_M l r ≠ [] := by
  obtain ⟨h1, h2, h3, h4, h5, h6, h7⟩ := H
  exact jo_comb_ne (jo_pl_ne (show l < 32 by omega)) (jo_pl_ne (show r < 32 by omega))
theorem jo_M_lt (H : jo_sp sz s l r) : jo_mc sz (jo_M l r) ≤ 2147483646 := by
  have n := jo_M_ne H
  obtain ⟨h1, h2, h3, h4, h5, h6, h7⟩ := H
  exact jo_mc_lt n h7
theorem jo_M_xc (H : jo_sp sz s l r) : jo_xc sz (jo_M l r) = jo_xc sz (jo_pl l) + jo_xc sz (jo_pl r) + sz s := by
  have u := jo_sp_u H
  obtain ⟨h1, h2, h3, h4, h5, h6, h7⟩ := H
  have h := jo_xc_comb (sz := sz) (j := l * 32 + r) (jo_pl_ne (show l < 32 by omega)) (jo_pl_ne (show r < 32 by omega))
  rw [u] at h
  exact h
theorem jo_M_xlt (H : jo_sp sz s l r) : jo_xc sz (jo_M l r) ≤ 2147483646 := jo_xc_le H.2.2.2.2.2.2
theorem jo_M_G (H : jo_sp sz s l r) : jo_G sz (jo_M l r) = jo_comb (jo_G sz (jo_pl l)) (jo_G sz (jo_pl r)) (l * 32 + r) := by
  obtain ⟨h1, h2, h3, h4, h5, h6, h7⟩ := H
  exact jo_G_comb (jo_pl_ne (show l < 32 by omega)) (jo_pl_ne (show r < 32 by omega)) h7
theorem jo_M_Gl (H : jo_sp sz s l r) : (jo_G sz (jo_M l r)).length = (jo_G sz (jo_pl l)).length * (jo_G sz (jo_pl r)).length := by
  rw [jo_M_G H, jo_comb_len]
theorem jo_M_len : (jo_M l r).length = (jo_pl l).length * (jo_pl r).length := jo_comb_len _ _ _
theorem jo_M_lf (H : jo_sp sz s l r) : jo_mn ((jo_G sz (jo_M l r)).map jo_lf) = l := by
  have n := jo_G_ne (jo_M_ne H) H.2.2.2.2.2.2
  have a : ∀ p, p ∈ jo_G sz (jo_M l r) → jo_lf p = l := by
    intro p hp
    obtain ⟨x, _, y, _, rfl⟩ := jo_comb_mem.mp (List.mem_filter.mp hp).1
    rw [jo_lf_j]
    have := H.2.2.1
    have := H.2.2.2.2.1
    have := H.1
    omega
  obtain ⟨p, hp⟩ := List.exists_mem_of_ne_nil _ n
  have hl := H.2.2.1
  have hs := H.1
  apply Nat.le_antisymm
  · have := jo_mn_le (List.mem_map_of_mem (f := jo_lf) hp)
    rw [a p hp] at this
    exact this
  · apply jo_mn_ge (by omega)
    intro x hx
    obtain ⟨q, hq, rfl⟩ := List.mem_map.mp hx
    rw [a q hq]
    exact Nat.le_refl _
theorem jo_ml_lt (H : jo_sp sz s l r) (h : jo_mc sz (jo_M l r) < jo_mc sz L) : jo_ml sz (L ++ jo_M l r) = l := by
  unfold jo_ml
  rw [jo_G_lt h, jo_M_lf H]
  have := H.2.2.1
  have := H.1
  omega
theorem jo_ml_eq (H : jo_sp sz s l r) (h : jo_mc sz L = jo_mc sz (jo_M l r)) : jo_ml sz (L ++ jo_M l r) = min (jo_ml sz L) l := by
  unfold jo_ml
  rw [jo_G_eq h, List.map_append, jo_mn_app, jo_M_lf H]
  omega
theorem jo_ml_gt (h : jo_mc sz L < jo_mc sz (jo_M l r)) : jo_ml sz (L ++ jo_M l r) = jo_ml sz L := by
  unfold jo_ml
  rw [jo_G_gt h]
theorem jo_ml_32 : jo_ml sz L ≤ 32 := Nat.min_le_left _ _
theorem jo_M_lin1 (H : jo_sp sz s l r) (h : r &&& (r - 1) = 0) : jo_mc sz (jo_K jo_lin (L ++ jo_M l r)) = min (jo_mc sz (jo_K jo_lin L)) (jo_mc sz (jo_K jo_lin (jo_pl l)) + sz s) ∧ jo_mc sz (jo_K jo_lin (jo_pl l)) + sz s ≤ 2147483646 := by
  have u := jo_sp_u H
  obtain ⟨h1, h2, h3, h4, h5, h6, h7⟩ := H
  have e : jo_lin (l * 32 + r) = true := by
    unfold jo_lin
    rw [show (l * 32 + r) % 32 = r by omega, h]; rfl
  have k : jo_K jo_lin (jo_M l r) = jo_comb (jo_K jo_lin (jo_pl l)) (jo_K jo_lin (jo_pl r)) (l * 32 + r) := jo_K_comb e _ _
  have hb : ∀ p, p ∈ jo_comb (jo_K jo_lin (jo_pl l)) (jo_K jo_lin (jo_pl r)) (l * 32 + r) → jo_cost sz p ≤ 2147483646 := fun p hp => h7 p (jo_K_sub (k ▸ hp))
  have n1 := jo_kl_ne (show l < 32 by omega)
  have n2 := jo_kl_ne (show r < 32 by omega)
  have m := jo_mc_comb n1 n2 hb
  have b := jo_mc_lt (jo_comb_ne n1 n2) hb
  have z : jo_mc sz (jo_K jo_lin (jo_pl r)) = 0 := by rw [jo_pl_1 h]; rfl
  rw [u, z, Nat.add_zero] at m
  rw [m] at b
  refine ⟨?_, b⟩
  rw [jo_K_app, jo_mc_app, k, m]
theorem jo_M_lin0 (H : jo_sp sz s l r) (h : ¬ r &&& (r - 1) = 0) : jo_K jo_lin (L ++ jo_M l r) = jo_K jo_lin L := by
  obtain ⟨h1, h2, h3, h4, h5, h6, h7⟩ := H
  have e : jo_lin (l * 32 + r) = false := by
    unfold jo_lin
    rw [show (l * 32 + r) % 32 = r by omega, beq_eq_false_iff_ne]; exact h
  have k : jo_K jo_lin (jo_M l r) = [] := jo_K_comb0 e _ _
  rw [jo_K_app, k, List.append_nil]
theorem jo_M_lj (H : jo_sp sz s l r) : jo_lj dh (l * 32 + r) = jo_lk dh l r := jo_sp_j (g := jo_lk dh) H
theorem jo_M_lk1 (H : jo_sp sz s l r) (h : jo_lk dh l r = true) : jo_K (jo_lj dh) (L ++ jo_M l r) = jo_K (jo_lj dh) L ++ jo_comb (jo_K (jo_lj dh) (jo_pl l)) (jo_K (jo_lj dh) (jo_pl r)) (l * 32 + r) := by
  have k : jo_K (jo_lj dh) (jo_M l r) = jo_comb (jo_K (jo_lj dh) (jo_pl l)) (jo_K (jo_lj dh) (jo_pl r)) (l * 32 + r) := jo_K_comb (by rw [jo_M_lj H]; exact h) _ _
  rw [jo_K_app, k]
theorem jo_M_lk0 (H : jo_sp sz s l r) (h : jo_lk dh l r = false) : jo_K (jo_lj dh) (L ++ jo_M l r) = jo_K (jo_lj dh) L := by
  have k : jo_K (jo_lj dh) (jo_M l r) = [] := jo_K_comb0 (by rw [jo_M_lj H]; exact h) _ _
  rw [jo_K_app, k, List.append_nil]
theorem jo_M_lkb (H : jo_sp sz s l r) (h : jo_lk dh l r = true) : ∀ p, p ∈ jo_comb (jo_K (jo_lj dh) (jo_pl l)) (jo_K (jo_lj dh) (jo_pl r)) (l * 32 + r) → jo_cost sz p ≤ 2147483646 := by
  intro p hp
  have k : jo_K (jo_lj dh) (jo_M l r) = jo_comb (jo_K (jo_lj dh) (jo_pl l)) (jo_K (jo_lj dh) (jo_pl r)) (l * 32 + r) := jo_K_comb (by rw [jo_M_lj H]; exact h) _ _
  exact H.2.2.2.2.2.2 p (jo_K_sub (k ▸ hp))
end
end
section
/-! the component fills its tables -/
def jo_g1 (sz : Nat → Nat) (t : Nat) : Int32 := nI (jo_mc sz (jo_pl t))
def jo_g2 (sz : Nat → Nat) (t : Nat) : Int32 := if t &&& (t - 1) = 0 then -4 else nI (jo_ml sz (jo_pl t))
def jo_g3 (sz : Nat → Nat) (t : Nat) : Int32 := nI (jo_G sz (jo_pl t)).length
def jo_g4 (sz : Nat → Nat) (t : Nat) : Int32 := nI (jo_mc sz (jo_K jo_lin (jo_pl t)))
def jo_g5 (sz : Nat → Nat) (dh : Nat → Bool) (t : Nat) : Int32 := nI (jo_mc sz (jo_K (jo_lj dh) (jo_pl t)))
def jo_g6 (sz : Nat → Nat) (t : Nat) : Int32 := nI (jo_xc sz (jo_pl t))
def jo_g7 (t : Nat) : Int32 := nI (jo_pl t).length
def jo_g8 (dh : Nat → Bool) (t : Nat) : Int32 := nI (jo_K (jo_lj dh) (jo_pl t)).length
def jo_R (sz : Nat → Nat) (dh : Nat → Bool) (s : Nat) (L : List (List Nat)) (b1 b2 b3 b4 b5 b6 b7 b8 : Nat → Int32) : Prop :=
  jo_at (jo_g1 sz) s (nI (jo_mc sz L)) b1 ∧ jo_at (jo_g2 sz) s (nI (jo_ml sz L)) b2 ∧ jo_at (jo_g3 sz) s (nI (jo_G sz L).length) b3 ∧
  jo_at (jo_g4 sz) s (nI (jo_mc sz (jo_K jo_lin L))) b4 ∧ jo_at (jo_g5 sz dh) s (nI (jo_mc sz (jo_K (jo_lj dh) L))) b5 ∧ jo_at (jo_g6 sz) s (nI (jo_xc sz L)) b6 ∧
  jo_at jo_g7 s (nI L.length) b7 ∧ jo_at (jo_g8 dh) s (nI (jo_K (jo_lj dh) L).length) b8 ∧ ∀ p, p ∈ L → jo_cost sz p ≤ 2147483646
section
variable {f_filled : Int32} {a_power a_strength a_hasFilter a_sizes a_best a_leftOf a_ties a_line a_joined a_dear a_many a_manyLinked a_ahead : Nat → Int32} {sz : Nat → Nat} {dp ds : Nat → Nat} {dh : Nat → Bool} {s l r : Nat} {L : List (List Nat)}
theorem jo_xpl {post : SX → Prop} {A B L : List (List Nat)} {j : Nat} {g5 g8 : Nat → Int32} (hs : s < 32) (hl : l < 32) (hr : r < 32) (hu : jo_u j = s) (hb : ∀ p, p ∈ jo_comb A B j → jo_cost sz p ≤ 2147483646)
    (hA : ∀ p, p ∈ A → jo_cost sz p ≤ 2147483646) (hB : ∀ p, p ∈ B → jo_cost sz p ≤ 2147483646) (hsz : a_sizes s = nI (sz s))
    (h5l : a_joined l = nI (jo_mc sz A)) (h5r : a_joined r = nI (jo_mc sz B)) (h5 : jo_at g5 s (nI (jo_mc sz L)) a_joined)
    (h8l : a_manyLinked l = nI A.length) (h8r : a_manyLinked r = nI B.length) (h8 : jo_at g8 s (nI L.length) a_manyLinked)
    (K : ∀ j' m', jo_at g5 s (nI (jo_mc sz (L ++ jo_comb A B j))) j' → jo_at g8 s (nI (L ++ jo_comb A B j).length) m' → post (f_filled, a_power, a_strength, a_hasFilter, a_sizes, a_best, a_leftOf, a_ties, a_line, j', a_dear, a_many, m', a_ahead)) :
    wpX_partLinked post (f_filled, a_power, a_strength, a_hasFilter, a_sizes, a_best, a_leftOf, a_ties, a_line, a_joined, a_dear, a_many, a_manyLinked, a_ahead) (nI s) (nI l) (nI r) := by
  have is : vp_in (nI s) 32 := vp_in_nI hs (by decide)
  have il : vp_in (nI l) 32 := vp_in_nI hl (by decide)
  have ir : vp_in (nI r) 32 := vp_in_nI hr (by decide)
  have cs : (nI s).toNatClampNeg = s := nI_clamp (by omega)
  have cl : (nI l).toNatClampNeg = l := nI_clamp (by omega)
  have cr : (nI r).toNatClampNeg = r := nI_clamp (by omega)
  have h8' : jo_at g8 s (nI (L ++ jo_comb A B j).length) (upd a_manyLinked s (nI L.length + nI A.length * nI B.length)) :=
    jo_at_upd h8 (by rw [pk_mul, nI_add, List.length_append, jo_comb_len])
  have fL : jo_mc sz L ≤ 2147483647 := jo_mc_far
  simp only [wpX_partLinked, is, il, ir, cs, cl, cr, true_and, forall_eq, h5l, h5r, h5.2, hsz, h8l, h8r, h8.2]
  by_cases nA : A = []
  · subst nA
    exact br_t (Int32.le_refl _) (K _ _ (jo_at_eq h5 (by rw [jo_comb_nil, List.append_nil])) h8')
  have bA := jo_mc_lt nA hA
  refine br_f (nI_ge (b := 2147483647) (by omega) (by decide)) ?_
  by_cases nB : B = []
  · subst nB
    exact br_t (Int32.le_refl _) (K _ _ (jo_at_eq h5 (by rw [jo_comb_nil', List.append_nil])) h8')
  have bB := jo_mc_lt nB hB
  refine br_f (nI_ge (b := 2147483647) (by omega) (by decide)) ?_
  have m := jo_mc_comb nA nB hb
  have bM := jo_mc_lt (jo_comb_ne nA nB) hb
  rw [hu] at m
  rw [nI_add, nI_add, ← m]
  exact pk_le (jo_mc sz L) (jo_mc sz (jo_comb A B j))
    (fun z => K _ _ (jo_at_upd h5 (by rw [jo_mc_app, Nat.min_eq_left z])) h8')
    (fun z => K _ _ (jo_at_upd h5 (by rw [jo_mc_app, Nat.min_eq_right (by omega)])) h8')
theorem jo_x253 {post : SX → Prop} (hz : ∀ t, sz t ≤ jo_bz t) (H : jo_sp sz s l r) (DX : jo_dX dp ds dh a_power a_strength a_hasFilter) (hsz : a_sizes s = nI (sz s))
    (h5 : jo_at (jo_g5 sz dh) s (nI (jo_mc sz (jo_K (jo_lj dh) L))) a_joined) (h8 : jo_at (jo_g8 dh) s (nI (jo_K (jo_lj dh) L).length) a_manyLinked)
    (K : ∀ j' m', jo_at (jo_g5 sz dh) s (nI (jo_mc sz (jo_K (jo_lj dh) (L ++ jo_M l r)))) j' → jo_at (jo_g8 dh) s (nI (jo_K (jo_lj dh) (L ++ jo_M l r)).length) m' → post (f_filled, a_power, a_strength, a_hasFilter, a_sizes, a_best, a_leftOf, a_ties, a_line, j', a_dear, a_many, m', a_ahead)) :
    wX_part_253 post (nI s) (nI l) (nI r) f_filled a_power a_strength a_hasFilter a_sizes a_best a_leftOf a_ties a_line a_joined a_dear a_many a_manyLinked a_ahead := by
  have u := jo_sp_u H
  have lk1 := jo_M_lk1 (L := L) (dh := dh) H
  have lk0 := jo_M_lk0 (L := L) (dh := dh) H
  have lkb := jo_M_lkb (dh := dh) H
  obtain ⟨h1, h2, h3, h4, h5', h6, h7⟩ := H
  unfold wX_part_253
  refine jo_xlinked (dp := dp) (ds := ds) (dh := dh) (by omega) DX ?_
  rw [nx_and]
  by_cases c : jo_lk dh l r = true
  · have w : ¬ jo_lw dh l 25 &&& r = 0 := fun e => by
      rw [jo_lw_and, c] at e
      exact absurd e (by decide)
    have w2 : jo_lw dh l 25 &&& r < 32 := jo_a32 (by omega)
    refine br_f (nI_ne0 (by omega) (by omega)) ?_
    rw [lk1 c] at K
    exact jo_xpl h1 (by omega) (by omega) u (lkb c) (fun p hp => jo_pl_bd hz (show l < 32 by omega) (jo_K_sub hp)) (fun p hp => jo_pl_bd hz (show r < 32 by omega) (jo_K_sub hp)) hsz
      (h5.1 l (by omega) (by omega)) (h5.1 r (by omega) (by omega)) h5 (h8.1 l (by omega) (by omega)) (h8.1 r (by omega) (by omega)) h8 K
  · have w : jo_lw dh l 25 &&& r = 0 := (jo_lw_and dh l r).mpr (jo_nt c)
    rw [lk0 (jo_nt c)] at K
    rw [w]
    exact br_t rfl (K _ _ h5 h8)
theorem jo_x175 {post : SX → Prop} {z0 : Int32} (hz : ∀ t, sz t ≤ jo_bz t) (H : jo_sp sz s l r) (DX : jo_dX dp ds dh a_power a_strength a_hasFilter) (hsz : a_sizes s = nI (sz s))
    (h4 : jo_at (jo_g4 sz) s (nI (jo_mc sz (jo_K jo_lin L))) a_line)
    (h5 : jo_at (jo_g5 sz dh) s (nI (jo_mc sz (jo_K (jo_lj dh) L))) a_joined) (h6 : jo_at (jo_g6 sz) s (nI (jo_xc sz L)) a_dear) (hz0 : z0 = nI (jo_xc sz (L ++ jo_M l r)))
    (h7 : jo_at jo_g7 s (nI L.length) a_many) (h8 : jo_at (jo_g8 dh) s (nI (jo_K (jo_lj dh) L).length) a_manyLinked)
    (K : ∀ l' j' d' n' m', jo_at (jo_g4 sz) s (nI (jo_mc sz (jo_K jo_lin (L ++ jo_M l r)))) l' → jo_at (jo_g5 sz dh) s (nI (jo_mc sz (jo_K (jo_lj dh) (L ++ jo_M l r)))) j' →
      jo_at (jo_g6 sz) s (nI (jo_xc sz (L ++ jo_M l r))) d' → jo_at jo_g7 s (nI (L ++ jo_M l r).length) n' →
      jo_at (jo_g8 dh) s (nI (jo_K (jo_lj dh) (L ++ jo_M l r)).length) m' → post (f_filled, a_power, a_strength, a_hasFilter, a_sizes, a_best, a_leftOf, a_ties, l', j', d', n', m', a_ahead)) :
    wX_part_175 post (nI s) (nI l) (nI r) z0 (nI s) f_filled a_power a_strength a_hasFilter a_sizes a_best a_leftOf a_ties a_line a_joined a_dear a_many a_manyLinked a_ahead := by
  have h1 := H.1
  have h3 := H.2.2.1
  have h4p := H.2.2.2.1
  have h5p := H.2.2.2.2.1
  have is : vp_in (nI s) 32 := vp_in_nI h1 (by decide)
  have il : vp_in (nI l) 32 := vp_in_nI (by omega) (by decide)
  have ir : vp_in (nI r) 32 := vp_in_nI (by omega) (by decide)
  have cs : (nI s).toNatClampNeg = s := nI_clamp (by omega)
  have cl : (nI l).toNatClampNeg = l := nI_clamp (by omega)
  have cr : (nI r).toNatClampNeg = r := nI_clamp (by omega)
  have hl := H.2.1
  have e4 : a_line l = nI (jo_mc sz (jo_K jo_lin (jo_pl l))) := h4.1 l (by omega) (by omega)
  have e7l : a_many l = nI (jo_pl l).length := h7.1 l (by omega) (by omega)
  have e7r : a_many r = nI (jo_pl r).length := h7.1 r (by omega) (by omega)
  have h7' : jo_at jo_g7 s (nI (L ++ jo_M l r).length) (upd a_many s (nI L.length + nI (jo_pl l).length * nI (jo_pl r).length)) :=
    jo_at_upd h7 (by rw [pk_mul, nI_add, List.length_append, jo_M_len])
  have h6' : jo_at (jo_g6 sz) s (nI (jo_xc sz (L ++ jo_M l r))) (upd a_dear s z0) := jo_at_upd h6 hz0
  have fL : jo_mc sz (jo_K jo_lin L) ≤ 2147483647 := jo_mc_far
  have er : nI r - 1 = nI (r - 1) := pk_sub (b := 1) (by omega)
  simp only [wX_part_175, wX_part_252, is, il, ir, cs, cl, cr, true_and, forall_eq, e4, e7l, e7r, h4.2, h7.2, hsz, er, nx_and]
  by_cases c : r &&& (r - 1) = 0
  · obtain ⟨k1, k2⟩ := jo_M_lin1 (L := L) H c
    rw [k1] at K
    rw [c]
    refine br_t rfl ?_
    rw [nI_add]
    exact pk_le (jo_mc sz (jo_K jo_lin L)) (jo_mc sz (jo_K jo_lin (jo_pl l)) + sz s)
      (fun z => jo_x253 hz H DX hsz h5 h8 (fun j' m' a b => K _ _ _ _ _ (jo_at_upd h4 (by rw [Nat.min_eq_left z])) a h6' h7' b))
      (fun z => jo_x253 hz H DX hsz h5 h8 (fun j' m' a b => K _ _ _ _ _ (jo_at_upd h4 (by rw [Nat.min_eq_right (by omega)])) a h6' h7' b))
  · rw [jo_M_lin0 H c] at K
    have w2 : r &&& (r - 1) < 32 := Nat.lt_of_le_of_lt Nat.and_le_left (by omega)
    refine br_f (nI_ne0 (by omega) (by omega)) ?_
    exact jo_x253 hz H DX hsz h5 h8 (fun j' m' a b => K _ _ _ _ _ h4 a h6' h7' b)
theorem jo_x126 {post : SX → Prop} (hz : ∀ t, sz t ≤ jo_bz t) (H : jo_sp sz s l r) (DX : jo_dX dp ds dh a_power a_strength a_hasFilter) (hsz : a_sizes s = nI (sz s))
    (h4 : jo_at (jo_g4 sz) s (nI (jo_mc sz (jo_K jo_lin L))) a_line)
    (h5 : jo_at (jo_g5 sz dh) s (nI (jo_mc sz (jo_K (jo_lj dh) L))) a_joined) (h6 : jo_at (jo_g6 sz) s (nI (jo_xc sz L)) a_dear) (hL : ∀ p, p ∈ L → jo_cost sz p ≤ 2147483646)
    (h7 : jo_at jo_g7 s (nI L.length) a_many) (h8 : jo_at (jo_g8 dh) s (nI (jo_K (jo_lj dh) L).length) a_manyLinked)
    (K : ∀ l' j' d' n' m', jo_at (jo_g4 sz) s (nI (jo_mc sz (jo_K jo_lin (L ++ jo_M l r)))) l' → jo_at (jo_g5 sz dh) s (nI (jo_mc sz (jo_K (jo_lj dh) (L ++ jo_M l r)))) j' →
      jo_at (jo_g6 sz) s (nI (jo_xc sz (L ++ jo_M l r))) d' → jo_at jo_g7 s (nI (L ++ jo_M l r).length) n' →
      jo_at (jo_g8 dh) s (nI (jo_K (jo_lj dh) (L ++ jo_M l r)).length) m' → post (f_filled, a_power, a_strength, a_hasFilter, a_sizes, a_best, a_leftOf, a_ties, l', j', d', n', m', a_ahead)) :
    wX_part_126 post (nI s) (nI l) (nI r) f_filled a_power a_strength a_hasFilter a_sizes a_best a_leftOf a_ties a_line a_joined a_dear a_many a_manyLinked a_ahead := by
  have h1 := H.1
  have h2 := H.2.1
  have h3 := H.2.2.1
  have h4p := H.2.2.2.1
  have h5p := H.2.2.2.2.1
  have is : vp_in (nI s) 32 := vp_in_nI h1 (by decide)
  have il : vp_in (nI l) 32 := vp_in_nI (by omega) (by decide)
  have ir : vp_in (nI r) 32 := vp_in_nI (by omega) (by decide)
  have cs : (nI s).toNatClampNeg = s := nI_clamp (by omega)
  have cl : (nI l).toNatClampNeg = l := nI_clamp (by omega)
  have cr : (nI r).toNatClampNeg = r := nI_clamp (by omega)
  have el : a_dear l = nI (jo_xc sz (jo_pl l)) := h6.1 l (by omega) (by omega)
  have er : a_dear r = nI (jo_xc sz (jo_pl r)) := h6.1 r (by omega) (by omega)
  have m := jo_M_xc H
  have b := jo_M_xlt H
  have bL := jo_xc_le hL
  simp only [wX_part_126, is, il, ir, cs, cl, cr, true_and, forall_eq, el, er, h6.2, hsz, nI_add]
  rw [← m]
  exact pk_le (jo_xc sz (jo_M l r)) (jo_xc sz L)
    (fun z => jo_x175 hz H DX hsz h4 h5 h6 (by rw [jo_xc_app, Nat.max_eq_left z]) h7 h8 K)
    (fun z => jo_x175 hz H DX hsz h4 h5 h6 (by rw [jo_xc_app, Nat.max_eq_right (by omega)]) h7 h8 K)
theorem jo_xpart {post : SX → Prop} (hz : ∀ t, sz t ≤ jo_bz t) (H : jo_sp sz s l r) (DX : jo_dX dp ds dh a_power a_strength a_hasFilter) (hsz : a_sizes s = nI (sz s))
    (R : jo_R sz dh s L a_best a_leftOf a_ties a_line a_joined a_dear a_many a_manyLinked)
    (K : ∀ b1 b2 b3 b4 b5 b6 b7 b8, jo_R sz dh s (L ++ jo_M l r) b1 b2 b3 b4 b5 b6 b7 b8 → post (f_filled, a_power, a_strength, a_hasFilter, a_sizes, b1, b2, b3, b4, b5, b6, b7, b8, a_ahead)) :
    wpX_part post (f_filled, a_power, a_strength, a_hasFilter, a_sizes, a_best, a_leftOf, a_ties, a_line, a_joined, a_dear, a_many, a_manyLinked, a_ahead) (nI s) (nI l) (nI r) := by
  obtain ⟨r1, r2, r3, r4, r5, r6, r7, r8, r9⟩ := R
  have h1 := H.1
  have h2 := H.2.1
  have h3 := H.2.2.1
  have h4p := H.2.2.2.1
  have h5p := H.2.2.2.2.1
  have is : vp_in (nI s) 32 := vp_in_nI h1 (by decide)
  have il : vp_in (nI l) 32 := vp_in_nI (by omega) (by decide)
  have ir : vp_in (nI r) 32 := vp_in_nI (by omega) (by decide)
  have cs : (nI s).toNatClampNeg = s := nI_clamp (by omega)
  have cl : (nI l).toNatClampNeg = l := nI_clamp (by omega)
  have cr : (nI r).toNatClampNeg = r := nI_clamp (by omega)
  have e1l : a_best l = nI (jo_mc sz (jo_pl l)) := r1.1 l (by omega) (by omega)
  have e1r : a_best r = nI (jo_mc sz (jo_pl r)) := r1.1 r (by omega) (by omega)
  have e3l : a_ties l = nI (jo_G sz (jo_pl l)).length := r3.1 l (by omega) (by omega)
  have e3r : a_ties r = nI (jo_G sz (jo_pl r)).length := r3.1 r (by omega) (by omega)
  have m := jo_M_mc H
  have b := jo_M_lt H
  have fL : jo_mc sz L ≤ 2147483647 := jo_mc_far
  have f2 : jo_ml sz L ≤ 32 := jo_ml_32
  have r9' : ∀ p, p ∈ L ++ jo_M l r → jo_cost sz p ≤ 2147483646 := fun p hp => by
    rcases List.mem_append.mp hp with h | h
    · exact r9 p h
    · exact H.2.2.2.2.2.2 p h
  simp only [wpX_part, wX_part_125, is, il, ir, cs, cl, cr, true_and, forall_eq, e1l, e1r, e3l, e3r, r1.2, r2.2, r3.2, hsz, nI_add, pk_mul]
  rw [← m, ← jo_M_Gl H]
  refine pk_le (jo_mc sz L) (jo_mc sz (jo_M l r)) (fun z => ?_) (fun z => ?_)
  · refine pk_eq (jo_mc sz (jo_M l r)) (jo_mc sz L) (fun y => ?_) (fun y => ?_)
    · have k1 : jo_at (jo_g1 sz) s (nI (jo_mc sz (L ++ jo_M l r))) a_best := jo_at_eq r1 (by rw [jo_mc_app, Nat.min_eq_left z])
      have k3 : jo_at (jo_g3 sz) s (nI (jo_G sz (L ++ jo_M l r)).length) (upd a_ties s (nI ((jo_G sz L).length + (jo_G sz (jo_M l r)).length))) :=
        jo_at_upd r3 (by rw [jo_G_eq y.symm, List.length_append])
      exact pk_le (jo_ml sz L) l
        (fun w => jo_x126 hz H DX hsz r4 r5 r6 r9 r7 r8 (fun l' j' d' n' m' a4 a5 a6 a7 a8 => K _ _ _ _ _ _ _ _
          ⟨k1, jo_at_upd r2 (by rw [jo_ml_eq H y.symm, Nat.min_eq_left w]), k3, a4, a5, a6, a7, a8, r9'⟩))
        (fun w => jo_x126 hz H DX hsz r4 r5 r6 r9 r7 r8 (fun l' j' d' n' m' a4 a5 a6 a7 a8 => K _ _ _ _ _ _ _ _
          ⟨k1, jo_at_upd r2 (by rw [jo_ml_eq H y.symm, Nat.min_eq_right (by omega)]), k3, a4, a5, a6, a7, a8, r9'⟩))
    · have q : jo_mc sz L < jo_mc sz (jo_M l r) := by omega
      exact jo_x126 hz H DX hsz r4 r5 r6 r9 r7 r8 (fun l' j' d' n' m' a4 a5 a6 a7 a8 => K _ _ _ _ _ _ _ _
        ⟨jo_at_eq r1 (by rw [jo_mc_app, Nat.min_eq_left z]), jo_at_eq r2 (by rw [jo_ml_gt q]), jo_at_eq r3 (by rw [jo_G_gt q]), a4, a5, a6, a7, a8, r9'⟩)
  · exact jo_x126 hz H DX hsz r4 r5 r6 r9 r7 r8 (fun l' j' d' n' m' a4 a5 a6 a7 a8 => K _ _ _ _ _ _ _ _
      ⟨jo_at_upd r1 (by rw [jo_mc_app, Nat.min_eq_right (by omega)]), jo_at_upd r2 (by rw [jo_ml_lt H z]), jo_at_upd r3 (by rw [jo_G_lt z]), a4, a5, a6, a7, a8, r9'⟩)
end
end
section
/-! several, single, fill -/
def jo_tab (g : Nat → Int32) (n : Nat) (a : Nat → Int32) : Prop := ∀ t, 1 ≤ t → t < n → a t = g t
def jo_T (sz : Nat → Nat) (dh : Nat → Bool) (n : Nat) (b0 b1 b2 b3 b4 b5 b6 b7 b8 : Nat → Int32) : Prop :=
  jo_tab (fun t => nI (sz t)) n b0 ∧ jo_tab (jo_g1 sz) n b1 ∧ jo_tab (jo_g2 sz) n b2 ∧ jo_tab (jo_g3 sz) n b3 ∧ jo_tab (jo_g4 sz) n b4 ∧ jo_tab (jo_g5 sz dh) n b5 ∧
  jo_tab (jo_g6 sz) n b6 ∧ jo_tab jo_g7 n b7 ∧ jo_tab (jo_g8 dh) n b8
theorem jo_tab_at {g : Nat → Int32} {s : Nat} {a : Nat → Int32} {v w : Int32} (h : jo_tab g s a) (e : v = w) : jo_at g s w (upd a s v) :=
  ⟨fun t h1 h2 => by rw [pk_un (by omega)]; exact h t h1 h2, by rw [pk_us]; exact e⟩
theorem jo_tab_up {g : Nat → Int32} {s : Nat} {a : Nat → Int32} {v : Int32} (h : jo_tab g s a) (e : v = g s) : jo_tab g (s + 1) (upd a s v) :=
  jo_at_next (jo_tab_at h e)
theorem jo_nand : ∀ s, s < 32 → ∀ l, l < 32 → l &&& s = l → nI s &&& (nI l ^^^ (-1)) = nI (s - l) := by decide +kernel
theorem jo_andm {s l : Nat} (h : 0 < l) : (nI l - 1) &&& nI s = nI ((l - 1) &&& s) := by
  rw [show nI l - 1 = nI (l - 1) from pk_sub (b := 1) (by omega), nx_and]
theorem jo_lefts_0 (s k : Nat) : jo_lefts s k 0 = [] := by
  cases k with
  | zero => rfl
  | succ k => simp only [jo_lefts]; rfl
theorem jo_lefts_s {s k l : Nat} (h : 0 < l) : jo_lefts s (k + 1) l = l :: jo_lefts s k ((l - 1) &&& s) := by
  simp only [jo_lefts]
  rw [if_neg (by omega)]
section
variable {f_filled : Int32} {a_power a_strength a_hasFilter a_sizes a_best a_leftOf a_ties a_line a_joined a_dear a_many a_manyLinked a_ahead : Nat → Int32} {sz : Nat → Nat} {dp ds : Nat → Nat} {dh : Nat → Bool} {s : Nat}
theorem jo_x66 {post : SX → Prop} (hz : ∀ t, sz t ≤ jo_bz t) (hs : s < 32) (hn : ¬ s &&& (s - 1) = 0) (DX : jo_dX dp ds dh a_power a_strength a_hasFilter) (hsz : a_sizes s = nI (sz s)) :
    ∀ k l L a_best a_leftOf a_ties a_line a_joined a_dear a_many a_manyLinked, l < k → l &&& s = l → l < s →
      jo_R sz dh s L a_best a_leftOf a_ties a_line a_joined a_dear a_many a_manyLinked →
      (∀ b1 b2 b3 b4 b5 b6 b7 b8, jo_R sz dh s (L ++ (jo_lefts s k l).flatMap (fun l => jo_M l (s - l))) b1 b2 b3 b4 b5 b6 b7 b8 → post (f_filled, a_power, a_strength, a_hasFilter, a_sizes, b1, b2, b3, b4, b5, b6, b7, b8, a_ahead)) →
      wX_several_66 post (nI s) k (nI l) f_filled a_power a_strength a_hasFilter a_sizes a_best a_leftOf a_ties a_line a_joined a_dear a_many a_manyLinked a_ahead := by
  intro k
  induction k with
  | zero => intro l _ _ _ _ _ _ _ _ _ h; omega
  | succ k ih =>
    intro l L a_best a_leftOf a_ties a_line a_joined a_dear a_many a_manyLinked hk h1 h2 R K
    by_cases z : l = 0
    · subst z
      rw [jo_lefts_0, List.flatMap_nil, List.append_nil] at K
      exact br_t (Int32.le_refl _) (K _ _ _ _ _ _ _ _ R)
    · have hl : 0 < l := by omega
      obtain ⟨m1, m2⟩ := jo_lefts_ok hs h1 hl h2
      have H : jo_sp sz s l (s - l) := by
        refine ⟨hs, hl, h2, by omega, by omega, m2, fun p hp => jo_pl_bd hz hs ?_⟩
        rw [jo_pl_eq hs hn]
        exact List.mem_flatMap.mpr ⟨l, m1, hp⟩
      have a1 : (l - 1) &&& s ≤ l - 1 := Nat.and_le_left
      refine br_f (nI_nle hl (by omega)) ?_
      rw [jo_nand s hs l (by omega) h1]
      refine jo_xpart hz H DX hsz R (fun b1 b2 b3 b4 b5 b6 b7 b8 R' => ?_)
      refine nm_r (jo_andm hl) ?_
      refine ih _ _ _ _ _ _ _ _ _ _ (by omega) (by rw [Nat.and_assoc, Nat.and_self]) (by omega) R' (fun c1 c2 c3 c4 c5 c6 c7 c8 R2 => K _ _ _ _ _ _ _ _ ?_)
      rw [jo_lefts_s hl, List.flatMap_cons, ← List.append_assoc]
      exact R2
theorem jo_xseveral {post : SX → Prop} (hz : ∀ t, sz t ≤ jo_bz t) (h0 : 0 < s) (hs : s < 32) (hn : ¬ s &&& (s - 1) = 0) (DX : jo_dX dp ds dh a_power a_strength a_hasFilter)
    (T0 : jo_tab (fun t => nI (sz t)) (s + 1) a_sizes) (T1 : jo_tab (jo_g1 sz) s a_best) (T2 : jo_tab (jo_g2 sz) s a_leftOf) (T3 : jo_tab (jo_g3 sz) s a_ties) (T4 : jo_tab (jo_g4 sz) s a_line)
    (T5 : jo_tab (jo_g5 sz dh) s a_joined) (T6 : jo_tab (jo_g6 sz) s a_dear) (T7 : jo_tab jo_g7 s a_many) (T8 : jo_tab (jo_g8 dh) s a_manyLinked)
    (K : ∀ b1 b2 b3 b4 b5 b6 b7 b8, jo_T sz dh (s + 1) a_sizes b1 b2 b3 b4 b5 b6 b7 b8 → post (f_filled, a_power, a_strength, a_hasFilter, a_sizes, b1, b2, b3, b4, b5, b6, b7, b8, a_ahead)) :
    wpX_several post (f_filled, a_power, a_strength, a_hasFilter, a_sizes, a_best, a_leftOf, a_ties, a_line, a_joined, a_dear, a_many, a_manyLinked, a_ahead) (nI s) := by
  have is : vp_in (nI s) 32 := vp_in_nI hs (by decide)
  have cs : (nI s).toNatClampNeg = s := nI_clamp (by omega)
  simp only [wpX_several, is, cs, true_and, forall_eq]
  rw [jo_andm h0]
  have a1 : (s - 1) &&& s ≤ s - 1 := Nat.and_le_left
  refine ⟨32, jo_x66 hz hs hn DX (T0 s h0 (by omega)) 32 _ [] _ _ _ _ _ _ _ _ (by omega) (by rw [Nat.and_assoc, Nat.and_self]) (by omega) ?_ ?_⟩
  · exact ⟨jo_tab_at T1 rfl, jo_tab_at T2 rfl, jo_tab_at T3 rfl, jo_tab_at T4 rfl, jo_tab_at T5 rfl, jo_tab_at T6 rfl, jo_tab_at T7 rfl, jo_tab_at T8 rfl, fun p hp => by cases hp⟩
  · intro b1 b2 b3 b4 b5 b6 b7 b8 R
    have e : (jo_lefts s 32 ((s - 1) &&& s)).flatMap (fun l => jo_M l (s - l)) = jo_pl s := (jo_pl_eq hs hn).symm
    rw [List.nil_append, e] at R
    obtain ⟨r1, r2, r3, r4, r5, r6, r7, r8, r9⟩ := R
    refine K _ _ _ _ _ _ _ _ ⟨T0, jo_at_next r1, jo_at_next (jo_at_eq r2 ?_), jo_at_next r3, jo_at_next r4, jo_at_next r5, jo_at_next r6, jo_at_next r7, jo_at_next r8⟩
    unfold jo_g2
    rw [if_neg hn]
theorem jo_xsingle {post : SX → Prop} (h0 : 0 < s) (hs : s < 32) (hn : s &&& (s - 1) = 0)
    (T0 : jo_tab (fun t => nI (sz t)) (s + 1) a_sizes) (T1 : jo_tab (jo_g1 sz) s a_best) (T2 : jo_tab (jo_g2 sz) s a_leftOf) (T3 : jo_tab (jo_g3 sz) s a_ties) (T4 : jo_tab (jo_g4 sz) s a_line)
    (T5 : jo_tab (jo_g5 sz dh) s a_joined) (T6 : jo_tab (jo_g6 sz) s a_dear) (T7 : jo_tab jo_g7 s a_many) (T8 : jo_tab (jo_g8 dh) s a_manyLinked)
    (K : ∀ b1 b2 b3 b4 b5 b6 b7 b8, jo_T sz dh (s + 1) a_sizes b1 b2 b3 b4 b5 b6 b7 b8 → post (f_filled, a_power, a_strength, a_hasFilter, a_sizes, b1, b2, b3, b4, b5, b6, b7, b8, a_ahead)) :
    wpX_single post (f_filled, a_power, a_strength, a_hasFilter, a_sizes, a_best, a_leftOf, a_ties, a_line, a_joined, a_dear, a_many, a_manyLinked, a_ahead) (nI s) := by
  have is : vp_in (nI s) 32 := vp_in_nI hs (by decide)
  have cs : (nI s).toNatClampNeg = s := nI_clamp (by omega)
  have p := jo_pl_1 hn
  simp only [wpX_single, is, cs, true_and, forall_eq]
  exact K _ _ _ _ _ _ _ _ ⟨T0, jo_tab_up T1 (by unfold jo_g1; rw [p]; rfl), jo_tab_up T2 (by unfold jo_g2; rw [if_pos hn]), jo_tab_up T3 (by unfold jo_g3; rw [p]; rfl),
    jo_tab_up T4 (by unfold jo_g4; rw [p]; rfl), jo_tab_up T5 (by unfold jo_g5; rw [p]; rfl), jo_tab_up T6 (by unfold jo_g6; rw [p]; rfl), jo_tab_up T7 (by unfold jo_g7; rw [p]; rfl), jo_tab_up T8 (by unfold jo_g8; rw [p]; rfl)⟩
theorem jo_x10 {post : SX → Prop} (D : jo_dd dp ds dh) (DX : jo_dX dp ds dh a_power a_strength a_hasFilter)
    (K : ∀ b0 b1 b2 b3 b4 b5 b6 b7 b8, jo_T (jo_sz dp ds) dh 32 b0 b1 b2 b3 b4 b5 b6 b7 b8 → post (1, a_power, a_strength, a_hasFilter, b0, b1, b2, b3, b4, b5, b6, b7, b8, a_ahead)) :
    ∀ d s a_sizes a_best a_leftOf a_ties a_line a_joined a_dear a_many a_manyLinked, s + d = 32 → 0 < s →
      jo_T (jo_sz dp ds) dh s a_sizes a_best a_leftOf a_ties a_line a_joined a_dear a_many a_manyLinked →
      wX_fill_10 post (d + 1) (nI s) f_filled a_power a_strength a_hasFilter a_sizes a_best a_leftOf a_ties a_line a_joined a_dear a_many a_manyLinked a_ahead := by
  intro d
  induction d with
  | zero =>
    intro s a_sizes a_best a_leftOf a_ties a_line a_joined a_dear a_many a_manyLinked hs h0 T
    obtain rfl : s = 32 := by omega
    exact br_t (Int32.le_refl _) (K _ _ _ _ _ _ _ _ _ T)
  | succ d ih =>
    intro s a_sizes a_best a_leftOf a_ties a_line a_joined a_dear a_many a_manyLinked hs h0 T
    have hs' : s < 32 := by omega
    obtain ⟨T0, T1, T2, T3, T4, T5, T6, T7, T8⟩ := T
    have hz : ∀ t, jo_sz dp ds t ≤ jo_bz t := jo_sz_le D.1
    refine br_f (nI_ge (b := 32) (by omega) (by decide)) (jo_xsize hs' D DX ⟨vp_in_nI hs' (by decide), ?_⟩)
    refine nm_r (e' := upd a_sizes s (nI (jo_sz dp ds s))) (by rw [nI_clamp (by omega)]) ?_
    have T0' : jo_tab (fun t => nI (jo_sz dp ds t)) (s + 1) (upd a_sizes s (nI (jo_sz dp ds s))) := jo_tab_up T0 rfl
    rw [show nI s - 1 = nI (s - 1) from pk_sub (b := 1) (by omega), nx_and]
    by_cases c : s &&& (s - 1) = 0
    · rw [c]
      refine br_t rfl (jo_xsingle h0 hs' c T0' T1 T2 T3 T4 T5 T6 T7 T8 (fun b1 b2 b3 b4 b5 b6 b7 b8 T' => ?_))
      exact nm_r (nI_1 s) (ih (s + 1) _ _ _ _ _ _ _ _ _ (by omega) (by omega) T')
    · have w2 : s &&& (s - 1) < 32 := Nat.lt_of_le_of_lt Nat.and_le_left (by omega)
      refine br_f (nI_ne0 (by omega) (by omega)) (jo_xseveral hz h0 hs' c DX T0' T1 T2 T3 T4 T5 T6 T7 T8 (fun b1 b2 b3 b4 b5 b6 b7 b8 T' => ?_))
      exact nm_r (nI_1 s) (ih (s + 1) _ _ _ _ _ _ _ _ _ (by omega) (by omega) T')
theorem jo_xfill {post : SX → Prop} (D : jo_dd dp ds dh) (DX : jo_dX dp ds dh a_power a_strength a_hasFilter)
    (F : f_filled = 0 ∨ (f_filled = 1 ∧ jo_T (jo_sz dp ds) dh 32 a_sizes a_best a_leftOf a_ties a_line a_joined a_dear a_many a_manyLinked))
    (K : ∀ b0 b1 b2 b3 b4 b5 b6 b7 b8, jo_T (jo_sz dp ds) dh 32 b0 b1 b2 b3 b4 b5 b6 b7 b8 → post (1, a_power, a_strength, a_hasFilter, b0, b1, b2, b3, b4, b5, b6, b7, b8, a_ahead)) :
    wpX_fill post (f_filled, a_power, a_strength, a_hasFilter, a_sizes, a_best, a_leftOf, a_ties, a_line, a_joined, a_dear, a_many, a_manyLinked, a_ahead) := by
  rcases F with rfl | ⟨rfl, T⟩
  · refine br_t rfl ⟨32, jo_x10 D DX K 31 1 _ _ _ _ _ _ _ _ _ rfl (by decide) ?_⟩
    have z : ∀ g a, jo_tab g 1 a := fun g a t h1 h2 => by omega
    exact ⟨z _ _, z _ _, z _ _, z _ _, z _ _, z _ _, z _ _, z _ _, z _ _⟩
  · exact br_f (by decide) (K _ _ _ _ _ _ _ _ _ T)
end
end
section
/-! the reference makes ready: sizes, forms, the number of orders -/
def jo_fl (m n : Nat) : List Nat := (List.range n).filter (fun f => Nat.blt f (2 ^ (2 * m - 1)) && jo_isF f (2 * m - 1) 0 0)
theorem jo_fl_s (m n : Nat) : jo_fl m (n + 1) = jo_fl m n ++ (if Nat.blt n (2 ^ (2 * m - 1)) && jo_isF n (2 * m - 1) 0 0 then [n] else []) := by
  unfold jo_fl
  rw [List.range_succ, List.filter_append]
  congr 1
  by_cases c : (Nat.blt n (2 ^ (2 * m - 1)) && jo_isF n (2 * m - 1) 0 0) = true
  · rw [if_pos c, List.filter_cons_of_pos (p := fun f => Nat.blt f (2 ^ (2 * m - 1)) && jo_isF f (2 * m - 1) 0 0) c]; rfl
  · rw [if_neg c, List.filter_cons_of_neg (p := fun f => Nat.blt f (2 ^ (2 * m - 1)) && jo_isF f (2 * m - 1) 0 0) c]; rfl
theorem jo_fl_le (m : Nat) : ∀ d n, (jo_fl m n).length ≤ (jo_fl m (n + d)).length
  | 0, n => Nat.le_refl _
  | d + 1, n => by
    have := jo_fl_le m d n
    rw [← Nat.add_assoc, jo_fl_s, List.length_append]
    omega
theorem jo_fm_14 : ∀ m, m ≤ 5 → (jo_fm m).length ≤ 14 := by decide
/-- the first numbers of an array are a list -/
def jo_ls (a : Nat → Int32) (l : List Nat) : Prop := ∀ k, k < l.length → a k = nI (l.getD k 0)
theorem jo_ls_app {a : Nat → Int32} {l : List Nat} {x : Nat} (h : jo_ls a l) : jo_ls (upd a l.length (nI x)) (l ++ [x]) := by
  intro k hk
  rw [List.length_append, List.length_singleton] at hk
  by_cases e : k = l.length
  · subst e
    rw [pk_us, List.getD_eq_getElem?_getD, List.getElem?_append_right (Nat.le_refl _), Nat.sub_self]
    rfl
  · rw [pk_un e, h k (by omega), List.getD_eq_getElem?_getD, List.getD_eq_getElem?_getD, List.getElem?_append_left (by omega)]
section
variable {f_formCount f_cost f_leftSet f_linked f_linear : Int32} {a_tables a_filters a_sizes a_forms a_row a_stack : Nat → Int32} {dp ds : Nat → Nat} {dh : Nat → Bool} {s m : Nat}
theorem jo_y96 {post : Int32 → SY → Prop} (hm : m ≤ 5) (K : post (nI (jo_fact m)) (f_formCount, f_cost, f_leftSet, f_linked, f_linear, a_tables, a_filters, a_sizes, a_forms, a_row, a_stack)) :
    ∀ d i, i + d = m → wY_prepare_96 post (nI m) f_formCount f_cost f_leftSet f_linked f_linear a_tables a_filters a_sizes a_forms a_row a_stack (d + 1) (nI (jo_fact i)) (nI (i + 1)) := by
  intro d
  induction d with
  | zero =>
    intro i hi
    obtain rfl : i = m := by omega
    exact br_t (nI_lt (by omega) (by omega)) K
  | succ d ih =>
    intro i hi
    exact br_f (nI_nlt (by omega) (by omega)) (nm_r (pk_mul _ _) (nm_r (nI_1 _) (ih (i + 1) (by omega))))
theorem jo_y38 {post : Int32 → SY → Prop} (h0 : 0 < m) (hm : m ≤ 5)
    (K : ∀ a, jo_ls a (jo_fm m) → post (nI (jo_fact m)) (nI (jo_fm m).length, f_cost, f_leftSet, f_linked, f_linear, a_tables, a_filters, a_sizes, a, a_row, a_stack)) :
    ∀ d f a, f + d = 512 → jo_ls a (jo_fl m f) → wY_prepare_38 post (nI m) f_cost f_leftSet f_linked f_linear (d + 1) (nI f) (nI (jo_fl m f).length) a_tables a_filters a_sizes a a_row a_stack := by
  intro d
  induction d with
  | zero =>
    intro f a hf h
    obtain rfl : f = 512 := by omega
    have e : jo_fl m 512 = jo_fm m := jo_fm_ok h0 hm
    rw [e] at h ⊢
    refine br_t (Int32.le_refl _) ⟨m - 1 + 1, ?_⟩
    exact jo_y96 hm (K a h) (m - 1) 1 (by omega)
  | succ d ih =>
    intro f a hf h
    have ih' := ih (f + 1)
    rw [jo_fl_s] at ih'
    refine br_f (nI_ge (b := 512) (by omega) (by decide)) ?_
    rw [jo_2m1 h0, jo_shl1 (by omega)]
    have p2 : 2 ^ (2 * m - 1) < 2 ^ 31 := Nat.pow_lt_pow_right (by decide) (by omega)
    by_cases c : f < 2 ^ (2 * m - 1)
    · have c' : Nat.blt f (2 ^ (2 * m - 1)) = true := Nat.ble_eq_true_of_le c
      rw [c', Bool.true_and] at ih'
      refine br_f (nI_ge c p2) (jo_yform (by omega) h0 hm ?_)
      by_cases g : jo_isF f (2 * m - 1) 0 0 = true
      · rw [g]
        rw [if_pos g] at ih'
        have l1 : (jo_fl m (f + 1)).length = (jo_fl m f).length + 1 := by
          rw [jo_fl_s, c', g, Bool.true_and, if_pos rfl, List.length_append]; rfl
        have l2 := jo_fl_le m d (f + 1)
        have l3 : jo_fl m (f + 1 + d) = jo_fm m := by rw [show f + 1 + d = 512 by omega]; exact jo_fm_ok h0 hm
        have l4 := jo_fm_14 m hm
        rw [l3] at l2
        have ih2 := ih' (upd a (jo_fl m f).length (nI f)) (by omega) (jo_ls_app h)
        rw [List.length_append, List.length_singleton] at ih2
        refine br_f (by decide) ⟨vp_in_nI (by omega) (by decide), nm_r (e' := upd a (jo_fl m f).length (nI f)) (by rw [nI_clamp (by omega)]) (nm_r (nI_1 _) (nm_r (nI_1 f) ih2))⟩
      · rw [jo_nt g]
        rw [if_neg g, List.append_nil] at ih'
        exact br_t rfl (nm_r (nI_1 f) (ih' a (by omega) h))
    · have c' : ¬ Nat.blt f (2 ^ (2 * m - 1)) = true := fun z => c (Nat.le_of_ble_eq_true z)
      rw [jo_nt c', Bool.false_and, if_neg (by decide), List.append_nil] at ih'
      exact br_t (nI_le (by omega) (by omega)) (nm_r (nI_1 f) (ih' a (by omega) h))
theorem jo_y2 {post : Int32 → SY → Prop} (h0 : 0 < s) (hs : s < 32) (D : jo_dd dp ds dh) (DY : jo_dY dp ds dh a_tables a_filters)
    (K : ∀ z a, (∀ k, k < 32 → z k = nI (jo_sz dp ds k)) → jo_ls a (jo_fm (jo_pc s 5)) → post (nI (jo_fact (jo_pc s 5))) (nI (jo_fc s), f_cost, f_leftSet, f_linked, f_linear, a_tables, a_filters, z, a, a_row, a_stack)) :
    ∀ d t a_sizes, t + d = 32 → (∀ k, k < t → a_sizes k = nI (jo_sz dp ds k)) → wY_prepare_2 post (nI s) f_formCount f_cost f_leftSet f_linked f_linear (d + 1) (nI t) a_tables a_filters a_sizes a_forms a_row a_stack := by
  intro d
  induction d with
  | zero =>
    intro t a_sizes ht h
    obtain rfl : t = 32 := by omega
    refine br_t (Int32.le_refl _) (jo_ycount hs ⟨513, ?_⟩)
    exact jo_y38 (jo_pc_pos h0 hs) (jo_pc_le s 5) (fun a ha => K _ a h ha) 512 0 _ rfl (fun k hk => absurd hk (Nat.not_lt_zero k))
  | succ d ih =>
    intro t a_sizes ht h
    refine br_f (nI_ge (b := 32) (by omega) (by decide)) (jo_ysize (by omega) D DY ⟨vp_in_nI (by omega) (by decide), ?_⟩)
    refine nm_r (e' := upd a_sizes t (nI (jo_sz dp ds t))) (by rw [nI_clamp (by omega)]) (nm_r (nI_1 t) (ih (t + 1) _ (by omega) ?_))
    intro k hk
    by_cases e : k = t
    · rw [e, pk_us]
    · rw [pk_un e]; exact h k (by omega)
theorem jo_yprep {post : Int32 → SY → Prop} (h0 : 0 < s) (hs : s < 32) (D : jo_dd dp ds dh) (DY : jo_dY dp ds dh a_tables a_filters)
    (K : ∀ z a, (∀ k, k < 32 → z k = nI (jo_sz dp ds k)) → jo_ls a (jo_fm (jo_pc s 5)) → post (nI (jo_fact (jo_pc s 5))) (nI (jo_fc s), f_cost, f_leftSet, f_linked, f_linear, a_tables, a_filters, z, a, a_row, a_stack)) :
    wpY_prepare post (f_formCount, f_cost, f_leftSet, f_linked, f_linear, a_tables, a_filters, a_sizes, a_forms, a_row, a_stack) (nI s) :=
  ⟨33, jo_y2 h0 hs D DY K 32 0 _ rfl (fun k hk => absurd hk (Nat.not_lt_zero k))⟩
end
end
section
/-! the reference puts an order into the row -/
theorem jo_clr : ∀ a, a < 32 → ∀ t, t < 5 → a.testBit t = true → nI a &&& (nI (2 ^ t) ^^^ (-1)) = nI (a - 2 ^ t) := by decide +kernel
section
variable {f_formCount f_cost f_leftSet f_linked f_linear : Int32} {a_tables a_filters a_sizes a_forms a_row a_stack : Nat → Int32} {s m : Nat}
theorem jo_y53 {post : SY → Prop} {J : Int32 → Int32 → Int32 → Int32 → (Nat → Int32) → (Nat → Int32) → (Nat → Int32) → (Nat → Int32) → (Nat → Int32) → (Nat → Int32) → Prop}
    {x4 x5 x7 : Int32} {i left t' : Nat} (hi : i < 5) (hl : left < 32)
    (K : J x4 x5 (nI (left - 2 ^ t')) (nI (i + 1)) a_tables a_filters a_sizes a_forms (upd a_row i (nI t')) a_stack) :
    ∀ n k t, t + n ≤ 5 → k < 2 ^ 31 → jo_nth left n k t = some t' → wY_order_53 post J x4 x5 (nI left) x7 (nI i) f_formCount f_cost f_leftSet f_linked f_linear a_tables a_filters a_sizes a_forms a_row a_stack n (nI k) (nI t) := by
  intro n
  induction n with
  | zero => intro k t _ _ h; simp only [jo_nth] at h; cases h
  | succ n ih =>
    intro k t ht hk h
    simp only [jo_nth] at h
    unfold wY_order_53
    by_cases c : left.testBit t = true
    · rw [if_pos c] at h
      refine jo_yhas1 (by omega) (by omega) c (br_f (by decide) ?_)
      by_cases z : k = 0
      · subst z
        rw [if_pos rfl] at h
        obtain rfl : t = t' := Option.some.inj h
        refine br_t (Int32.le_refl _) ⟨vp_in_nI hi (by decide), nm_r (e' := upd a_row i (nI t)) (by rw [nI_clamp (by omega)]) (nm_r (e' := nI (left - 2 ^ t)) ?_ (nm_r (nI_1 i) K))⟩
        rw [jo_shl1 (by omega)]
        exact jo_clr left hl t (by omega) c
      · rw [if_neg z] at h
        refine br_f (nI_nle (by omega) hk) ?_
        unfold wY_order_69
        refine jo_yhas1 (by omega) (by omega) c (br_f (by decide) (nm_r (e' := nI (k - 1)) (pk_sub (b := 1) (by omega)) (nm_r (nI_1 t) (ih (k - 1) (t + 1) (by omega) (by omega) h))))
    · rw [if_neg c] at h
      refine jo_yhas0 (by omega) (by omega) (jo_nt c) (br_t rfl ?_)
      unfold wY_order_69
      exact jo_yhas0 (by omega) (by omega) (jo_nt c) (br_t rfl (nm_r (nI_1 t) (ih k (t + 1) (by omega) hk h)))
theorem jo_nth_lt {left t' : Nat} : ∀ n k t, t + n ≤ 5 → jo_nth left n k t = some t' → t' < 5
  | 0, _, _, _, h => by simp only [jo_nth] at h; cases h
  | n + 1, k, t, ht, h => by
    simp only [jo_nth] at h
    split at h
    · split at h
      · have := Option.some.inj h; omega
      · exact jo_nth_lt n _ _ (by omega) h
    · exact jo_nth_lt n _ _ (by omega) h
theorem jo_y19 {post : SY → Prop} (hm : m ≤ 5) :
    ∀ d i rest unit left rows row0, i + d = m → rest < 2 ^ 31 → unit < 2 ^ 31 → left < 32 → jo_row m d i rest unit left = some rows →
      (∀ row', (∀ k, k < i → row' k = row0 k) → (∀ k, k < d → row' (i + k) = nI (rows.getD k 0)) → post (f_formCount, f_cost, f_leftSet, f_linked, f_linear, a_tables, a_filters, a_sizes, a_forms, row', a_stack)) →
      wY_order_19 post (nI m) f_formCount f_cost f_leftSet f_linked f_linear (d + 1) (nI rest) (nI unit) (nI left) (nI i) a_tables a_filters a_sizes a_forms row0 a_stack := by
  intro d
  induction d with
  | zero =>
    intro i rest unit left rows row0 hi hr hu hl h K
    obtain rfl : i = m := by omega
    exact br_t (Int32.le_refl _) (K row0 (fun _ _ => rfl) (fun k hk => absurd hk (Nat.not_lt_zero k)))
  | succ d ih =>
    intro i rest unit left rows row0 hi hr hu hl h K
    simp only [jo_row] at h
    by_cases c : unit / (m - i) = 0
    · rw [if_pos c] at h; cases h
    rw [if_neg c] at h
    have c0 : 0 < unit / (m - i) := Nat.pos_of_ne_zero c
    have u2 : unit / (m - i) ≤ unit := Nat.div_le_self _ _
    have r2 : rest / (unit / (m - i)) ≤ rest := Nat.div_le_self _ _
    have r3 : rest % (unit / (m - i)) ≤ rest := Nat.mod_le _ _
    cases e1 : jo_nth left 5 (rest / (unit / (m - i))) 0 with
    | none => rw [e1] at h; cases h
    | some t =>
      rw [e1] at h
      dsimp only at h
      cases e2 : jo_row m d (i + 1) (rest % (unit / (m - i))) (unit / (m - i)) (left - 2 ^ t) with
      | none => rw [e2] at h; cases h
      | some r =>
        rw [e2] at h
        dsimp only at h
        obtain rfl : t :: r = rows := Option.some.inj h
        refine br_f (nI_ge (by omega) (by omega)) ?_
        rw [pk_sub (by omega), pk_div hu (by omega) (by omega)]
        have u3 := Nat.lt_of_le_of_lt u2 hu
        have u4 := Nat.lt_of_le_of_lt r2 hr
        have u5 := Nat.lt_of_le_of_lt r3 hr
        refine ⟨nI_ne0 (by omega) (by omega), nm_e ⟨nI_ne0 c0 u3, nm_r (pk_div hr c0 u3) ⟨nI_ne0 c0 u3, nm_r (pk_rem hr c0 u3) ⟨5, ?_⟩⟩⟩⟩
        refine jo_y53 (by omega) hl ?_ 5 _ 0 (by omega) u4 e1
        refine ih (i + 1) _ _ _ r _ (by omega) u5 u3 (Nat.lt_of_le_of_lt (Nat.sub_le _ _) hl) e2 (fun row' a b => K row' ?_ ?_)
        · intro k hk
          rw [a k (by omega), pk_un (by omega)]
        · intro k hk
          cases k with
          | zero =>
            rw [Nat.add_zero, a i (by omega), pk_us]; rfl
          | succ k =>
            have := b k (by omega)
            rw [show i + (k + 1) = i + 1 + k by omega, this]; rfl
theorem jo_fact_lt : ∀ m, m ≤ 5 → jo_fact m ≤ 120 := by decide
theorem jo_yorder {post : SY → Prop} {o : Nat} (h0 : 0 < s) (hs : s < 32) (ho : o < jo_fact (jo_pc s 5))
    (K : ∀ row', (∀ k, k < jo_pc s 5 → row' k = nI ((jo_rw s o).getD k 0)) → post (f_formCount, f_cost, f_leftSet, f_linked, f_linear, a_tables, a_filters, a_sizes, a_forms, row', a_stack)) :
    wpY_order post (f_formCount, f_cost, f_leftSet, f_linked, f_linear, a_tables, a_filters, a_sizes, a_forms, a_row, a_stack) (nI s) (nI o) (nI (jo_fact (jo_pc s 5))) := by
  have hp := jo_pc_le s 5
  have hf := jo_fact_lt (jo_pc s 5) hp
  refine jo_ycount hs ⟨jo_pc s 5 + 1, ?_⟩
  refine jo_y19 hp (jo_pc s 5) 0 o _ s _ a_row (by omega) (by omega) (by omega) hs (jo_row_ok h0 hs ho).1 (fun row' _ b => K row' (fun k hk => ?_))
  have := b k hk
  rw [Nat.zero_add] at this
  exact this
end
end
section
/-! the reference follows a plan -/
def jo_le (ls : Int32) (js : List Nat) : Int32 := if js = [] then ls else nI (jo_lf js)
theorem jo_le_cons (ls : Int32) (j : Nat) (js : List Nat) : jo_le ls (j :: js) = jo_le (nI (j / 32)) js := by
  unfold jo_le jo_lf
  rw [if_neg (by simp)]
  cases js with
  | nil => rfl
  | cons i js => rw [if_neg (by simp)]; rfl
def jo_st (a : Nat → Int32) : List Nat → Prop
  | [] => True
  | t :: r => a r.length = nI t ∧ t < 32 ∧ jo_st a r
theorem jo_st_upd {a : Nat → Int32} {n : Nat} {v : Int32} : ∀ (l : List Nat), jo_st a l → l.length ≤ n → jo_st (upd a n v) l
  | [], _, _ => trivial
  | t :: r, h, hn => by
    rw [List.length_cons] at hn
    exact ⟨by rw [pk_un (by omega)]; exact h.1, h.2.1, jo_st_upd r h.2.2 (by omega)⟩
theorem jo_nar (b : Bool) : narrow .boolean (.int (jo_b b)) = .int (jo_b b) := by cases b <;> rfl
theorem jo_fits (b : Bool) : fits .boolean (.int (jo_b b)) = true := by cases b <;> rfl
section
variable {f_formCount f_cost f_leftSet f_linked f_linear : Int32} {a_tables a_filters a_sizes a_forms a_row a_stack : Nat → Int32} {dp ds : Nat → Nat} {dh : Nat → Bool} {sz : Nat → Nat} {m : Nat}
theorem jo_y148 {post : SY → Prop} {J : Int32 → Int32 → Int32 → Int32 → Int32 → Int32 → Int32 → (Nat → Int32) → (Nat → Int32) → (Nat → Int32) → (Nat → Int32) → (Nat → Int32) → (Nat → Int32) → Prop}
    {x1 x2 x4 : Int32} {k i l r c : Nat} {b : Bool} (hk : k < 5) (hl : l < 32) (hr : r < 32) (hsz : ∀ t, t < 32 → a_sizes t = nI (sz t))
    (K : J (nI (k + 1)) x4 (nI (i + 1)) (nI (c + sz (l ||| r))) (nI l) f_linked (jo_b b) a_tables a_filters a_sizes a_forms a_row (upd a_stack k (nI (l ||| r)))) :
    wY_follow_148 post J x1 x2 (nI (k + 1)) x4 (nI i) (nI r) (jo_b b) f_formCount (nI c) (nI l) f_linked f_linear a_tables a_filters a_sizes a_forms a_row a_stack := by
  have h := jo_o32 hl hr
  have e : nI (k + 1) - 1 = nI k := nI_pred k
  have ck : (nI k).toNatClampNeg = k := nI_clamp (by omega)
  have co : (nI (l ||| r)).toNatClampNeg = l ||| r := nI_clamp (by omega)
  have ik : vp_in (nI k) 5 := vp_in_nI hk (by decide)
  have io : vp_in (nI (l ||| r)) 32 := vp_in_nI h (by decide)
  unfold wY_follow_148
  rw [e, jo_or, ck, co, hsz _ h]
  exact ⟨jo_nar b, jo_fits b, ik, nm_e ⟨io, nm_r (nI_add _ _) (nm_r (nI_1 i) K)⟩⟩
theorem jo_y122 {post : SY → Prop} {J : Int32 → Int32 → Int32 → Int32 → Int32 → Int32 → Int32 → (Nat → Int32) → (Nat → Int32) → (Nat → Int32) → (Nat → Int32) → (Nat → Int32) → (Nat → Int32) → Prop}
    {x1 x2 x4 : Int32} {k i l r c : Nat} {b1 b2 : Bool} (hk : k < 5) (hl : l < 32) (hr : r < 32) (h0 : 0 < r) (hsz : ∀ t, t < 32 → a_sizes t = nI (sz t))
    (K : J (nI (k + 1)) x4 (nI (i + 1)) (nI (c + sz (l ||| r))) (nI l) (jo_b b1) (jo_b (b2 && jo_lin (l * 32 + r))) a_tables a_filters a_sizes a_forms a_row (upd a_stack k (nI (l ||| r)))) :
    wY_follow_122 post J x1 x2 (nI (k + 1)) x4 (nI i) (nI r) (jo_b b1) f_formCount (nI c) (nI l) f_linked (jo_b b2) a_tables a_filters a_sizes a_forms a_row a_stack := by
  unfold wY_follow_122
  refine ⟨jo_nar b1, jo_fits b1, ?_⟩
  have e : jo_lin (l * 32 + r) = (r &&& (r - 1) == 0) := by
    unfold jo_lin
    rw [show (l * 32 + r) % 32 = r by omega]
  rw [e] at K
  rw [show nI r - 1 = nI (r - 1) from pk_sub (b := 1) (by omega), nx_and]
  cases b2 with
  | false =>
    rw [Bool.false_and] at K
    exact br_t rfl (jo_y148 (b := false) hk hl hr hsz K)
  | true =>
    rw [Bool.true_and] at K
    refine br_f (by decide) ?_
    by_cases c : r &&& (r - 1) = 0
    · rw [c] at K ⊢
      exact br_t rfl (jo_y148 (b := true) hk hl hr hsz K)
    · have w2 : r &&& (r - 1) < 32 := Nat.lt_of_le_of_lt Nat.and_le_left (by omega)
      rw [beq_eq_false_iff_ne.mpr c] at K
      exact br_f (nI_ne0 (by omega) (by omega)) (jo_y148 (b := false) hk hl hr hsz K)
theorem jo_y29 {post : SY → Prop} {form : Nat} (hf : form < 512) (h0 : 0 < m) (hm : m ≤ 5) (D : jo_dd dp ds dh) (DY : jo_dY dp ds dh a_tables a_filters) (hsz : ∀ t, t < 32 → a_sizes t = nI (sz t)) :
    ∀ d i stk rows js st tk c ls b1 b2, i + d = 2 * m - 1 → jo_fol form d i stk rows = some js → jo_st st stk → (∀ t, t ∈ stk → 0 < t) → stk.length ≤ 5 → tk + rows.length ≤ 5 →
      (∀ k, k < rows.length → a_row (tk + k) = nI (rows.getD k 0)) → (∀ t, t ∈ rows → t < 5) →
      (∀ st', post (f_formCount, nI (c + jo_cost sz js), jo_le ls js, jo_b (b1 && js.all (jo_lj dh)), jo_b (b2 && js.all jo_lin), a_tables, a_filters, a_sizes, a_forms, a_row, st')) →
      wY_follow_29 post (nI form) (nI m) f_formCount (d + 1) (nI stk.length) (nI tk) (nI i) (nI c) ls (jo_b b1) (jo_b b2) a_tables a_filters a_sizes a_forms a_row st := by
  intro d
  induction d with
  | zero =>
    intro i stk rows js st tk c ls b1 b2 hi h hst hp hl ht hr h5 K
    simp only [jo_fol] at h
    obtain rfl : [] = js := Option.some.inj h
    have k := K st
    simp only [jo_cost, List.all_nil, Bool.and_true, Nat.add_zero] at k
    exact br_t (by rw [jo_2m1 h0]; exact nI_le (by omega) (by omega)) k
  | succ d ih =>
    intro i stk rows js st tk c ls b1 b2 hi h hst hp hl ht hr h5 K
    simp only [jo_fol] at h
    refine br_f (by rw [jo_2m1 h0]; exact nI_ge (by omega) (by omega)) ?_
    by_cases g : form.testBit i = true
    · rw [if_pos g] at h
      refine br_t (jo_bit1 (by omega) (by omega) g) ?_
      cases rows with
      | nil => cases h
      | cons t rows =>
        dsimp only at h
        by_cases w : stk.length < 5
        · rw [if_pos w] at h
          rw [List.length_cons] at ht
          have et := hr 0 (by rw [List.length_cons]; omega)
          rw [Nat.add_zero] at et
          have et' : a_row tk = nI t := et
          have t5 := h5 t (List.mem_cons_self ..)
          refine ⟨vp_in_nI (by omega) (by decide), vp_in_nI w (by decide), nm_r (e' := upd st stk.length (nI (2 ^ t))) ?_ (nm_r (nI_1 _) (nm_r (nI_1 _) (nm_r (nI_1 i) ?_)))⟩
          · rw [nI_clamp (by omega), nI_clamp (by omega), et', jo_shl1 (by omega)]
          · refine ih (i + 1) (2 ^ t :: stk) rows js _ (tk + 1) c ls b1 b2 (by omega) h ⟨pk_us, jo_p32 t5, jo_st_upd stk hst (Nat.le_refl _)⟩ ?_ ?_ (by omega) ?_ ?_ K
            · intro x hx
              rcases List.mem_cons.mp hx with e | e
              · rw [e]; exact Nat.two_pow_pos t
              · exact hp x e
            · rw [List.length_cons]; omega
            · intro k hk
              have := hr (k + 1) (by rw [List.length_cons]; omega)
              rw [show tk + 1 + k = tk + (k + 1) by omega, this]; rfl
            · exact fun x hx => h5 x (List.mem_cons_of_mem _ hx)
        · rw [if_neg w] at h; cases h
    · rw [if_neg g] at h
      refine br_f (jo_bitn (by omega) (by omega) (jo_nt g)) ?_
      match stk, h, hst, hp, hl with
      | [], h, _, _, _ => cases h
      | [_], h, _, _, _ => cases h
      | r :: l :: stk, h, hst, hp, hl =>
        dsimp only at h
        cases e1 : jo_fol form d (i + 1) ((l ||| r) :: stk) rows with
        | none => rw [e1] at h; cases h
        | some js' =>
          rw [e1] at h
          dsimp only at h
          obtain rfl : (l * 32 + r) :: js' = js := Option.some.inj h
          obtain ⟨s1, s2, s3, s4, s5⟩ := hst
          rw [List.length_cons] at s1
          rw [List.length_cons, List.length_cons] at hl
          have r0 := hp r (List.mem_cons_self ..)
          have o1 : 0 < l ||| r := Nat.lt_of_lt_of_le r0 Nat.right_le_or
          have ej : (l * 32 + r) / 32 = l := by omega
          have em : (l * 32 + r) % 32 = r := by omega
          have eu : jo_u (l * 32 + r) = l ||| r := by unfold jo_u; rw [ej, em]
          have elj : jo_lj dh (l * 32 + r) = jo_lk dh l r := by unfold jo_lj; rw [ej, em]
          have hst' : jo_st (upd st stk.length (nI (l ||| r))) ((l ||| r) :: stk) := ⟨pk_us, jo_o32 s4 s2, jo_st_upd stk s5 (Nat.le_refl _)⟩
          have hp' : ∀ t, t ∈ (l ||| r) :: stk → 0 < t := by
            intro x hx
            rcases List.mem_cons.mp hx with e | e
            · rw [e]; exact o1
            · exact hp x (List.mem_cons_of_mem _ (List.mem_cons_of_mem _ e))
          simp only [jo_cost, eu, jo_le_cons, ej, List.all_cons, elj] at K
          have fin : ∀ x : Bool, x = (b1 && jo_lk dh l r) → wY_follow_29 post (nI form) (nI m) f_formCount (d + 1) (nI (stk.length + 1)) (nI tk) (nI (i + 1)) (nI (c + sz (l ||| r))) (nI l) (jo_b x) (jo_b (b2 && jo_lin (l * 32 + r))) a_tables a_filters a_sizes a_forms a_row (upd st stk.length (nI (l ||| r))) := by
            intro x ex
            refine ih (i + 1) ((l ||| r) :: stk) rows js' _ tk _ (nI l) _ _ (by omega) e1 hst' hp' (by rw [List.length_cons]; omega) ht hr h5 (fun st' => ?_)
            rw [ex, Bool.and_assoc, Bool.and_assoc, Nat.add_assoc]
            exact K st'
          have p1 : nI (r :: l :: stk).length + (-1) = nI (stk.length + 1) := pk_m1 _
          have p2 : nI (stk.length + 1) - 1 = nI stk.length := nI_pred _
          refine nm_r p1 ⟨vp_in_nI (by omega) (by decide), nm_r (e' := nI r) (by rw [nI_clamp (by omega)]; exact s1) ?_⟩
          rw [p2]
          refine ⟨vp_in_nI (by omega) (by decide), nm_r (e' := nI l) (by rw [nI_clamp (by omega)]; exact s3) ?_⟩
          cases b1 with
          | false => exact br_t rfl (jo_y122 (b1 := false) (by omega) s4 s2 r0 hsz (fin false (by rw [Bool.false_and])))
          | true =>
            refine br_f (by decide) (jo_ylinked s4 s2 D DY ?_)
            cases q : jo_lk dh l r with
            | false => exact br_t rfl (jo_y122 (b1 := false) (by omega) s4 s2 r0 hsz (fin false (by rw [q, Bool.true_and])))
            | true => exact br_f (by decide) (jo_y122 (b1 := true) (by omega) s4 s2 r0 hsz (fin true (by rw [q, Bool.true_and])))
theorem jo_yfollow {post : SY → Prop} {form : Nat} {rows js : List Nat} (hf : form < 512) (h0 : 0 < m) (hm : m ≤ 5) (D : jo_dd dp ds dh) (DY : jo_dY dp ds dh a_tables a_filters) (hsz : ∀ t, t < 32 → a_sizes t = nI (sz t))
    (h : jo_fol form (2 * m - 1) 0 [] rows = some js) (hl : rows.length = m) (hr : ∀ k, k < m → a_row k = nI (rows.getD k 0)) (h5 : ∀ t, t ∈ rows → t < 5)
    (K : ∀ st', post (f_formCount, nI (jo_cost sz js), jo_le (-4) js, jo_b (js.all (jo_lj dh)), jo_b (js.all jo_lin), a_tables, a_filters, a_sizes, a_forms, a_row, st')) :
    wpY_follow post (f_formCount, f_cost, f_leftSet, f_linked, f_linear, a_tables, a_filters, a_sizes, a_forms, a_row, a_stack) (nI form) (nI m) := by
  refine ⟨2 * m - 1 + 1, ?_⟩
  refine jo_y29 hf h0 hm D DY hsz (2 * m - 1) 0 [] rows js a_stack 0 0 (-4) true true (by omega) h trivial (fun t ht => by cases ht) (by decide) (by omega) (fun k hk => ?_) h5 (fun st' => ?_)
  · rw [Nat.zero_add]; exact hr k (by omega)
  · rw [Nat.zero_add, Bool.true_and, Bool.true_and]; exact K st'
end
end
section
/-! the reference goes over all plans: extreme, countPlans, left -/
def jo_Q (s n : Nat) : List (List Nat) := (List.range n).map (jo_pY s)
theorem jo_Q_s (s n : Nat) : jo_Q s (n + 1) = jo_Q s n ++ [jo_pY s n] := by
  unfold jo_Q
  rw [List.range_succ, List.map_append]; rfl
theorem jo_Q_mem {s i : Nat} (h0 : 0 < s) (hs : s < 32) (hi : i < jo_tot s) : jo_pY s i ∈ jo_pl s :=
  (jo_pm_ok h0 hs).mem_iff.mp (List.mem_map.mpr ⟨i, List.mem_range.mpr hi, rfl⟩)
theorem jo_Q_perm {s : Nat} (h0 : 0 < s) (hs : s < 32) : (jo_Q s (jo_tot s)).Perm (jo_pl s) := jo_pm_ok h0 hs
def jo_ex (v : Nat) : Int32 := if v = 2147483647 then -4 else nI v
def jo_kk (k : Int32) (b1 b2 : Bool) : Bool := if k = 0 then true else if k = 1 then b2 else b1
def jo_kp (k : Int32) (dh : Nat → Bool) (p : List Nat) : Bool := jo_kk k (p.all (jo_lj dh)) (p.all jo_lin)
theorem jo_kp0 (dh : Nat → Bool) (L : List (List Nat)) : L.filter (jo_kp 0 dh) = L := List.filter_eq_self.mpr (fun p _ => rfl)
theorem jo_kp1 (dh : Nat → Bool) (L : List (List Nat)) : L.filter (jo_kp 1 dh) = jo_K jo_lin L := rfl
theorem jo_kp2 (dh : Nat → Bool) (L : List (List Nat)) : L.filter (jo_kp 2 dh) = jo_K (jo_lj dh) L := rfl
theorem jo_flt_1 {f : List Nat → Bool} (L : List (List Nat)) {p : List Nat} (h : f p = true) : (L ++ [p]).filter f = L.filter f ++ [p] := by
  rw [List.filter_append, List.filter_cons_of_pos h]; rfl
theorem jo_flt_0 {f : List Nat → Bool} (L : List (List Nat)) {p : List Nat} (h : f p = false) : (L ++ [p]).filter f = L.filter f := by
  rw [List.filter_append, List.filter_cons_of_neg (by rw [h]; decide), List.filter_nil, List.append_nil]
theorem jo_mc_1 {sz : Nat → Nat} (L : List (List Nat)) {p : List Nat} (h : jo_cost sz p ≤ 2147483647) : jo_mc sz (L ++ [p]) = min (jo_mc sz L) (jo_cost sz p) := by
  rw [jo_mc_app]
  show min _ (min (jo_cost sz p) 2147483647) = _
  omega
theorem jo_fc_pos : ∀ m, m ≤ 5 → 0 < m → 0 < (jo_fm m).length := by decide
theorem jo_fm_512 : ∀ m, m ≤ 5 → ∀ x, x ∈ jo_fm m → x < 512 := by decide
theorem jo_fm_get {m k : Nat} (hm : m ≤ 5) (hk : k < (jo_fm m).length) : (jo_fm m).getD k 0 < 512 := by
  rw [List.getD_eq_getElem?_getD, List.getElem?_eq_getElem hk]
  exact jo_fm_512 m hm _ (List.getElem_mem hk)
section
variable {f_formCount f_cost f_leftSet f_linked f_linear : Int32} {a_tables a_filters a_sizes a_forms a_row a_stack : Nat → Int32} {dp ds : Nat → Nat} {dh : Nat → Bool} {s : Nat}
theorem jo_ykind {post : Int32 → Prop} {k : Int32} {b1 b2 : Bool} (K : post (jo_b (jo_kk k b1 b2))) : wpY_isKind post (f_formCount, f_cost, f_leftSet, jo_b b1, jo_b b2, a_tables, a_filters, a_sizes, a_forms, a_row, a_stack) k := by
  unfold jo_kk at K
  by_cases h : k = 0
  · rw [if_pos h] at K
    exact br_t h K
  · rw [if_neg h] at K
    refine br_f h ?_
    by_cases g : k = 1
    · rw [if_pos g] at K
      refine br_t g ?_
      cases b2 with
      | false => exact br_t rfl K
      | true => exact br_f (by decide) K
    · rw [if_neg g] at K
      refine br_f g ?_
      cases b1 with
      | false => exact br_t rfl K
      | true => exact br_f (by decide) K
/-- one plan: its order is put into the row and it is followed -/
theorem jo_yof {R Q : SY → Prop} {i : Nat} (h0 : 0 < s) (hs : s < 32) (D : jo_dd dp ds dh) (DY : jo_dY dp ds dh a_tables a_filters)
    (hsz : ∀ t, t < 32 → a_sizes t = nI (jo_sz dp ds t)) (hfm : jo_ls a_forms (jo_fm (jo_pc s 5))) (hi : i < jo_tot s)
    (hR : ∀ row, (¬ nI (jo_fc s) = 0 ∧ (vp_in (nI i - nI i / nI (jo_fc s) * nI (jo_fc s)) 14 ∧ wpY_follow Q (nI (jo_fc s), f_cost, f_leftSet, f_linked, f_linear, a_tables, a_filters, a_sizes, a_forms, row, a_stack) (a_forms (nI i - nI i / nI (jo_fc s) * nI (jo_fc s)).toNatClampNeg) (nI (jo_pc s 5)))) → R (nI (jo_fc s), f_cost, f_leftSet, f_linked, f_linear, a_tables, a_filters, a_sizes, a_forms, row, a_stack))
    (K : ∀ row' st', (∀ k, k < jo_pc s 5 → row' k = nI ((jo_rw s (i / jo_fc s)).getD k 0)) → Q (nI (jo_fc s), nI (jo_cost (jo_sz dp ds) (jo_pY s i)), jo_le (-4) (jo_pY s i), jo_b ((jo_pY s i).all (jo_lj dh)), jo_b ((jo_pY s i).all jo_lin), a_tables, a_filters, a_sizes, a_forms, row', st')) :
    ¬ nI (jo_fc s) = 0 ∧ wpY_order R (nI (jo_fc s), f_cost, f_leftSet, f_linked, f_linear, a_tables, a_filters, a_sizes, a_forms, a_row, a_stack) (nI s) (nI i / nI (jo_fc s)) (nI (jo_fact (jo_pc s 5))) := by
  have hp := jo_pc_le s 5
  have hp0 := jo_pc_pos h0 hs
  have hf := jo_fact_lt (jo_pc s 5) hp
  have h14 : jo_fc s ≤ 14 := jo_fm_14 _ hp
  have hc0 : 0 < jo_fc s := jo_fc_pos _ hp hp0
  have ht : jo_tot s ≤ 120 * 14 := Nat.mul_le_mul hf h14
  have ho : i / jo_fc s < jo_fact (jo_pc s 5) := by
    rw [Nat.div_lt_iff_lt_mul hc0]; exact hi
  obtain ⟨q1, q2, q3⟩ := jo_row_ok h0 hs ho
  have hm : i % jo_fc s < jo_fc s := Nat.mod_lt _ hc0
  refine ⟨nI_ne0 hc0 (by omega), ?_⟩
  rw [pk_div (by omega) hc0 (by omega)]
  refine jo_yorder h0 hs ho (fun row' hr => hR row' ⟨nI_ne0 hc0 (by omega), ?_⟩)
  rw [pk_rem (by omega) hc0 (by omega)]
  refine ⟨vp_in_nI (by omega) (by decide), ?_⟩
  rw [nI_clamp (by omega), hfm _ hm]
  exact jo_yfollow (jo_fm_get hp hm) hp0 hp D DY hsz (jo_po_ok hs hi) q2 hr q3 (fun st' => K row' st' hr)
theorem jo_y105 {post : Int32 → SY → Prop} {J : Int32 → Int32 → Int32 → Int32 → Int32 → Int32 → Int32 → (Nat → Int32) → (Nat → Int32) → (Nat → Int32) → (Nat → Int32) → (Nat → Int32) → (Nat → Int32) → Prop}
    {x1 k x3 x4 x5 x6 : Int32} {i : Nat} {z b1 b2 : Bool}
    (K : J (if jo_kk k b1 b2 && z then f_cost else x6) (nI (i + 1)) f_formCount f_cost f_leftSet (jo_b b1) (jo_b b2) a_tables a_filters a_sizes a_forms a_row a_stack) :
    wY_extreme_105 post J x1 k x3 x4 x5 x6 (nI i) (jo_b z) f_formCount f_cost f_leftSet (jo_b b1) (jo_b b2) a_tables a_filters a_sizes a_forms a_row a_stack := by
  unfold wY_extreme_105
  refine jo_ykind ?_
  cases e : jo_kk k b1 b2 with
  | false =>
    rw [e, Bool.false_and] at K
    exact br_t rfl (nm_r (nI_1 i) K)
  | true =>
    rw [e, Bool.true_and] at K
    refine br_f (by decide) ?_
    cases z with
    | false => exact br_t rfl (nm_r (nI_1 i) K)
    | true => exact br_f (by decide) (nm_r (nI_1 i) K)
theorem jo_y21 {post : Int32 → SY → Prop} {k : Int32} (h0 : 0 < s) (hs : s < 32) (D : jo_dd dp ds dh) (DY : jo_dY dp ds dh a_tables a_filters)
    (hsz : ∀ t, t < 32 → a_sizes t = nI (jo_sz dp ds t)) (hfm : jo_ls a_forms (jo_fm (jo_pc s 5)))
    (K : ∀ f_cost f_leftSet f_linked f_linear a_row a_stack, post (jo_ex (jo_mc (jo_sz dp ds) ((jo_Q s (jo_tot s)).filter (jo_kp k dh)))) (nI (jo_fc s), f_cost, f_leftSet, f_linked, f_linear, a_tables, a_filters, a_sizes, a_forms, a_row, a_stack)) :
    ∀ d i, i + d = jo_tot s → ∀ f_cost f_leftSet f_linked f_linear a_row a_stack,
      wY_extreme_21 post (nI s) k 0 (nI (jo_fact (jo_pc s 5))) (nI (jo_pc s 5)) (d + 1) (jo_ex (jo_mc (jo_sz dp ds) ((jo_Q s i).filter (jo_kp k dh)))) (nI i) (nI (jo_fc s)) f_cost f_leftSet f_linked f_linear a_tables a_filters a_sizes a_forms a_row a_stack := by
  have hp := jo_pc_le s 5
  have hf := jo_fact_lt (jo_pc s 5) hp
  have h14 : jo_fc s ≤ 14 := jo_fm_14 _ hp
  have ht : jo_tot s ≤ 120 * 14 := Nat.mul_le_mul hf h14
  have em : nI (jo_fact (jo_pc s 5)) * nI (jo_fc s) = nI (jo_tot s) := pk_mul _ _
  have hz : ∀ t, jo_sz dp ds t ≤ jo_bz t := jo_sz_le D.1
  intro d
  induction d with
  | zero =>
    intro i hi f_cost f_leftSet f_linked f_linear a_row a_stack
    obtain rfl : i = jo_tot s := by omega
    exact br_t (by rw [em]; exact Int32.le_refl _) (K _ _ _ _ _ _)
  | succ d ih =>
    intro i hi f_cost f_leftSet f_linked f_linear a_row a_stack
    refine br_f (by rw [em]; exact nI_ge (by omega) (by omega)) ?_
    have hb := jo_pl_bd hz hs (jo_Q_mem h0 hs (show i < jo_tot s by omega))
    refine jo_yof h0 hs D DY hsz hfm (by omega) (fun _ h => h) (fun row' st' _ => ?_)
    have ih' := ih (i + 1) (by omega) (nI (jo_cost (jo_sz dp ds) (jo_pY s i))) (jo_le (-4) (jo_pY s i)) (jo_b ((jo_pY s i).all (jo_lj dh))) (jo_b ((jo_pY s i).all jo_lin)) row' st'
    rw [jo_Q_s] at ih'
    have key : ∀ z : Bool, (jo_kp k dh (jo_pY s i) = true → jo_ex (min (jo_mc (jo_sz dp ds) ((jo_Q s i).filter (jo_kp k dh))) (jo_cost (jo_sz dp ds) (jo_pY s i))) = if z then nI (jo_cost (jo_sz dp ds) (jo_pY s i)) else jo_ex (jo_mc (jo_sz dp ds) ((jo_Q s i).filter (jo_kp k dh)))) →
        wY_extreme_105 post (wY_extreme_21 post (nI s) k 0 (nI (jo_fact (jo_pc s 5))) (nI (jo_pc s 5)) (d + 1)) (nI s) k 0 (nI (jo_fact (jo_pc s 5))) (nI (jo_pc s 5)) (jo_ex (jo_mc (jo_sz dp ds) ((jo_Q s i).filter (jo_kp k dh)))) (nI i) (jo_b z)
          (nI (jo_fc s)) (nI (jo_cost (jo_sz dp ds) (jo_pY s i))) (jo_le (-4) (jo_pY s i)) (jo_b ((jo_pY s i).all (jo_lj dh))) (jo_b ((jo_pY s i).all jo_lin)) a_tables a_filters a_sizes a_forms row' st' := by
      intro z hz'
      refine jo_y105 ?_
      by_cases c : jo_kp k dh (jo_pY s i) = true
      · rw [jo_flt_1 _ c, jo_mc_1 _ (by omega), hz' c] at ih'
        have c' : jo_kk k ((jo_pY s i).all (jo_lj dh)) ((jo_pY s i).all jo_lin) = true := c
        rw [c', Bool.true_and]
        exact ih'
      · rw [jo_flt_0 _ (jo_nt c)] at ih'
        have c' : jo_kk k ((jo_pY s i).all (jo_lj dh)) ((jo_pY s i).all jo_lin) = false := jo_nt c
        rw [c', Bool.false_and]
        exact ih'
    have fL : jo_mc (jo_sz dp ds) ((jo_Q s i).filter (jo_kp k dh)) ≤ 2147483647 := jo_mc_far
    refine br_t rfl ?_
    by_cases v : jo_mc (jo_sz dp ds) ((jo_Q s i).filter (jo_kp k dh)) = 2147483647
    · have e : jo_ex (jo_mc (jo_sz dp ds) ((jo_Q s i).filter (jo_kp k dh))) = -4 := if_pos v
      refine br_t (by rw [e]; decide) (key true (fun _ => ?_))
      unfold jo_ex
      rw [if_neg (by omega), if_pos rfl]
      congr 1; omega
    · have e : jo_ex (jo_mc (jo_sz dp ds) ((jo_Q s i).filter (jo_kp k dh))) = nI (jo_mc (jo_sz dp ds) ((jo_Q s i).filter (jo_kp k dh))) := if_neg v
      refine br_f (by rw [e]; exact nI_pos (by omega)) ?_
      by_cases w : jo_mc (jo_sz dp ds) ((jo_Q s i).filter (jo_kp k dh)) ≤ jo_cost (jo_sz dp ds) (jo_pY s i)
      · refine br_t (by rw [e]; exact nI_le w (by omega)) (key false (fun _ => ?_))
        rw [Nat.min_eq_left w, if_neg (by decide)]
      · refine br_f (by rw [e]; exact nI_ge (by omega) (by omega)) (key true (fun _ => ?_))
        rw [Nat.min_eq_right (by omega), if_pos rfl]
        exact if_neg (by omega)
theorem jo_yextreme {post : Int32 → SY → Prop} {k : Int32} (h0 : 0 < s) (hs : s < 32) (D : jo_dd dp ds dh) (DY : jo_dY dp ds dh a_tables a_filters)
    (K : ∀ f_formCount f_cost f_leftSet f_linked f_linear a_sizes a_forms a_row a_stack, post (jo_ex (jo_mc (jo_sz dp ds) ((jo_pl s).filter (jo_kp k dh)))) (f_formCount, f_cost, f_leftSet, f_linked, f_linear, a_tables, a_filters, a_sizes, a_forms, a_row, a_stack)) :
    wpY_extreme post (f_formCount, f_cost, f_leftSet, f_linked, f_linear, a_tables, a_filters, a_sizes, a_forms, a_row, a_stack) (nI s) k 0 := by
  refine jo_yprep h0 hs D DY (fun z a hz ha => jo_ycount hs ⟨jo_tot s + 1, ?_⟩)
  have h := jo_y21 (post := post) (k := k) (a_sizes := z) (a_forms := a) h0 hs D DY hz ha (fun f1 f2 f3 f4 r t => by
    rw [jo_mc_perm ((jo_Q_perm h0 hs).filter (jo_kp k dh))]
    exact K _ _ _ _ _ _ _ _ _) (jo_tot s) 0 (by omega) f_cost f_leftSet f_linked f_linear a_row a_stack
  exact h
/-- the greatest -/
def jo_wx (sz : Nat → Nat) (L : List (List Nat)) : Int32 := if L = [] then -4 else nI (jo_xc sz L)
theorem jo_y21w {post : Int32 → SY → Prop} (h0 : 0 < s) (hs : s < 32) (D : jo_dd dp ds dh) (DY : jo_dY dp ds dh a_tables a_filters)
    (hsz : ∀ t, t < 32 → a_sizes t = nI (jo_sz dp ds t)) (hfm : jo_ls a_forms (jo_fm (jo_pc s 5)))
    (K : ∀ f_cost f_leftSet f_linked f_linear a_row a_stack, post (jo_wx (jo_sz dp ds) (jo_Q s (jo_tot s))) (nI (jo_fc s), f_cost, f_leftSet, f_linked, f_linear, a_tables, a_filters, a_sizes, a_forms, a_row, a_stack)) :
    ∀ d i, i + d = jo_tot s → jo_xc (jo_sz dp ds) (jo_Q s i) ≤ 2147483646 → ∀ f_cost f_leftSet f_linked f_linear a_row a_stack,
      wY_extreme_21 post (nI s) 0 1 (nI (jo_fact (jo_pc s 5))) (nI (jo_pc s 5)) (d + 1) (jo_wx (jo_sz dp ds) (jo_Q s i)) (nI i) (nI (jo_fc s)) f_cost f_leftSet f_linked f_linear a_tables a_filters a_sizes a_forms a_row a_stack := by
  have hp := jo_pc_le s 5
  have hf := jo_fact_lt (jo_pc s 5) hp
  have h14 : jo_fc s ≤ 14 := jo_fm_14 _ hp
  have ht : jo_tot s ≤ 120 * 14 := Nat.mul_le_mul hf h14
  have em : nI (jo_fact (jo_pc s 5)) * nI (jo_fc s) = nI (jo_tot s) := pk_mul _ _
  have hz : ∀ t, jo_sz dp ds t ≤ jo_bz t := jo_sz_le D.1
  intro d
  induction d with
  | zero =>
    intro i hi hx f_cost f_leftSet f_linked f_linear a_row a_stack
    obtain rfl : i = jo_tot s := by omega
    exact br_t (by rw [em]; exact Int32.le_refl _) (K _ _ _ _ _ _)
  | succ d ih =>
    intro i hi hx f_cost f_leftSet f_linked f_linear a_row a_stack
    refine br_f (by rw [em]; exact nI_ge (by omega) (by omega)) ?_
    have hb := jo_pl_bd hz hs (jo_Q_mem h0 hs (show i < jo_tot s by omega))
    refine jo_yof h0 hs D DY hsz hfm (by omega) (fun _ h => h) (fun row' st' _ => ?_)
    have ex : jo_xc (jo_sz dp ds) (jo_Q s i ++ [jo_pY s i]) = max (jo_xc (jo_sz dp ds) (jo_Q s i)) (jo_cost (jo_sz dp ds) (jo_pY s i)) := by
      rw [jo_xc_app]
      show max _ (max (jo_cost (jo_sz dp ds) (jo_pY s i)) 0) = _
      omega
    have ih' := ih (i + 1) (by omega) (by rw [jo_Q_s, ex]; omega) (nI (jo_cost (jo_sz dp ds) (jo_pY s i))) (jo_le (-4) (jo_pY s i)) (jo_b ((jo_pY s i).all (jo_lj dh))) (jo_b ((jo_pY s i).all jo_lin)) row' st'
    have ew : jo_wx (jo_sz dp ds) (jo_Q s (i + 1)) = nI (max (jo_xc (jo_sz dp ds) (jo_Q s i)) (jo_cost (jo_sz dp ds) (jo_pY s i))) := by
      unfold jo_wx
      rw [jo_Q_s, if_neg (by simp), ex]
    rw [ew] at ih'
    refine br_f (by decide) ?_
    by_cases v : jo_Q s i = []
    · have e : jo_wx (jo_sz dp ds) (jo_Q s i) = -4 := if_pos v
      have e0 : jo_xc (jo_sz dp ds) (jo_Q s i) = 0 := by rw [v]; rfl
      rw [e0, Nat.zero_max] at ih'
      rw [e]
      refine br_f ?_ (jo_y105 (z := true) ih')
      rw [Int32.le_iff_toInt_le, nI_toInt (by omega)]
      show ¬ _ ≤ (-4 : Int)
      omega
    · have e : jo_wx (jo_sz dp ds) (jo_Q s i) = nI (jo_xc (jo_sz dp ds) (jo_Q s i)) := if_neg v
      rw [e]
      refine pk_le (jo_cost (jo_sz dp ds) (jo_pY s i)) (jo_xc (jo_sz dp ds) (jo_Q s i)) (fun w => jo_y105 (z := false) ?_) (fun w => jo_y105 (z := true) ?_)
      · rw [Nat.max_eq_left w] at ih'
        exact ih'
      · rw [Nat.max_eq_right (by omega)] at ih'
        exact ih'
theorem jo_yworst {post : Int32 → SY → Prop} (h0 : 0 < s) (hs : s < 32) (D : jo_dd dp ds dh) (DY : jo_dY dp ds dh a_tables a_filters)
    (K : ∀ f_formCount f_cost f_leftSet f_linked f_linear a_sizes a_forms a_row a_stack, post (nI (jo_xc (jo_sz dp ds) (jo_pl s))) (f_formCount, f_cost, f_leftSet, f_linked, f_linear, a_tables, a_filters, a_sizes, a_forms, a_row, a_stack)) :
    wpY_extreme post (f_formCount, f_cost, f_leftSet, f_linked, f_linear, a_tables, a_filters, a_sizes, a_forms, a_row, a_stack) (nI s) 0 1 := by
  refine jo_yprep h0 hs D DY (fun z a hz ha => jo_ycount hs ⟨jo_tot s + 1, ?_⟩)
  have h := jo_y21w (post := post) (a_sizes := z) (a_forms := a) h0 hs D DY hz ha (fun f1 f2 f3 f4 r t => by
    have e : jo_wx (jo_sz dp ds) (jo_Q s (jo_tot s)) = nI (jo_xc (jo_sz dp ds) (jo_pl s)) := by
      unfold jo_wx
      rw [if_neg, jo_xc_perm (jo_Q_perm h0 hs)]
      intro e
      have p := jo_Q_perm h0 hs
      rw [e] at p
      exact jo_pl_ne hs p.nil_eq.symm
    rw [e]
    exact K _ _ _ _ _ _ _ _ _) (jo_tot s) 0 (by omega) (by show (0 : Nat) ≤ _; omega) f_cost f_leftSet f_linked f_linear a_row a_stack
  exact h
end
end
section
/-! countPlans and left of the reference -/
def jo_on (o : Option Nat) : Int32 :=
  match o with
  | none => -1
  | some c => nI c
def jo_cq (sz : Nat → Nat) (o : Option Nat) (p : List Nat) : Bool :=
  match o with
  | none => true
  | some c => jo_cost sz p == c
def jo_cp (k : Int32) (dh : Nat → Bool) (sz : Nat → Nat) (o : Option Nat) (p : List Nat) : Bool := jo_kp k dh p && jo_cq sz o p
/-- the reference's left part while it goes over the plans -/
def jo_A (sz : Nat → Nat) (s m : Nat) : Nat → Int32
  | 0 => -4
  | i + 1 => if jo_cost sz (jo_pY s i) = m then (if jo_A sz s m i < 0 then jo_le (-4) (jo_pY s i) else if jo_A sz s m i ≤ jo_le (-4) (jo_pY s i) then jo_A sz s m i else jo_le (-4) (jo_pY s i)) else jo_A sz s m i
section
variable {f_formCount f_cost f_leftSet f_linked f_linear : Int32} {a_tables a_filters a_sizes a_forms a_row a_stack : Nat → Int32} {dp ds : Nat → Nat} {dh : Nat → Bool} {s : Nat}
theorem jo_y20 {post : Int32 → SY → Prop} {k : Int32} {o : Option Nat} (hc : ∀ c, o = some c → c ≤ 2147483646) (h0 : 0 < s) (hs : s < 32) (D : jo_dd dp ds dh) (DY : jo_dY dp ds dh a_tables a_filters)
    (hsz : ∀ t, t < 32 → a_sizes t = nI (jo_sz dp ds t)) (hfm : jo_ls a_forms (jo_fm (jo_pc s 5)))
    (K : ∀ f_cost f_leftSet f_linked f_linear a_row a_stack, post (nI ((jo_Q s (jo_tot s)).filter (jo_cp k dh (jo_sz dp ds) o)).length) (nI (jo_fc s), f_cost, f_leftSet, f_linked, f_linear, a_tables, a_filters, a_sizes, a_forms, a_row, a_stack)) :
    ∀ d i, i + d = jo_tot s → ∀ f_cost f_leftSet f_linked f_linear a_row a_stack,
      wY_countPlans_20 post (nI s) k (jo_on o) (nI (jo_fact (jo_pc s 5))) (nI (jo_pc s 5)) (d + 1) (nI ((jo_Q s i).filter (jo_cp k dh (jo_sz dp ds) o)).length) (nI i) (nI (jo_fc s)) f_cost f_leftSet f_linked f_linear a_tables a_filters a_sizes a_forms a_row a_stack := by
  have hp := jo_pc_le s 5
  have hf := jo_fact_lt (jo_pc s 5) hp
  have h14 : jo_fc s ≤ 14 := jo_fm_14 _ hp
  have ht : jo_tot s ≤ 120 * 14 := Nat.mul_le_mul hf h14
  have em : nI (jo_fact (jo_pc s 5)) * nI (jo_fc s) = nI (jo_tot s) := pk_mul _ _
  have hz : ∀ t, jo_sz dp ds t ≤ jo_bz t := jo_sz_le D.1
  intro d
  induction d with
  | zero =>
    intro i hi f_cost f_leftSet f_linked f_linear a_row a_stack
    obtain rfl : i = jo_tot s := by omega
    exact br_t (by rw [em]; exact Int32.le_refl _) (K _ _ _ _ _ _)
  | succ d ih =>
    intro i hi f_cost f_leftSet f_linked f_linear a_row a_stack
    refine br_f (by rw [em]; exact nI_ge (by omega) (by omega)) ?_
    have hb := jo_pl_bd hz hs (jo_Q_mem h0 hs (show i < jo_tot s by omega))
    refine jo_yof h0 hs D DY hsz hfm (by omega) (fun _ h => h) (fun row' st' _ => ?_)
    have ih' := ih (i + 1) (by omega) (nI (jo_cost (jo_sz dp ds) (jo_pY s i))) (jo_le (-4) (jo_pY s i)) (jo_b ((jo_pY s i).all (jo_lj dh))) (jo_b ((jo_pY s i).all jo_lin)) row' st'
    rw [jo_Q_s] at ih'
    have yes : jo_cp k dh (jo_sz dp ds) o (jo_pY s i) = true → nI ((jo_Q s i ++ [jo_pY s i]).filter (jo_cp k dh (jo_sz dp ds) o)).length = nI ((jo_Q s i).filter (jo_cp k dh (jo_sz dp ds) o)).length + 1 := fun h => by
      rw [jo_flt_1 _ h, List.length_append, nI_1]; rfl
    have no : jo_cp k dh (jo_sz dp ds) o (jo_pY s i) = false → nI ((jo_Q s i ++ [jo_pY s i]).filter (jo_cp k dh (jo_sz dp ds) o)).length = nI ((jo_Q s i).filter (jo_cp k dh (jo_sz dp ds) o)).length := fun h => by
      rw [jo_flt_0 _ h]
    refine jo_ykind ?_
    cases e : jo_kp k dh (jo_pY s i) with
    | false =>
      have e' : jo_kk k ((jo_pY s i).all (jo_lj dh)) ((jo_pY s i).all jo_lin) = false := e
      rw [e']
      rw [no (by unfold jo_cp; rw [e, Bool.false_and])] at ih'
      exact br_t rfl (nm_r (nI_1 i) ih')
    | true =>
      have e' : jo_kk k ((jo_pY s i).all (jo_lj dh)) ((jo_pY s i).all jo_lin) = true := e
      rw [e']
      refine br_f (by decide) ?_
      cases o with
      | none =>
        rw [yes (by unfold jo_cp; rw [e]; rfl)] at ih'
        exact br_t (show (-1 : Int32) < 0 by decide) (nm_e (nm_r (nI_1 i) ih'))
      | some c =>
        have hc' := hc c rfl
        refine br_f (nI_pos (by omega)) (pk_eq (jo_cost (jo_sz dp ds) (jo_pY s i)) c (fun w => ?_) (fun w => ?_))
        · rw [yes (by unfold jo_cp; rw [e, Bool.true_and]; exact beq_iff_eq.mpr w)] at ih'
          exact nm_e (nm_r (nI_1 i) ih')
        · rw [no (by unfold jo_cp; rw [e, Bool.true_and]; exact beq_eq_false_iff_ne.mpr w)] at ih'
          exact nm_r (nI_1 i) ih'
theorem jo_ycp {post : Int32 → SY → Prop} {k : Int32} {o : Option Nat} (hc : ∀ c, o = some c → c ≤ 2147483646) (h0 : 0 < s) (hs : s < 32) (D : jo_dd dp ds dh) (DY : jo_dY dp ds dh a_tables a_filters)
    (K : ∀ f_formCount f_cost f_leftSet f_linked f_linear a_sizes a_forms a_row a_stack, post (nI ((jo_pl s).filter (jo_cp k dh (jo_sz dp ds) o)).length) (f_formCount, f_cost, f_leftSet, f_linked, f_linear, a_tables, a_filters, a_sizes, a_forms, a_row, a_stack)) :
    wpY_countPlans post (f_formCount, f_cost, f_leftSet, f_linked, f_linear, a_tables, a_filters, a_sizes, a_forms, a_row, a_stack) (nI s) k (jo_on o) := by
  refine jo_yprep h0 hs D DY (fun z a hz ha => jo_ycount hs ⟨jo_tot s + 1, ?_⟩)
  have h := jo_y20 (post := post) (k := k) (o := o) (a_sizes := z) (a_forms := a) hc h0 hs D DY hz ha (fun f1 f2 f3 f4 r t => by
    rw [((jo_Q_perm h0 hs).filter (jo_cp k dh (jo_sz dp ds) o)).length_eq]
    exact K _ _ _ _ _ _ _ _ _) (jo_tot s) 0 (by omega) f_cost f_leftSet f_linked f_linear a_row a_stack
  exact h
theorem jo_yl38 {post : Int32 → SY → Prop} {m : Nat} (hm : m ≤ 2147483646) (h0 : 0 < s) (hs : s < 32) (D : jo_dd dp ds dh) (DY : jo_dY dp ds dh a_tables a_filters)
    (hsz : ∀ t, t < 32 → a_sizes t = nI (jo_sz dp ds t)) (hfm : jo_ls a_forms (jo_fm (jo_pc s 5)))
    (K : ∀ f_cost f_leftSet f_linked f_linear a_row a_stack, post (jo_A (jo_sz dp ds) s m (jo_tot s)) (nI (jo_fc s), f_cost, f_leftSet, f_linked, f_linear, a_tables, a_filters, a_sizes, a_forms, a_row, a_stack)) :
    ∀ d i, i + d = jo_tot s → ∀ f_cost f_leftSet f_linked f_linear a_row a_stack,
      wY_left_38 post (nI s) (nI m) (nI (jo_fact (jo_pc s 5))) (nI (jo_pc s 5)) (d + 1) (jo_A (jo_sz dp ds) s m i) (nI i) (nI (jo_fc s)) f_cost f_leftSet f_linked f_linear a_tables a_filters a_sizes a_forms a_row a_stack := by
  have hp := jo_pc_le s 5
  have hf := jo_fact_lt (jo_pc s 5) hp
  have h14 : jo_fc s ≤ 14 := jo_fm_14 _ hp
  have ht : jo_tot s ≤ 120 * 14 := Nat.mul_le_mul hf h14
  have em : nI (jo_fact (jo_pc s 5)) * nI (jo_fc s) = nI (jo_tot s) := pk_mul _ _
  have hz : ∀ t, jo_sz dp ds t ≤ jo_bz t := jo_sz_le D.1
  intro d
  induction d with
  | zero =>
    intro i hi f_cost f_leftSet f_linked f_linear a_row a_stack
    obtain rfl : i = jo_tot s := by omega
    exact br_t (by rw [em]; exact Int32.le_refl _) (K _ _ _ _ _ _)
  | succ d ih =>
    intro i hi f_cost f_leftSet f_linked f_linear a_row a_stack
    refine br_f (by rw [em]; exact nI_ge (by omega) (by omega)) ?_
    have hb := jo_pl_bd hz hs (jo_Q_mem h0 hs (show i < jo_tot s by omega))
    refine jo_yof h0 hs D DY hsz hfm (by omega) (fun _ h => h) (fun row' st' _ => ?_)
    have ih' := ih (i + 1) (by omega) (nI (jo_cost (jo_sz dp ds) (jo_pY s i))) (jo_le (-4) (jo_pY s i)) (jo_b ((jo_pY s i).all (jo_lj dh))) (jo_b ((jo_pY s i).all jo_lin)) row' st'
    simp only [jo_A] at ih'
    refine pk_eq (jo_cost (jo_sz dp ds) (jo_pY s i)) m (fun w => ?_) (fun w => ?_)
    · rw [if_pos w] at ih'
      by_cases a : jo_A (jo_sz dp ds) s m i < 0
      · rw [if_pos a] at ih'
        exact br_t a (nm_r (nI_1 i) ih')
      · rw [if_neg a] at ih'
        refine br_f a ?_
        by_cases b : jo_A (jo_sz dp ds) s m i ≤ jo_le (-4) (jo_pY s i)
        · rw [if_pos b] at ih'
          exact br_t b (nm_r (nI_1 i) ih')
        · rw [if_neg b] at ih'
          exact br_f b (nm_r (nI_1 i) ih')
    · rw [if_neg w] at ih'
      exact nm_r (nI_1 i) ih'
end
/-! what the reference's left part is -/
theorem jo_pl_lf {s : Nat} (hs : s < 32) (hn : ¬ s &&& (s - 1) = 0) {p : List Nat} (hp : p ∈ jo_pl s) : p ≠ [] ∧ jo_lf p < 32 := by
  rw [jo_pl_eq hs hn] at hp
  obtain ⟨l, hl, h⟩ := List.mem_flatMap.mp hp
  obtain ⟨a, _, b, _, rfl⟩ := jo_comb_mem.mp h
  refine ⟨by simp, ?_⟩
  rw [jo_lf_j]
  have : ∀ k x, x ≤ s → l ∈ jo_lefts s k x → l ≤ s := by
    intro k
    induction k with
    | zero => intro x _ h; cases h
    | succ k ih =>
      intro x hx h
      simp only [jo_lefts] at h
      split at h
      · cases h
      · rcases List.mem_cons.mp h with e | e
        · omega
        · exact ih _ Nat.and_le_right e
  have := this 32 _ Nat.and_le_right hl
  omega
theorem jo_A_1 {sz : Nat → Nat} {s m : Nat} (h0 : 0 < s) (hs : s < 32) (hn : s &&& (s - 1) = 0) : ∀ i, i ≤ jo_tot s → jo_A sz s m i = -4
  | 0, _ => rfl
  | i + 1, hi => by
    have ih := jo_A_1 (sz := sz) (m := m) h0 hs hn i (by omega)
    have hp := jo_Q_mem h0 hs (show i < jo_tot s by omega)
    rw [jo_pl_1 hn] at hp
    have e : jo_pY s i = [] := List.mem_singleton.mp hp
    simp only [jo_A, ih, e]
    have e2 : jo_le (-4) [] = -4 := rfl
    rw [e2]
    split
    · rw [if_pos (by decide)]
    · rfl
theorem jo_A_n {sz : Nat → Nat} {s m : Nat} (h0 : 0 < s) (hs : s < 32) (hn : ¬ s &&& (s - 1) = 0) : ∀ i, i ≤ jo_tot s → jo_A sz s m i = jo_ex (jo_mn (((jo_Q s i).filter (fun p => jo_cost sz p == m)).map jo_lf))
  | 0, _ => rfl
  | i + 1, hi => by
    have ih := jo_A_n (sz := sz) (m := m) h0 hs hn i (by omega)
    have hp := jo_Q_mem h0 hs (show i < jo_tot s by omega)
    obtain ⟨q1, q2⟩ := jo_pl_lf hs hn hp
    have e2 : jo_le (-4) (jo_pY s i) = nI (jo_lf (jo_pY s i)) := if_neg q1
    simp only [jo_A, ih, e2]
    rw [jo_Q_s]
    by_cases c : jo_cost sz (jo_pY s i) = m
    · rw [if_pos c, jo_flt_1 (f := fun p => jo_cost sz p == m) _ (beq_iff_eq.mpr c), List.map_append, jo_mn_app]
      have f := jo_mn_far (((jo_Q s i).filter (fun p => jo_cost sz p == m)).map jo_lf)
      generalize jo_mn (((jo_Q s i).filter (fun p => jo_cost sz p == m)).map jo_lf) = v at f ⊢
      have e3 : jo_mn ([jo_pY s i].map jo_lf) = jo_lf (jo_pY s i) := by
        show min (jo_lf (jo_pY s i)) 2147483647 = _
        omega
      rw [e3]
      unfold jo_ex
      by_cases z : v = 2147483647
      · rw [if_pos z, if_pos (by decide), if_neg (by omega)]
        congr 1; omega
      · rw [if_neg z, if_neg (nI_pos (by omega)), if_neg (show ¬ min v (jo_lf (jo_pY s i)) = 2147483647 by omega)]
        by_cases w : v ≤ jo_lf (jo_pY s i)
        · rw [if_pos (nI_le w (by omega)), Nat.min_eq_left w]
        · rw [if_neg (nI_ge (by omega) (by omega)), Nat.min_eq_right (by omega)]
    · rw [if_neg c, jo_flt_0 (f := fun p => jo_cost sz p == m) _ (beq_eq_false_iff_ne.mpr c)]
theorem jo_A_g2 {sz : Nat → Nat} {s : Nat} (hz : ∀ t, sz t ≤ jo_bz t) (h0 : 0 < s) (hs : s < 32) : jo_A sz s (jo_mc sz (jo_pl s)) (jo_tot s) = jo_g2 sz s := by
  unfold jo_g2
  by_cases hn : s &&& (s - 1) = 0
  · rw [if_pos hn, jo_A_1 h0 hs hn _ (Nat.le_refl _)]
  · rw [if_neg hn, jo_A_n h0 hs hn _ (Nat.le_refl _)]
    have e : jo_mn (((jo_Q s (jo_tot s)).filter (fun p => jo_cost sz p == jo_mc sz (jo_pl s))).map jo_lf) = jo_mn ((jo_G sz (jo_pl s)).map jo_lf) :=
      jo_mn_perm (((jo_Q_perm h0 hs).filter _).map _)
    rw [e]
    unfold jo_ml
    obtain ⟨p, hp⟩ := List.exists_mem_of_ne_nil _ (jo_G_ne (jo_pl_ne hs) (fun p hp => jo_pl_bd hz hs hp))
    have a := jo_mn_le (List.mem_map_of_mem (f := jo_lf) hp)
    have b := (jo_pl_lf hs hn (List.mem_filter.mp hp).1).2
    rw [Nat.min_eq_right (by omega)]
    exact if_neg (by omega)
end
section
/-! the linear plans, one table after the other: what is left to be paid, and the first way that pays the least -/
def jo_mr (sz : Nat → Nat) (s h : Nat) : Nat := jo_mn ((jo_cm s 6 h).map (jo_rc sz h))
def jo_rest (sz : Nat → Nat) (s h : Nat) : List Nat := ((jo_cm s 6 h).find? (fun r => jo_rc sz h r == jo_mr sz s h)).getD []
def jo_pay (sz : Nat → Nat) (h i : Nat) : Nat := if h = 0 then 0 else sz (h ||| 2 ^ i)
def jo_ok (s h i : Nat) : Bool := s.testBit i && !h.testBit i
def jo_f (s h i : Nat) : List (List Nat) := if jo_ok s h i then (jo_cm s 6 (h ||| 2 ^ i)).map (fun r => i :: r) else []
theorem jo_f_eq (s h : Nat) : (fun i => if s.testBit i && !h.testBit i then (jo_cm s 6 (h ||| 2 ^ i)).map (fun r => i :: r) else []) = jo_f s h := rfl
theorem jo_ck_mo : (List.range 32).all (fun s => (List.range 32).all (fun h => (List.range 5).all (fun i => !(h &&& s == h && jo_ok s h i) || ((h ||| 2 ^ i) &&& s == h ||| 2 ^ i && Nat.blt h (h ||| 2 ^ i) && Nat.blt (h ||| 2 ^ i) 32)))) = true := by decide +kernel
theorem jo_ck_bi : (List.range 32).all (fun h => (List.range 5).all (fun i => h.testBit i == (h ||| 2 ^ i == h))) = true := by decide +kernel
theorem jo_mo {s h i : Nat} (hs : s < 32) (hh : h < 32) (hm : h &&& s = h) (hi : i < 5) (ok : jo_ok s h i = true) : (h ||| 2 ^ i) &&& s = h ||| 2 ^ i ∧ h < h ||| 2 ^ i ∧ h ||| 2 ^ i < 32 := by
  have c := jo_allN (jo_allN (jo_all32 jo_ck_mo hs) hh) hi
  rw [ok, beq_iff_eq.mpr hm, Bool.true_and, Bool.not_true, Bool.false_or, Bool.and_eq_true, Bool.and_eq_true, beq_iff_eq] at c
  exact ⟨c.1.1, Nat.le_of_ble_eq_true c.1.2, Nat.le_of_ble_eq_true c.2⟩
theorem jo_bi {h i : Nat} (hh : h < 32) (hi : i < 5) : h.testBit i = true ↔ h ||| 2 ^ i = h := by
  have c := jo_allN (jo_all32 jo_ck_bi hh) hi
  rw [beq_iff_eq] at c
  rw [c, beq_iff_eq]
theorem jo_least {p : Nat → Bool} : ∀ n, p n = true → ∃ t, t ≤ n ∧ p t = true ∧ ∀ i, i < t → p i = false := by
  intro n
  induction n using Nat.strongRecOn with
  | ind n ih =>
    intro h
    by_cases c : ∃ i, i < n ∧ p i = true
    · obtain ⟨i, h1, h2⟩ := c
      obtain ⟨t, a, b⟩ := ih i h1 h2
      exact ⟨t, by omega, b⟩
    · exact ⟨n, Nat.le_refl _, h, fun i hi => jo_nt (fun z => c ⟨i, hi, z⟩)⟩
theorem jo_fnd0 {f : Nat → List (List Nat)} {p : List Nat → Bool} : ∀ n, (∀ i, i < n → (f i).find? p = none) → ((List.range n).flatMap f).find? p = none
  | 0, _ => rfl
  | n + 1, h => by
    rw [List.range_succ, List.flatMap_append, List.find?_append, jo_fnd0 n (fun i hi => h i (by omega)), List.flatMap_cons, List.flatMap_nil, List.append_nil, h n (by omega)]
    rfl
theorem jo_fnd {f : Nat → List (List Nat)} {p : List Nat → Bool} {b : List Nat} {t : Nat} (h0 : ∀ i, i < t → (f i).find? p = none) (h1 : (f t).find? p = some b) :
    ∀ n, t < n → ((List.range n).flatMap f).find? p = some b
  | 0, h => absurd h (Nat.not_lt_zero _)
  | n + 1, h => by
    rw [List.range_succ, List.flatMap_append, List.find?_append, List.flatMap_cons, List.flatMap_nil, List.append_nil]
    by_cases e : t = n
    · subst e
      rw [jo_fnd0 t h0, h1]
      rfl
    · rw [jo_fnd h0 h1 n (by omega)]
      rfl
section
variable {sz : Nat → Nat} {s h : Nat}
theorem jo_mr_le {r : List Nat} (hr : r ∈ jo_cm s 6 h) : jo_mr sz s h ≤ jo_rc sz h r := jo_mn_le (List.mem_map_of_mem hr)
theorem jo_mr_att (hz : ∀ t, sz t ≤ jo_bz t) (hs : s < 32) (hh : h < 32) (hm : h &&& s = h) : ∃ r, r ∈ jo_cm s 6 h ∧ jo_rc sz h r = jo_mr sz s h := by
  rcases jo_mn_mem ((jo_cm s 6 h).map (jo_rc sz h)) with e | e
  · obtain ⟨r, hr⟩ := List.exists_mem_of_ne_nil _ (jo_cm_ne hs hh hm)
    have h1 := jo_mr_le (sz := sz) hr
    have h2 := jo_cm_bd hz hs hh hm hr
    have h3 : jo_mr sz s h = 2147483647 := e
    omega
  · obtain ⟨r, hr, e2⟩ := List.mem_map.mp e
    exact ⟨r, hr, e2⟩
theorem jo_mr_bd (hz : ∀ t, sz t ≤ jo_bz t) (hs : s < 32) (hh : h < 32) (hm : h &&& s = h) : jo_mr sz s h ≤ 2147483646 := by
  obtain ⟨r, hr, e⟩ := jo_mr_att hz hs hh hm
  rw [← e]
  exact jo_cm_bd hz hs hh hm hr
theorem jo_cm_n (hs : s < 32) (hh : h < 32) (hm : h &&& s = h) (hn : ¬ h = s) : jo_cm s 6 h = (List.range 5).flatMap (jo_f s h) := by
  rw [jo_cm_eq hs hh hm, if_neg hn]
  rfl
theorem jo_cm_s (hs : s < 32) : jo_cm s 6 s = [[]] := by
  rw [jo_cm_eq hs hs (Nat.and_self s), if_pos rfl]
theorem jo_cm_mem {i : Nat} {r : List Nat} (hs : s < 32) (hh : h < 32) (hm : h &&& s = h) (hi : i < 5) (ok : jo_ok s h i = true) (hr : r ∈ jo_cm s 6 (h ||| 2 ^ i)) : i :: r ∈ jo_cm s 6 h := by
  have hn : ¬ h = s := fun e => by
    subst e
    unfold jo_ok at ok
    cases q : h.testBit i <;> rw [q] at ok <;> exact absurd ok (by decide)
  rw [jo_cm_n hs hh hm hn]
  refine List.mem_flatMap.mpr ⟨i, List.mem_range.mpr hi, ?_⟩
  unfold jo_f
  rw [if_pos ok]
  exact List.mem_map.mpr ⟨r, hr, rfl⟩
theorem jo_mr_more {i : Nat} (hz : ∀ t, sz t ≤ jo_bz t) (hs : s < 32) (hh : h < 32) (hm : h &&& s = h) (hi : i < 5) (ok : jo_ok s h i = true) :
    jo_mr sz s h ≤ jo_pay sz h i + jo_mr sz s (h ||| 2 ^ i) ∧ jo_pay sz h i + jo_mr sz s (h ||| 2 ^ i) ≤ 2147483646 := by
  obtain ⟨m1, m2, m3⟩ := jo_mo hs hh hm hi ok
  obtain ⟨r, hr, e⟩ := jo_mr_att hz hs m3 m1
  have hr' := jo_cm_mem hs hh hm hi ok hr
  have a := jo_mr_le (sz := sz) hr'
  have b := jo_cm_bd hz hs hh hm hr'
  have c : jo_rc sz h (i :: r) = jo_pay sz h i + jo_mr sz s (h ||| 2 ^ i) := by rw [← e]; rfl
  rw [c] at a b
  exact ⟨a, b⟩
def jo_cnd (sz : Nat → Nat) (s h i : Nat) : Bool := jo_ok s h i && (jo_pay sz h i + jo_mr sz s (h ||| 2 ^ i) == jo_mr sz s h)
theorem jo_cnd_ex (hz : ∀ t, sz t ≤ jo_bz t) (hs : s < 32) (hh : h < 32) (hm : h &&& s = h) (hn : ¬ h = s) : ∃ t, t < 5 ∧ jo_cnd sz s h t = true ∧ ∀ i, i < t → jo_cnd sz s h i = false := by
  obtain ⟨r, hr, e⟩ := jo_mr_att hz hs hh hm
  rw [jo_cm_n hs hh hm hn] at hr
  obtain ⟨i, hi, hr⟩ := List.mem_flatMap.mp hr
  have hi' := List.mem_range.mp hi
  unfold jo_f at hr
  by_cases ok : jo_ok s h i = true
  · rw [if_pos ok] at hr
    obtain ⟨r', hr', rfl⟩ := List.mem_map.mp hr
    have a := (jo_mr_more hz hs hh hm hi' ok).1
    have b := jo_mr_le (sz := sz) hr'
    have c : jo_rc sz h (i :: r') = jo_pay sz h i + jo_rc sz (h ||| 2 ^ i) r' := rfl
    have d : jo_cnd sz s h i = true := by
      unfold jo_cnd
      rw [ok, Bool.true_and, beq_iff_eq]
      omega
    obtain ⟨t, t1, t2⟩ := jo_least (p := jo_cnd sz s h) i d
    exact ⟨t, by omega, t2⟩
  · rw [if_neg ok] at hr
    cases hr
theorem jo_rest_s (hs : s < 32) : jo_rest sz s s = [] := by
  unfold jo_rest
  rw [jo_cm_s hs]
  cases e : List.find? (fun r => jo_rc sz s r == jo_mr sz s s) [[]] with
  | none => rfl
  | some r =>
    have := List.mem_of_find?_eq_some e
    exact List.mem_singleton.mp this
theorem jo_find_rest (hz : ∀ t, sz t ≤ jo_bz t) (hs : s < 32) (hh : h < 32) (hm : h &&& s = h) : (jo_cm s 6 h).find? (fun r => jo_rc sz h r == jo_mr sz s h) = some (jo_rest sz s h) := by
  cases e : (jo_cm s 6 h).find? (fun r => jo_rc sz h r == jo_mr sz s h) with
  | none =>
    obtain ⟨r, hr, e2⟩ := jo_mr_att hz hs hh hm
    exact absurd (beq_iff_eq.mpr e2) (List.find?_eq_none.mp e r hr)
  | some r =>
    unfold jo_rest
    rw [e]
    rfl
theorem jo_rest_n {t : Nat} (hz : ∀ t, sz t ≤ jo_bz t) (hs : s < 32) (hh : h < 32) (hm : h &&& s = h) (ht : t < 5) (hc : jo_cnd sz s h t = true) (hl : ∀ i, i < t → jo_cnd sz s h i = false) :
    jo_rest sz s h = t :: jo_rest sz s (h ||| 2 ^ t) := by
  have hc' := hc
  unfold jo_cnd at hc'
  rw [Bool.and_eq_true, beq_iff_eq] at hc'
  obtain ⟨ok, ec⟩ := hc'
  have hn : ¬ h = s := fun e => by
    subst e
    unfold jo_ok at ok
    cases q : h.testBit t <;> rw [q] at ok <;> exact absurd ok (by decide)
  obtain ⟨m1, m2, m3⟩ := jo_mo hs hh hm ht ok
  have key : (jo_cm s 6 h).find? (fun r => jo_rc sz h r == jo_mr sz s h) = some (t :: jo_rest sz s (h ||| 2 ^ t)) := by
    rw [jo_cm_n hs hh hm hn]
    refine jo_fnd (t := t) (fun i hi => ?_) ?_ 5 ht
    · unfold jo_f
      by_cases oi : jo_ok s h i = true
      · rw [if_pos oi]
        refine List.find?_eq_none.mpr (fun x hx => ?_)
        obtain ⟨r, hr, rfl⟩ := List.mem_map.mp hx
        have a := hl i hi
        unfold jo_cnd at a
        rw [oi, Bool.true_and, beq_eq_false_iff_ne] at a
        have b := (jo_mr_more hz hs hh hm (by omega) oi).1
        have c := jo_mr_le (sz := sz) hr
        rw [beq_iff_eq]
        show ¬ jo_pay sz h i + jo_rc sz (h ||| 2 ^ i) r = _
        omega
      · rw [if_neg oi]
        rfl
    · unfold jo_f
      rw [if_pos ok, List.find?_map]
      have e : ((fun r => jo_rc sz h r == jo_mr sz s h) ∘ fun r => t :: r) = (fun r => jo_rc sz (h ||| 2 ^ t) r == jo_mr sz s (h ||| 2 ^ t)) := by
        funext r
        show (jo_pay sz h t + jo_rc sz (h ||| 2 ^ t) r == jo_mr sz s h) = _
        rw [Bool.eq_iff_iff, beq_iff_eq, beq_iff_eq]
        omega
      rw [e, jo_find_rest hz hs m3 m1]
      rfl
  have k2 := jo_find_rest hz hs hh hm
  rw [key] at k2
  exact (Option.some.inj k2).symm
end
/-! the linear plans of the reference -/
theorem jo_lp_cost {sz : Nat → Nat} : ∀ (r : List Nat) (h : Nat), 0 < h → (∀ t, t ∈ r → t < 5) → jo_cost sz (jo_lp h r) = jo_rc sz h r
  | [], _, _, _ => rfl
  | t :: r, h, h0, h5 => by
    have p : 2 ^ t < 32 := jo_p32 (h5 t (List.mem_cons_self ..))
    have o : 0 < h ||| 2 ^ t := Nat.lt_of_lt_of_le h0 Nat.left_le_or
    have ih := jo_lp_cost (sz := sz) r (h ||| 2 ^ t) o (fun x hx => h5 x (List.mem_cons_of_mem _ hx))
    have u : jo_u (h * 32 + 2 ^ t) = h ||| 2 ^ t := by
      unfold jo_u
      generalize 2 ^ t = y at p
      rw [show (h * 32 + y) / 32 = h by omega, show (h * 32 + y) % 32 = y by omega]
    simp only [jo_lp, jo_cost, jo_rc]
    rw [u, ih, if_neg (by omega)]
theorem jo_l0_cost {sz : Nat → Nat} (r : List Nat) (h5 : ∀ t, t ∈ r → t < 5) : jo_cost sz (jo_l0 r) = jo_rc sz 0 r := by
  cases r with
  | nil => rfl
  | cons t r =>
    show jo_cost sz (jo_lp (2 ^ t) r) = _
    rw [jo_lp_cost r (2 ^ t) (Nat.two_pow_pos t) (fun x hx => h5 x (List.mem_cons_of_mem _ hx))]
    simp only [jo_rc]
    rw [if_pos trivial, Nat.zero_add, Nat.zero_or]
section
variable {sz : Nat → Nat} {s : Nat}
theorem jo_fcp (h0 : 0 < s) (hs : s < 32) : 0 < jo_fc s := jo_fc_pos _ (jo_pc_le s 5) (jo_pc_pos h0 hs)
theorem jo_li_i (h0 : 0 < s) (hs : s < 32) {i : Nat} (hi : i < jo_tot s) : i / jo_fc s < jo_fact (jo_pc s 5) := by
  rw [Nat.div_lt_iff_lt_mul (jo_fcp h0 hs)]; exact hi
theorem jo_li_o (h0 : 0 < s) (hs : s < 32) {o : Nat} (ho : o < jo_fact (jo_pc s 5)) : o * jo_fc s + (jo_fc s - 1) < jo_tot s ∧ (o * jo_fc s + (jo_fc s - 1)) / jo_fc s = o ∧ (o * jo_fc s + (jo_fc s - 1)) % jo_fc s + 1 = jo_fc s := by
  have c := jo_fcp h0 hs
  have a : (o + 1) * jo_fc s ≤ jo_fact (jo_pc s 5) * jo_fc s := Nat.mul_le_mul_right _ ho
  rw [Nat.add_mul, Nat.one_mul] at a
  refine ⟨by unfold jo_tot; omega, ?_, ?_⟩
  · rw [Nat.mul_comm, Nat.mul_add_div c, Nat.div_eq_of_lt (by omega), Nat.add_zero]
  · rw [Nat.mul_comm, Nat.mul_add_mod, Nat.mod_eq_of_lt (by omega)]; omega
theorem jo_rw_mem (h0 : 0 < s) (hs : s < 32) {o : Nat} (ho : o < jo_fact (jo_pc s 5)) : jo_rw s o ∈ jo_cm s 6 0 := by
  have l := jo_cl_ok h0 hs
  unfold jo_rw
  rw [List.getD_eq_getElem?_getD, List.getElem?_eq_getElem (by omega)]
  exact List.getElem_mem _
theorem jo_li_cost (h0 : 0 < s) (hs : s < 32) {i : Nat} (hi : i < jo_tot s) (hl : (jo_pY s i).all jo_lin = true) : i % jo_fc s + 1 = jo_fc s ∧ jo_cost sz (jo_pY s i) = jo_rc sz 0 (jo_rw s (i / jo_fc s)) := by
  obtain ⟨a, b⟩ := jo_li_ok hs hi
  rw [hl] at a
  have a' := beq_iff_eq.mp a.symm
  refine ⟨a', ?_⟩
  rw [b a', jo_l0_cost _ (jo_row_ok h0 hs (jo_li_i h0 hs hi)).2.2]
theorem jo_line_mr (hz : ∀ t, sz t ≤ jo_bz t) (h0 : 0 < s) (hs : s < 32) : jo_mc sz (jo_K jo_lin (jo_pl s)) = jo_mr sz s 0 := by
  rw [← jo_mc_perm (jo_K_perm (jo_Q_perm h0 hs))]
  apply Nat.le_antisymm
  · obtain ⟨r, hr, e⟩ := jo_mr_att hz hs (show 0 < 32 by decide) (Nat.zero_and s)
    obtain ⟨o, ho, eo⟩ := List.getElem_of_mem hr
    rw [jo_cl_ok h0 hs] at ho
    obtain ⟨c1, c2, c3⟩ := jo_li_o h0 hs ho
    obtain ⟨a, b⟩ := jo_li_ok hs c1
    have rw' : jo_rw s o = r := by
      unfold jo_rw
      rw [List.getD_eq_getElem?_getD, List.getElem?_eq_getElem (by rw [jo_cl_ok h0 hs]; exact ho)]
      exact eo
    rw [beq_iff_eq.mpr c3] at a
    have k := (jo_li_cost (sz := sz) h0 hs c1 a).2
    rw [c2, rw', e] at k
    rw [← k]
    exact jo_mc_le (List.mem_filter.mpr ⟨List.mem_map.mpr ⟨_, List.mem_range.mpr c1, rfl⟩, a⟩)
  · have f : jo_mr sz s 0 ≤ 2147483646 := jo_mr_bd hz hs (by decide) (Nat.zero_and s)
    apply jo_mc_ge (by omega)
    intro p hp
    obtain ⟨q1, q2⟩ := List.mem_filter.mp hp
    obtain ⟨i, hi, rfl⟩ := List.mem_map.mp q1
    have hi' := List.mem_range.mp hi
    rw [(jo_li_cost h0 hs hi' q2).2]
    exact jo_mr_le (jo_rw_mem h0 hs (jo_li_i h0 hs hi'))
theorem jo_first (hz : ∀ t, sz t ≤ jo_bz t) (h0 : 0 < s) (hs : s < 32) : ∃ i, i < jo_tot s ∧ (jo_pY s i).all jo_lin = true ∧ jo_cost sz (jo_pY s i) = jo_mr sz s 0 ∧ jo_rw s (i / jo_fc s) = jo_rest sz s 0 ∧
    ∀ j, j < i → (jo_pY s j).all jo_lin = true → ¬ jo_cost sz (jo_pY s j) = jo_mr sz s 0 := by
  obtain ⟨e, o, ho, eo, hj⟩ := List.find?_eq_some_iff_getElem.mp (jo_find_rest hz hs (show 0 < 32 by decide) (Nat.zero_and s))
  have ho' := ho
  rw [jo_cl_ok h0 hs] at ho'
  obtain ⟨c1, c2, c3⟩ := jo_li_o h0 hs ho'
  obtain ⟨a, b⟩ := jo_li_ok hs c1
  rw [beq_iff_eq.mpr c3] at a
  have rw' : jo_rw s o = jo_rest sz s 0 := by
    unfold jo_rw
    rw [List.getD_eq_getElem?_getD, List.getElem?_eq_getElem ho]
    exact eo
  have k := (jo_li_cost (sz := sz) h0 hs c1 a).2
  rw [c2, rw', beq_iff_eq.mp e] at k
  refine ⟨_, c1, a, k, by rw [c2]; exact rw', fun j hj' hl hc => ?_⟩
  have j1 : j < jo_tot s := by omega
  obtain ⟨d1, d2⟩ := jo_li_cost (sz := sz) h0 hs j1 hl
  have d3 : j / jo_fc s < o := by
    have e1 := Nat.div_add_mod j (jo_fc s)
    have e2 : jo_fc s * (j / jo_fc s) < jo_fc s * o := by
      rw [Nat.mul_comm (jo_fc s) o]
      omega
    exact Nat.lt_of_mul_lt_mul_left e2
  have d4 := hj (j / jo_fc s) d3
  have d5 : (jo_cm s 6 0)[j / jo_fc s]'(by omega) = jo_rw s (j / jo_fc s) := by
    unfold jo_rw
    rw [List.getD_eq_getElem?_getD, List.getElem?_eq_getElem (by omega)]
    rfl
  rw [d5, ← d2, hc, Bool.not_eq_true', beq_self_eq_true] at d4
  exact absurd d4 (by decide)
end
end
section
/-! linearTable: the component's way, the reference's way -/
theorem jo_ck_sm : (List.range 32).all (fun s => (List.range 32).all (fun h => (List.range 32).all (fun g => !(Nat.blt 0 h && h &&& s == h && g &&& s == g && Nat.blt g h) || Nat.ble g ((h - 1) &&& s)))) = true := by decide +kernel
theorem jo_sm {s h g : Nat} (hs : s < 32) (hh : h < 32) (h0 : 0 < h) (hm : h &&& s = h) (gm : g &&& s = g) (hg : g < h) : g ≤ (h - 1) &&& s := by
  have c := jo_allN (jo_allN (jo_all32 jo_ck_sm hs) hh) (show g < 32 by omega)
  have a : (Nat.blt 0 h && h &&& s == h && g &&& s == g && Nat.blt g h) = true := by
    rw [Bool.and_eq_true, Bool.and_eq_true, Bool.and_eq_true, beq_iff_eq, beq_iff_eq]
    exact ⟨⟨⟨Nat.ble_eq_true_of_le h0, hm⟩, gm⟩, Nat.ble_eq_true_of_le hg⟩
  rw [a, Bool.not_true, Bool.false_or] at c
  exact Nat.le_of_ble_eq_true c
def jo_fi (sz : Nat → Nat) (s h i : Nat) : Nat := jo_mn (((List.range i).flatMap (jo_f s h)).map (jo_rc sz h))
theorem jo_fi_s (sz : Nat → Nat) (s h i : Nat) : jo_fi sz s h (i + 1) = min (jo_fi sz s h i) (jo_mn ((jo_f s h i).map (jo_rc sz h))) := by
  unfold jo_fi
  rw [List.range_succ, List.flatMap_append, List.map_append, jo_mn_app, List.flatMap_cons, List.flatMap_nil, List.append_nil]
theorem jo_fi_no {sz : Nat → Nat} {s h i : Nat} (ok : jo_ok s h i = false) : jo_fi sz s h (i + 1) = jo_fi sz s h i := by
  rw [jo_fi_s]
  unfold jo_f
  rw [ok, if_neg (by decide)]
  have : jo_fi sz s h i ≤ 2147483647 := jo_mn_far _
  show min _ 2147483647 = _
  omega
theorem jo_fi_yes {sz : Nat → Nat} {s h i : Nat} (hz : ∀ t, sz t ≤ jo_bz t) (hs : s < 32) (hh : h < 32) (hm : h &&& s = h) (hi : i < 5) (ok : jo_ok s h i = true) :
    jo_fi sz s h (i + 1) = min (jo_fi sz s h i) (jo_pay sz h i + jo_mr sz s (h ||| 2 ^ i)) := by
  rw [jo_fi_s]
  congr 1
  obtain ⟨m1, m2, m3⟩ := jo_mo hs hh hm hi ok
  have b := (jo_mr_more hz hs hh hm hi ok).2
  unfold jo_f
  rw [if_pos ok]
  apply Nat.le_antisymm
  · obtain ⟨r, hr, e⟩ := jo_mr_att hz hs m3 m1
    rw [← e]
    exact jo_mn_le (List.mem_map.mpr ⟨i :: r, List.mem_map.mpr ⟨r, hr, rfl⟩, rfl⟩)
  · apply jo_mn_ge (by omega)
    intro x hx
    obtain ⟨y, hy, rfl⟩ := List.mem_map.mp hx
    obtain ⟨r, hr, rfl⟩ := List.mem_map.mp hy
    have := jo_mr_le (sz := sz) hr
    show _ ≤ jo_pay sz h i + jo_rc sz (h ||| 2 ^ i) r
    omega
section
variable {f_filled : Int32} {a_power a_strength a_hasFilter a_sizes a_best a_leftOf a_ties a_line a_joined a_dear a_many a_manyLinked a_ahead : Nat → Int32} {sz : Nat → Nat} {s : Nat}
theorem jo_x25 {post : SX → Prop} {J : Int32 → (Nat → Int32) → (Nat → Int32) → (Nat → Int32) → (Nat → Int32) → (Nat → Int32) → (Nat → Int32) → (Nat → Int32) → (Nat → Int32) → (Nat → Int32) → (Nat → Int32) → (Nat → Int32) → (Nat → Int32) → (Nat → Int32) → Prop}
    {h b : Nat} (hb : b ≤ 2147483647) (hz : ∀ t, sz t ≤ jo_bz t) (hs : s < 32) (hh : h < 32) (h0 : 0 < h) (hm : h &&& s = h) (T : jo_tab (fun t => nI (sz t)) 32 a_sizes)
    (K : ∀ a', (∀ g, g < 32 → g &&& s = g → h < g → a' g = nI (jo_mr sz s g)) → a' h = nI (min b (jo_fi sz s h 5)) → J (nI ((h - 1) &&& s)) a_power a_strength a_hasFilter a_sizes a_best a_leftOf a_ties a_line a_joined a_dear a_many a_manyLinked a') :
    ∀ d i a_ahead, i + d = 5 → (∀ g, g < 32 → g &&& s = g → h < g → a_ahead g = nI (jo_mr sz s g)) → a_ahead h = nI (min b (jo_fi sz s h i)) →
      wX_fillAhead_25 post J (nI s) (nI h) f_filled (d + 1) (nI i) a_power a_strength a_hasFilter a_sizes a_best a_leftOf a_ties a_line a_joined a_dear a_many a_manyLinked a_ahead := by
  intro d
  induction d with
  | zero =>
    intro i a_ahead hi HA hv
    obtain rfl : i = 5 := by omega
    exact br_t (Int32.le_refl _) (nm_r (jo_andm h0) (K a_ahead HA hv))
  | succ d ih =>
    intro i a_ahead hi HA hv
    have ih' := ih (i + 1)
    refine br_f (lt5' i (by omega)) (nm_r (e' := nI (h ||| 2 ^ i)) (by rw [jo_shl1 (by omega), jo_or]) ?_)
    have o32 : h ||| 2 ^ i < 32 := jo_o32 hh (jo_p32 (by omega))
    by_cases c : s.testBit i = true
    · refine br_t (jo_bit1 (by omega) (by omega) c) ?_
      by_cases g : h.testBit i = true
      · have ok : jo_ok s h i = false := by unfold jo_ok; rw [g, c]; rfl
        rw [jo_fi_no ok] at ih'
        exact br_t (by rw [(jo_bi hh (by omega)).mp g]) (nm_r (nI_1 i) (ih' a_ahead (by omega) HA hv))
      · have ok : jo_ok s h i = true := by unfold jo_ok; rw [jo_nt g, c]; rfl
        obtain ⟨m1, m2, m3⟩ := jo_mo hs hh hm (by omega) ok
        have bd := (jo_mr_more hz hs hh hm (by omega) ok).2
        have pay : jo_pay sz h i = sz (h ||| 2 ^ i) := if_neg (by omega)
        rw [jo_fi_yes hz hs hh hm (by omega) ok] at ih'
        have ne : ¬ nI (h ||| 2 ^ i) = nI h := by rw [nI_eq (by omega) (by omega)]; omega
        have fI : jo_fi sz s h i ≤ 2147483647 := jo_mn_far _
        have im : vp_in (nI (h ||| 2 ^ i)) 32 := vp_in_nI m3 (by decide)
        have ih2 : vp_in (nI h) 32 := vp_in_nI hh (by decide)
        have ch : (nI h).toNatClampNeg = h := nI_clamp (by omega)
        have cm : (nI (h ||| 2 ^ i)).toNatClampNeg = h ||| 2 ^ i := nI_clamp (by omega)
        have es : a_sizes (h ||| 2 ^ i) = nI (sz (h ||| 2 ^ i)) := T _ (by omega) m3
        have ev : nI (jo_mr sz s (h ||| 2 ^ i)) + nI (sz (h ||| 2 ^ i)) = nI (jo_pay sz h i + jo_mr sz s (h ||| 2 ^ i)) := by
          rw [nI_add, pay, Nat.add_comm]
        refine br_f ne ?_
        rw [ch, cm, HA _ m3 m1 m2, es, ev, hv]
        refine ⟨im, im, ih2, pk_le (min b (jo_fi sz s h i)) (jo_pay sz h i + jo_mr sz s (h ||| 2 ^ i)) (fun w => ?_) (fun w => ?_)⟩
        · exact nm_r (nI_1 i) (ih' a_ahead (by omega) HA (by rw [hv]; congr 1; omega))
        · refine ⟨im, im, ih2, nm_e (nm_r (nI_1 i) (ih' _ (by omega) ?_ ?_))⟩
          · intro x x1 x2 x3
            rw [pk_un (by omega)]
            exact HA x x1 x2 x3
          · rw [pk_us]
            congr 1; omega
    · have ok : jo_ok s h i = false := by unfold jo_ok; rw [jo_nt c]; rfl
      rw [jo_fi_no ok] at ih'
      exact br_f (jo_bitn (by omega) (by omega) (jo_nt c)) (nm_r (nI_1 i) (ih' a_ahead (by omega) HA hv))
theorem jo_fi_end {h : Nat} (hz : ∀ t, sz t ≤ jo_bz t) (hs : s < 32) (hh : h < 32) (hm : h &&& s = h) (hn : ¬ h = s) : min 2147483647 (jo_fi sz s h 5) = jo_mr sz s h := by
  unfold jo_fi
  rw [← jo_cm_n hs hh hm hn]
  have : jo_mr sz s h ≤ 2147483646 := jo_mr_bd hz hs hh hm
  unfold jo_mr at this ⊢
  omega
theorem jo_mr_s (hs : s < 32) : jo_mr sz s s = 0 := by
  unfold jo_mr
  rw [jo_cm_s hs]
  rfl
theorem jo_xa2 {post : SX → Prop} (hz : ∀ t, sz t ≤ jo_bz t) (hs : s < 32) (T : jo_tab (fun t => nI (sz t)) 32 a_sizes)
    (K : ∀ a', (∀ g, 0 < g → g < 32 → g &&& s = g → a' g = nI (jo_mr sz s g)) → post (f_filled, a_power, a_strength, a_hasFilter, a_sizes, a_best, a_leftOf, a_ties, a_line, a_joined, a_dear, a_many, a_manyLinked, a')) :
    ∀ k h a_ahead, h < k → h < 32 → h &&& s = h → (∀ g, g < 32 → g &&& s = g → h < g → a_ahead g = nI (jo_mr sz s g)) →
      wX_fillAhead_2 post (nI s) f_filled k (nI h) a_power a_strength a_hasFilter a_sizes a_best a_leftOf a_ties a_line a_joined a_dear a_many a_manyLinked a_ahead := by
  intro k
  induction k with
  | zero => intro h _ hk; omega
  | succ k ih =>
    intro h a_ahead hk hh hm HA
    by_cases z : h = 0
    · subst z
      exact br_t (Int32.le_refl _) (K a_ahead (fun g g0 g1 g2 => HA g g1 g2 g0))
    · have h0 : 0 < h := by omega
      have a1 : (h - 1) &&& s ≤ h - 1 := Nat.and_le_left
      have ih' := ih ((h - 1) &&& s)
      have ihh : vp_in (nI h) 32 := vp_in_nI hh (by decide)
      have ch : (nI h).toNatClampNeg = h := nI_clamp (by omega)
      refine br_f (nI_nle h0 (by omega)) ?_
      have nx : ∀ a' : Nat → Int32, (∀ g, g < 32 → g &&& s = g → h < g → a' g = nI (jo_mr sz s g)) → a' h = nI (jo_mr sz s h) → ∀ g, g < 32 → g &&& s = g → (h - 1) &&& s < g → a' g = nI (jo_mr sz s g) := by
        intro a' p q g g1 g2 g3
        by_cases e : g = h
        · rw [e]; exact q
        · by_cases l : h < g
          · exact p g g1 g2 l
          · have := jo_sm hs hh h0 hm g2 (by omega)
            omega
      by_cases e : h = s
      · subst e
        refine br_t rfl ⟨ihh, nm_r (e' := upd a_ahead h 0) (by rw [ch]) ⟨6, ?_⟩⟩
        refine jo_x25 (b := 0) (by decide) hz hs hh h0 hm T (fun a' p q => ?_) 5 0 _ rfl ?_ ?_
        · refine ih' a' (by omega) (by omega) (by rw [Nat.and_assoc, Nat.and_self]) (nx a' p ?_)
          rw [q, jo_mr_s hs, Nat.zero_min]
        · intro g g1 g2 g3
          rw [pk_un (by omega)]
          exact HA g g1 g2 g3
        · rw [pk_us, Nat.zero_min]
          rfl
      · have ne : ¬ nI h = nI s := by rw [nI_eq (by omega) (by omega)]; exact e
        refine br_f ne ⟨ihh, nm_r (e' := upd a_ahead h 2147483647) (by rw [ch]) ⟨6, ?_⟩⟩
        refine jo_x25 (b := 2147483647) (by decide) hz hs hh h0 hm T (fun a' p q => ?_) 5 0 _ rfl ?_ ?_
        · refine ih' a' (by omega) (by omega) (by rw [Nat.and_assoc, Nat.and_self]) (nx a' p ?_)
          rw [q, jo_fi_end hz hs hh hm e]
        · intro g g1 g2 g3
          rw [pk_un (by omega)]
          exact HA g g1 g2 g3
        · rw [pk_us]
          rfl
theorem jo_xahead {post : SX → Prop} (hz : ∀ t, sz t ≤ jo_bz t) (hs : s < 32) (T : jo_tab (fun t => nI (sz t)) 32 a_sizes)
    (K : ∀ a', (∀ g, 0 < g → g < 32 → g &&& s = g → a' g = nI (jo_mr sz s g)) → post (f_filled, a_power, a_strength, a_hasFilter, a_sizes, a_best, a_leftOf, a_ties, a_line, a_joined, a_dear, a_many, a_manyLinked, a')) : wpX_fillAhead post (f_filled, a_power, a_strength, a_hasFilter, a_sizes, a_best, a_leftOf, a_ties, a_line, a_joined, a_dear, a_many, a_manyLinked, a_ahead) (nI s) := by
  refine ⟨33, jo_xa2 hz hs T K 33 s a_ahead (by omega) hs (Nat.and_self s) (fun g g1 g2 g3 => ?_)⟩
  have : g &&& s ≤ s := Nat.and_le_right
  omega
theorem jo_x82 {post : Int32 → SX → Prop} {J36 : Int32 → Int32 → Int32 → Prop} {J54 : Int32 → Int32 → Prop} {x2 x5 x6 : Int32} {h c : Nat}
    (hz : ∀ t, sz t ≤ jo_bz t) (hs : s < 32) (hh : h < 32) (hm : h &&& s = h) (hc : c < 5) (HA : ∀ g, 0 < g → g < 32 → g &&& s = g → a_ahead g = nI (jo_mr sz s g))
    (K : J54 (if jo_cnd sz s h c then nI c else x5) (nI c + (-1))) :
    wX_linearTable_82 post J36 J54 (nI s) x2 (nI h) (nI (jo_mr sz s h)) x5 x6 (nI c) (nI (h ||| 2 ^ c)) (nI (jo_pay sz h c)) f_filled a_power a_strength a_hasFilter a_sizes a_best a_leftOf a_ties a_line a_joined a_dear a_many a_manyLinked a_ahead := by
  unfold wX_linearTable_82
  have o32 : h ||| 2 ^ c < 32 := jo_o32 hh (jo_p32 hc)
  by_cases e : s.testBit c = true
  · refine br_t (jo_bit1 (by omega) (by omega) e) ?_
    by_cases g : h.testBit c = true
    · have ok : jo_cnd sz s h c = false := by unfold jo_cnd jo_ok; rw [g, e]; rfl
      rw [ok] at K
      exact br_t (by rw [(jo_bi hh hc).mp g]) (nm_e K)
    · have ok : jo_ok s h c = true := by unfold jo_ok; rw [jo_nt g, e]; rfl
      obtain ⟨m1, m2, m3⟩ := jo_mo hs hh hm hc ok
      have bd := (jo_mr_more hz hs hh hm hc ok).2
      have b2 := jo_mr_bd hz hs hh hm
      have ne : ¬ nI (h ||| 2 ^ c) = nI h := by rw [nI_eq (by omega) (by omega)]; omega
      refine br_f ne ⟨vp_in_nI m3 (by decide), ?_⟩
      rw [nI_clamp (by omega), HA _ (by omega) m3 m1, nI_add]
      unfold jo_cnd at K
      rw [ok, Bool.true_and] at K
      refine pk_eq (jo_pay sz h c + jo_mr sz s (h ||| 2 ^ c)) (jo_mr sz s h) (fun w => ?_) (fun w => ?_)
      · rw [beq_iff_eq.mpr w] at K
        exact nm_e K
      · rw [beq_eq_false_iff_ne.mpr w] at K
        exact nm_e K
  · have ok : jo_cnd sz s h c = false := by unfold jo_cnd jo_ok; rw [jo_nt e]; rfl
    rw [ok] at K
    exact br_f (jo_bitn (by omega) (by omega) (jo_nt e)) (nm_e K)
theorem jo_x54 {post : Int32 → SX → Prop} {J36 : Int32 → Int32 → Int32 → Prop} {x2 x6 : Int32} {h t : Nat}
    (hz : ∀ t, sz t ≤ jo_bz t) (hs : s < 32) (hh : h < 32) (hm : h &&& s = h) (T : jo_tab (fun t => nI (sz t)) 32 a_sizes) (HA : ∀ g, 0 < g → g < 32 → g &&& s = g → a_ahead g = nI (jo_mr sz s g))
    (ht : t < 5) (hc : jo_cnd sz s h t = true) (hl : ∀ i, i < t → jo_cnd sz s h i = false)
    (K : wX_linearTable_146 post J36 (nI s) x2 (nI h) (nI t) x6 (nI (jo_pay sz h t)) (nI (jo_mr sz s h)) f_filled a_power a_strength a_hasFilter a_sizes a_best a_leftOf a_ties a_line a_joined a_dear a_many a_manyLinked a_ahead) :
    ∀ c x5, c ≤ 5 → (c ≤ t → x5 = nI t) → wX_linearTable_54 post J36 (nI s) x2 (nI h) (nI (jo_mr sz s h)) x6 f_filled a_power a_strength a_hasFilter a_sizes a_best a_leftOf a_ties a_line a_joined a_dear a_many a_manyLinked a_ahead (c + 1) x5 (nI c + (-1)) := by
  intro c
  induction c with
  | zero =>
    intro x5 _ e
    obtain rfl := e (Nat.zero_le _)
    refine br_t (by decide) ?_
    by_cases z : h = 0
    · subst z
      exact br_t rfl K
    · have p : jo_pay sz h t = sz (h ||| 2 ^ t) := if_neg z
      have o32 : h ||| 2 ^ t < 32 := jo_o32 hh (jo_p32 ht)
      have o1 : h ≤ h ||| 2 ^ t := Nat.left_le_or
      refine br_f (nI_ne0 (by omega) (by omega)) ?_
      rw [jo_shl1 (by omega), jo_or]
      refine ⟨vp_in_nI o32 (by decide), ?_⟩
      rw [nI_clamp (by omega), T _ (by omega) o32]
      rw [p] at K
      exact K
  | succ c ih =>
    intro x5 h5 e
    rw [pk_m1]
    have o32 : h ||| 2 ^ c < 32 := jo_o32 hh (jo_p32 (by omega))
    have o1 : 2 ^ c ≤ h ||| 2 ^ c := Nat.right_le_or
    have o2 : 0 < 2 ^ c := Nat.two_pow_pos c
    have step : wX_linearTable_82 post J36 (wX_linearTable_54 post J36 (nI s) x2 (nI h) (nI (jo_mr sz s h)) x6 f_filled a_power a_strength a_hasFilter a_sizes a_best a_leftOf a_ties a_line a_joined a_dear a_many a_manyLinked a_ahead (c + 1)) (nI s) x2 (nI h) (nI (jo_mr sz s h)) x5 x6 (nI c) (nI (h ||| 2 ^ c)) (nI (jo_pay sz h c)) f_filled a_power a_strength a_hasFilter a_sizes a_best a_leftOf a_ties a_line a_joined a_dear a_many a_manyLinked a_ahead := by
      refine jo_x82 hz hs hh hm (by omega) HA (ih _ (by omega) (fun w => ?_))
      by_cases q : jo_cnd sz s h c = true
      · rw [if_pos q]
        by_cases w2 : c = t
        · rw [w2]
        · have := hl c (by omega)
          rw [this] at q
          exact absurd q (by decide)
      · rw [if_neg q]
        by_cases w2 : c = t
        · rw [w2] at q
          exact absurd hc q
        · exact e (by omega)
    refine br_f (nI_pos (by omega)) (nm_r (e' := nI (h ||| 2 ^ c)) (by rw [jo_shl1 (by omega), jo_or]) ?_)
    by_cases z : h = 0
    · subst z
      exact br_t rfl step
    · have p : jo_pay sz h c = sz (h ||| 2 ^ c) := if_neg z
      refine br_f (nI_ne0 (by omega) (by omega)) ⟨vp_in_nI o32 (by decide), ?_⟩
      rw [nI_clamp (by omega), T _ (by omega) o32]
      rw [p] at step
      exact step
theorem jo_x36 {post : Int32 → SX → Prop} {q : Nat} (hq : q < 2 ^ 31)
    (hz : ∀ t, sz t ≤ jo_bz t) (hs : s < 32) (T : jo_tab (fun t => nI (sz t)) 32 a_sizes) (HA : ∀ g, 0 < g → g < 32 → g &&& s = g → a_ahead g = nI (jo_mr sz s g)) :
    ∀ (R : List Nat) h n, jo_rest sz s h = R → h < 32 → h &&& s = h → n ≤ q → n + R.length < 2 ^ 31 → post (if q - n < R.length then nI (R.getD (q - n) 0) else -4) (f_filled, a_power, a_strength, a_hasFilter, a_sizes, a_best, a_leftOf, a_ties, a_line, a_joined, a_dear, a_many, a_manyLinked, a_ahead) →
      wX_linearTable_36 post (nI s) (nI q) f_filled a_power a_strength a_hasFilter a_sizes a_best a_leftOf a_ties a_line a_joined a_dear a_many a_manyLinked a_ahead (R.length + 1) (nI h) (nI (jo_mr sz s h)) (nI n) := by
  intro R
  induction R with
  | nil =>
    intro h n e hh hm hn hl K
    have es : h = s := by
      by_cases w : h = s
      · exact w
      · obtain ⟨t, ht, hc, hl⟩ := jo_cnd_ex hz hs hh hm w
        rw [jo_rest_n hz hs hh hm ht hc hl] at e
        cases e
    rw [if_neg (by simp)] at K
    subst es
    exact br_f (nI_nlt hn (by omega)) (br_t rfl K)
  | cons t R ih =>
    intro h n e hh hm hn hl K
    have es : ¬ h = s := fun w => by
      rw [w, jo_rest_s hs] at e
      cases e
    obtain ⟨t', ht, hc, hlt⟩ := jo_cnd_ex hz hs hh hm es
    rw [jo_rest_n hz hs hh hm ht hc hlt] at e
    obtain ⟨e1, e2⟩ := List.cons.inj e
    subst e1
    have hc' := hc
    unfold jo_cnd at hc'
    rw [Bool.and_eq_true, beq_iff_eq] at hc'
    obtain ⟨ok, ec⟩ := hc'
    obtain ⟨m1, m2, m3⟩ := jo_mo hs hh hm ht ok
    rw [List.length_cons] at K hl ⊢
    refine br_f (nI_nlt hn (by omega)) (br_f (by rw [nI_eq (by omega) (by omega)]; exact es) ⟨6, ?_⟩)
    refine jo_x54 hz hs hh hm T HA ht hc hlt ?_ 5 (-4) (Nat.le_refl _) (fun w => by omega)
    unfold wX_linearTable_146
    refine nm_r (e' := nI (jo_mr sz s (h ||| 2 ^ t'))) ?_ (nm_r (e' := nI (h ||| 2 ^ t')) (by rw [jo_shl1 (by omega), jo_or]) ?_)
    · rw [pk_sub (by omega)]
      congr 1; omega
    · refine pk_eq n q (fun w => ?_) (fun w => ?_)
      · subst w
        rw [if_pos (by omega), Nat.sub_self] at K
        exact K
      · refine nm_r (nI_1 n) (ih (h ||| 2 ^ t') (n + 1) e2 m3 m1 (by omega) (by omega) ?_)
        obtain ⟨x, hx⟩ : ∃ x, q = n + 1 + x := ⟨q - (n + 1), by omega⟩
        subst hx
        rw [show n + 1 + x - n = x + 1 by omega] at K
        rw [show n + 1 + x - (n + 1) = x by omega]
        by_cases y : x < R.length
        · rw [if_pos (by omega)] at K
          rw [if_pos y]
          exact K
        · rw [if_neg (by omega)] at K
          rw [if_neg y]
          exact K
end
section
variable {f_formCount f_cost f_leftSet f_linked f_linear : Int32} {a_tables a_filters a_sizes a_forms a_row a_stack : Nat → Int32} {dp ds : Nat → Nat} {dh : Nat → Bool} {s : Nat}
theorem jo_y35 {post : Int32 → SY → Prop} {k : Int32} {m i0 : Nat} {ans : Int32} (hm : m ≤ 2147483646) (h0 : 0 < s) (hs : s < 32) (D : jo_dd dp ds dh) (DY : jo_dY dp ds dh a_tables a_filters)
    (hsz : ∀ t, t < 32 → a_sizes t = nI (jo_sz dp ds t)) (hfm : jo_ls a_forms (jo_fm (jo_pc s 5)))
    (hi0 : i0 < jo_tot s) (hl : (jo_pY s i0).all jo_lin = true) (hc : jo_cost (jo_sz dp ds) (jo_pY s i0) = m) (hj : ∀ j, j < i0 → (jo_pY s j).all jo_lin = true → ¬ jo_cost (jo_sz dp ds) (jo_pY s j) = m)
    (ha1 : k < 0 → ans = -4) (ha2 : ∀ q, q < 2 ^ 31 → k = nI q → ans = if q < jo_pc s 5 then nI ((jo_rw s (i0 / jo_fc s)).getD q 0) else -4)
    (K : ∀ f_cost f_leftSet f_linked f_linear a_row a_stack, post ans (nI (jo_fc s), f_cost, f_leftSet, f_linked, f_linear, a_tables, a_filters, a_sizes, a_forms, a_row, a_stack)) :
    ∀ d i, i + d = jo_tot s → i ≤ i0 → ∀ f_cost f_leftSet f_linked f_linear a_row a_stack,
      wY_linearTable_35 post (nI s) k (nI m) (nI (jo_fact (jo_pc s 5))) (nI (jo_pc s 5)) (d + 1) (nI i) (nI (jo_fc s)) f_cost f_leftSet f_linked f_linear a_tables a_filters a_sizes a_forms a_row a_stack := by
  have hp := jo_pc_le s 5
  have hf := jo_fact_lt (jo_pc s 5) hp
  have h14 : jo_fc s ≤ 14 := jo_fm_14 _ hp
  have ht : jo_tot s ≤ 120 * 14 := Nat.mul_le_mul hf h14
  have em : nI (jo_fact (jo_pc s 5)) * nI (jo_fc s) = nI (jo_tot s) := pk_mul _ _
  have hz : ∀ t, jo_sz dp ds t ≤ jo_bz t := jo_sz_le D.1
  intro d
  induction d with
  | zero => intro i hi hi2; omega
  | succ d ih =>
    intro i hi hi2 f_cost f_leftSet f_linked f_linear a_row a_stack
    refine br_f (by rw [em]; exact nI_ge (by omega) (by omega)) ?_
    have hb := jo_pl_bd hz hs (jo_Q_mem h0 hs (show i < jo_tot s by omega))
    refine jo_yof h0 hs D DY hsz hfm (by omega) (fun _ h => h) (fun row' st' hr => ?_)
    by_cases c : i = i0
    · subst c
      rw [hl]
      refine br_f (by decide) ?_
      rw [hc]
      refine br_t rfl ?_
      by_cases g : k < 0
      · rw [ha1 g] at K
        exact br_t g (K _ _ _ _ _ _)
      · obtain ⟨q, hq, rfl⟩ := nI_of g
        have a := ha2 q hq rfl
        refine br_f g ?_
        refine pk_le (jo_pc s 5) q (fun w => ?_) (fun w => ?_)
        · rw [if_neg (by omega)] at a
          rw [a] at K
          exact K _ _ _ _ _ _
        · rw [if_pos w] at a
          rw [a] at K
          refine ⟨vp_in_nI (by omega) (by decide), ?_⟩
          rw [nI_clamp hq, hr q w]
          exact K _ _ _ _ _ _
    · have ih' := ih (i + 1) (by omega) (by omega) (nI (jo_cost (jo_sz dp ds) (jo_pY s i))) (jo_le (-4) (jo_pY s i)) (jo_b ((jo_pY s i).all (jo_lj dh))) (jo_b ((jo_pY s i).all jo_lin)) row' st'
      cases e : (jo_pY s i).all jo_lin with
      | false =>
        rw [e] at ih'
        exact br_t rfl (nm_r (nI_1 i) ih')
      | true =>
        rw [e] at ih'
        have := hj i (by omega) e
        refine br_f (by decide) (br_f (by rw [nI_eq (by omega) (by omega)]; exact this) (nm_r (nI_1 i) ih'))
end
end
section
/-! connected: growing from the first table, and cuts -/
def jo_low (s : Nat) : Nat := s &&& (32 - s)
def jo_gr (dh : Nat → Bool) (s : Nat) : Nat → Nat
  | 0 => jo_low s
  | n + 1 => jo_gr dh s n ||| (jo_lw dh (jo_gr dh s n) 25 &&& s)
theorem jo_lowI : ∀ s, s < 32 → nI s &&& (-(nI s)) = nI (jo_low s) := by decide +kernel
theorem jo_subI : ∀ s, s < 32 → ∀ a, a < 32 → ((nI a &&& (nI s ^^^ (-1)) = 0) ↔ (a &&& s = a)) := by decide +kernel
theorem jo_ck_low : (List.range 32).all (fun s => s == 0 || (jo_low s &&& s == jo_low s && Nat.blt 0 (jo_low s) && Nat.blt (jo_low s) 32 && (List.range 32).all (fun a => !(a &&& s == a) || (jo_low s &&& a == jo_low s || jo_low s &&& (s - a) == jo_low s)))) = true := by decide +kernel
theorem jo_ck_xor : (List.range 32).all (fun s => (List.range 32).all (fun a => !(a &&& s == a) || s - a == s ^^^ a)) = true := by decide +kernel
theorem jo_ck_pcm : (List.range 32).all (fun a => (List.range 32).all (fun b => !(a &&& b == a) || a == b || Nat.blt (jo_pc a 5) (jo_pc b 5))) = true := by decide +kernel
theorem jo_sub_iff {a b : Nat} : a &&& b = a ↔ ∀ j, a.testBit j = true → b.testBit j = true := by
  constructor
  · intro h j hj
    rw [← h, Nat.testBit_and, Bool.and_eq_true] at hj
    exact hj.2
  · intro h
    apply Nat.eq_of_testBit_eq
    intro j
    rw [Nat.testBit_and]
    cases e : a.testBit j with
    | false => rfl
    | true => rw [h j e]; rfl
theorem jo_cut_bit {s a : Nat} (hs : s < 32) (ha : a < 32) (hm : a &&& s = a) (j : Nat) : (s - a).testBit j = (s.testBit j && !a.testBit j) := by
  have c := jo_allN (jo_all32 jo_ck_xor hs) ha
  rw [beq_iff_eq.mpr hm, Bool.not_true, Bool.false_or, beq_iff_eq] at c
  rw [c, Nat.testBit_xor]
  have h := jo_sub_iff.mp hm j
  cases e : a.testBit j with
  | false => cases s.testBit j <;> rfl
  | true => rw [h e]; rfl
theorem jo_low_ok {s : Nat} (h0 : 0 < s) (hs : s < 32) : jo_low s &&& s = jo_low s ∧ 0 < jo_low s ∧ jo_low s < 32 ∧ ∀ a, a < 32 → a &&& s = a → jo_low s &&& a = jo_low s ∨ jo_low s &&& (s - a) = jo_low s := by
  have c := jo_all32 jo_ck_low hs
  rw [Bool.or_eq_true, beq_iff_eq] at c
  rcases c with c | c
  · omega
  · rw [Bool.and_eq_true, Bool.and_eq_true, Bool.and_eq_true, beq_iff_eq] at c
    refine ⟨c.1.1.1, Nat.le_of_ble_eq_true c.1.1.2, Nat.le_of_ble_eq_true c.1.2, fun a ha hm => ?_⟩
    have d := jo_allN c.2 ha
    rw [beq_iff_eq.mpr hm, Bool.not_true, Bool.false_or, Bool.or_eq_true, beq_iff_eq, beq_iff_eq] at d
    exact d
section
variable {dh : Nat → Bool} {s : Nat}
theorem jo_lk_sym (sy : ∀ i, i < 5 → ∀ j, j < 5 → dh (i * 5 + j) = dh (j * 5 + i)) {a b : Nat} (h : jo_lk dh a b = true) : jo_lk dh b a = true := by
  obtain ⟨e, he, hc⟩ := (jo_lk_iff dh a b).mp h
  simp only [jo_lc, Bool.and_eq_true] at hc
  refine (jo_lk_iff dh b a).mpr ⟨(e % 5) * 5 + e / 5, by omega, ?_⟩
  simp only [jo_lc, Bool.and_eq_true]
  have e1 : ((e % 5) * 5 + e / 5) / 5 = e % 5 := by omega
  have e2 : ((e % 5) * 5 + e / 5) % 5 = e / 5 := by omega
  have s1 := sy (e % 5) (by omega) (e / 5) (by omega)
  have e3 : (e / 5) * 5 + e % 5 = e := by omega
  rw [e3] at s1
  rw [e1, e2, s1]
  exact ⟨hc.1, hc.2.2, hc.2.1⟩
theorem jo_gr_sub (h0 : 0 < s) (hs : s < 32) : ∀ n, jo_gr dh s n &&& s = jo_gr dh s n
  | 0 => (jo_low_ok h0 hs).1
  | n + 1 => by
    have ih := jo_gr_sub h0 hs n
    rw [jo_sub_iff] at ih ⊢
    intro j hj
    simp only [jo_gr, Nat.testBit_or, Nat.testBit_and, Bool.or_eq_true, Bool.and_eq_true] at hj
    rcases hj with h | h
    · exact ih j h
    · exact h.2
theorem jo_gr_lt (h0 : 0 < s) (hs : s < 32) (n : Nat) : jo_gr dh s n < 32 := by
  have := jo_gr_sub (dh := dh) h0 hs n
  rw [← this]
  exact jo_a32 hs
theorem jo_gr_mono (n : Nat) : jo_gr dh s n &&& jo_gr dh s (n + 1) = jo_gr dh s n := by
  rw [jo_sub_iff]
  intro j hj
  simp only [jo_gr, Nat.testBit_or, hj, Bool.true_or]
theorem jo_gr_pos (h0 : 0 < s) (hs : s < 32) : ∀ n, 0 < jo_gr dh s n
  | 0 => (jo_low_ok h0 hs).2.1
  | n + 1 => Nat.lt_of_lt_of_le (jo_gr_pos h0 hs n) Nat.left_le_or
theorem jo_gr_fix (h0 : 0 < s) (hs : s < 32) : jo_gr dh s 6 = jo_gr dh s 5 := by
  have C : ∀ n, jo_gr dh s (n + 1) = jo_gr dh s n ∨ n + 1 ≤ jo_pc (jo_gr dh s n) 5 := by
    intro n
    induction n with
    | zero => exact Or.inr (jo_pc_pos (jo_gr_pos h0 hs 0) (jo_gr_lt h0 hs 0))
    | succ n ih =>
      by_cases e : jo_gr dh s (n + 1) = jo_gr dh s n
      · left
        show jo_gr dh s (n + 1) ||| (jo_lw dh (jo_gr dh s (n + 1)) 25 &&& s) = _
        rw [e]
        exact e
      · right
        rcases ih with h | h
        · exact absurd h e
        · have c := jo_allN (jo_all32 jo_ck_pcm (jo_gr_lt (dh := dh) h0 hs n)) (jo_gr_lt (dh := dh) h0 hs (n + 1))
          rw [beq_iff_eq.mpr (jo_gr_mono n), Bool.not_true, Bool.false_or, Bool.or_eq_true, beq_iff_eq] at c
          rcases c with c | c
          · exact absurd c.symm e
          · have := Nat.le_of_ble_eq_true c
            omega
  rcases C 5 with h | h
  · exact h
  · have := jo_pc_le (jo_gr dh s 5) 5
    omega
theorem jo_gr_in {c d : Nat} (hcd : ∀ j, s.testBit j = true → c.testBit j = true ∨ d.testBit j = true) (hl : jo_lk dh c d = false) (hc : jo_low s &&& c = jo_low s) :
    ∀ n, ∀ j, (jo_gr dh s n).testBit j = true → c.testBit j = true
  | 0 => jo_sub_iff.mp hc
  | n + 1 => by
    intro j hj
    have ih := jo_gr_in hcd hl hc n
    simp only [jo_gr, Nat.testBit_or, Nat.testBit_and, Bool.or_eq_true, Bool.and_eq_true] at hj
    rcases hj with h | ⟨h1, h2⟩
    · exact ih j h
    · rcases hcd j h2 with q | q
      · exact q
      · obtain ⟨e, e1, e2, e3, e4⟩ := (jo_lw_bit dh _ j 25).mp h1
        have : jo_lk dh c d = true := (jo_lk_iff dh c d).mpr ⟨e, e1, by
          simp only [jo_lc, Bool.and_eq_true]
          exact ⟨e4, ih _ e3, by rw [e2]; exact q⟩⟩
        rw [this] at hl
        exact absurd hl (by decide)
theorem jo_conn_t (sy : ∀ i, i < 5 → ∀ j, j < 5 → dh (i * 5 + j) = dh (j * 5 + i)) (h0 : 0 < s) (hs : s < 32) (h : jo_gr dh s 5 = s) {a : Nat} (ha : 0 < a) (has : a < s) (hm : a &&& s = a) : jo_lk dh a (s - a) = true := by
  cases e : jo_lk dh a (s - a) with
  | true => rfl
  | false =>
    exfalso
    have bit := jo_cut_bit hs (show a < 32 by omega) hm
    have cov : ∀ j, s.testBit j = true → a.testBit j = true ∨ (s - a).testBit j = true := by
      intro j hj
      cases q : a.testBit j with
      | true => exact Or.inl rfl
      | false => right; rw [bit, hj, q]; rfl
    rcases (jo_low_ok h0 hs).2.2.2 a (by omega) hm with l | l
    · have g := jo_gr_in cov e l 5
      rw [h] at g
      have := jo_sub_iff.mpr g
      have l2 : s &&& a ≤ a := Nat.and_le_right
      omega
    · have e' : jo_lk dh (s - a) a = false := jo_nt (fun z => by
        rw [jo_lk_sym sy z] at e
        exact absurd e (by decide))
      have g := jo_gr_in (fun j hj => (cov j hj).symm) e' l 5
      rw [h] at g
      have := jo_sub_iff.mpr g
      have l2 : s &&& (s - a) ≤ s - a := Nat.and_le_right
      omega
theorem jo_conn_f (h0 : 0 < s) (hs : s < 32) (h : ¬ jo_gr dh s 5 = s) : 0 < jo_gr dh s 5 ∧ jo_gr dh s 5 < s ∧ jo_gr dh s 5 &&& s = jo_gr dh s 5 ∧ jo_lk dh (jo_gr dh s 5) (s - jo_gr dh s 5) = false := by
  have sub := jo_gr_sub (dh := dh) h0 hs 5
  have le : jo_gr dh s 5 &&& s ≤ s := Nat.and_le_right
  refine ⟨jo_gr_pos h0 hs 5, by omega, sub, jo_nt (fun z => ?_)⟩
  obtain ⟨e, e1, e2⟩ := (jo_lk_iff dh _ _).mp z
  simp only [jo_lc, Bool.and_eq_true] at e2
  obtain ⟨q1, q2, q3⟩ := e2
  rw [jo_cut_bit hs (jo_gr_lt h0 hs 5) sub, Bool.and_eq_true] at q3
  have w : (jo_gr dh s 6).testBit (e % 5) = true := by
    show (jo_gr dh s 5 ||| (jo_lw dh (jo_gr dh s 5) 25 &&& s)).testBit (e % 5) = true
    rw [Nat.testBit_or, Nat.testBit_and, (jo_lw_bit dh _ (e % 5) 25).mpr ⟨e, e1, rfl, q2, q1⟩, q3.1, Bool.true_and, Bool.or_true]
  rw [jo_gr_fix h0 hs] at w
  rw [w] at q3
  exact absurd q3.2 (by decide)
end
section
variable {f_filled : Int32} {a_power a_strength a_hasFilter a_sizes a_best a_leftOf a_ties a_line a_joined a_dear a_many a_manyLinked a_ahead : Nat → Int32} {dp ds : Nat → Nat} {dh : Nat → Bool} {s : Nat}
theorem jo_x17 {post : Int32 → Prop} (h0 : 0 < s) (hs : s < 32) (DX : jo_dX dp ds dh a_power a_strength a_hasFilter) (K : post (jo_b (jo_gr dh s 5 == s))) :
    ∀ d n, n + d = 5 → wX_connected_17 post (nI s) f_filled a_power a_strength a_hasFilter a_sizes a_best a_leftOf a_ties a_line a_joined a_dear a_many a_manyLinked a_ahead (d + 1) (nI (jo_gr dh s n)) (nI n) := by
  intro d
  induction d with
  | zero =>
    intro n hn
    obtain rfl : n = 5 := by omega
    have := jo_gr_lt (dh := dh) h0 hs 5
    exact br_t (Int32.le_refl _) (pk_eq (jo_gr dh s 5) s (fun w => by rw [beq_iff_eq.mpr w] at K; exact K) (fun w => by rw [beq_eq_false_iff_ne.mpr w] at K; exact K))
  | succ d ih =>
    intro n hn
    refine br_f (lt5' n (by omega)) (jo_xlinked (jo_gr_lt h0 hs n) DX (nm_r (e' := nI (jo_gr dh s (n + 1))) ?_ (nm_r (nI_1 n) (ih (n + 1) (by omega)))))
    rw [nx_and, jo_or]
    rfl
end
section
variable {f_formCount f_cost f_leftSet f_linked f_linear : Int32} {a_tables a_filters a_sizes a_forms a_row a_stack : Nat → Int32} {dp ds : Nat → Nat} {dh : Nat → Bool} {s : Nat}
theorem jo_y12t {post : Int32 → Prop} (hs : s < 32) (D : jo_dd dp ds dh) (DY : jo_dY dp ds dh a_tables a_filters) (H : ∀ a, 0 < a → a < s → a &&& s = a → jo_lk dh a (s - a) = true) (K : post 1) :
    ∀ d i, i + d = s → 0 < i → wY_connected_12 post (nI s) f_formCount f_cost f_leftSet f_linked f_linear a_tables a_filters a_sizes a_forms a_row a_stack (d + 1) (nI i) := by
  intro d
  induction d with
  | zero =>
    intro i hi h0
    obtain rfl : i = s := by omega
    exact br_t (Int32.le_refl _) K
  | succ d ih =>
    intro i hi h0
    refine br_f (nI_ge (by omega) (by omega)) ?_
    by_cases c : i &&& s = i
    · refine br_t ((jo_subI s hs i (by omega)).mpr c) ?_
      rw [jo_nand s hs i (by omega) c]
      refine jo_ylinked (by omega) (by omega) D DY ?_
      rw [H i h0 (by omega) c]
      exact br_f (by decide) (nm_r (nI_1 i) (ih (i + 1) (by omega) (by omega)))
    · exact br_f (fun z => c ((jo_subI s hs i (by omega)).mp z)) (nm_r (nI_1 i) (ih (i + 1) (by omega) (by omega)))
theorem jo_y12f {post : Int32 → Prop} {a : Nat} (hs : s < 32) (D : jo_dd dp ds dh) (DY : jo_dY dp ds dh a_tables a_filters) (has : a < s) (hm : a &&& s = a) (hl : jo_lk dh a (s - a) = false) (K : post 0) :
    ∀ d i, i + d = s → 0 < i → i ≤ a → wY_connected_12 post (nI s) f_formCount f_cost f_leftSet f_linked f_linear a_tables a_filters a_sizes a_forms a_row a_stack (d + 1) (nI i) := by
  intro d
  induction d with
  | zero => intro i hi h0 ha; omega
  | succ d ih =>
    intro i hi h0 ha
    refine br_f (nI_ge (by omega) (by omega)) ?_
    by_cases c : i &&& s = i
    · refine br_t ((jo_subI s hs i (by omega)).mpr c) ?_
      rw [jo_nand s hs i (by omega) c]
      refine jo_ylinked (by omega) (by omega) D DY ?_
      cases e : jo_lk dh i (s - i) with
      | false => exact br_t rfl K
      | true =>
        have ne : ¬ i = a := fun z => by
          rw [z, hl] at e
          exact absurd e (by decide)
        exact br_f (by decide) (nm_r (nI_1 i) (ih (i + 1) (by omega) (by omega) (by omega)))
    · have ne : ¬ i = a := fun z => c (by rw [z]; exact hm)
      exact br_f (fun z => c ((jo_subI s hs i (by omega)).mp z)) (nm_r (nI_1 i) (ih (i + 1) (by omega) (by omega) (by omega)))
theorem jo_yconn {post : Int32 → Prop} (h0 : 0 < s) (hs : s < 32) (D : jo_dd dp ds dh) (DY : jo_dY dp ds dh a_tables a_filters) (K : post (jo_b (jo_gr dh s 5 == s))) :
    ∃ n, wY_connected_12 post (nI s) f_formCount f_cost f_leftSet f_linked f_linear a_tables a_filters a_sizes a_forms a_row a_stack n 1 := by
  by_cases c : jo_gr dh s 5 = s
  · rw [beq_iff_eq.mpr c] at K
    exact ⟨s - 1 + 1, jo_y12t hs D DY (fun a h1 h2 h3 => jo_conn_t D.2.2.2 h0 hs c h1 h2 h3) K (s - 1) 1 (by omega) (by decide)⟩
  · rw [beq_eq_false_iff_ne.mpr c] at K
    obtain ⟨q1, q2, q3, q4⟩ := jo_conn_f h0 hs c
    exact ⟨s - 1 + 1, jo_y12f hs D DY q2 q3 q4 K (s - 1) 1 (by omega) (by decide) q1⟩
end
end
section
/-! arguments, stores, the new objects -/
theorem jo_tbl (p : Int32) : (∃ i, i < 5 ∧ p = nI i) ∨ ((∀ (post : Int32 → Prop) (u : SX), post 1 → wpX_badTable post u p) ∧ (∀ (post : Int32 → Prop) (v : SY), post 0 → wpY_isTable post v p)) := by
  by_cases h : p < 0
  · right
    exact ⟨fun post u K => by obtain ⟨f_filled, a_power, a_strength, a_hasFilter, a_sizes, a_best, a_leftOf, a_ties, a_line, a_joined, a_dear, a_many, a_manyLinked, a_ahead⟩ := u; exact br_t h K, fun post v K => by obtain ⟨f_formCount, f_cost, f_leftSet, f_linked, f_linear, a_tables, a_filters, a_sizes, a_forms, a_row, a_stack⟩ := v; exact br_t h K⟩
  · obtain ⟨i, hi, rfl⟩ := nI_of h
    by_cases c : i < 5
    · exact Or.inl ⟨i, c, rfl⟩
    · right
      exact ⟨fun post u K => by obtain ⟨f_filled, a_power, a_strength, a_hasFilter, a_sizes, a_best, a_leftOf, a_ties, a_line, a_joined, a_dear, a_many, a_manyLinked, a_ahead⟩ := u; exact br_f h (br_f (nI_nlt (b := 5) (by omega) hi) K), fun post v K => by obtain ⟨f_formCount, f_cost, f_leftSet, f_linked, f_linear, a_tables, a_filters, a_sizes, a_forms, a_row, a_stack⟩ := v; exact br_f h (br_t (nI_lt (a := 4) (by omega) hi) K)⟩
theorem jo_xtbl {post : Int32 → Prop} {u : SX} {i : Nat} (hi : i < 5) (K : post 0) : wpX_badTable post u (nI i) := by
  obtain ⟨f_filled, a_power, a_strength, a_hasFilter, a_sizes, a_best, a_leftOf, a_ties, a_line, a_joined, a_dear, a_many, a_manyLinked, a_ahead⟩ := u
  exact br_f (nI_pos (by omega)) (br_t (nI_lt (b := 5) hi (by decide)) K)
theorem jo_ytbl {post : Int32 → Prop} {v : SY} {i : Nat} (hi : i < 5) (K : post 1) : wpY_isTable post v (nI i) := by
  obtain ⟨f_formCount, f_cost, f_leftSet, f_linked, f_linear, a_tables, a_filters, a_sizes, a_forms, a_row, a_stack⟩ := v
  exact br_f (nI_pos (by omega)) (br_f (nI_nlt (a := 4) (by omega) (by omega)) K)
theorem jo_set (p : Int32) : (∃ s, 0 < s ∧ s < 32 ∧ p = nI s) ∨ ((∀ (post : Int32 → Prop) (u : SX), post 1 → wpX_badSet post u p) ∧ (∀ (post : Int32 → Prop) (v : SY), post 0 → wpY_isSet post v p)) := by
  by_cases h : p < 1
  · right
    exact ⟨fun post u K => by obtain ⟨f_filled, a_power, a_strength, a_hasFilter, a_sizes, a_best, a_leftOf, a_ties, a_line, a_joined, a_dear, a_many, a_manyLinked, a_ahead⟩ := u; exact br_t h K, fun post v K => by obtain ⟨f_formCount, f_cost, f_leftSet, f_linked, f_linear, a_tables, a_filters, a_sizes, a_forms, a_row, a_stack⟩ := v; exact br_t h K⟩
  · have h2 : ¬ p < 0 := fun z => h (Int32.lt_trans z (by decide))
    obtain ⟨i, hi, rfl⟩ := nI_of h2
    by_cases c : i < 32
    · have i0 : 0 < i := by
        by_cases z : i = 0
        · subst z
          exact absurd (show nI 0 < 1 by decide) h
        · omega
      exact Or.inl ⟨i, i0, c, rfl⟩
    · right
      exact ⟨fun post u K => by obtain ⟨f_filled, a_power, a_strength, a_hasFilter, a_sizes, a_best, a_leftOf, a_ties, a_line, a_joined, a_dear, a_many, a_manyLinked, a_ahead⟩ := u; exact br_f h (br_f (nI_nlt (b := 32) (by omega) hi) K), fun post v K => by obtain ⟨f_formCount, f_cost, f_leftSet, f_linked, f_linear, a_tables, a_filters, a_sizes, a_forms, a_row, a_stack⟩ := v; exact br_f h (br_t (nI_lt (a := 31) (by omega) hi) K)⟩
theorem jo_xset {post : Int32 → Prop} {u : SX} {s : Nat} (h0 : 0 < s) (hs : s < 32) (K : post 0) : wpX_badSet post u (nI s) := by
  obtain ⟨f_filled, a_power, a_strength, a_hasFilter, a_sizes, a_best, a_leftOf, a_ties, a_line, a_joined, a_dear, a_many, a_manyLinked, a_ahead⟩ := u
  exact br_f (nI_nlt (b := 1) (by omega) (by omega)) (br_t (nI_lt (b := 32) hs (by decide)) K)
theorem jo_yset {post : Int32 → Prop} {v : SY} {s : Nat} (h0 : 0 < s) (hs : s < 32) (K : post 1) : wpY_isSet post v (nI s) := by
  obtain ⟨f_formCount, f_cost, f_leftSet, f_linked, f_linear, a_tables, a_filters, a_sizes, a_forms, a_row, a_stack⟩ := v
  exact br_f (nI_nlt (b := 1) (by omega) (by omega)) (br_f (nI_nlt (a := 31) (by omega) (by omega)) K)
theorem jo_xpair {post : Int32 → Prop} {u : SX} {i j : Nat} (hi : i < 5) (hj : j < 5) (hn : i ≠ j) (K : post 0) : wpX_badPair post u (nI i) (nI j) := by
  obtain ⟨f_filled, a_power, a_strength, a_hasFilter, a_sizes, a_best, a_leftOf, a_ties, a_line, a_joined, a_dear, a_many, a_manyLinked, a_ahead⟩ := u
  unfold wpX_badPair
  refine jo_xtbl hi (br_t rfl (jo_xtbl hj (br_t rfl (br_f ?_ K))))
  rw [nI_eq (by omega) (by omega)]; exact hn
theorem jo_ypair {post : Int32 → Prop} {v : SY} {i j : Nat} (hi : i < 5) (hj : j < 5) (hn : i ≠ j) (K : post 1) : wpY_isPair post v (nI i) (nI j) := by
  obtain ⟨f_formCount, f_cost, f_leftSet, f_linked, f_linear, a_tables, a_filters, a_sizes, a_forms, a_row, a_stack⟩ := v
  unfold wpY_isPair
  refine jo_ytbl hi (br_f (by decide) (jo_ytbl hj (br_f (by decide) (br_f ?_ K))))
  rw [nI_eq (by omega) (by omega)]; exact hn
theorem jo_pair (p q : Int32) : (∃ i j, i < 5 ∧ j < 5 ∧ i ≠ j ∧ p = nI i ∧ q = nI j) ∨ ((∀ (post : Int32 → Prop) (u : SX), post 1 → wpX_badPair post u p q) ∧ (∀ (post : Int32 → Prop) (v : SY), post 0 → wpY_isPair post v p q)) := by
  rcases jo_tbl p with ⟨i, hi, rfl⟩ | ⟨hx, hy⟩
  · rcases jo_tbl q with ⟨j, hj, rfl⟩ | ⟨hx, hy⟩
    · by_cases e : i = j
      · right
        subst e
        refine ⟨fun post u K => ?_, fun post v K => ?_⟩
        · obtain ⟨f_filled, a_power, a_strength, a_hasFilter, a_sizes, a_best, a_leftOf, a_ties, a_line, a_joined, a_dear, a_many, a_manyLinked, a_ahead⟩ := u
          unfold wpX_badPair
          exact jo_xtbl hi (br_t rfl (jo_xtbl hi (br_t rfl (br_t rfl K))))
        · obtain ⟨f_formCount, f_cost, f_leftSet, f_linked, f_linear, a_tables, a_filters, a_sizes, a_forms, a_row, a_stack⟩ := v
          unfold wpY_isPair
          exact jo_ytbl hi (br_f (by decide) (jo_ytbl hi (br_f (by decide) (br_t rfl K))))
      · exact Or.inl ⟨i, j, hi, hj, e, rfl, rfl⟩
    · right
      refine ⟨fun post u K => ?_, fun post v K => ?_⟩
      · obtain ⟨f_filled, a_power, a_strength, a_hasFilter, a_sizes, a_best, a_leftOf, a_ties, a_line, a_joined, a_dear, a_many, a_manyLinked, a_ahead⟩ := u
        unfold wpX_badPair
        exact jo_xtbl hi (br_t rfl (hx _ _ (br_f (by decide) K)))
      · obtain ⟨f_formCount, f_cost, f_leftSet, f_linked, f_linear, a_tables, a_filters, a_sizes, a_forms, a_row, a_stack⟩ := v
        unfold wpY_isPair
        exact jo_ytbl hi (br_f (by decide) (hy _ _ (br_t rfl K)))
  · right
    refine ⟨fun post u K => ?_, fun post v K => ?_⟩
    · obtain ⟨f_filled, a_power, a_strength, a_hasFilter, a_sizes, a_best, a_leftOf, a_ties, a_line, a_joined, a_dear, a_many, a_manyLinked, a_ahead⟩ := u
      unfold wpX_badPair
      exact hx _ _ (br_f (by decide) K)
    · obtain ⟨f_formCount, f_cost, f_leftSet, f_linked, f_linear, a_tables, a_filters, a_sizes, a_forms, a_row, a_stack⟩ := v
      unfold wpY_isPair
      exact hy _ _ (br_t rfl K)
theorem jo_06 (p : Int32) : (∃ x, x ≤ 6 ∧ p = nI x) ∨ p < 0 ∨ (¬ p < 0 ∧ ¬ p ≤ 6) := by
  by_cases h : p < 0
  · exact Or.inr (Or.inl h)
  · obtain ⟨x, hx, rfl⟩ := nI_of h
    by_cases c : x ≤ 6
    · exact Or.inl ⟨x, c, rfl⟩
    · exact Or.inr (Or.inr ⟨h, nI_ge (a := 6) (by omega) hx⟩)
def jo_pt {α : Type} (f : Nat → α) (i j : Nat) (x : α) : Nat → α := fun e => if e = i * 5 + j ∨ e = j * 5 + i then x else f e
theorem jo_upd2 (a : Nat → Int32) (i j : Nat) (x : Int32) : upd (upd a (i * 5 + j) x) (j * 5 + i) x = jo_pt a i j x := by
  funext e
  unfold jo_pt
  by_cases h : e = j * 5 + i
  · subst h
    rw [pk_us, if_pos (Or.inr rfl)]
  · rw [pk_un h]
    by_cases g : e = i * 5 + j
    · subst g
      rw [pk_us, if_pos (Or.inl rfl)]
    · rw [pk_un g, if_neg (fun z => z.elim g h)]
theorem jo_put_dd {dp ds : Nat → Nat} {dh : Nat → Bool} {i j x : Nat} {b : Bool} (hi : i < 5) (hj : j < 5) (hx : x ≤ 6) (hb : b = false → x = 0) (D : jo_dd dp ds dh) : jo_dd dp (jo_pt ds i j x) (jo_pt dh i j b) := by
  obtain ⟨d1, d2, d3, d4⟩ := D
  refine ⟨d1, fun e he => ?_, fun e he => ?_, fun p hp q hq => ?_⟩
  · unfold jo_pt
    split
    · exact hx
    · exact d2 e he
  · unfold jo_pt
    split
    · exact hb
    · exact d3 e he
  · unfold jo_pt
    by_cases c : p * 5 + q = i * 5 + j ∨ p * 5 + q = j * 5 + i
    · rw [if_pos c, if_pos (by omega)]
    · rw [if_neg c, if_neg (by omega)]
      exact d4 p hp q hq
theorem jo_put_dX {dp ds : Nat → Nat} {dh : Nat → Bool} {i j x : Nat} {b : Bool} {pw st hf : Nat → Int32} (DX : jo_dX dp ds dh pw st hf) : jo_dX dp (jo_pt ds i j x) (jo_pt dh i j b) pw (jo_pt st i j (nI x)) (jo_pt hf i j (jo_b b)) := by
  obtain ⟨d1, d2, d3⟩ := DX
  refine ⟨d1, fun e he => ?_, fun e he => ?_⟩
  · unfold jo_pt
    split
    · rfl
    · exact d2 e he
  · by_cases c : e = i * 5 + j ∨ e = j * 5 + i
    · unfold jo_pt
      rw [if_pos c, if_pos c]
      rfl
    · unfold jo_pt
      rw [if_neg c, if_neg c]
      exact d3 e he
theorem jo_put_dY {dp ds : Nat → Nat} {dh : Nat → Bool} {i j x : Nat} {b : Bool} {tb fl : Nat → Int32} {y : Int32} (hy : y = if b then nI x else -1) (DY : jo_dY dp ds dh tb fl) : jo_dY dp (jo_pt ds i j x) (jo_pt dh i j b) tb (jo_pt fl i j y) := by
  obtain ⟨d1, d2⟩ := DY
  refine ⟨d1, fun e he => ?_⟩
  by_cases c : e = i * 5 + j ∨ e = j * 5 + i
  · unfold jo_pt
    rw [if_pos c, if_pos c, if_pos c]
    exact hy
  · unfold jo_pt
    rw [if_neg c, if_neg c, if_neg c]
    exact d2 e he
section
variable {f_filled : Int32} {a_power a_strength a_hasFilter a_sizes a_best a_leftOf a_ties a_line a_joined a_dear a_many a_manyLinked a_ahead : Nat → Int32}
theorem jo_xput {post : SX → Prop} {i j : Nat} {b : Bool} {x : Int32} (hi : i < 5) (hj : j < 5) (K : post (0, a_power, jo_pt a_strength i j x, jo_pt a_hasFilter i j (jo_b b), a_sizes, a_best, a_leftOf, a_ties, a_line, a_joined, a_dear, a_many, a_manyLinked, a_ahead)) :
    wpX_put post (f_filled, a_power, a_strength, a_hasFilter, a_sizes, a_best, a_leftOf, a_ties, a_line, a_joined, a_dear, a_many, a_manyLinked, a_ahead) (nI i) (nI j) (jo_b b) x := by
  have n : vp_nar .boolean (jo_b b) = jo_b b := by cases b <;> rfl
  have i1 : vp_in (nI (i * 5 + j)) 25 := vp_in_nI (by omega) (by decide)
  have i2 : vp_in (nI (j * 5 + i)) 25 := vp_in_nI (by omega) (by decide)
  have c1 : (nI (i * 5 + j)).toNatClampNeg = i * 5 + j := nI_clamp (by omega)
  have c2 : (nI (j * 5 + i)).toNatClampNeg = j * 5 + i := nI_clamp (by omega)
  simp only [wpX_put, jo_ix, n, i1, i2, c1, c2, true_and, forall_eq, jo_upd2]
  exact K
end
section
variable {f_formCount f_cost f_leftSet f_linked f_linear : Int32} {a_tables a_filters a_sizes a_forms a_row a_stack : Nat → Int32}
theorem jo_yput {post : SY → Prop} {i j : Nat} {x : Int32} (hi : i < 5) (hj : j < 5) (K : post (f_formCount, f_cost, f_leftSet, f_linked, f_linear, a_tables, jo_pt a_filters i j x, a_sizes, a_forms, a_row, a_stack)) :
    wpY_setFilter post (f_formCount, f_cost, f_leftSet, f_linked, f_linear, a_tables, a_filters, a_sizes, a_forms, a_row, a_stack) (nI i) (nI j) x := by
  have i1 : vp_in (nI (i * 5 + j)) 25 := vp_in_nI (by omega) (by decide)
  have i2 : vp_in (nI (j * 5 + i)) 25 := vp_in_nI (by omega) (by decide)
  have c1 : (nI (i * 5 + j)).toNatClampNeg = i * 5 + j := nI_clamp (by omega)
  have c2 : (nI (j * 5 + i)).toNatClampNeg = j * 5 + i := nI_clamp (by omega)
  simp only [wpY_setFilter, jo_iy, i1, i2, c1, c2, true_and, forall_eq, jo_upd2]
  exact K
end
section
variable {f_filled : Int32} {a_power a_strength a_hasFilter a_sizes a_best a_leftOf a_ties a_line a_joined a_dear a_many a_manyLinked a_ahead : Nat → Int32}
theorem jo_x109 {post : SX → Prop} (K : ∀ a, (∀ k, k < 5 → a k = 3) → post (f_filled, a, a_strength, a_hasFilter, a_sizes, a_best, a_leftOf, a_ties, a_line, a_joined, a_dear, a_many, a_manyLinked, a_ahead)) :
    ∀ d i a_power, i + d = 5 → (∀ k, k < i → a_power k = 3) → wX_init_109 post f_filled (d + 1) (nI i) a_power a_strength a_hasFilter a_sizes a_best a_leftOf a_ties a_line a_joined a_dear a_many a_manyLinked a_ahead := by
  intro d
  induction d with
  | zero =>
    intro i a_power hi h
    obtain rfl : i = 5 := by omega
    exact br_t (Int32.le_refl _) (K _ h)
  | succ d ih =>
    intro i a_power hi h
    refine br_f (lt5' i (by omega)) ⟨vp_in_nI (by omega) (by decide), nm_r (e' := upd a_power i 3) (by rw [nI_clamp (by omega)]) (nm_r (nI_1 i) (ih (i + 1) _ (by omega) (fun k hk => ?_)))⟩
    by_cases e : k = i
    · rw [e, pk_us]
    · rw [pk_un e]; exact h k (by omega)
end
section
variable {f_formCount f_cost f_leftSet f_linked f_linear : Int32} {a_tables a_filters a_sizes a_forms a_row a_stack : Nat → Int32}
theorem jo_y51 {post : SY → Prop} (K : ∀ a b, (∀ k, k < 5 → a k = 3) → (∀ k, k < 25 → b k = -1) → post (f_formCount, f_cost, f_leftSet, f_linked, f_linear, a, b, a_sizes, a_forms, a_row, a_stack)) :
    ∀ d i a_tables a_filters, i + d = 25 → (∀ k, k < i → a_tables (k % 5) = 3) → (∀ k, k < i → a_filters k = -1) → wY_init_51 post f_formCount f_cost f_leftSet f_linked f_linear (d + 1) (nI i) a_tables a_filters a_sizes a_forms a_row a_stack := by
  intro d
  induction d with
  | zero =>
    intro i a_tables a_filters hi h g
    obtain rfl : i = 25 := by omega
    exact br_t (Int32.le_refl _) (K _ _ (fun k hk => by
      have := h k (by omega)
      rw [Nat.mod_eq_of_lt hk] at this
      exact this) g)
  | succ d ih =>
    intro i a_tables a_filters hi h g
    have r : nI i - nI i / 5 * 5 = nI (i % 5) := pk_rem (d := 5) (by omega) (by decide) (by decide)
    have m5 : i % 5 < 5 := Nat.mod_lt _ (by decide)
    refine br_f (nI_ge (b := 25) (by omega) (by decide)) ⟨vp_in_nI (by omega) (by decide), nm_r (e' := upd a_filters i (-1)) (by rw [nI_clamp (by omega)]) ⟨by decide, ?_⟩⟩
    rw [r]
    refine ⟨vp_in_nI m5 (by decide), nm_r (e' := upd a_tables (i % 5) 3) (by rw [nI_clamp (by omega)]) (nm_r (nI_1 i) (ih (i + 1) _ _ (by omega) (fun k hk => ?_) (fun k hk => ?_)))⟩
    · by_cases e : k % 5 = i % 5
      · rw [e, pk_us]
      · rw [pk_un e]
        by_cases e2 : k = i
        · rw [e2] at e; exact absurd rfl e
        · exact h k (by omega)
    · by_cases e : k = i
      · rw [e, pk_us]
      · rw [pk_un e]; exact g k (by omega)
end
end
section
/-- the relation at the head of a turn: both hold the same tables and filters; the component's tables over sets are right if it says so -/
def i_Rel (k : Nat) (u : SX) (v : SY) : Prop :=
  match u, v with
  | (f_filled, a_power, a_strength, a_hasFilter, a_sizes, a_best, a_leftOf, a_ties, a_line, a_joined, a_dear, a_many, a_manyLinked, a_ahead), (f_formCount2, f_cost2, f_leftSet2, f_linked2, f_linear2, a_tables2, a_filters2, a_sizes2, a_forms2, a_row2, a_stack2) =>
    ∃ dp ds dh, jo_dd dp ds dh ∧ jo_dX dp ds dh a_power a_strength a_hasFilter ∧ jo_dY dp ds dh a_tables2 a_filters2 ∧
      (f_filled = 0 ∨ (f_filled = 1 ∧ jo_T (jo_sz dp ds) dh 32 a_sizes a_best a_leftOf a_ties a_line a_joined a_dear a_many a_manyLinked))
theorem i_up {k : Nat} {u : SX} {v : SY} (h : i_Rel k u v) : i_Rel (k + 4) u v := h
theorem i_vc0 : wpX_init (fun u => wpY_init (fun v => i_Rel 0 u v)) := by
  refine ⟨6, jo_x109 (fun a ha => ?_) 5 0 _ rfl (fun k hk => absurd hk (Nat.not_lt_zero k))⟩
  refine ⟨26, jo_y51 (fun b c hb hc => ?_) 25 0 _ _ rfl (fun k hk => absurd hk (Nat.not_lt_zero k)) (fun k hk => absurd hk (Nat.not_lt_zero k))⟩
  refine ⟨fun _ => 3, fun _ => 0, fun _ => false, ⟨fun _ _ => (by decide : (3 : Nat) ≤ 6), fun _ _ => (by decide : (0 : Nat) ≤ 6), fun _ _ _ => rfl, fun _ _ _ _ => rfl⟩, ⟨ha, fun _ _ => rfl, fun _ _ => rfl⟩, ⟨hb, hc⟩, Or.inl rfl⟩
theorem i_vc_table {k : Nat} {u : SX} {v : SY} (I : i_Rel k u v) (hk : k + 4 ≤ 2048) (v1 : Int32) (v2 : Int32) : wpX_table (fun r u' => wpY_table (fun r' v' => r' = r ∧ i_Rel (k + 4) u' v') v v1 v2) u v1 v2 := by
  obtain ⟨f_filled, a_power, a_strength, a_hasFilter, a_sizes, a_best, a_leftOf, a_ties, a_line, a_joined, a_dear, a_many, a_manyLinked, a_ahead⟩ := u
  obtain ⟨f_formCount2, f_cost2, f_leftSet2, f_linked2, f_linear2, a_tables2, a_filters2, a_sizes2, a_forms2, a_row2, a_stack2⟩ := v
  unfold wpX_table wpY_table
  rcases jo_tbl v1 with ⟨i, hi, rfl⟩ | ⟨hx, hy⟩
  · rcases jo_06 v2 with ⟨x, hx, rfl⟩ | h | ⟨h, h2⟩
    · have ii : vp_in (nI i) 5 := vp_in_nI hi (by decide)
      have ci : (nI i).toNatClampNeg = i := nI_clamp (by omega)
      have n0 : ¬ nI x < 0 := nI_pos (by omega)
      have n6 : nI x ≤ 6 := nI_le (b := 6) hx (by decide)
      obtain ⟨dp, ds, dh, D, DX, DY, F⟩ := I
      refine jo_xtbl hi (br_t rfl (br_f n0 (br_t n6 ⟨ii, nm_e ⟨ii, nm_e ?_⟩⟩)))
      refine jo_ytbl hi (br_f (by decide) (br_f n0 (br_t n6 ⟨ii, nm_e ⟨ii, nm_e ⟨?_, ?_⟩⟩⟩)))
      · rw [ci, DX.1 i hi, DY.1 i hi]
      · rw [ci]
        refine ⟨fun e => if e = i then x else dp e, ds, dh, ⟨fun e he => ?_, D.2⟩, ⟨fun e he => ?_, DX.2⟩, ⟨fun e he => ?_, DY.2⟩, Or.inl rfl⟩
        · dsimp only
          split
          · exact hx
          · exact D.1 e he
        · show _ = nI (if e = i then x else dp e)
          by_cases c : e = i
          · rw [c, pk_us, if_pos rfl]
          · rw [pk_un c, if_neg c]; exact DX.1 e he
        · show _ = nI (if e = i then x else dp e)
          by_cases c : e = i
          · rw [c, pk_us, if_pos rfl]
          · rw [pk_un c, if_neg c]; exact DY.1 e he
    · exact jo_xtbl hi (br_t rfl (br_t h (jo_ytbl hi (br_f (by decide) (br_t h ⟨rfl, I⟩)))))
    · exact jo_xtbl hi (br_t rfl (br_f h (br_f h2 (jo_ytbl hi (br_f (by decide) (br_f h (br_f h2 ⟨rfl, I⟩)))))))
  · exact hx _ _ (br_f (by decide) (hy _ _ (br_t rfl ⟨rfl, I⟩)))
theorem i_vc_filter {k : Nat} {u : SX} {v : SY} (I : i_Rel k u v) (hk : k + 4 ≤ 2048) (v1 : Int32) (v2 : Int32) (v3 : Int32) : wpX_filter (fun r u' => wpY_filter (fun r' v' => r' = r ∧ i_Rel (k + 4) u' v') v v1 v2 v3) u v1 v2 v3 := by
  obtain ⟨f_filled, a_power, a_strength, a_hasFilter, a_sizes, a_best, a_leftOf, a_ties, a_line, a_joined, a_dear, a_many, a_manyLinked, a_ahead⟩ := u
  obtain ⟨f_formCount2, f_cost2, f_leftSet2, f_linked2, f_linear2, a_tables2, a_filters2, a_sizes2, a_forms2, a_row2, a_stack2⟩ := v
  unfold wpX_filter wpY_filter
  rcases jo_pair v1 v2 with ⟨i, j, hi, hj, hn, rfl, rfl⟩ | ⟨hx, hy⟩
  · rcases jo_06 v3 with ⟨x, hx, rfl⟩ | h | ⟨h, h2⟩
    · have e25 : i * 5 + j < 25 := by omega
      have i1 : vp_in (nI (i * 5 + j)) 25 := vp_in_nI e25 (by decide)
      have c1 : (nI (i * 5 + j)).toNatClampNeg = i * 5 + j := nI_clamp (by omega)
      have n0 : ¬ nI x < 0 := nI_pos (by omega)
      have n6 : nI x ≤ 6 := nI_le (b := 6) hx (by decide)
      obtain ⟨dp, ds, dh, D, DX, DY, F⟩ := I
      have fin : i_Rel (k + 4) (0, a_power, jo_pt a_strength i j (nI x), jo_pt a_hasFilter i j (jo_b true), a_sizes, a_best, a_leftOf, a_ties, a_line, a_joined, a_dear, a_many, a_manyLinked, a_ahead) (f_formCount2, f_cost2, f_leftSet2, f_linked2, f_linear2, a_tables2, jo_pt a_filters2 i j (nI x), a_sizes2, a_forms2, a_row2, a_stack2) :=
        ⟨dp, jo_pt ds i j x, jo_pt dh i j true, jo_put_dd hi hj hx (fun z => by cases z) D, jo_put_dX DX, jo_put_dY rfl DY, Or.inl rfl⟩
      refine jo_xpair hi hj hn (br_t rfl (br_f n0 (br_t n6 ?_)))
      rw [jo_ix, c1, DX.2.2 _ e25]
      refine ⟨i1, ?_⟩
      have h6 := D.2.1 _ e25
      by_cases t : dh (i * 5 + j) = true
      · rw [if_pos t]
        refine br_f (by decide) ?_
        unfold wX_filter_39
        refine jo_xput (b := true) hi hj ?_
        refine jo_ypair hi hj hn (br_f (by decide) (br_f n0 (br_t n6 ?_)))
        rw [jo_iy, c1, DY.2 _ e25, if_pos t]
        refine ⟨i1, br_t (nI_pos' (by omega)) ?_⟩
        unfold wY_filter_39
        exact jo_yput hi hj ⟨rfl, fin⟩
      · rw [if_neg t]
        refine br_t rfl ?_
        unfold wX_filter_39
        refine jo_xput (b := true) hi hj ?_
        refine jo_ypair hi hj hn (br_f (by decide) (br_f n0 (br_t n6 ?_)))
        rw [jo_iy, c1, DY.2 _ e25, if_neg t]
        refine ⟨i1, br_f (by decide) ?_⟩
        unfold wY_filter_39
        exact jo_yput hi hj ⟨rfl, fin⟩
    · exact jo_xpair hi hj hn (br_t rfl (br_t h (jo_ypair hi hj hn (br_f (by decide) (br_t h ⟨rfl, I⟩)))))
    · exact jo_xpair hi hj hn (br_t rfl (br_f h (br_f h2 (jo_ypair hi hj hn (br_f (by decide) (br_f h (br_f h2 ⟨rfl, I⟩)))))))
  · exact hx _ _ (br_f (by decide) (hy _ _ (br_t rfl ⟨rfl, I⟩)))
theorem i_vc_unfilter {k : Nat} {u : SX} {v : SY} (I : i_Rel k u v) (hk : k + 4 ≤ 2048) (v1 : Int32) (v2 : Int32) : wpX_unfilter (fun r u' => wpY_unfilter (fun r' v' => r' = r ∧ i_Rel (k + 4) u' v') v v1 v2) u v1 v2 := by
  obtain ⟨f_filled, a_power, a_strength, a_hasFilter, a_sizes, a_best, a_leftOf, a_ties, a_line, a_joined, a_dear, a_many, a_manyLinked, a_ahead⟩ := u
  obtain ⟨f_formCount2, f_cost2, f_leftSet2, f_linked2, f_linear2, a_tables2, a_filters2, a_sizes2, a_forms2, a_row2, a_stack2⟩ := v
  unfold wpX_unfilter wpY_unfilter
  rcases jo_pair v1 v2 with ⟨i, j, hi, hj, hn, rfl, rfl⟩ | ⟨hx, hy⟩
  · have e25 : i * 5 + j < 25 := by omega
    have i1 : vp_in (nI (i * 5 + j)) 25 := vp_in_nI e25 (by decide)
    have c1 : (nI (i * 5 + j)).toNatClampNeg = i * 5 + j := nI_clamp (by omega)
    obtain ⟨dp, ds, dh, D, DX, DY, F⟩ := I
    have h6 := D.2.1 _ e25
    refine jo_xpair hi hj hn (br_t rfl ?_)
    rw [jo_ix, c1, DX.2.2 _ e25, DX.2.1 _ e25]
    refine ⟨i1, ?_⟩
    by_cases t : dh (i * 5 + j) = true
    · rw [if_pos t]
      refine br_f (by decide) ⟨i1, nm_e (jo_xput (b := false) hi hj ?_)⟩
      refine jo_ypair hi hj hn (br_f (by decide) ?_)
      rw [jo_iy, c1, DY.2 _ e25, if_pos t]
      refine ⟨i1, nm_e (jo_yput hi hj (br_t (nI_pos' (by omega)) ⟨rfl, ?_⟩))⟩
      exact ⟨dp, jo_pt ds i j 0, jo_pt dh i j false, jo_put_dd hi hj (by decide) (fun _ => rfl) D, jo_put_dX DX, jo_put_dY rfl DY, Or.inl rfl⟩
    · rw [if_neg t]
      refine br_t rfl (jo_ypair hi hj hn (br_f (by decide) ?_))
      rw [jo_iy, c1, DY.2 _ e25, if_neg t]
      refine ⟨i1, nm_e (jo_yput hi hj (br_f (by decide) ⟨rfl, ?_⟩))⟩
      have same : jo_pt a_filters2 i j (-1) = fun e => jo_pt a_filters2 i j (-1) e := rfl
      refine ⟨dp, ds, dh, D, DX, ⟨DY.1, fun e he => ?_⟩, F⟩
      unfold jo_pt
      by_cases c : e = i * 5 + j ∨ e = j * 5 + i
      · rw [if_pos c]
        have tj : dh (j * 5 + i) = false := by rw [← D.2.2.2 i hi j hj]; exact jo_nt t
        rcases c with c | c
        · rw [c, if_neg t]
        · rw [c, tj]; rfl
      · rw [if_neg c]
        exact DY.2 e he
  · exact hx _ _ (br_f (by decide) (hy _ _ (br_t rfl ⟨rfl, I⟩)))
theorem i_vc_size {k : Nat} {u : SX} {v : SY} (I : i_Rel k u v) (hk : k + 4 ≤ 2048) (v1 : Int32) : wpX_size (fun r => wpY_size (fun r' => r' = r ∧ i_Rel (k + 4) u v) v v1) u v1 := by
  obtain ⟨f_filled, a_power, a_strength, a_hasFilter, a_sizes, a_best, a_leftOf, a_ties, a_line, a_joined, a_dear, a_many, a_manyLinked, a_ahead⟩ := u
  obtain ⟨f_formCount2, f_cost2, f_leftSet2, f_linked2, f_linear2, a_tables2, a_filters2, a_sizes2, a_forms2, a_row2, a_stack2⟩ := v
  have I' := I
  unfold wpX_size wpY_size
  rcases jo_set v1 with ⟨s, h0, hs, rfl⟩ | ⟨hx, hy⟩
  · obtain ⟨dp, ds, dh, D, DX, DY, F⟩ := I
    exact jo_xset h0 hs (br_t rfl (jo_xsize hs D DX (jo_yset h0 hs (br_f (by decide) (jo_ysize hs D DY ⟨rfl, I'⟩)))))
  · exact hx _ _ (br_f (by decide) (hy _ _ (br_t rfl ⟨rfl, I'⟩)))
theorem i_vc_connected {k : Nat} {u : SX} {v : SY} (I : i_Rel k u v) (hk : k + 4 ≤ 2048) (v1 : Int32) : wpX_connected (fun r => wpY_connected (fun r' => r' = r ∧ i_Rel (k + 4) u v) v v1) u v1 := by
  obtain ⟨f_filled, a_power, a_strength, a_hasFilter, a_sizes, a_best, a_leftOf, a_ties, a_line, a_joined, a_dear, a_many, a_manyLinked, a_ahead⟩ := u
  obtain ⟨f_formCount2, f_cost2, f_leftSet2, f_linked2, f_linear2, a_tables2, a_filters2, a_sizes2, a_forms2, a_row2, a_stack2⟩ := v
  have I' := I
  unfold wpX_connected wpY_connected
  rcases jo_set v1 with ⟨s, h0, hs, rfl⟩ | ⟨hx, hy⟩
  · obtain ⟨dp, ds, dh, D, DX, DY, F⟩ := I
    exact jo_xset h0 hs (br_t rfl (nm_r (jo_lowI s hs) ⟨6, jo_x17 h0 hs DX (jo_yset h0 hs (br_f (by decide) (jo_yconn h0 hs D DY ⟨rfl, I'⟩))) 5 0 rfl⟩))
  · exact hx _ _ (br_f (by decide) (hy _ _ (br_t rfl ⟨rfl, I'⟩)))
theorem jo_ex_n {sz : Nat → Nat} {L : List (List Nat)} (h : jo_mc sz L ≤ 2147483646) : jo_ex (jo_mc sz L) = nI (jo_mc sz L) := if_neg (by omega)
theorem i_vc_cost {k : Nat} {u : SX} {v : SY} (I : i_Rel k u v) (hk : k + 4 ≤ 2048) (v1 : Int32) : wpX_cost (fun r u' => wpY_cost (fun r' v' => r' = r ∧ i_Rel (k + 4) u' v') v v1) u v1 := by
  obtain ⟨f_filled, a_power, a_strength, a_hasFilter, a_sizes, a_best, a_leftOf, a_ties, a_line, a_joined, a_dear, a_many, a_manyLinked, a_ahead⟩ := u
  obtain ⟨f_formCount2, f_cost2, f_leftSet2, f_linked2, f_linear2, a_tables2, a_filters2, a_sizes2, a_forms2, a_row2, a_stack2⟩ := v
  unfold wpX_cost wpY_cost
  rcases jo_set v1 with ⟨s, h0, hs, rfl⟩ | ⟨hx, hy⟩
  · obtain ⟨dp, ds, dh, D, DX, DY, F⟩ := I
    have hz : ∀ t, jo_sz dp ds t ≤ jo_bz t := jo_sz_le D.1
    refine jo_xset h0 hs (br_t rfl (jo_xfill D DX F (fun b0 b1 b2 b3 b4 b5 b6 b7 b8 T => ⟨vp_in_nI hs (by decide), ?_⟩)))
    refine jo_yset h0 hs (br_f (by decide) (jo_yextreme h0 hs D DY (fun _ _ _ _ _ _ _ _ _ => ⟨?_, dp, ds, dh, D, DX, DY, Or.inr ⟨rfl, T⟩⟩)))
    rw [nI_clamp (by omega), T.2.1 s h0 hs, jo_kp0]
    exact jo_ex_n (jo_mc_lt (jo_pl_ne hs) (fun p hp => jo_pl_bd hz hs hp))
  · exact hx _ _ (br_f (by decide) (hy _ _ (br_t rfl ⟨rfl, I⟩)))
theorem i_vc_linearCost {k : Nat} {u : SX} {v : SY} (I : i_Rel k u v) (hk : k + 4 ≤ 2048) (v1 : Int32) : wpX_linearCost (fun r u' => wpY_linearCost (fun r' v' => r' = r ∧ i_Rel (k + 4) u' v') v v1) u v1 := by
  obtain ⟨f_filled, a_power, a_strength, a_hasFilter, a_sizes, a_best, a_leftOf, a_ties, a_line, a_joined, a_dear, a_many, a_manyLinked, a_ahead⟩ := u
  obtain ⟨f_formCount2, f_cost2, f_leftSet2, f_linked2, f_linear2, a_tables2, a_filters2, a_sizes2, a_forms2, a_row2, a_stack2⟩ := v
  unfold wpX_linearCost wpY_linearCost
  rcases jo_set v1 with ⟨s, h0, hs, rfl⟩ | ⟨hx, hy⟩
  · obtain ⟨dp, ds, dh, D, DX, DY, F⟩ := I
    have hz : ∀ t, jo_sz dp ds t ≤ jo_bz t := jo_sz_le D.1
    refine jo_xset h0 hs (br_t rfl (jo_xfill D DX F (fun b0 b1 b2 b3 b4 b5 b6 b7 b8 T => ⟨vp_in_nI hs (by decide), ?_⟩)))
    refine jo_yset h0 hs (br_f (by decide) (jo_yextreme h0 hs D DY (fun _ _ _ _ _ _ _ _ _ => ⟨?_, dp, ds, dh, D, DX, DY, Or.inr ⟨rfl, T⟩⟩)))
    rw [nI_clamp (by omega), T.2.2.2.2.1 s h0 hs, jo_kp1]
    exact jo_ex_n (jo_mc_lt (jo_kl_ne hs) (fun p hp => jo_pl_bd hz hs (jo_K_sub hp)))
  · exact hx _ _ (br_f (by decide) (hy _ _ (br_t rfl ⟨rfl, I⟩)))
theorem i_vc_linkedCost {k : Nat} {u : SX} {v : SY} (I : i_Rel k u v) (hk : k + 4 ≤ 2048) (v1 : Int32) : wpX_linkedCost (fun r u' => wpY_linkedCost (fun r' v' => r' = r ∧ i_Rel (k + 4) u' v') v v1) u v1 := by
  obtain ⟨f_filled, a_power, a_strength, a_hasFilter, a_sizes, a_best, a_leftOf, a_ties, a_line, a_joined, a_dear, a_many, a_manyLinked, a_ahead⟩ := u
  obtain ⟨f_formCount2, f_cost2, f_leftSet2, f_linked2, f_linear2, a_tables2, a_filters2, a_sizes2, a_forms2, a_row2, a_stack2⟩ := v
  unfold wpX_linkedCost wpY_linkedCost
  rcases jo_set v1 with ⟨s, h0, hs, rfl⟩ | ⟨hx, hy⟩
  · obtain ⟨dp, ds, dh, D, DX, DY, F⟩ := I
    have hz : ∀ t, jo_sz dp ds t ≤ jo_bz t := jo_sz_le D.1
    refine jo_xset h0 hs (br_t rfl (jo_xfill D DX F (fun b0 b1 b2 b3 b4 b5 b6 b7 b8 T => ⟨vp_in_nI hs (by decide), ?_⟩)))
    have e : b5 (nI s).toNatClampNeg = nI (jo_mc (jo_sz dp ds) (jo_K (jo_lj dh) (jo_pl s))) := by
      rw [nI_clamp (by omega)]; exact T.2.2.2.2.2.1 s h0 hs
    have f : jo_mc (jo_sz dp ds) (jo_K (jo_lj dh) (jo_pl s)) ≤ 2147483647 := jo_mc_far
    rw [e]
    refine pk_eq (jo_mc (jo_sz dp ds) (jo_K (jo_lj dh) (jo_pl s))) 2147483647 (fun w => ?_) (fun w => ⟨vp_in_nI hs (by decide), ?_⟩)
    · refine jo_yset h0 hs (br_f (by decide) (jo_yextreme h0 hs D DY (fun _ _ _ _ _ _ _ _ _ => ⟨?_, dp, ds, dh, D, DX, DY, Or.inr ⟨rfl, T⟩⟩)))
      rw [jo_kp2]
      exact if_pos w
    · refine jo_yset h0 hs (br_f (by decide) (jo_yextreme h0 hs D DY (fun _ _ _ _ _ _ _ _ _ => ⟨?_, dp, ds, dh, D, DX, DY, Or.inr ⟨rfl, T⟩⟩)))
      rw [jo_kp2]
      exact if_neg w
  · exact hx _ _ (br_f (by decide) (hy _ _ (br_t rfl ⟨rfl, I⟩)))
theorem i_vc_worst {k : Nat} {u : SX} {v : SY} (I : i_Rel k u v) (hk : k + 4 ≤ 2048) (v1 : Int32) : wpX_worst (fun r u' => wpY_worst (fun r' v' => r' = r ∧ i_Rel (k + 4) u' v') v v1) u v1 := by
  obtain ⟨f_filled, a_power, a_strength, a_hasFilter, a_sizes, a_best, a_leftOf, a_ties, a_line, a_joined, a_dear, a_many, a_manyLinked, a_ahead⟩ := u
  obtain ⟨f_formCount2, f_cost2, f_leftSet2, f_linked2, f_linear2, a_tables2, a_filters2, a_sizes2, a_forms2, a_row2, a_stack2⟩ := v
  unfold wpX_worst wpY_worst
  rcases jo_set v1 with ⟨s, h0, hs, rfl⟩ | ⟨hx, hy⟩
  · obtain ⟨dp, ds, dh, D, DX, DY, F⟩ := I
    refine jo_xset h0 hs (br_t rfl (jo_xfill D DX F (fun b0 b1 b2 b3 b4 b5 b6 b7 b8 T => ⟨vp_in_nI hs (by decide), ?_⟩)))
    refine jo_yset h0 hs (br_f (by decide) (jo_yworst h0 hs D DY (fun _ _ _ _ _ _ _ _ _ => ⟨?_, dp, ds, dh, D, DX, DY, Or.inr ⟨rfl, T⟩⟩)))
    rw [nI_clamp (by omega), T.2.2.2.2.2.2.1 s h0 hs]
    rfl
  · exact hx _ _ (br_f (by decide) (hy _ _ (br_t rfl ⟨rfl, I⟩)))
theorem i_vc_left {k : Nat} {u : SX} {v : SY} (I : i_Rel k u v) (hk : k + 4 ≤ 2048) (v1 : Int32) : wpX_left (fun r u' => wpY_left (fun r' v' => r' = r ∧ i_Rel (k + 4) u' v') v v1) u v1 := by
  obtain ⟨f_filled, a_power, a_strength, a_hasFilter, a_sizes, a_best, a_leftOf, a_ties, a_line, a_joined, a_dear, a_many, a_manyLinked, a_ahead⟩ := u
  obtain ⟨f_formCount2, f_cost2, f_leftSet2, f_linked2, f_linear2, a_tables2, a_filters2, a_sizes2, a_forms2, a_row2, a_stack2⟩ := v
  unfold wpX_left wpY_left
  rcases jo_set v1 with ⟨s, h0, hs, rfl⟩ | ⟨hx, hy⟩
  · obtain ⟨dp, ds, dh, D, DX, DY, F⟩ := I
    have hz : ∀ t, jo_sz dp ds t ≤ jo_bz t := jo_sz_le D.1
    have hm := jo_mc_lt (jo_pl_ne hs) (fun p hp => jo_pl_bd hz hs hp)
    refine jo_xset h0 hs (br_t rfl (jo_xfill D DX F (fun b0 b1 b2 b3 b4 b5 b6 b7 b8 T => ⟨vp_in_nI hs (by decide), ?_⟩)))
    refine jo_yset h0 hs (br_f (by decide) (jo_yextreme h0 hs D DY (fun _ g1 g2 g3 g4 _ _ g7 g8 => ?_)))
    rw [jo_kp0, jo_ex_n hm]
    refine jo_yprep h0 hs D DY (fun z a hsz ha => jo_ycount hs ⟨jo_tot s + 1, ?_⟩)
    have h := jo_yl38 (post := fun r' v' => r' = b2 (nI s).toNatClampNeg ∧ i_Rel (k + 4) (1, a_power, a_strength, a_hasFilter, b0, b1, b2, b3, b4, b5, b6, b7, b8, a_ahead) v')
      (a_sizes := z) (a_forms := a) hm h0 hs D DY hsz ha (fun _ _ _ _ _ _ => ⟨by rw [nI_clamp (by omega), T.2.2.1 s h0 hs]; exact jo_A_g2 hz h0 hs, dp, ds, dh, D, DX, DY, Or.inr ⟨rfl, T⟩⟩) (jo_tot s) 0 (by omega) g1 g2 g3 g4 g7 g8
    exact h
  · exact hx _ _ (br_f (by decide) (hy _ _ (br_t rfl ⟨rfl, I⟩)))
theorem i_vc_linearTable {k : Nat} {u : SX} {v : SY} (I : i_Rel k u v) (hk : k + 4 ≤ 2048) (v1 : Int32) (v2 : Int32) : wpX_linearTable (fun r u' => wpY_linearTable (fun r' v' => r' = r ∧ i_Rel (k + 4) u' v') v v1 v2) u v1 v2 := by
  obtain ⟨f_filled, a_power, a_strength, a_hasFilter, a_sizes, a_best, a_leftOf, a_ties, a_line, a_joined, a_dear, a_many, a_manyLinked, a_ahead⟩ := u
  obtain ⟨f_formCount2, f_cost2, f_leftSet2, f_linked2, f_linear2, a_tables2, a_filters2, a_sizes2, a_forms2, a_row2, a_stack2⟩ := v
  unfold wpX_linearTable wpY_linearTable
  rcases jo_set v1 with ⟨s, h0, hs, rfl⟩ | ⟨hx, hy⟩
  · obtain ⟨dp, ds, dh, D, DX, DY, F⟩ := I
    have hz : ∀ t, jo_sz dp ds t ≤ jo_bz t := jo_sz_le D.1
    have hmr : jo_mr (jo_sz dp ds) s 0 ≤ 2147483646 := jo_mr_bd hz hs (by decide) (Nat.zero_and s)
    have hline := jo_line_mr hz h0 hs
    obtain ⟨i0, q1, q2, q3, q4, q5⟩ := jo_first hz h0 hs
    have rl : (jo_rest (jo_sz dp ds) s 0).length = jo_pc s 5 := by
      rw [← q4]; exact (jo_row_ok h0 hs (jo_li_i h0 hs q1)).2.1
    have hp := jo_pc_le s 5
    refine jo_xset h0 hs (br_t rfl (jo_xfill D DX F (fun b0 b1 b2 b3 b4 b5 b6 b7 b8 T => jo_xahead hz hs T.1 (fun a' HA => ⟨vp_in_nI hs (by decide), ?_⟩))))
    refine nm_r (e' := nI (jo_mr (jo_sz dp ds) s 0)) ?_ ?_
    · rw [nI_clamp (by omega), T.2.2.2.2.1 s h0 hs]
      unfold jo_g4
      rw [hline]
    · have yy : ∀ ans : Int32, (v2 < 0 → ans = -4) → (∀ q, q < 2 ^ 31 → v2 = nI q → ans = if q < jo_pc s 5 then nI ((jo_rw s (i0 / jo_fc s)).getD q 0) else -4) →
          wpY_isSet (fun r_1 => (((r_1 = 0 → ((fun r' v' => r' = ans ∧ i_Rel (k + 4) (1, a_power, a_strength, a_hasFilter, b0, b1, b2, b3, b4, b5, b6, b7, b8, a') v') (-1) (f_formCount2, f_cost2, f_leftSet2, f_linked2, f_linear2, a_tables2, a_filters2, a_sizes2, a_forms2, a_row2, a_stack2))) ∧ (¬ r_1 = 0 → (wpY_extreme (fun r_14 u => match u with | (f_formCount3, f_cost3, f_leftSet3, f_linked3, f_linear3, a_tables3, a_filters3, a_sizes3, a_forms3, a_row3, a_stack3) => (wpY_prepare (fun r_26 u => match u with | (f_formCount4, f_cost4, f_leftSet4, f_linked4, f_linear4, a_tables4, a_filters4, a_sizes4, a_forms4, a_row4, a_stack4) => (wpY_count (fun r_38 => (∃ n35 : Nat, wY_linearTable_35 (fun r' v' => r' = ans ∧ i_Rel (k + 4) (1, a_power, a_strength, a_hasFilter, b0, b1, b2, b3, b4, b5, b6, b7, b8, a') v') (nI s) v2 r_14 r_26 r_38 n35 0 f_formCount4 f_cost4 f_leftSet4 f_linked4 f_linear4 a_tables4 a_filters4 a_sizes4 a_forms4 a_row4 a_stack4)) (f_formCount4, f_cost4, f_leftSet4, f_linked4, f_linear4, a_tables4, a_filters4, a_sizes4, a_forms4, a_row4, a_stack4) (nI s))) (f_formCount3, f_cost3, f_leftSet3, f_linked3, f_linear3, a_tables3, a_filters3, a_sizes3, a_forms3, a_row3, a_stack3) (nI s))) (f_formCount2, f_cost2, f_leftSet2, f_linked2, f_linear2, a_tables2, a_filters2, a_sizes2, a_forms2, a_row2, a_stack2) (nI s) 1 0))))) (f_formCount2, f_cost2, f_leftSet2, f_linked2, f_linear2, a_tables2, a_filters2, a_sizes2, a_forms2, a_row2, a_stack2) (nI s) := by
        intro ans a1 a2
        refine jo_yset h0 hs (br_f (by decide) (jo_yextreme h0 hs D DY (fun _ g1 g2 g3 g4 _ _ g7 g8 => ?_)))
        rw [jo_kp1, jo_ex_n (by rw [hline]; exact hmr), hline]
        refine jo_yprep h0 hs D DY (fun z a hsz ha => jo_ycount hs ⟨jo_tot s + 1, ?_⟩)
        have h := jo_y35 (post := fun r' v' => r' = ans ∧ i_Rel (k + 4) (1, a_power, a_strength, a_hasFilter, b0, b1, b2, b3, b4, b5, b6, b7, b8, a') v') (k := v2) (ans := ans)
          (a_sizes := z) (a_forms := a) hmr h0 hs D DY hsz ha q1 q2 q3 q5 a1 a2 (fun _ _ _ _ _ _ => ⟨rfl, dp, ds, dh, D, DX, DY, Or.inr ⟨rfl, T⟩⟩) (jo_tot s) 0 (by omega) (by omega) g1 g2 g3 g4 g7 g8
        exact h
      by_cases g : v2 < 0
      · refine ⟨1, br_t g ?_⟩
        exact yy (-4) (fun _ => rfl) (fun q hq e => by rw [e] at g; exact absurd g (nI_pos hq))
      · obtain ⟨q, hq, rfl⟩ := nI_of g
        refine ⟨(jo_rest (jo_sz dp ds) s 0).length + 1, ?_⟩
        refine jo_x36 hq hz hs T.1 HA (jo_rest (jo_sz dp ds) s 0) 0 0 rfl (by decide) (Nat.zero_and s) (Nat.zero_le _) (by omega) ?_
        refine yy _ (fun z => absurd z g) (fun q' hq' e => ?_)
        rw [nI_eq hq hq'] at e
        subst e
        rw [Nat.sub_zero, rl, q4]
  · exact hx _ _ (br_f (by decide) (hy _ _ (br_t rfl ⟨rfl, I⟩)))
theorem i_vc_plans {k : Nat} {u : SX} {v : SY} (I : i_Rel k u v) (hk : k + 4 ≤ 2048) (v1 : Int32) : wpX_plans (fun r u' => wpY_plans (fun r' v' => r' = r ∧ i_Rel (k + 4) u' v') v v1) u v1 := by
  obtain ⟨f_filled, a_power, a_strength, a_hasFilter, a_sizes, a_best, a_leftOf, a_ties, a_line, a_joined, a_dear, a_many, a_manyLinked, a_ahead⟩ := u
  obtain ⟨f_formCount2, f_cost2, f_leftSet2, f_linked2, f_linear2, a_tables2, a_filters2, a_sizes2, a_forms2, a_row2, a_stack2⟩ := v
  unfold wpX_plans wpY_plans
  rcases jo_set v1 with ⟨s, h0, hs, rfl⟩ | ⟨hx, hy⟩
  · obtain ⟨dp, ds, dh, D, DX, DY, F⟩ := I
    refine jo_xset h0 hs (br_t rfl (jo_xfill D DX F (fun b0 b1 b2 b3 b4 b5 b6 b7 b8 T => ⟨vp_in_nI hs (by decide), ?_⟩)))
    refine jo_yset h0 hs (br_f (by decide) (jo_ycp (o := none) (fun c e => by cases e) h0 hs D DY (fun _ _ _ _ _ _ _ _ _ => ⟨?_, dp, ds, dh, D, DX, DY, Or.inr ⟨rfl, T⟩⟩)))
    have e : (jo_pl s).filter (jo_cp 0 dh (jo_sz dp ds) none) = jo_pl s := List.filter_eq_self.mpr (fun p _ => rfl)
    rw [nI_clamp (by omega), T.2.2.2.2.2.2.2.1 s h0 hs, e]
    rfl
  · exact hx _ _ (br_f (by decide) (hy _ _ (br_t rfl ⟨rfl, I⟩)))
theorem i_vc_linkedPlans {k : Nat} {u : SX} {v : SY} (I : i_Rel k u v) (hk : k + 4 ≤ 2048) (v1 : Int32) : wpX_linkedPlans (fun r u' => wpY_linkedPlans (fun r' v' => r' = r ∧ i_Rel (k + 4) u' v') v v1) u v1 := by
  obtain ⟨f_filled, a_power, a_strength, a_hasFilter, a_sizes, a_best, a_leftOf, a_ties, a_line, a_joined, a_dear, a_many, a_manyLinked, a_ahead⟩ := u
  obtain ⟨f_formCount2, f_cost2, f_leftSet2, f_linked2, f_linear2, a_tables2, a_filters2, a_sizes2, a_forms2, a_row2, a_stack2⟩ := v
  unfold wpX_linkedPlans wpY_linkedPlans
  rcases jo_set v1 with ⟨s, h0, hs, rfl⟩ | ⟨hx, hy⟩
  · obtain ⟨dp, ds, dh, D, DX, DY, F⟩ := I
    refine jo_xset h0 hs (br_t rfl (jo_xfill D DX F (fun b0 b1 b2 b3 b4 b5 b6 b7 b8 T => ⟨vp_in_nI hs (by decide), ?_⟩)))
    refine jo_yset h0 hs (br_f (by decide) (jo_ycp (o := none) (fun c e => by cases e) h0 hs D DY (fun _ _ _ _ _ _ _ _ _ => ⟨?_, dp, ds, dh, D, DX, DY, Or.inr ⟨rfl, T⟩⟩)))
    rw [nI_clamp (by omega), T.2.2.2.2.2.2.2.2 s h0 hs]
    have e : jo_cp 2 dh (jo_sz dp ds) none = fun p => p.all (jo_lj dh) := by
      funext p
      exact Bool.and_true _
    rw [e]
    rfl
  · exact hx _ _ (br_f (by decide) (hy _ _ (br_t rfl ⟨rfl, I⟩)))
theorem i_vc_cheapest {k : Nat} {u : SX} {v : SY} (I : i_Rel k u v) (hk : k + 4 ≤ 2048) (v1 : Int32) : wpX_cheapest (fun r u' => wpY_cheapest (fun r' v' => r' = r ∧ i_Rel (k + 4) u' v') v v1) u v1 := by
  obtain ⟨f_filled, a_power, a_strength, a_hasFilter, a_sizes, a_best, a_leftOf, a_ties, a_line, a_joined, a_dear, a_many, a_manyLinked, a_ahead⟩ := u
  obtain ⟨f_formCount2, f_cost2, f_leftSet2, f_linked2, f_linear2, a_tables2, a_filters2, a_sizes2, a_forms2, a_row2, a_stack2⟩ := v
  unfold wpX_cheapest wpY_cheapest
  rcases jo_set v1 with ⟨s, h0, hs, rfl⟩ | ⟨hx, hy⟩
  · obtain ⟨dp, ds, dh, D, DX, DY, F⟩ := I
    have hz : ∀ t, jo_sz dp ds t ≤ jo_bz t := jo_sz_le D.1
    have hm := jo_mc_lt (jo_pl_ne hs) (fun p hp => jo_pl_bd hz hs hp)
    refine jo_xset h0 hs (br_t rfl (jo_xfill D DX F (fun b0 b1 b2 b3 b4 b5 b6 b7 b8 T => ⟨vp_in_nI hs (by decide), ?_⟩)))
    refine jo_yset h0 hs (br_f (by decide) (jo_yextreme h0 hs D DY (fun _ g1 g2 g3 g4 _ _ g7 g8 => ?_)))
    rw [jo_kp0, jo_ex_n hm]
    refine jo_ycp (o := some (jo_mc (jo_sz dp ds) (jo_pl s))) (fun c e => by cases e; exact hm) h0 hs D DY (fun _ _ _ _ _ _ _ _ _ => ⟨?_, dp, ds, dh, D, DX, DY, Or.inr ⟨rfl, T⟩⟩)
    rw [nI_clamp (by omega), T.2.2.2.1 s h0 hs]
    rfl
  · exact hx _ _ (br_f (by decide) (hy _ _ (br_t rfl ⟨rfl, I⟩)))
theorem i_vc_gain {k : Nat} {u : SX} {v : SY} (I : i_Rel k u v) (hk : k + 4 ≤ 2048) (v1 : Int32) (v2 : Int32) : wpX_gain (fun r u' => wpY_gain (fun r' v' => r' = r ∧ i_Rel (k + 4) u' v') v v1 v2) u v1 v2 := by
  obtain ⟨f_filled, a_power, a_strength, a_hasFilter, a_sizes, a_best, a_leftOf, a_ties, a_line, a_joined, a_dear, a_many, a_manyLinked, a_ahead⟩ := u
  obtain ⟨f_formCount2, f_cost2, f_leftSet2, f_linked2, f_linear2, a_tables2, a_filters2, a_sizes2, a_forms2, a_row2, a_stack2⟩ := v
  unfold wpX_gain wpY_gain
  rcases jo_pair v1 v2 with ⟨i, j, hi, hj, hn, rfl, rfl⟩ | ⟨hx, hy⟩
  · have e25 : i * 5 + j < 25 := by omega
    have i1 : vp_in (nI (i * 5 + j)) 25 := vp_in_nI e25 (by decide)
    have c1 : (nI (i * 5 + j)).toNatClampNeg = i * 5 + j := nI_clamp (by omega)
    obtain ⟨dp, ds, dh, D, DX, DY, F⟩ := I
    have h31 : (31 : Nat) < 32 := by decide
    have p31 : (0 : Nat) < 31 := by decide
    have hz : ∀ t, jo_sz dp ds t ≤ jo_bz t := jo_sz_le D.1
    have hm := jo_mc_lt (jo_pl_ne h31) (fun p hp => jo_pl_bd hz h31 hp)
    have D2 := jo_put_dd (b := true) hi hj (show 6 ≤ 6 by decide) (fun z => by cases z) D
    have DX2 := jo_put_dX (i := i) (j := j) (x := 6) (b := true) DX
    have DY2 := jo_put_dY (i := i) (j := j) (x := 6) (b := true) (y := nI 6) rfl DY
    have hz2 : ∀ t, jo_sz dp (jo_pt ds i j 6) t ≤ jo_bz t := jo_sz_le D2.1
    have hm2 := jo_mc_lt (jo_pl_ne h31) (fun p hp => jo_pl_bd hz2 h31 hp)
    have D3 := jo_put_dd (x := ds (i * 5 + j)) (b := dh (i * 5 + j)) hi hj (D.2.1 _ e25) (D.2.2.1 _ e25) D2
    have DX3 := jo_put_dX (i := i) (j := j) (x := ds (i * 5 + j)) (b := dh (i * 5 + j)) DX2
    have DY3 := jo_put_dY (i := i) (j := j) (x := ds (i * 5 + j)) (b := dh (i * 5 + j)) (y := if dh (i * 5 + j) then nI (ds (i * 5 + j)) else -1) rfl DY2
    refine jo_xpair hi hj hn (br_t rfl (jo_xfill D DX F (fun b0 b1 b2 b3 b4 b5 b6 b7 b8 T => nm_r (e' := nI (jo_mc (jo_sz dp ds) (jo_pl 31))) (T.2.1 31 p31 h31) ?_)))
    rw [jo_ix, c1, DX.2.2 _ e25, DX.2.1 _ e25]
    refine ⟨i1, nm_e ⟨i1, nm_e ?_⟩⟩
    refine jo_xput (b := true) (x := nI 6) hi hj (jo_xfill D2 DX2 (Or.inl rfl) (fun _ _ _ _ _ _ _ _ _ T2 => nm_r (e' := nI (jo_mc (jo_sz dp (jo_pt ds i j 6)) (jo_pl 31))) (T2.2.1 31 p31 h31) ?_))
    refine jo_xput (b := dh (i * 5 + j)) hi hj ?_
    refine jo_ypair hi hj hn (br_f (by decide) (jo_yextreme (s := 31) p31 h31 D DY (fun _ _ _ _ _ _ _ _ _ => ?_)))
    dsimp only
    rw [jo_iy, c1, DY.2 _ e25]
    refine ⟨i1, nm_e (jo_yput hi hj (jo_yextreme (s := 31) p31 h31 D2 DY2 (fun _ _ _ _ _ _ _ _ _ => jo_yput hi hj ⟨?_, _, _, _, D3, DX3, DY3, Or.inl rfl⟩)))⟩
    rw [jo_kp0, jo_kp0, jo_ex_n hm, jo_ex_n hm2]
  · exact hx _ _ (br_f (by decide) (hy _ _ (br_t rfl ⟨rfl, I⟩)))
end
